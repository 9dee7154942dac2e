set_option maxRecDepth 100000
set_option maxRecDepth 100000
set_option maxRecDepth 100000 in
set_option maxRecDepth 100000 in
abbrev cX16_init : ByteArray := prog_21_method_1_code
def yX16_init : MethodName := ⟨RX16, "<init>", "(LContractLedger$Terms;LContractLedger$Types;LContractLedger$Names;LContractLedger$Scripts;LContractLedger$Data;LContractLedger$Memory;)V"⟩
def dkwX16_init_2 : List UInt8 := [181, 0, 36, 42, 25, 4, 181, 0, 40, 42, 25, 5, 181, 0, 44, 42, 25, 6, 181, 0, 48, 177]
abbrev dktX16_init_2 : List UInt8 := dkwX16_init_2 ++ []
def dkwX16_init_1 : List UInt8 := [181, 0, 20, 42, 18, 24, 188, 10, 181, 0, 25, 42, 43, 181, 0, 28, 42, 44, 181, 0, 32, 42, 45]
abbrev dktX16_init_1 : List UInt8 := dkwX16_init_1 ++ dktX16_init_2
def dkwX16_init_0 : List UInt8 := [42, 183, 0, 3, 42, 187, 0, 9, 89, 17, 0, 200, 183, 0, 11, 181, 0, 14, 42, 17, 1, 54, 188, 10]
abbrev dktX16_init_0 : List UInt8 := dkwX16_init_0 ++ dktX16_init_1
theorem dksX16_init_0 : cX16_init.data.toList.drop 0 = dktX16_init_0 := by decide +kernel
theorem dksX16_init_1 : cX16_init.data.toList.drop 24 = dktX16_init_1 := dk_seg dksX16_init_0 24 rfl rfl
theorem dksX16_init_2 : cX16_init.data.toList.drop 47 = dktX16_init_2 := dk_seg dksX16_init_1 23 rfl rfl
theorem dX16_init_0 : decode cX16_init 0 = .ok (.aload_n 0, 1) := dk_42 (dk_at dksX16_init_0 0 rfl rfl)
theorem dX16_init_1 : decode cX16_init 1 = .ok (.invokespecial 3, 3) := dk_183 0 3 (dk_at dksX16_init_0 1 rfl rfl)
theorem dX16_init_4 : decode cX16_init 4 = .ok (.aload_n 0, 1) := dk_42 (dk_at dksX16_init_0 4 rfl rfl)
theorem dX16_init_5 : decode cX16_init 5 = .ok (.new 9, 3) := dk_187 0 9 (dk_at dksX16_init_0 5 rfl rfl)
theorem dX16_init_8 : decode cX16_init 8 = .ok (.dup, 1) := dk_89 (dk_at dksX16_init_0 8 rfl rfl)
theorem dX16_init_9 : decode cX16_init 9 = .ok (.sipush 200, 3) := dk_17 0 200 (dk_at dksX16_init_0 9 rfl rfl)
theorem dX16_init_12 : decode cX16_init 12 = .ok (.invokespecial 11, 3) := dk_183 0 11 (dk_at dksX16_init_0 12 rfl rfl)
theorem dX16_init_15 : decode cX16_init 15 = .ok (.putfield 14, 3) := dk_181 0 14 (dk_at dksX16_init_0 15 rfl rfl)
theorem dX16_init_18 : decode cX16_init 18 = .ok (.aload_n 0, 1) := dk_42 (dk_at dksX16_init_0 18 rfl rfl)
theorem dX16_init_19 : decode cX16_init 19 = .ok (.sipush 310, 3) := dk_17 1 54 (dk_at dksX16_init_0 19 rfl rfl)
theorem dX16_init_22 : decode cX16_init 22 = .ok (.newarray .int, 2) := dk_188_10 (dk_at dksX16_init_0 22 rfl rfl)
theorem dX16_init_24 : decode cX16_init 24 = .ok (.putfield 20, 3) := dk_181 0 20 (dk_at dksX16_init_1 0 rfl rfl)
theorem dX16_init_27 : decode cX16_init 27 = .ok (.aload_n 0, 1) := dk_42 (dk_at dksX16_init_1 3 rfl rfl)
theorem dX16_init_28 : decode cX16_init 28 = .ok (.ldc 24, 2) := dk_18 24 (dk_at dksX16_init_1 4 rfl rfl)
theorem dX16_init_30 : decode cX16_init 30 = .ok (.newarray .int, 2) := dk_188_10 (dk_at dksX16_init_1 6 rfl rfl)
theorem dX16_init_32 : decode cX16_init 32 = .ok (.putfield 25, 3) := dk_181 0 25 (dk_at dksX16_init_1 8 rfl rfl)
theorem dX16_init_35 : decode cX16_init 35 = .ok (.aload_n 0, 1) := dk_42 (dk_at dksX16_init_1 11 rfl rfl)
theorem dX16_init_36 : decode cX16_init 36 = .ok (.aload_n 1, 1) := dk_43 (dk_at dksX16_init_1 12 rfl rfl)
theorem dX16_init_37 : decode cX16_init 37 = .ok (.putfield 28, 3) := dk_181 0 28 (dk_at dksX16_init_1 13 rfl rfl)
theorem dX16_init_40 : decode cX16_init 40 = .ok (.aload_n 0, 1) := dk_42 (dk_at dksX16_init_1 16 rfl rfl)
theorem dX16_init_41 : decode cX16_init 41 = .ok (.aload_n 2, 1) := dk_44 (dk_at dksX16_init_1 17 rfl rfl)
theorem dX16_init_42 : decode cX16_init 42 = .ok (.putfield 32, 3) := dk_181 0 32 (dk_at dksX16_init_1 18 rfl rfl)
theorem dX16_init_45 : decode cX16_init 45 = .ok (.aload_n 0, 1) := dk_42 (dk_at dksX16_init_1 21 rfl rfl)
theorem dX16_init_46 : decode cX16_init 46 = .ok (.aload_n 3, 1) := dk_45 (dk_at dksX16_init_1 22 rfl rfl)
theorem dX16_init_47 : decode cX16_init 47 = .ok (.putfield 36, 3) := dk_181 0 36 (dk_at dksX16_init_2 0 rfl rfl)
theorem dX16_init_50 : decode cX16_init 50 = .ok (.aload_n 0, 1) := dk_42 (dk_at dksX16_init_2 3 rfl rfl)
theorem dX16_init_51 : decode cX16_init 51 = .ok (.aload 4, 2) := dk_25 4 (dk_at dksX16_init_2 4 rfl rfl)
theorem dX16_init_53 : decode cX16_init 53 = .ok (.putfield 40, 3) := dk_181 0 40 (dk_at dksX16_init_2 6 rfl rfl)
theorem dX16_init_56 : decode cX16_init 56 = .ok (.aload_n 0, 1) := dk_42 (dk_at dksX16_init_2 9 rfl rfl)
theorem dX16_init_57 : decode cX16_init 57 = .ok (.aload 5, 2) := dk_25 5 (dk_at dksX16_init_2 10 rfl rfl)
theorem dX16_init_59 : decode cX16_init 59 = .ok (.putfield 44, 3) := dk_181 0 44 (dk_at dksX16_init_2 12 rfl rfl)
theorem dX16_init_62 : decode cX16_init 62 = .ok (.aload_n 0, 1) := dk_42 (dk_at dksX16_init_2 15 rfl rfl)
theorem dX16_init_63 : decode cX16_init 63 = .ok (.aload 6, 2) := dk_25 6 (dk_at dksX16_init_2 16 rfl rfl)
theorem dX16_init_65 : decode cX16_init 65 = .ok (.putfield 48, 3) := dk_181 0 48 (dk_at dksX16_init_2 18 rfl rfl)
theorem dX16_init_68 : decode cX16_init 68 = .ok (.return_, 1) := dk_177 (dk_at dksX16_init_2 21 rfl rfl)
abbrev cX16_type : ByteArray := prog_21_method_2_code
def yX16_type : MethodName := ⟨RX16, "type", "(I)I"⟩
def dkwX16_type_2 : List UInt8 := [180, 0, 52, 156, 0, 7, 28, 167, 0, 4, 2, 172]
abbrev dktX16_type_2 : List UInt8 := dkwX16_type_2 ++ []
def dkwX16_type_1 : List UInt8 := [182, 0, 65, 61, 28, 155, 0, 18, 42, 28, 27, 42, 180, 0, 28, 27, 5, 182, 0, 69, 182, 0, 75, 42]
abbrev dktX16_type_1 : List UInt8 := dkwX16_type_1 ++ dktX16_type_2
def dkwX16_type_0 : List UInt8 := [42, 2, 181, 0, 52, 42, 3, 181, 0, 56, 42, 3, 181, 0, 59, 42, 3, 181, 0, 62, 42, 27]
abbrev dktX16_type_0 : List UInt8 := dkwX16_type_0 ++ dktX16_type_1
theorem dksX16_type_0 : cX16_type.data.toList.drop 0 = dktX16_type_0 := by decide +kernel
theorem dksX16_type_1 : cX16_type.data.toList.drop 22 = dktX16_type_1 := dk_seg dksX16_type_0 22 rfl rfl
theorem dksX16_type_2 : cX16_type.data.toList.drop 46 = dktX16_type_2 := dk_seg dksX16_type_1 24 rfl rfl
theorem dX16_type_0 : decode cX16_type 0 = .ok (.aload_n 0, 1) := dk_42 (dk_at dksX16_type_0 0 rfl rfl)
theorem dX16_type_1 : decode cX16_type 1 = .ok (.iconst (-1), 1) := dk_2 (dk_at dksX16_type_0 1 rfl rfl)
theorem dX16_type_2 : decode cX16_type 2 = .ok (.putfield 52, 3) := dk_181 0 52 (dk_at dksX16_type_0 2 rfl rfl)
theorem dX16_type_5 : decode cX16_type 5 = .ok (.aload_n 0, 1) := dk_42 (dk_at dksX16_type_0 5 rfl rfl)
theorem dX16_type_6 : decode cX16_type 6 = .ok (.iconst 0, 1) := dk_3 (dk_at dksX16_type_0 6 rfl rfl)
theorem dX16_type_7 : decode cX16_type 7 = .ok (.putfield 56, 3) := dk_181 0 56 (dk_at dksX16_type_0 7 rfl rfl)
theorem dX16_type_10 : decode cX16_type 10 = .ok (.aload_n 0, 1) := dk_42 (dk_at dksX16_type_0 10 rfl rfl)
theorem dX16_type_11 : decode cX16_type 11 = .ok (.iconst 0, 1) := dk_3 (dk_at dksX16_type_0 11 rfl rfl)
theorem dX16_type_12 : decode cX16_type 12 = .ok (.putfield 59, 3) := dk_181 0 59 (dk_at dksX16_type_0 12 rfl rfl)
theorem dX16_type_15 : decode cX16_type 15 = .ok (.aload_n 0, 1) := dk_42 (dk_at dksX16_type_0 15 rfl rfl)
theorem dX16_type_16 : decode cX16_type 16 = .ok (.iconst 0, 1) := dk_3 (dk_at dksX16_type_0 16 rfl rfl)
theorem dX16_type_17 : decode cX16_type 17 = .ok (.putfield 62, 3) := dk_181 0 62 (dk_at dksX16_type_0 17 rfl rfl)
theorem dX16_type_20 : decode cX16_type 20 = .ok (.aload_n 0, 1) := dk_42 (dk_at dksX16_type_0 20 rfl rfl)
theorem dX16_type_21 : decode cX16_type 21 = .ok (.iload_n 1, 1) := dk_27 (dk_at dksX16_type_0 21 rfl rfl)
theorem dX16_type_22 : decode cX16_type 22 = .ok (.invokevirtual 65, 3) := dk_182 0 65 (dk_at dksX16_type_1 0 rfl rfl)
theorem dX16_type_25 : decode cX16_type 25 = .ok (.istore_n 2, 1) := dk_61 (dk_at dksX16_type_1 3 rfl rfl)
theorem dX16_type_26 : decode cX16_type 26 = .ok (.iload_n 2, 1) := dk_28 (dk_at dksX16_type_1 4 rfl rfl)
theorem dX16_type_27 : decode cX16_type 27 = .ok (.ifCond .lt 18, 3) := dk_155 0 18 (dk_at dksX16_type_1 5 rfl rfl)
theorem dX16_type_30 : decode cX16_type 30 = .ok (.aload_n 0, 1) := dk_42 (dk_at dksX16_type_1 8 rfl rfl)
theorem dX16_type_31 : decode cX16_type 31 = .ok (.iload_n 2, 1) := dk_28 (dk_at dksX16_type_1 9 rfl rfl)
theorem dX16_type_32 : decode cX16_type 32 = .ok (.iload_n 1, 1) := dk_27 (dk_at dksX16_type_1 10 rfl rfl)
theorem dX16_type_33 : decode cX16_type 33 = .ok (.aload_n 0, 1) := dk_42 (dk_at dksX16_type_1 11 rfl rfl)
theorem dX16_type_34 : decode cX16_type 34 = .ok (.getfield 28, 3) := dk_180 0 28 (dk_at dksX16_type_1 12 rfl rfl)
theorem dX16_type_37 : decode cX16_type 37 = .ok (.iload_n 1, 1) := dk_27 (dk_at dksX16_type_1 15 rfl rfl)
theorem dX16_type_38 : decode cX16_type 38 = .ok (.iconst 2, 1) := dk_5 (dk_at dksX16_type_1 16 rfl rfl)
theorem dX16_type_39 : decode cX16_type 39 = .ok (.invokevirtual 69, 3) := dk_182 0 69 (dk_at dksX16_type_1 17 rfl rfl)
theorem dX16_type_42 : decode cX16_type 42 = .ok (.invokevirtual 75, 3) := dk_182 0 75 (dk_at dksX16_type_1 20 rfl rfl)
theorem dX16_type_45 : decode cX16_type 45 = .ok (.aload_n 0, 1) := dk_42 (dk_at dksX16_type_1 23 rfl rfl)
theorem dX16_type_46 : decode cX16_type 46 = .ok (.getfield 52, 3) := dk_180 0 52 (dk_at dksX16_type_2 0 rfl rfl)
theorem dX16_type_49 : decode cX16_type 49 = .ok (.ifCond .ge 7, 3) := dk_156 0 7 (dk_at dksX16_type_2 3 rfl rfl)
theorem dX16_type_52 : decode cX16_type 52 = .ok (.iload_n 2, 1) := dk_28 (dk_at dksX16_type_2 6 rfl rfl)
theorem dX16_type_53 : decode cX16_type 53 = .ok (.goto 4, 3) := dk_167 0 4 (dk_at dksX16_type_2 7 rfl rfl)
theorem dX16_type_56 : decode cX16_type 56 = .ok (.iconst (-1), 1) := dk_2 (dk_at dksX16_type_2 10 rfl rfl)
theorem dX16_type_57 : decode cX16_type 57 = .ok (.ireturn, 1) := dk_172 (dk_at dksX16_type_2 11 rfl rfl)
abbrev cX16_open : ByteArray := prog_21_method_5_code
def yX16_open : MethodName := ⟨RX16, "open", "(I)I"⟩
def dkwX16_open_20 : List UInt8 := [46, 100, 79, 29, 172]
abbrev dktX16_open_20 : List UInt8 := dkwX16_open_20 ++ []
def dkwX16_open_19 : List UInt8 := [180, 0, 40, 180, 0, 142, 29, 42, 180, 0, 28, 180, 0, 145, 27, 46, 42, 180, 0, 28, 180, 0, 148, 27]
abbrev dktX16_open_19 : List UInt8 := dkwX16_open_19 ++ dktX16_open_20
def dkwX16_open_18 : List UInt8 := [182, 0, 99, 4, 100, 172, 42, 180, 0, 40, 180, 0, 137, 29, 42, 180, 0, 28, 27, 182, 0, 139, 79, 42]
abbrev dktX16_open_18 : List UInt8 := dkwX16_open_18 ++ dktX16_open_19
def dkwX16_open_17 : List UInt8 := [180, 0, 134, 29, 46, 7, 182, 0, 120, 154, 0, 19, 42, 42, 180, 0, 28, 27, 4, 182, 0, 69]
abbrev dktX16_open_17 : List UInt8 := dkwX16_open_17 ++ dktX16_open_18
def dkwX16_open_16 : List UInt8 := [182, 0, 110, 79, 42, 180, 0, 40, 180, 0, 134, 29, 46, 155, 0, 23, 42, 180, 0, 32, 42, 180, 0, 40]
abbrev dktX16_open_16 : List UInt8 := dkwX16_open_16 ++ dktX16_open_17
def dkwX16_open_15 : List UInt8 := [180, 0, 32, 42, 180, 0, 28, 42, 180, 0, 28, 180, 0, 96, 42, 180, 0, 28, 27, 4, 182, 0, 69, 46]
abbrev dktX16_open_15 : List UInt8 := dkwX16_open_15 ++ dktX16_open_16
def dkwX16_open_14 : List UInt8 := [180, 0, 116, 29, 4, 96, 42, 180, 0, 40, 180, 0, 117, 79, 42, 180, 0, 40, 180, 0, 134, 29, 42]
abbrev dktX16_open_14 : List UInt8 := dkwX16_open_14 ++ dktX16_open_15
def dkwX16_open_13 : List UInt8 := [156, 0, 38, 42, 29, 3, 42, 180, 0, 40, 180, 0, 107, 29, 46, 9, 3, 182, 0, 131, 42, 180, 0, 40]
abbrev dktX16_open_13 : List UInt8 := dkwX16_open_13 ++ dktX16_open_14
def dkwX16_open_12 : List UInt8 := [180, 0, 116, 29, 4, 96, 42, 180, 0, 40, 180, 0, 117, 79, 42, 180, 0, 40, 29, 3, 182, 0, 128]
abbrev dktX16_open_12 : List UInt8 := dkwX16_open_12 ++ dktX16_open_13
def dkwX16_open_11 : List UInt8 := [154, 0, 19, 42, 42, 180, 0, 28, 27, 3, 182, 0, 69, 182, 0, 99, 4, 100, 172, 42, 180, 0, 40]
abbrev dktX16_open_11 : List UInt8 := dkwX16_open_11 ++ dktX16_open_12
def dkwX16_open_10 : List UInt8 := [180, 0, 107, 29, 46, 9, 3, 182, 0, 123, 153, 0, 7, 4, 167, 0, 4, 3, 54, 5, 21, 5]
abbrev dktX16_open_10 : List UInt8 := dkwX16_open_10 ++ dktX16_open_11
def dkwX16_open_9 : List UInt8 := [180, 0, 40, 180, 0, 107, 29, 46, 5, 182, 0, 120, 153, 0, 28, 42, 29, 21, 4, 42, 180, 0, 40]
abbrev dktX16_open_9 : List UInt8 := dkwX16_open_9 ++ dktX16_open_10
def dkwX16_open_8 : List UInt8 := [180, 0, 40, 180, 0, 117, 79, 42, 180, 0, 40, 180, 0, 107, 29, 46, 155, 0, 48, 42, 180, 0, 32, 42]
abbrev dktX16_open_8 : List UInt8 := dkwX16_open_8 ++ dktX16_open_9
def dkwX16_open_7 : List UInt8 := [180, 0, 32, 42, 180, 0, 28, 21, 4, 182, 0, 110, 79, 42, 180, 0, 40, 180, 0, 116, 29, 42]
abbrev dktX16_open_7 : List UInt8 := dkwX16_open_7 ++ dktX16_open_8
def dkwX16_open_6 : List UInt8 := [180, 0, 96, 42, 180, 0, 28, 27, 3, 182, 0, 69, 46, 54, 4, 42, 180, 0, 40, 180, 0, 107, 29, 42]
abbrev dktX16_open_6 : List UInt8 := dkwX16_open_6 ++ dktX16_open_7
def dkwX16_open_5 : List UInt8 := [4, 100, 172, 42, 180, 0, 40, 89, 180, 0, 102, 90, 4, 96, 181, 0, 102, 62, 42, 180, 0, 28]
abbrev dktX16_open_5 : List UInt8 := dkwX16_open_5 ++ dktX16_open_6
def dkwX16_open_4 : List UInt8 := [180, 0, 96, 42, 180, 0, 28, 27, 5, 182, 0, 69, 46, 182, 0, 83, 154, 0, 11, 42, 27, 182, 0, 99]
abbrev dktX16_open_4 : List UInt8 := dkwX16_open_4 ++ dktX16_open_5
def dkwX16_open_3 : List UInt8 := [182, 0, 92, 153, 0, 7, 4, 167, 0, 4, 3, 61, 28, 153, 0, 30, 42, 180, 0, 28, 42, 180, 0, 28]
abbrev dktX16_open_3 : List UInt8 := dkwX16_open_3 ++ dktX16_open_4
def dkwX16_open_2 : List UInt8 := [4, 182, 0, 69, 16, 29, 182, 0, 92, 153, 0, 25, 42, 42, 180, 0, 28, 27, 5, 182, 0, 69, 16, 30]
abbrev dktX16_open_2 : List UInt8 := dkwX16_open_2 ++ dktX16_open_3
def dkwX16_open_1 : List UInt8 := [42, 42, 180, 0, 28, 27, 3, 182, 0, 69, 16, 28, 182, 0, 92, 153, 0, 43, 42, 42, 180, 0, 28, 27]
abbrev dktX16_open_1 : List UInt8 := dkwX16_open_1 ++ dktX16_open_2
def dkwX16_open_0 : List UInt8 := [42, 180, 0, 28, 27, 182, 0, 83, 153, 0, 74, 42, 180, 0, 28, 180, 0, 87, 27, 46, 6, 160, 0, 61]
abbrev dktX16_open_0 : List UInt8 := dkwX16_open_0 ++ dktX16_open_1
theorem dksX16_open_0 : cX16_open.data.toList.drop 0 = dktX16_open_0 := by decide +kernel
theorem dksX16_open_1 : cX16_open.data.toList.drop 24 = dktX16_open_1 := dk_seg dksX16_open_0 24 rfl rfl
theorem dksX16_open_2 : cX16_open.data.toList.drop 48 = dktX16_open_2 := dk_seg dksX16_open_1 24 rfl rfl
theorem dksX16_open_3 : cX16_open.data.toList.drop 72 = dktX16_open_3 := dk_seg dksX16_open_2 24 rfl rfl
theorem dksX16_open_4 : cX16_open.data.toList.drop 96 = dktX16_open_4 := dk_seg dksX16_open_3 24 rfl rfl
theorem dksX16_open_5 : cX16_open.data.toList.drop 120 = dktX16_open_5 := dk_seg dksX16_open_4 24 rfl rfl
theorem dksX16_open_6 : cX16_open.data.toList.drop 142 = dktX16_open_6 := dk_seg dksX16_open_5 22 rfl rfl
theorem dksX16_open_7 : cX16_open.data.toList.drop 166 = dktX16_open_7 := dk_seg dksX16_open_6 24 rfl rfl
theorem dksX16_open_8 : cX16_open.data.toList.drop 188 = dktX16_open_8 := dk_seg dksX16_open_7 22 rfl rfl
theorem dksX16_open_9 : cX16_open.data.toList.drop 212 = dktX16_open_9 := dk_seg dksX16_open_8 24 rfl rfl
theorem dksX16_open_10 : cX16_open.data.toList.drop 235 = dktX16_open_10 := dk_seg dksX16_open_9 23 rfl rfl
theorem dksX16_open_11 : cX16_open.data.toList.drop 257 = dktX16_open_11 := dk_seg dksX16_open_10 22 rfl rfl
theorem dksX16_open_12 : cX16_open.data.toList.drop 280 = dktX16_open_12 := dk_seg dksX16_open_11 23 rfl rfl
theorem dksX16_open_13 : cX16_open.data.toList.drop 303 = dktX16_open_13 := dk_seg dksX16_open_12 23 rfl rfl
theorem dksX16_open_14 : cX16_open.data.toList.drop 327 = dktX16_open_14 := dk_seg dksX16_open_13 24 rfl rfl
theorem dksX16_open_15 : cX16_open.data.toList.drop 350 = dktX16_open_15 := dk_seg dksX16_open_14 23 rfl rfl
theorem dksX16_open_16 : cX16_open.data.toList.drop 374 = dktX16_open_16 := dk_seg dksX16_open_15 24 rfl rfl
theorem dksX16_open_17 : cX16_open.data.toList.drop 398 = dktX16_open_17 := dk_seg dksX16_open_16 24 rfl rfl
theorem dksX16_open_18 : cX16_open.data.toList.drop 420 = dktX16_open_18 := dk_seg dksX16_open_17 22 rfl rfl
theorem dksX16_open_19 : cX16_open.data.toList.drop 444 = dktX16_open_19 := dk_seg dksX16_open_18 24 rfl rfl
theorem dksX16_open_20 : cX16_open.data.toList.drop 468 = dktX16_open_20 := dk_seg dksX16_open_19 24 rfl rfl
theorem dX16_open_0 : decode cX16_open 0 = .ok (.aload_n 0, 1) := dk_42 (dk_at dksX16_open_0 0 rfl rfl)
theorem dX16_open_1 : decode cX16_open 1 = .ok (.getfield 28, 3) := dk_180 0 28 (dk_at dksX16_open_0 1 rfl rfl)
theorem dX16_open_4 : decode cX16_open 4 = .ok (.iload_n 1, 1) := dk_27 (dk_at dksX16_open_0 4 rfl rfl)
theorem dX16_open_5 : decode cX16_open 5 = .ok (.invokevirtual 83, 3) := dk_182 0 83 (dk_at dksX16_open_0 5 rfl rfl)
theorem dX16_open_8 : decode cX16_open 8 = .ok (.ifCond .eq 74, 3) := dk_153 0 74 (dk_at dksX16_open_0 8 rfl rfl)
theorem dX16_open_11 : decode cX16_open 11 = .ok (.aload_n 0, 1) := dk_42 (dk_at dksX16_open_0 11 rfl rfl)
theorem dX16_open_12 : decode cX16_open 12 = .ok (.getfield 28, 3) := dk_180 0 28 (dk_at dksX16_open_0 12 rfl rfl)
theorem dX16_open_15 : decode cX16_open 15 = .ok (.getfield 87, 3) := dk_180 0 87 (dk_at dksX16_open_0 15 rfl rfl)
theorem dX16_open_18 : decode cX16_open 18 = .ok (.iload_n 1, 1) := dk_27 (dk_at dksX16_open_0 18 rfl rfl)
theorem dX16_open_19 : decode cX16_open 19 = .ok (.iaload, 1) := dk_46 (dk_at dksX16_open_0 19 rfl rfl)
theorem dX16_open_20 : decode cX16_open 20 = .ok (.iconst 3, 1) := dk_6 (dk_at dksX16_open_0 20 rfl rfl)
theorem dX16_open_21 : decode cX16_open 21 = .ok (.if_icmp .ne 61, 3) := dk_160 0 61 (dk_at dksX16_open_0 21 rfl rfl)
theorem dX16_open_24 : decode cX16_open 24 = .ok (.aload_n 0, 1) := dk_42 (dk_at dksX16_open_1 0 rfl rfl)
theorem dX16_open_25 : decode cX16_open 25 = .ok (.aload_n 0, 1) := dk_42 (dk_at dksX16_open_1 1 rfl rfl)
theorem dX16_open_26 : decode cX16_open 26 = .ok (.getfield 28, 3) := dk_180 0 28 (dk_at dksX16_open_1 2 rfl rfl)
theorem dX16_open_29 : decode cX16_open 29 = .ok (.iload_n 1, 1) := dk_27 (dk_at dksX16_open_1 5 rfl rfl)
theorem dX16_open_30 : decode cX16_open 30 = .ok (.iconst 0, 1) := dk_3 (dk_at dksX16_open_1 6 rfl rfl)
theorem dX16_open_31 : decode cX16_open 31 = .ok (.invokevirtual 69, 3) := dk_182 0 69 (dk_at dksX16_open_1 7 rfl rfl)
theorem dX16_open_34 : decode cX16_open 34 = .ok (.bipush 28, 2) := dk_16 28 (dk_at dksX16_open_1 10 rfl rfl)
theorem dX16_open_36 : decode cX16_open 36 = .ok (.invokevirtual 92, 3) := dk_182 0 92 (dk_at dksX16_open_1 12 rfl rfl)
theorem dX16_open_39 : decode cX16_open 39 = .ok (.ifCond .eq 43, 3) := dk_153 0 43 (dk_at dksX16_open_1 15 rfl rfl)
theorem dX16_open_42 : decode cX16_open 42 = .ok (.aload_n 0, 1) := dk_42 (dk_at dksX16_open_1 18 rfl rfl)
theorem dX16_open_43 : decode cX16_open 43 = .ok (.aload_n 0, 1) := dk_42 (dk_at dksX16_open_1 19 rfl rfl)
theorem dX16_open_44 : decode cX16_open 44 = .ok (.getfield 28, 3) := dk_180 0 28 (dk_at dksX16_open_1 20 rfl rfl)
theorem dX16_open_47 : decode cX16_open 47 = .ok (.iload_n 1, 1) := dk_27 (dk_at dksX16_open_1 23 rfl rfl)
theorem dX16_open_48 : decode cX16_open 48 = .ok (.iconst 1, 1) := dk_4 (dk_at dksX16_open_2 0 rfl rfl)
theorem dX16_open_49 : decode cX16_open 49 = .ok (.invokevirtual 69, 3) := dk_182 0 69 (dk_at dksX16_open_2 1 rfl rfl)
theorem dX16_open_52 : decode cX16_open 52 = .ok (.bipush 29, 2) := dk_16 29 (dk_at dksX16_open_2 4 rfl rfl)
theorem dX16_open_54 : decode cX16_open 54 = .ok (.invokevirtual 92, 3) := dk_182 0 92 (dk_at dksX16_open_2 6 rfl rfl)
theorem dX16_open_57 : decode cX16_open 57 = .ok (.ifCond .eq 25, 3) := dk_153 0 25 (dk_at dksX16_open_2 9 rfl rfl)
theorem dX16_open_60 : decode cX16_open 60 = .ok (.aload_n 0, 1) := dk_42 (dk_at dksX16_open_2 12 rfl rfl)
theorem dX16_open_61 : decode cX16_open 61 = .ok (.aload_n 0, 1) := dk_42 (dk_at dksX16_open_2 13 rfl rfl)
theorem dX16_open_62 : decode cX16_open 62 = .ok (.getfield 28, 3) := dk_180 0 28 (dk_at dksX16_open_2 14 rfl rfl)
theorem dX16_open_65 : decode cX16_open 65 = .ok (.iload_n 1, 1) := dk_27 (dk_at dksX16_open_2 17 rfl rfl)
theorem dX16_open_66 : decode cX16_open 66 = .ok (.iconst 2, 1) := dk_5 (dk_at dksX16_open_2 18 rfl rfl)
theorem dX16_open_67 : decode cX16_open 67 = .ok (.invokevirtual 69, 3) := dk_182 0 69 (dk_at dksX16_open_2 19 rfl rfl)
theorem dX16_open_70 : decode cX16_open 70 = .ok (.bipush 30, 2) := dk_16 30 (dk_at dksX16_open_2 22 rfl rfl)
theorem dX16_open_72 : decode cX16_open 72 = .ok (.invokevirtual 92, 3) := dk_182 0 92 (dk_at dksX16_open_3 0 rfl rfl)
theorem dX16_open_75 : decode cX16_open 75 = .ok (.ifCond .eq 7, 3) := dk_153 0 7 (dk_at dksX16_open_3 3 rfl rfl)
theorem dX16_open_78 : decode cX16_open 78 = .ok (.iconst 1, 1) := dk_4 (dk_at dksX16_open_3 6 rfl rfl)
theorem dX16_open_79 : decode cX16_open 79 = .ok (.goto 4, 3) := dk_167 0 4 (dk_at dksX16_open_3 7 rfl rfl)
theorem dX16_open_82 : decode cX16_open 82 = .ok (.iconst 0, 1) := dk_3 (dk_at dksX16_open_3 10 rfl rfl)
theorem dX16_open_83 : decode cX16_open 83 = .ok (.istore_n 2, 1) := dk_61 (dk_at dksX16_open_3 11 rfl rfl)
theorem dX16_open_84 : decode cX16_open 84 = .ok (.iload_n 2, 1) := dk_28 (dk_at dksX16_open_3 12 rfl rfl)
theorem dX16_open_85 : decode cX16_open 85 = .ok (.ifCond .eq 30, 3) := dk_153 0 30 (dk_at dksX16_open_3 13 rfl rfl)
theorem dX16_open_88 : decode cX16_open 88 = .ok (.aload_n 0, 1) := dk_42 (dk_at dksX16_open_3 16 rfl rfl)
theorem dX16_open_89 : decode cX16_open 89 = .ok (.getfield 28, 3) := dk_180 0 28 (dk_at dksX16_open_3 17 rfl rfl)
theorem dX16_open_92 : decode cX16_open 92 = .ok (.aload_n 0, 1) := dk_42 (dk_at dksX16_open_3 20 rfl rfl)
theorem dX16_open_93 : decode cX16_open 93 = .ok (.getfield 28, 3) := dk_180 0 28 (dk_at dksX16_open_3 21 rfl rfl)
theorem dX16_open_96 : decode cX16_open 96 = .ok (.getfield 96, 3) := dk_180 0 96 (dk_at dksX16_open_4 0 rfl rfl)
theorem dX16_open_99 : decode cX16_open 99 = .ok (.aload_n 0, 1) := dk_42 (dk_at dksX16_open_4 3 rfl rfl)
theorem dX16_open_100 : decode cX16_open 100 = .ok (.getfield 28, 3) := dk_180 0 28 (dk_at dksX16_open_4 4 rfl rfl)
theorem dX16_open_103 : decode cX16_open 103 = .ok (.iload_n 1, 1) := dk_27 (dk_at dksX16_open_4 7 rfl rfl)
theorem dX16_open_104 : decode cX16_open 104 = .ok (.iconst 2, 1) := dk_5 (dk_at dksX16_open_4 8 rfl rfl)
theorem dX16_open_105 : decode cX16_open 105 = .ok (.invokevirtual 69, 3) := dk_182 0 69 (dk_at dksX16_open_4 9 rfl rfl)
theorem dX16_open_108 : decode cX16_open 108 = .ok (.iaload, 1) := dk_46 (dk_at dksX16_open_4 12 rfl rfl)
theorem dX16_open_109 : decode cX16_open 109 = .ok (.invokevirtual 83, 3) := dk_182 0 83 (dk_at dksX16_open_4 13 rfl rfl)
theorem dX16_open_112 : decode cX16_open 112 = .ok (.ifCond .ne 11, 3) := dk_154 0 11 (dk_at dksX16_open_4 16 rfl rfl)
theorem dX16_open_115 : decode cX16_open 115 = .ok (.aload_n 0, 1) := dk_42 (dk_at dksX16_open_4 19 rfl rfl)
theorem dX16_open_116 : decode cX16_open 116 = .ok (.iload_n 1, 1) := dk_27 (dk_at dksX16_open_4 20 rfl rfl)
theorem dX16_open_117 : decode cX16_open 117 = .ok (.invokevirtual 99, 3) := dk_182 0 99 (dk_at dksX16_open_4 21 rfl rfl)
theorem dX16_open_120 : decode cX16_open 120 = .ok (.iconst 1, 1) := dk_4 (dk_at dksX16_open_5 0 rfl rfl)
theorem dX16_open_121 : decode cX16_open 121 = .ok (.isub, 1) := dk_100 (dk_at dksX16_open_5 1 rfl rfl)
theorem dX16_open_122 : decode cX16_open 122 = .ok (.ireturn, 1) := dk_172 (dk_at dksX16_open_5 2 rfl rfl)
theorem dX16_open_123 : decode cX16_open 123 = .ok (.aload_n 0, 1) := dk_42 (dk_at dksX16_open_5 3 rfl rfl)
theorem dX16_open_124 : decode cX16_open 124 = .ok (.getfield 40, 3) := dk_180 0 40 (dk_at dksX16_open_5 4 rfl rfl)
theorem dX16_open_127 : decode cX16_open 127 = .ok (.dup, 1) := dk_89 (dk_at dksX16_open_5 7 rfl rfl)
theorem dX16_open_128 : decode cX16_open 128 = .ok (.getfield 102, 3) := dk_180 0 102 (dk_at dksX16_open_5 8 rfl rfl)
theorem dX16_open_131 : decode cX16_open 131 = .ok (.dup_x1, 1) := dk_90 (dk_at dksX16_open_5 11 rfl rfl)
theorem dX16_open_132 : decode cX16_open 132 = .ok (.iconst 1, 1) := dk_4 (dk_at dksX16_open_5 12 rfl rfl)
theorem dX16_open_133 : decode cX16_open 133 = .ok (.iadd, 1) := dk_96 (dk_at dksX16_open_5 13 rfl rfl)
theorem dX16_open_134 : decode cX16_open 134 = .ok (.putfield 102, 3) := dk_181 0 102 (dk_at dksX16_open_5 14 rfl rfl)
theorem dX16_open_137 : decode cX16_open 137 = .ok (.istore_n 3, 1) := dk_62 (dk_at dksX16_open_5 17 rfl rfl)
theorem dX16_open_138 : decode cX16_open 138 = .ok (.aload_n 0, 1) := dk_42 (dk_at dksX16_open_5 18 rfl rfl)
theorem dX16_open_139 : decode cX16_open 139 = .ok (.getfield 28, 3) := dk_180 0 28 (dk_at dksX16_open_5 19 rfl rfl)
theorem dX16_open_142 : decode cX16_open 142 = .ok (.getfield 96, 3) := dk_180 0 96 (dk_at dksX16_open_6 0 rfl rfl)
theorem dX16_open_145 : decode cX16_open 145 = .ok (.aload_n 0, 1) := dk_42 (dk_at dksX16_open_6 3 rfl rfl)
theorem dX16_open_146 : decode cX16_open 146 = .ok (.getfield 28, 3) := dk_180 0 28 (dk_at dksX16_open_6 4 rfl rfl)
theorem dX16_open_149 : decode cX16_open 149 = .ok (.iload_n 1, 1) := dk_27 (dk_at dksX16_open_6 7 rfl rfl)
theorem dX16_open_150 : decode cX16_open 150 = .ok (.iconst 0, 1) := dk_3 (dk_at dksX16_open_6 8 rfl rfl)
theorem dX16_open_151 : decode cX16_open 151 = .ok (.invokevirtual 69, 3) := dk_182 0 69 (dk_at dksX16_open_6 9 rfl rfl)
theorem dX16_open_154 : decode cX16_open 154 = .ok (.iaload, 1) := dk_46 (dk_at dksX16_open_6 12 rfl rfl)
theorem dX16_open_155 : decode cX16_open 155 = .ok (.istore 4, 2) := dk_54 4 (dk_at dksX16_open_6 13 rfl rfl)
theorem dX16_open_157 : decode cX16_open 157 = .ok (.aload_n 0, 1) := dk_42 (dk_at dksX16_open_6 15 rfl rfl)
theorem dX16_open_158 : decode cX16_open 158 = .ok (.getfield 40, 3) := dk_180 0 40 (dk_at dksX16_open_6 16 rfl rfl)
theorem dX16_open_161 : decode cX16_open 161 = .ok (.getfield 107, 3) := dk_180 0 107 (dk_at dksX16_open_6 19 rfl rfl)
theorem dX16_open_164 : decode cX16_open 164 = .ok (.iload_n 3, 1) := dk_29 (dk_at dksX16_open_6 22 rfl rfl)
theorem dX16_open_165 : decode cX16_open 165 = .ok (.aload_n 0, 1) := dk_42 (dk_at dksX16_open_6 23 rfl rfl)
theorem dX16_open_166 : decode cX16_open 166 = .ok (.getfield 32, 3) := dk_180 0 32 (dk_at dksX16_open_7 0 rfl rfl)
theorem dX16_open_169 : decode cX16_open 169 = .ok (.aload_n 0, 1) := dk_42 (dk_at dksX16_open_7 3 rfl rfl)
theorem dX16_open_170 : decode cX16_open 170 = .ok (.getfield 28, 3) := dk_180 0 28 (dk_at dksX16_open_7 4 rfl rfl)
theorem dX16_open_173 : decode cX16_open 173 = .ok (.iload 4, 2) := dk_21 4 (dk_at dksX16_open_7 7 rfl rfl)
theorem dX16_open_175 : decode cX16_open 175 = .ok (.invokevirtual 110, 3) := dk_182 0 110 (dk_at dksX16_open_7 9 rfl rfl)
theorem dX16_open_178 : decode cX16_open 178 = .ok (.iastore, 1) := dk_79 (dk_at dksX16_open_7 12 rfl rfl)
theorem dX16_open_179 : decode cX16_open 179 = .ok (.aload_n 0, 1) := dk_42 (dk_at dksX16_open_7 13 rfl rfl)
theorem dX16_open_180 : decode cX16_open 180 = .ok (.getfield 40, 3) := dk_180 0 40 (dk_at dksX16_open_7 14 rfl rfl)
theorem dX16_open_183 : decode cX16_open 183 = .ok (.getfield 116, 3) := dk_180 0 116 (dk_at dksX16_open_7 17 rfl rfl)
theorem dX16_open_186 : decode cX16_open 186 = .ok (.iload_n 3, 1) := dk_29 (dk_at dksX16_open_7 20 rfl rfl)
theorem dX16_open_187 : decode cX16_open 187 = .ok (.aload_n 0, 1) := dk_42 (dk_at dksX16_open_7 21 rfl rfl)
theorem dX16_open_188 : decode cX16_open 188 = .ok (.getfield 40, 3) := dk_180 0 40 (dk_at dksX16_open_8 0 rfl rfl)
theorem dX16_open_191 : decode cX16_open 191 = .ok (.getfield 117, 3) := dk_180 0 117 (dk_at dksX16_open_8 3 rfl rfl)
theorem dX16_open_194 : decode cX16_open 194 = .ok (.iastore, 1) := dk_79 (dk_at dksX16_open_8 6 rfl rfl)
theorem dX16_open_195 : decode cX16_open 195 = .ok (.aload_n 0, 1) := dk_42 (dk_at dksX16_open_8 7 rfl rfl)
theorem dX16_open_196 : decode cX16_open 196 = .ok (.getfield 40, 3) := dk_180 0 40 (dk_at dksX16_open_8 8 rfl rfl)
theorem dX16_open_199 : decode cX16_open 199 = .ok (.getfield 107, 3) := dk_180 0 107 (dk_at dksX16_open_8 11 rfl rfl)
theorem dX16_open_202 : decode cX16_open 202 = .ok (.iload_n 3, 1) := dk_29 (dk_at dksX16_open_8 14 rfl rfl)
theorem dX16_open_203 : decode cX16_open 203 = .ok (.iaload, 1) := dk_46 (dk_at dksX16_open_8 15 rfl rfl)
theorem dX16_open_204 : decode cX16_open 204 = .ok (.ifCond .lt 48, 3) := dk_155 0 48 (dk_at dksX16_open_8 16 rfl rfl)
theorem dX16_open_207 : decode cX16_open 207 = .ok (.aload_n 0, 1) := dk_42 (dk_at dksX16_open_8 19 rfl rfl)
theorem dX16_open_208 : decode cX16_open 208 = .ok (.getfield 32, 3) := dk_180 0 32 (dk_at dksX16_open_8 20 rfl rfl)
theorem dX16_open_211 : decode cX16_open 211 = .ok (.aload_n 0, 1) := dk_42 (dk_at dksX16_open_8 23 rfl rfl)
theorem dX16_open_212 : decode cX16_open 212 = .ok (.getfield 40, 3) := dk_180 0 40 (dk_at dksX16_open_9 0 rfl rfl)
theorem dX16_open_215 : decode cX16_open 215 = .ok (.getfield 107, 3) := dk_180 0 107 (dk_at dksX16_open_9 3 rfl rfl)
theorem dX16_open_218 : decode cX16_open 218 = .ok (.iload_n 3, 1) := dk_29 (dk_at dksX16_open_9 6 rfl rfl)
theorem dX16_open_219 : decode cX16_open 219 = .ok (.iaload, 1) := dk_46 (dk_at dksX16_open_9 7 rfl rfl)
theorem dX16_open_220 : decode cX16_open 220 = .ok (.iconst 2, 1) := dk_5 (dk_at dksX16_open_9 8 rfl rfl)
theorem dX16_open_221 : decode cX16_open 221 = .ok (.invokevirtual 120, 3) := dk_182 0 120 (dk_at dksX16_open_9 9 rfl rfl)
theorem dX16_open_224 : decode cX16_open 224 = .ok (.ifCond .eq 28, 3) := dk_153 0 28 (dk_at dksX16_open_9 12 rfl rfl)
theorem dX16_open_227 : decode cX16_open 227 = .ok (.aload_n 0, 1) := dk_42 (dk_at dksX16_open_9 15 rfl rfl)
theorem dX16_open_228 : decode cX16_open 228 = .ok (.iload_n 3, 1) := dk_29 (dk_at dksX16_open_9 16 rfl rfl)
theorem dX16_open_229 : decode cX16_open 229 = .ok (.iload 4, 2) := dk_21 4 (dk_at dksX16_open_9 17 rfl rfl)
theorem dX16_open_231 : decode cX16_open 231 = .ok (.aload_n 0, 1) := dk_42 (dk_at dksX16_open_9 19 rfl rfl)
theorem dX16_open_232 : decode cX16_open 232 = .ok (.getfield 40, 3) := dk_180 0 40 (dk_at dksX16_open_9 20 rfl rfl)
theorem dX16_open_235 : decode cX16_open 235 = .ok (.getfield 107, 3) := dk_180 0 107 (dk_at dksX16_open_10 0 rfl rfl)
theorem dX16_open_238 : decode cX16_open 238 = .ok (.iload_n 3, 1) := dk_29 (dk_at dksX16_open_10 3 rfl rfl)
theorem dX16_open_239 : decode cX16_open 239 = .ok (.iaload, 1) := dk_46 (dk_at dksX16_open_10 4 rfl rfl)
theorem dX16_open_240 : decode cX16_open 240 = .ok (.lconst 0, 1) := dk_9 (dk_at dksX16_open_10 5 rfl rfl)
theorem dX16_open_241 : decode cX16_open 241 = .ok (.iconst 0, 1) := dk_3 (dk_at dksX16_open_10 6 rfl rfl)
theorem dX16_open_242 : decode cX16_open 242 = .ok (.invokevirtual 123, 3) := dk_182 0 123 (dk_at dksX16_open_10 7 rfl rfl)
theorem dX16_open_245 : decode cX16_open 245 = .ok (.ifCond .eq 7, 3) := dk_153 0 7 (dk_at dksX16_open_10 10 rfl rfl)
theorem dX16_open_248 : decode cX16_open 248 = .ok (.iconst 1, 1) := dk_4 (dk_at dksX16_open_10 13 rfl rfl)
theorem dX16_open_249 : decode cX16_open 249 = .ok (.goto 4, 3) := dk_167 0 4 (dk_at dksX16_open_10 14 rfl rfl)
theorem dX16_open_252 : decode cX16_open 252 = .ok (.iconst 0, 1) := dk_3 (dk_at dksX16_open_10 17 rfl rfl)
theorem dX16_open_253 : decode cX16_open 253 = .ok (.istore 5, 2) := dk_54 5 (dk_at dksX16_open_10 18 rfl rfl)
theorem dX16_open_255 : decode cX16_open 255 = .ok (.iload 5, 2) := dk_21 5 (dk_at dksX16_open_10 20 rfl rfl)
theorem dX16_open_257 : decode cX16_open 257 = .ok (.ifCond .ne 19, 3) := dk_154 0 19 (dk_at dksX16_open_11 0 rfl rfl)
theorem dX16_open_260 : decode cX16_open 260 = .ok (.aload_n 0, 1) := dk_42 (dk_at dksX16_open_11 3 rfl rfl)
theorem dX16_open_261 : decode cX16_open 261 = .ok (.aload_n 0, 1) := dk_42 (dk_at dksX16_open_11 4 rfl rfl)
theorem dX16_open_262 : decode cX16_open 262 = .ok (.getfield 28, 3) := dk_180 0 28 (dk_at dksX16_open_11 5 rfl rfl)
theorem dX16_open_265 : decode cX16_open 265 = .ok (.iload_n 1, 1) := dk_27 (dk_at dksX16_open_11 8 rfl rfl)
theorem dX16_open_266 : decode cX16_open 266 = .ok (.iconst 0, 1) := dk_3 (dk_at dksX16_open_11 9 rfl rfl)
theorem dX16_open_267 : decode cX16_open 267 = .ok (.invokevirtual 69, 3) := dk_182 0 69 (dk_at dksX16_open_11 10 rfl rfl)
theorem dX16_open_270 : decode cX16_open 270 = .ok (.invokevirtual 99, 3) := dk_182 0 99 (dk_at dksX16_open_11 13 rfl rfl)
theorem dX16_open_273 : decode cX16_open 273 = .ok (.iconst 1, 1) := dk_4 (dk_at dksX16_open_11 16 rfl rfl)
theorem dX16_open_274 : decode cX16_open 274 = .ok (.isub, 1) := dk_100 (dk_at dksX16_open_11 17 rfl rfl)
theorem dX16_open_275 : decode cX16_open 275 = .ok (.ireturn, 1) := dk_172 (dk_at dksX16_open_11 18 rfl rfl)
theorem dX16_open_276 : decode cX16_open 276 = .ok (.aload_n 0, 1) := dk_42 (dk_at dksX16_open_11 19 rfl rfl)
theorem dX16_open_277 : decode cX16_open 277 = .ok (.getfield 40, 3) := dk_180 0 40 (dk_at dksX16_open_11 20 rfl rfl)
theorem dX16_open_280 : decode cX16_open 280 = .ok (.getfield 116, 3) := dk_180 0 116 (dk_at dksX16_open_12 0 rfl rfl)
theorem dX16_open_283 : decode cX16_open 283 = .ok (.iload_n 3, 1) := dk_29 (dk_at dksX16_open_12 3 rfl rfl)
theorem dX16_open_284 : decode cX16_open 284 = .ok (.iconst 1, 1) := dk_4 (dk_at dksX16_open_12 4 rfl rfl)
theorem dX16_open_285 : decode cX16_open 285 = .ok (.iadd, 1) := dk_96 (dk_at dksX16_open_12 5 rfl rfl)
theorem dX16_open_286 : decode cX16_open 286 = .ok (.aload_n 0, 1) := dk_42 (dk_at dksX16_open_12 6 rfl rfl)
theorem dX16_open_287 : decode cX16_open 287 = .ok (.getfield 40, 3) := dk_180 0 40 (dk_at dksX16_open_12 7 rfl rfl)
theorem dX16_open_290 : decode cX16_open 290 = .ok (.getfield 117, 3) := dk_180 0 117 (dk_at dksX16_open_12 10 rfl rfl)
theorem dX16_open_293 : decode cX16_open 293 = .ok (.iastore, 1) := dk_79 (dk_at dksX16_open_12 13 rfl rfl)
theorem dX16_open_294 : decode cX16_open 294 = .ok (.aload_n 0, 1) := dk_42 (dk_at dksX16_open_12 14 rfl rfl)
theorem dX16_open_295 : decode cX16_open 295 = .ok (.getfield 40, 3) := dk_180 0 40 (dk_at dksX16_open_12 15 rfl rfl)
theorem dX16_open_298 : decode cX16_open 298 = .ok (.iload_n 3, 1) := dk_29 (dk_at dksX16_open_12 18 rfl rfl)
theorem dX16_open_299 : decode cX16_open 299 = .ok (.iconst 0, 1) := dk_3 (dk_at dksX16_open_12 19 rfl rfl)
theorem dX16_open_300 : decode cX16_open 300 = .ok (.invokevirtual 128, 3) := dk_182 0 128 (dk_at dksX16_open_12 20 rfl rfl)
theorem dX16_open_303 : decode cX16_open 303 = .ok (.ifCond .ge 38, 3) := dk_156 0 38 (dk_at dksX16_open_13 0 rfl rfl)
theorem dX16_open_306 : decode cX16_open 306 = .ok (.aload_n 0, 1) := dk_42 (dk_at dksX16_open_13 3 rfl rfl)
theorem dX16_open_307 : decode cX16_open 307 = .ok (.iload_n 3, 1) := dk_29 (dk_at dksX16_open_13 4 rfl rfl)
theorem dX16_open_308 : decode cX16_open 308 = .ok (.iconst 0, 1) := dk_3 (dk_at dksX16_open_13 5 rfl rfl)
theorem dX16_open_309 : decode cX16_open 309 = .ok (.aload_n 0, 1) := dk_42 (dk_at dksX16_open_13 6 rfl rfl)
theorem dX16_open_310 : decode cX16_open 310 = .ok (.getfield 40, 3) := dk_180 0 40 (dk_at dksX16_open_13 7 rfl rfl)
theorem dX16_open_313 : decode cX16_open 313 = .ok (.getfield 107, 3) := dk_180 0 107 (dk_at dksX16_open_13 10 rfl rfl)
theorem dX16_open_316 : decode cX16_open 316 = .ok (.iload_n 3, 1) := dk_29 (dk_at dksX16_open_13 13 rfl rfl)
theorem dX16_open_317 : decode cX16_open 317 = .ok (.iaload, 1) := dk_46 (dk_at dksX16_open_13 14 rfl rfl)
theorem dX16_open_318 : decode cX16_open 318 = .ok (.lconst 0, 1) := dk_9 (dk_at dksX16_open_13 15 rfl rfl)
theorem dX16_open_319 : decode cX16_open 319 = .ok (.iconst 0, 1) := dk_3 (dk_at dksX16_open_13 16 rfl rfl)
theorem dX16_open_320 : decode cX16_open 320 = .ok (.invokevirtual 131, 3) := dk_182 0 131 (dk_at dksX16_open_13 17 rfl rfl)
theorem dX16_open_323 : decode cX16_open 323 = .ok (.aload_n 0, 1) := dk_42 (dk_at dksX16_open_13 20 rfl rfl)
theorem dX16_open_324 : decode cX16_open 324 = .ok (.getfield 40, 3) := dk_180 0 40 (dk_at dksX16_open_13 21 rfl rfl)
theorem dX16_open_327 : decode cX16_open 327 = .ok (.getfield 116, 3) := dk_180 0 116 (dk_at dksX16_open_14 0 rfl rfl)
theorem dX16_open_330 : decode cX16_open 330 = .ok (.iload_n 3, 1) := dk_29 (dk_at dksX16_open_14 3 rfl rfl)
theorem dX16_open_331 : decode cX16_open 331 = .ok (.iconst 1, 1) := dk_4 (dk_at dksX16_open_14 4 rfl rfl)
theorem dX16_open_332 : decode cX16_open 332 = .ok (.iadd, 1) := dk_96 (dk_at dksX16_open_14 5 rfl rfl)
theorem dX16_open_333 : decode cX16_open 333 = .ok (.aload_n 0, 1) := dk_42 (dk_at dksX16_open_14 6 rfl rfl)
theorem dX16_open_334 : decode cX16_open 334 = .ok (.getfield 40, 3) := dk_180 0 40 (dk_at dksX16_open_14 7 rfl rfl)
theorem dX16_open_337 : decode cX16_open 337 = .ok (.getfield 117, 3) := dk_180 0 117 (dk_at dksX16_open_14 10 rfl rfl)
theorem dX16_open_340 : decode cX16_open 340 = .ok (.iastore, 1) := dk_79 (dk_at dksX16_open_14 13 rfl rfl)
theorem dX16_open_341 : decode cX16_open 341 = .ok (.aload_n 0, 1) := dk_42 (dk_at dksX16_open_14 14 rfl rfl)
theorem dX16_open_342 : decode cX16_open 342 = .ok (.getfield 40, 3) := dk_180 0 40 (dk_at dksX16_open_14 15 rfl rfl)
theorem dX16_open_345 : decode cX16_open 345 = .ok (.getfield 134, 3) := dk_180 0 134 (dk_at dksX16_open_14 18 rfl rfl)
theorem dX16_open_348 : decode cX16_open 348 = .ok (.iload_n 3, 1) := dk_29 (dk_at dksX16_open_14 21 rfl rfl)
theorem dX16_open_349 : decode cX16_open 349 = .ok (.aload_n 0, 1) := dk_42 (dk_at dksX16_open_14 22 rfl rfl)
theorem dX16_open_350 : decode cX16_open 350 = .ok (.getfield 32, 3) := dk_180 0 32 (dk_at dksX16_open_15 0 rfl rfl)
theorem dX16_open_353 : decode cX16_open 353 = .ok (.aload_n 0, 1) := dk_42 (dk_at dksX16_open_15 3 rfl rfl)
theorem dX16_open_354 : decode cX16_open 354 = .ok (.getfield 28, 3) := dk_180 0 28 (dk_at dksX16_open_15 4 rfl rfl)
theorem dX16_open_357 : decode cX16_open 357 = .ok (.aload_n 0, 1) := dk_42 (dk_at dksX16_open_15 7 rfl rfl)
theorem dX16_open_358 : decode cX16_open 358 = .ok (.getfield 28, 3) := dk_180 0 28 (dk_at dksX16_open_15 8 rfl rfl)
theorem dX16_open_361 : decode cX16_open 361 = .ok (.getfield 96, 3) := dk_180 0 96 (dk_at dksX16_open_15 11 rfl rfl)
theorem dX16_open_364 : decode cX16_open 364 = .ok (.aload_n 0, 1) := dk_42 (dk_at dksX16_open_15 14 rfl rfl)
theorem dX16_open_365 : decode cX16_open 365 = .ok (.getfield 28, 3) := dk_180 0 28 (dk_at dksX16_open_15 15 rfl rfl)
theorem dX16_open_368 : decode cX16_open 368 = .ok (.iload_n 1, 1) := dk_27 (dk_at dksX16_open_15 18 rfl rfl)
theorem dX16_open_369 : decode cX16_open 369 = .ok (.iconst 1, 1) := dk_4 (dk_at dksX16_open_15 19 rfl rfl)
theorem dX16_open_370 : decode cX16_open 370 = .ok (.invokevirtual 69, 3) := dk_182 0 69 (dk_at dksX16_open_15 20 rfl rfl)
theorem dX16_open_373 : decode cX16_open 373 = .ok (.iaload, 1) := dk_46 (dk_at dksX16_open_15 23 rfl rfl)
theorem dX16_open_374 : decode cX16_open 374 = .ok (.invokevirtual 110, 3) := dk_182 0 110 (dk_at dksX16_open_16 0 rfl rfl)
theorem dX16_open_377 : decode cX16_open 377 = .ok (.iastore, 1) := dk_79 (dk_at dksX16_open_16 3 rfl rfl)
theorem dX16_open_378 : decode cX16_open 378 = .ok (.aload_n 0, 1) := dk_42 (dk_at dksX16_open_16 4 rfl rfl)
theorem dX16_open_379 : decode cX16_open 379 = .ok (.getfield 40, 3) := dk_180 0 40 (dk_at dksX16_open_16 5 rfl rfl)
theorem dX16_open_382 : decode cX16_open 382 = .ok (.getfield 134, 3) := dk_180 0 134 (dk_at dksX16_open_16 8 rfl rfl)
theorem dX16_open_385 : decode cX16_open 385 = .ok (.iload_n 3, 1) := dk_29 (dk_at dksX16_open_16 11 rfl rfl)
theorem dX16_open_386 : decode cX16_open 386 = .ok (.iaload, 1) := dk_46 (dk_at dksX16_open_16 12 rfl rfl)
theorem dX16_open_387 : decode cX16_open 387 = .ok (.ifCond .lt 23, 3) := dk_155 0 23 (dk_at dksX16_open_16 13 rfl rfl)
theorem dX16_open_390 : decode cX16_open 390 = .ok (.aload_n 0, 1) := dk_42 (dk_at dksX16_open_16 16 rfl rfl)
theorem dX16_open_391 : decode cX16_open 391 = .ok (.getfield 32, 3) := dk_180 0 32 (dk_at dksX16_open_16 17 rfl rfl)
theorem dX16_open_394 : decode cX16_open 394 = .ok (.aload_n 0, 1) := dk_42 (dk_at dksX16_open_16 20 rfl rfl)
theorem dX16_open_395 : decode cX16_open 395 = .ok (.getfield 40, 3) := dk_180 0 40 (dk_at dksX16_open_16 21 rfl rfl)
theorem dX16_open_398 : decode cX16_open 398 = .ok (.getfield 134, 3) := dk_180 0 134 (dk_at dksX16_open_17 0 rfl rfl)
theorem dX16_open_401 : decode cX16_open 401 = .ok (.iload_n 3, 1) := dk_29 (dk_at dksX16_open_17 3 rfl rfl)
theorem dX16_open_402 : decode cX16_open 402 = .ok (.iaload, 1) := dk_46 (dk_at dksX16_open_17 4 rfl rfl)
theorem dX16_open_403 : decode cX16_open 403 = .ok (.iconst 4, 1) := dk_7 (dk_at dksX16_open_17 5 rfl rfl)
theorem dX16_open_404 : decode cX16_open 404 = .ok (.invokevirtual 120, 3) := dk_182 0 120 (dk_at dksX16_open_17 6 rfl rfl)
theorem dX16_open_407 : decode cX16_open 407 = .ok (.ifCond .ne 19, 3) := dk_154 0 19 (dk_at dksX16_open_17 9 rfl rfl)
theorem dX16_open_410 : decode cX16_open 410 = .ok (.aload_n 0, 1) := dk_42 (dk_at dksX16_open_17 12 rfl rfl)
theorem dX16_open_411 : decode cX16_open 411 = .ok (.aload_n 0, 1) := dk_42 (dk_at dksX16_open_17 13 rfl rfl)
theorem dX16_open_412 : decode cX16_open 412 = .ok (.getfield 28, 3) := dk_180 0 28 (dk_at dksX16_open_17 14 rfl rfl)
theorem dX16_open_415 : decode cX16_open 415 = .ok (.iload_n 1, 1) := dk_27 (dk_at dksX16_open_17 17 rfl rfl)
theorem dX16_open_416 : decode cX16_open 416 = .ok (.iconst 1, 1) := dk_4 (dk_at dksX16_open_17 18 rfl rfl)
theorem dX16_open_417 : decode cX16_open 417 = .ok (.invokevirtual 69, 3) := dk_182 0 69 (dk_at dksX16_open_17 19 rfl rfl)
theorem dX16_open_420 : decode cX16_open 420 = .ok (.invokevirtual 99, 3) := dk_182 0 99 (dk_at dksX16_open_18 0 rfl rfl)
theorem dX16_open_423 : decode cX16_open 423 = .ok (.iconst 1, 1) := dk_4 (dk_at dksX16_open_18 3 rfl rfl)
theorem dX16_open_424 : decode cX16_open 424 = .ok (.isub, 1) := dk_100 (dk_at dksX16_open_18 4 rfl rfl)
theorem dX16_open_425 : decode cX16_open 425 = .ok (.ireturn, 1) := dk_172 (dk_at dksX16_open_18 5 rfl rfl)
theorem dX16_open_426 : decode cX16_open 426 = .ok (.aload_n 0, 1) := dk_42 (dk_at dksX16_open_18 6 rfl rfl)
theorem dX16_open_427 : decode cX16_open 427 = .ok (.getfield 40, 3) := dk_180 0 40 (dk_at dksX16_open_18 7 rfl rfl)
theorem dX16_open_430 : decode cX16_open 430 = .ok (.getfield 137, 3) := dk_180 0 137 (dk_at dksX16_open_18 10 rfl rfl)
theorem dX16_open_433 : decode cX16_open 433 = .ok (.iload_n 3, 1) := dk_29 (dk_at dksX16_open_18 13 rfl rfl)
theorem dX16_open_434 : decode cX16_open 434 = .ok (.aload_n 0, 1) := dk_42 (dk_at dksX16_open_18 14 rfl rfl)
theorem dX16_open_435 : decode cX16_open 435 = .ok (.getfield 28, 3) := dk_180 0 28 (dk_at dksX16_open_18 15 rfl rfl)
theorem dX16_open_438 : decode cX16_open 438 = .ok (.iload_n 1, 1) := dk_27 (dk_at dksX16_open_18 18 rfl rfl)
theorem dX16_open_439 : decode cX16_open 439 = .ok (.invokevirtual 139, 3) := dk_182 0 139 (dk_at dksX16_open_18 19 rfl rfl)
theorem dX16_open_442 : decode cX16_open 442 = .ok (.iastore, 1) := dk_79 (dk_at dksX16_open_18 22 rfl rfl)
theorem dX16_open_443 : decode cX16_open 443 = .ok (.aload_n 0, 1) := dk_42 (dk_at dksX16_open_18 23 rfl rfl)
theorem dX16_open_444 : decode cX16_open 444 = .ok (.getfield 40, 3) := dk_180 0 40 (dk_at dksX16_open_19 0 rfl rfl)
theorem dX16_open_447 : decode cX16_open 447 = .ok (.getfield 142, 3) := dk_180 0 142 (dk_at dksX16_open_19 3 rfl rfl)
theorem dX16_open_450 : decode cX16_open 450 = .ok (.iload_n 3, 1) := dk_29 (dk_at dksX16_open_19 6 rfl rfl)
theorem dX16_open_451 : decode cX16_open 451 = .ok (.aload_n 0, 1) := dk_42 (dk_at dksX16_open_19 7 rfl rfl)
theorem dX16_open_452 : decode cX16_open 452 = .ok (.getfield 28, 3) := dk_180 0 28 (dk_at dksX16_open_19 8 rfl rfl)
theorem dX16_open_455 : decode cX16_open 455 = .ok (.getfield 145, 3) := dk_180 0 145 (dk_at dksX16_open_19 11 rfl rfl)
theorem dX16_open_458 : decode cX16_open 458 = .ok (.iload_n 1, 1) := dk_27 (dk_at dksX16_open_19 14 rfl rfl)
theorem dX16_open_459 : decode cX16_open 459 = .ok (.iaload, 1) := dk_46 (dk_at dksX16_open_19 15 rfl rfl)
theorem dX16_open_460 : decode cX16_open 460 = .ok (.aload_n 0, 1) := dk_42 (dk_at dksX16_open_19 16 rfl rfl)
theorem dX16_open_461 : decode cX16_open 461 = .ok (.getfield 28, 3) := dk_180 0 28 (dk_at dksX16_open_19 17 rfl rfl)
theorem dX16_open_464 : decode cX16_open 464 = .ok (.getfield 148, 3) := dk_180 0 148 (dk_at dksX16_open_19 20 rfl rfl)
theorem dX16_open_467 : decode cX16_open 467 = .ok (.iload_n 1, 1) := dk_27 (dk_at dksX16_open_19 23 rfl rfl)
theorem dX16_open_468 : decode cX16_open 468 = .ok (.iaload, 1) := dk_46 (dk_at dksX16_open_20 0 rfl rfl)
theorem dX16_open_469 : decode cX16_open 469 = .ok (.isub, 1) := dk_100 (dk_at dksX16_open_20 1 rfl rfl)
theorem dX16_open_470 : decode cX16_open 470 = .ok (.iastore, 1) := dk_79 (dk_at dksX16_open_20 2 rfl rfl)
theorem dX16_open_471 : decode cX16_open 471 = .ok (.iload_n 3, 1) := dk_29 (dk_at dksX16_open_20 3 rfl rfl)
theorem dX16_open_472 : decode cX16_open 472 = .ok (.ireturn, 1) := dk_172 (dk_at dksX16_open_20 4 rfl rfl)
abbrev cX16_isPart : ByteArray := prog_21_method_4_code
def yX16_isPart : MethodName := ⟨RX16, "isPart", "(II)Z"⟩
def dkwX16_isPart_0 : List UInt8 := [42, 180, 0, 28, 27, 28, 4, 182, 0, 79, 172]
abbrev dktX16_isPart_0 : List UInt8 := dkwX16_isPart_0 ++ []
theorem dksX16_isPart_0 : cX16_isPart.data.toList.drop 0 = dktX16_isPart_0 := by decide +kernel
theorem dX16_isPart_0 : decode cX16_isPart 0 = .ok (.aload_n 0, 1) := dk_42 (dk_at dksX16_isPart_0 0 rfl rfl)
theorem dX16_isPart_1 : decode cX16_isPart 1 = .ok (.getfield 28, 3) := dk_180 0 28 (dk_at dksX16_isPart_0 1 rfl rfl)
theorem dX16_isPart_4 : decode cX16_isPart 4 = .ok (.iload_n 1, 1) := dk_27 (dk_at dksX16_isPart_0 4 rfl rfl)
theorem dX16_isPart_5 : decode cX16_isPart 5 = .ok (.iload_n 2, 1) := dk_28 (dk_at dksX16_isPart_0 5 rfl rfl)
theorem dX16_isPart_6 : decode cX16_isPart 6 = .ok (.iconst 1, 1) := dk_4 (dk_at dksX16_isPart_0 6 rfl rfl)
theorem dX16_isPart_7 : decode cX16_isPart 7 = .ok (.invokevirtual 79, 3) := dk_182 0 79 (dk_at dksX16_isPart_0 7 rfl rfl)
theorem dX16_isPart_10 : decode cX16_isPart 10 = .ok (.ireturn, 1) := dk_172 (dk_at dksX16_isPart_0 10 rfl rfl)
abbrev cX16_wrong : ByteArray := prog_21_method_3_code
def yX16_wrong : MethodName := ⟨RX16, "wrong", "(I)I"⟩
def dkwX16_wrong_0 : List UInt8 := [42, 180, 0, 52, 156, 0, 8, 42, 27, 181, 0, 52, 3, 172]
abbrev dktX16_wrong_0 : List UInt8 := dkwX16_wrong_0 ++ []
theorem dksX16_wrong_0 : cX16_wrong.data.toList.drop 0 = dktX16_wrong_0 := by decide +kernel
theorem dX16_wrong_0 : decode cX16_wrong 0 = .ok (.aload_n 0, 1) := dk_42 (dk_at dksX16_wrong_0 0 rfl rfl)
theorem dX16_wrong_1 : decode cX16_wrong 1 = .ok (.getfield 52, 3) := dk_180 0 52 (dk_at dksX16_wrong_0 1 rfl rfl)
theorem dX16_wrong_4 : decode cX16_wrong 4 = .ok (.ifCond .ge 8, 3) := dk_156 0 8 (dk_at dksX16_wrong_0 4 rfl rfl)
theorem dX16_wrong_7 : decode cX16_wrong 7 = .ok (.aload_n 0, 1) := dk_42 (dk_at dksX16_wrong_0 7 rfl rfl)
theorem dX16_wrong_8 : decode cX16_wrong 8 = .ok (.iload_n 1, 1) := dk_27 (dk_at dksX16_wrong_0 8 rfl rfl)
theorem dX16_wrong_9 : decode cX16_wrong 9 = .ok (.putfield 52, 3) := dk_181 0 52 (dk_at dksX16_wrong_0 9 rfl rfl)
theorem dX16_wrong_12 : decode cX16_wrong 12 = .ok (.iconst 0, 1) := dk_3 (dk_at dksX16_wrong_0 12 rfl rfl)
theorem dX16_wrong_13 : decode cX16_wrong 13 = .ok (.ireturn, 1) := dk_172 (dk_at dksX16_wrong_0 13 rfl rfl)
abbrev cX16_entries : ByteArray := prog_21_method_7_code
def yX16_entries : MethodName := ⟨RX16, "entries", "(IIIJI)Z"⟩
def dkwX16_entries_10 : List UInt8 := [21, 7, 172]
abbrev dktX16_entries_10 : List UInt8 := dkwX16_entries_10 ++ []
def dkwX16_entries_9 : List UInt8 := [167, 0, 4, 3, 54, 7, 42, 180, 0, 28, 180, 0, 186, 21, 8, 46, 54, 8, 132, 9, 1, 167, 255, 59]
abbrev dktX16_entries_9 : List UInt8 := dkwX16_entries_9 ++ dktX16_entries_10
def dkwX16_entries_8 : List UInt8 := [153, 0, 25, 42, 27, 21, 8, 21, 10, 22, 11, 21, 6, 4, 96, 182, 0, 123, 153, 0, 7, 4]
abbrev dktX16_entries_8 : List UInt8 := dkwX16_entries_8 ++ dktX16_entries_9
def dkwX16_entries_7 : List UInt8 := [167, 0, 4, 3, 54, 7, 42, 27, 21, 13, 21, 10, 22, 11, 21, 6, 4, 96, 182, 0, 131, 21, 7]
abbrev dktX16_entries_7 : List UInt8 := dkwX16_entries_7 ++ dktX16_entries_8
def dkwX16_entries_6 : List UInt8 := [96, 42, 180, 0, 40, 180, 0, 117, 79, 42, 180, 0, 40, 27, 21, 13, 182, 0, 128, 156, 0, 7, 4]
abbrev dktX16_entries_6 : List UInt8 := dkwX16_entries_6 ++ dktX16_entries_7
def dkwX16_entries_5 : List UInt8 := [42, 180, 0, 28, 180, 0, 179, 21, 8, 46, 182, 0, 182, 54, 13, 42, 180, 0, 40, 180, 0, 116, 27, 4]
abbrev dktX16_entries_5 : List UInt8 := dkwX16_entries_5 ++ dktX16_entries_6
def dkwX16_entries_4 : List UInt8 := [153, 0, 92, 42, 180, 0, 36, 42, 180, 0, 28, 182, 0, 175, 42, 180, 0, 28, 180, 0, 172, 21, 8, 46]
abbrev dktX16_entries_4 : List UInt8 := dkwX16_entries_4 ++ dktX16_entries_5
def dkwX16_entries_3 : List UInt8 := [54, 10, 22, 4, 21, 9, 133, 21, 6, 121, 129, 55, 11, 42, 180, 0, 28, 180, 0, 172, 21, 8, 46]
abbrev dktX16_entries_3 : List UInt8 := dkwX16_entries_3 ++ dktX16_entries_4
def dkwX16_entries_2 : List UInt8 := [154, 0, 15, 42, 180, 0, 32, 180, 0, 166, 29, 46, 167, 0, 12, 42, 180, 0, 32, 180, 0, 169, 29, 46]
abbrev dktX16_entries_2 : List UInt8 := dkwX16_entries_2 ++ dktX16_entries_3
def dkwX16_entries_1 : List UInt8 := [180, 0, 96, 28, 46, 54, 8, 3, 54, 9, 21, 9, 5, 162, 0, 197, 21, 7, 153, 0, 192, 21, 9]
abbrev dktX16_entries_1 : List UInt8 := dkwX16_entries_1 ++ dktX16_entries_2
def dkwX16_entries_0 : List UInt8 := [42, 180, 0, 32, 180, 0, 163, 29, 51, 16, 14, 159, 0, 5, 4, 172, 4, 54, 7, 42, 180, 0, 28]
abbrev dktX16_entries_0 : List UInt8 := dkwX16_entries_0 ++ dktX16_entries_1
theorem dksX16_entries_0 : cX16_entries.data.toList.drop 0 = dktX16_entries_0 := by decide +kernel
theorem dksX16_entries_1 : cX16_entries.data.toList.drop 23 = dktX16_entries_1 := dk_seg dksX16_entries_0 23 rfl rfl
theorem dksX16_entries_2 : cX16_entries.data.toList.drop 46 = dktX16_entries_2 := dk_seg dksX16_entries_1 23 rfl rfl
theorem dksX16_entries_3 : cX16_entries.data.toList.drop 70 = dktX16_entries_3 := dk_seg dksX16_entries_2 24 rfl rfl
theorem dksX16_entries_4 : cX16_entries.data.toList.drop 93 = dktX16_entries_4 := dk_seg dksX16_entries_3 23 rfl rfl
theorem dksX16_entries_5 : cX16_entries.data.toList.drop 117 = dktX16_entries_5 := dk_seg dksX16_entries_4 24 rfl rfl
theorem dksX16_entries_6 : cX16_entries.data.toList.drop 141 = dktX16_entries_6 := dk_seg dksX16_entries_5 24 rfl rfl
theorem dksX16_entries_7 : cX16_entries.data.toList.drop 164 = dktX16_entries_7 := dk_seg dksX16_entries_6 23 rfl rfl
theorem dksX16_entries_8 : cX16_entries.data.toList.drop 187 = dktX16_entries_8 := dk_seg dksX16_entries_7 23 rfl rfl
theorem dksX16_entries_9 : cX16_entries.data.toList.drop 209 = dktX16_entries_9 := dk_seg dksX16_entries_8 22 rfl rfl
theorem dksX16_entries_10 : cX16_entries.data.toList.drop 233 = dktX16_entries_10 := dk_seg dksX16_entries_9 24 rfl rfl
theorem dX16_entries_0 : decode cX16_entries 0 = .ok (.aload_n 0, 1) := dk_42 (dk_at dksX16_entries_0 0 rfl rfl)
theorem dX16_entries_1 : decode cX16_entries 1 = .ok (.getfield 32, 3) := dk_180 0 32 (dk_at dksX16_entries_0 1 rfl rfl)
theorem dX16_entries_4 : decode cX16_entries 4 = .ok (.getfield 163, 3) := dk_180 0 163 (dk_at dksX16_entries_0 4 rfl rfl)
theorem dX16_entries_7 : decode cX16_entries 7 = .ok (.iload_n 3, 1) := dk_29 (dk_at dksX16_entries_0 7 rfl rfl)
theorem dX16_entries_8 : decode cX16_entries 8 = .ok (.baload, 1) := dk_51 (dk_at dksX16_entries_0 8 rfl rfl)
theorem dX16_entries_9 : decode cX16_entries 9 = .ok (.bipush 14, 2) := dk_16 14 (dk_at dksX16_entries_0 9 rfl rfl)
theorem dX16_entries_11 : decode cX16_entries 11 = .ok (.if_icmp .eq 5, 3) := dk_159 0 5 (dk_at dksX16_entries_0 11 rfl rfl)
theorem dX16_entries_14 : decode cX16_entries 14 = .ok (.iconst 1, 1) := dk_4 (dk_at dksX16_entries_0 14 rfl rfl)
theorem dX16_entries_15 : decode cX16_entries 15 = .ok (.ireturn, 1) := dk_172 (dk_at dksX16_entries_0 15 rfl rfl)
theorem dX16_entries_16 : decode cX16_entries 16 = .ok (.iconst 1, 1) := dk_4 (dk_at dksX16_entries_0 16 rfl rfl)
theorem dX16_entries_17 : decode cX16_entries 17 = .ok (.istore 7, 2) := dk_54 7 (dk_at dksX16_entries_0 17 rfl rfl)
theorem dX16_entries_19 : decode cX16_entries 19 = .ok (.aload_n 0, 1) := dk_42 (dk_at dksX16_entries_0 19 rfl rfl)
theorem dX16_entries_20 : decode cX16_entries 20 = .ok (.getfield 28, 3) := dk_180 0 28 (dk_at dksX16_entries_0 20 rfl rfl)
theorem dX16_entries_23 : decode cX16_entries 23 = .ok (.getfield 96, 3) := dk_180 0 96 (dk_at dksX16_entries_1 0 rfl rfl)
theorem dX16_entries_26 : decode cX16_entries 26 = .ok (.iload_n 2, 1) := dk_28 (dk_at dksX16_entries_1 3 rfl rfl)
theorem dX16_entries_27 : decode cX16_entries 27 = .ok (.iaload, 1) := dk_46 (dk_at dksX16_entries_1 4 rfl rfl)
theorem dX16_entries_28 : decode cX16_entries 28 = .ok (.istore 8, 2) := dk_54 8 (dk_at dksX16_entries_1 5 rfl rfl)
theorem dX16_entries_30 : decode cX16_entries 30 = .ok (.iconst 0, 1) := dk_3 (dk_at dksX16_entries_1 7 rfl rfl)
theorem dX16_entries_31 : decode cX16_entries 31 = .ok (.istore 9, 2) := dk_54 9 (dk_at dksX16_entries_1 8 rfl rfl)
theorem dX16_entries_33 : decode cX16_entries 33 = .ok (.iload 9, 2) := dk_21 9 (dk_at dksX16_entries_1 10 rfl rfl)
theorem dX16_entries_35 : decode cX16_entries 35 = .ok (.iconst 2, 1) := dk_5 (dk_at dksX16_entries_1 12 rfl rfl)
theorem dX16_entries_36 : decode cX16_entries 36 = .ok (.if_icmp .ge 197, 3) := dk_162 0 197 (dk_at dksX16_entries_1 13 rfl rfl)
theorem dX16_entries_39 : decode cX16_entries 39 = .ok (.iload 7, 2) := dk_21 7 (dk_at dksX16_entries_1 16 rfl rfl)
theorem dX16_entries_41 : decode cX16_entries 41 = .ok (.ifCond .eq 192, 3) := dk_153 0 192 (dk_at dksX16_entries_1 18 rfl rfl)
theorem dX16_entries_44 : decode cX16_entries 44 = .ok (.iload 9, 2) := dk_21 9 (dk_at dksX16_entries_1 21 rfl rfl)
theorem dX16_entries_46 : decode cX16_entries 46 = .ok (.ifCond .ne 15, 3) := dk_154 0 15 (dk_at dksX16_entries_2 0 rfl rfl)
theorem dX16_entries_49 : decode cX16_entries 49 = .ok (.aload_n 0, 1) := dk_42 (dk_at dksX16_entries_2 3 rfl rfl)
theorem dX16_entries_50 : decode cX16_entries 50 = .ok (.getfield 32, 3) := dk_180 0 32 (dk_at dksX16_entries_2 4 rfl rfl)
theorem dX16_entries_53 : decode cX16_entries 53 = .ok (.getfield 166, 3) := dk_180 0 166 (dk_at dksX16_entries_2 7 rfl rfl)
theorem dX16_entries_56 : decode cX16_entries 56 = .ok (.iload_n 3, 1) := dk_29 (dk_at dksX16_entries_2 10 rfl rfl)
theorem dX16_entries_57 : decode cX16_entries 57 = .ok (.iaload, 1) := dk_46 (dk_at dksX16_entries_2 11 rfl rfl)
theorem dX16_entries_58 : decode cX16_entries 58 = .ok (.goto 12, 3) := dk_167 0 12 (dk_at dksX16_entries_2 12 rfl rfl)
theorem dX16_entries_61 : decode cX16_entries 61 = .ok (.aload_n 0, 1) := dk_42 (dk_at dksX16_entries_2 15 rfl rfl)
theorem dX16_entries_62 : decode cX16_entries 62 = .ok (.getfield 32, 3) := dk_180 0 32 (dk_at dksX16_entries_2 16 rfl rfl)
theorem dX16_entries_65 : decode cX16_entries 65 = .ok (.getfield 169, 3) := dk_180 0 169 (dk_at dksX16_entries_2 19 rfl rfl)
theorem dX16_entries_68 : decode cX16_entries 68 = .ok (.iload_n 3, 1) := dk_29 (dk_at dksX16_entries_2 22 rfl rfl)
theorem dX16_entries_69 : decode cX16_entries 69 = .ok (.iaload, 1) := dk_46 (dk_at dksX16_entries_2 23 rfl rfl)
theorem dX16_entries_70 : decode cX16_entries 70 = .ok (.istore 10, 2) := dk_54 10 (dk_at dksX16_entries_3 0 rfl rfl)
theorem dX16_entries_72 : decode cX16_entries 72 = .ok (.lload 4, 2) := dk_22 4 (dk_at dksX16_entries_3 2 rfl rfl)
theorem dX16_entries_74 : decode cX16_entries 74 = .ok (.iload 9, 2) := dk_21 9 (dk_at dksX16_entries_3 4 rfl rfl)
theorem dX16_entries_76 : decode cX16_entries 76 = .ok (.i2l, 1) := dk_133 (dk_at dksX16_entries_3 6 rfl rfl)
theorem dX16_entries_77 : decode cX16_entries 77 = .ok (.iload 6, 2) := dk_21 6 (dk_at dksX16_entries_3 7 rfl rfl)
theorem dX16_entries_79 : decode cX16_entries 79 = .ok (.lshl, 1) := dk_121 (dk_at dksX16_entries_3 9 rfl rfl)
theorem dX16_entries_80 : decode cX16_entries 80 = .ok (.lor, 1) := dk_129 (dk_at dksX16_entries_3 10 rfl rfl)
theorem dX16_entries_81 : decode cX16_entries 81 = .ok (.lstore 11, 2) := dk_55 11 (dk_at dksX16_entries_3 11 rfl rfl)
theorem dX16_entries_83 : decode cX16_entries 83 = .ok (.aload_n 0, 1) := dk_42 (dk_at dksX16_entries_3 13 rfl rfl)
theorem dX16_entries_84 : decode cX16_entries 84 = .ok (.getfield 28, 3) := dk_180 0 28 (dk_at dksX16_entries_3 14 rfl rfl)
theorem dX16_entries_87 : decode cX16_entries 87 = .ok (.getfield 172, 3) := dk_180 0 172 (dk_at dksX16_entries_3 17 rfl rfl)
theorem dX16_entries_90 : decode cX16_entries 90 = .ok (.iload 8, 2) := dk_21 8 (dk_at dksX16_entries_3 20 rfl rfl)
theorem dX16_entries_92 : decode cX16_entries 92 = .ok (.iaload, 1) := dk_46 (dk_at dksX16_entries_3 22 rfl rfl)
theorem dX16_entries_93 : decode cX16_entries 93 = .ok (.ifCond .eq 92, 3) := dk_153 0 92 (dk_at dksX16_entries_4 0 rfl rfl)
theorem dX16_entries_96 : decode cX16_entries 96 = .ok (.aload_n 0, 1) := dk_42 (dk_at dksX16_entries_4 3 rfl rfl)
theorem dX16_entries_97 : decode cX16_entries 97 = .ok (.getfield 36, 3) := dk_180 0 36 (dk_at dksX16_entries_4 4 rfl rfl)
theorem dX16_entries_100 : decode cX16_entries 100 = .ok (.aload_n 0, 1) := dk_42 (dk_at dksX16_entries_4 7 rfl rfl)
theorem dX16_entries_101 : decode cX16_entries 101 = .ok (.getfield 28, 3) := dk_180 0 28 (dk_at dksX16_entries_4 8 rfl rfl)
theorem dX16_entries_104 : decode cX16_entries 104 = .ok (.invokevirtual 175, 3) := dk_182 0 175 (dk_at dksX16_entries_4 11 rfl rfl)
theorem dX16_entries_107 : decode cX16_entries 107 = .ok (.aload_n 0, 1) := dk_42 (dk_at dksX16_entries_4 14 rfl rfl)
theorem dX16_entries_108 : decode cX16_entries 108 = .ok (.getfield 28, 3) := dk_180 0 28 (dk_at dksX16_entries_4 15 rfl rfl)
theorem dX16_entries_111 : decode cX16_entries 111 = .ok (.getfield 172, 3) := dk_180 0 172 (dk_at dksX16_entries_4 18 rfl rfl)
theorem dX16_entries_114 : decode cX16_entries 114 = .ok (.iload 8, 2) := dk_21 8 (dk_at dksX16_entries_4 21 rfl rfl)
theorem dX16_entries_116 : decode cX16_entries 116 = .ok (.iaload, 1) := dk_46 (dk_at dksX16_entries_4 23 rfl rfl)
theorem dX16_entries_117 : decode cX16_entries 117 = .ok (.aload_n 0, 1) := dk_42 (dk_at dksX16_entries_5 0 rfl rfl)
theorem dX16_entries_118 : decode cX16_entries 118 = .ok (.getfield 28, 3) := dk_180 0 28 (dk_at dksX16_entries_5 1 rfl rfl)
theorem dX16_entries_121 : decode cX16_entries 121 = .ok (.getfield 179, 3) := dk_180 0 179 (dk_at dksX16_entries_5 4 rfl rfl)
theorem dX16_entries_124 : decode cX16_entries 124 = .ok (.iload 8, 2) := dk_21 8 (dk_at dksX16_entries_5 7 rfl rfl)
theorem dX16_entries_126 : decode cX16_entries 126 = .ok (.iaload, 1) := dk_46 (dk_at dksX16_entries_5 9 rfl rfl)
theorem dX16_entries_127 : decode cX16_entries 127 = .ok (.invokevirtual 182, 3) := dk_182 0 182 (dk_at dksX16_entries_5 10 rfl rfl)
theorem dX16_entries_130 : decode cX16_entries 130 = .ok (.istore 13, 2) := dk_54 13 (dk_at dksX16_entries_5 13 rfl rfl)
theorem dX16_entries_132 : decode cX16_entries 132 = .ok (.aload_n 0, 1) := dk_42 (dk_at dksX16_entries_5 15 rfl rfl)
theorem dX16_entries_133 : decode cX16_entries 133 = .ok (.getfield 40, 3) := dk_180 0 40 (dk_at dksX16_entries_5 16 rfl rfl)
theorem dX16_entries_136 : decode cX16_entries 136 = .ok (.getfield 116, 3) := dk_180 0 116 (dk_at dksX16_entries_5 19 rfl rfl)
theorem dX16_entries_139 : decode cX16_entries 139 = .ok (.iload_n 1, 1) := dk_27 (dk_at dksX16_entries_5 22 rfl rfl)
theorem dX16_entries_140 : decode cX16_entries 140 = .ok (.iconst 1, 1) := dk_4 (dk_at dksX16_entries_5 23 rfl rfl)
theorem dX16_entries_141 : decode cX16_entries 141 = .ok (.iadd, 1) := dk_96 (dk_at dksX16_entries_6 0 rfl rfl)
theorem dX16_entries_142 : decode cX16_entries 142 = .ok (.aload_n 0, 1) := dk_42 (dk_at dksX16_entries_6 1 rfl rfl)
theorem dX16_entries_143 : decode cX16_entries 143 = .ok (.getfield 40, 3) := dk_180 0 40 (dk_at dksX16_entries_6 2 rfl rfl)
theorem dX16_entries_146 : decode cX16_entries 146 = .ok (.getfield 117, 3) := dk_180 0 117 (dk_at dksX16_entries_6 5 rfl rfl)
theorem dX16_entries_149 : decode cX16_entries 149 = .ok (.iastore, 1) := dk_79 (dk_at dksX16_entries_6 8 rfl rfl)
theorem dX16_entries_150 : decode cX16_entries 150 = .ok (.aload_n 0, 1) := dk_42 (dk_at dksX16_entries_6 9 rfl rfl)
theorem dX16_entries_151 : decode cX16_entries 151 = .ok (.getfield 40, 3) := dk_180 0 40 (dk_at dksX16_entries_6 10 rfl rfl)
theorem dX16_entries_154 : decode cX16_entries 154 = .ok (.iload_n 1, 1) := dk_27 (dk_at dksX16_entries_6 13 rfl rfl)
theorem dX16_entries_155 : decode cX16_entries 155 = .ok (.iload 13, 2) := dk_21 13 (dk_at dksX16_entries_6 14 rfl rfl)
theorem dX16_entries_157 : decode cX16_entries 157 = .ok (.invokevirtual 128, 3) := dk_182 0 128 (dk_at dksX16_entries_6 16 rfl rfl)
theorem dX16_entries_160 : decode cX16_entries 160 = .ok (.ifCond .ge 7, 3) := dk_156 0 7 (dk_at dksX16_entries_6 19 rfl rfl)
theorem dX16_entries_163 : decode cX16_entries 163 = .ok (.iconst 1, 1) := dk_4 (dk_at dksX16_entries_6 22 rfl rfl)
theorem dX16_entries_164 : decode cX16_entries 164 = .ok (.goto 4, 3) := dk_167 0 4 (dk_at dksX16_entries_7 0 rfl rfl)
theorem dX16_entries_167 : decode cX16_entries 167 = .ok (.iconst 0, 1) := dk_3 (dk_at dksX16_entries_7 3 rfl rfl)
theorem dX16_entries_168 : decode cX16_entries 168 = .ok (.istore 7, 2) := dk_54 7 (dk_at dksX16_entries_7 4 rfl rfl)
theorem dX16_entries_170 : decode cX16_entries 170 = .ok (.aload_n 0, 1) := dk_42 (dk_at dksX16_entries_7 6 rfl rfl)
theorem dX16_entries_171 : decode cX16_entries 171 = .ok (.iload_n 1, 1) := dk_27 (dk_at dksX16_entries_7 7 rfl rfl)
theorem dX16_entries_172 : decode cX16_entries 172 = .ok (.iload 13, 2) := dk_21 13 (dk_at dksX16_entries_7 8 rfl rfl)
theorem dX16_entries_174 : decode cX16_entries 174 = .ok (.iload 10, 2) := dk_21 10 (dk_at dksX16_entries_7 10 rfl rfl)
theorem dX16_entries_176 : decode cX16_entries 176 = .ok (.lload 11, 2) := dk_22 11 (dk_at dksX16_entries_7 12 rfl rfl)
theorem dX16_entries_178 : decode cX16_entries 178 = .ok (.iload 6, 2) := dk_21 6 (dk_at dksX16_entries_7 14 rfl rfl)
theorem dX16_entries_180 : decode cX16_entries 180 = .ok (.iconst 1, 1) := dk_4 (dk_at dksX16_entries_7 16 rfl rfl)
theorem dX16_entries_181 : decode cX16_entries 181 = .ok (.iadd, 1) := dk_96 (dk_at dksX16_entries_7 17 rfl rfl)
theorem dX16_entries_182 : decode cX16_entries 182 = .ok (.invokevirtual 131, 3) := dk_182 0 131 (dk_at dksX16_entries_7 18 rfl rfl)
theorem dX16_entries_185 : decode cX16_entries 185 = .ok (.iload 7, 2) := dk_21 7 (dk_at dksX16_entries_7 21 rfl rfl)
theorem dX16_entries_187 : decode cX16_entries 187 = .ok (.ifCond .eq 25, 3) := dk_153 0 25 (dk_at dksX16_entries_8 0 rfl rfl)
theorem dX16_entries_190 : decode cX16_entries 190 = .ok (.aload_n 0, 1) := dk_42 (dk_at dksX16_entries_8 3 rfl rfl)
theorem dX16_entries_191 : decode cX16_entries 191 = .ok (.iload_n 1, 1) := dk_27 (dk_at dksX16_entries_8 4 rfl rfl)
theorem dX16_entries_192 : decode cX16_entries 192 = .ok (.iload 8, 2) := dk_21 8 (dk_at dksX16_entries_8 5 rfl rfl)
theorem dX16_entries_194 : decode cX16_entries 194 = .ok (.iload 10, 2) := dk_21 10 (dk_at dksX16_entries_8 7 rfl rfl)
theorem dX16_entries_196 : decode cX16_entries 196 = .ok (.lload 11, 2) := dk_22 11 (dk_at dksX16_entries_8 9 rfl rfl)
theorem dX16_entries_198 : decode cX16_entries 198 = .ok (.iload 6, 2) := dk_21 6 (dk_at dksX16_entries_8 11 rfl rfl)
theorem dX16_entries_200 : decode cX16_entries 200 = .ok (.iconst 1, 1) := dk_4 (dk_at dksX16_entries_8 13 rfl rfl)
theorem dX16_entries_201 : decode cX16_entries 201 = .ok (.iadd, 1) := dk_96 (dk_at dksX16_entries_8 14 rfl rfl)
theorem dX16_entries_202 : decode cX16_entries 202 = .ok (.invokevirtual 123, 3) := dk_182 0 123 (dk_at dksX16_entries_8 15 rfl rfl)
theorem dX16_entries_205 : decode cX16_entries 205 = .ok (.ifCond .eq 7, 3) := dk_153 0 7 (dk_at dksX16_entries_8 18 rfl rfl)
theorem dX16_entries_208 : decode cX16_entries 208 = .ok (.iconst 1, 1) := dk_4 (dk_at dksX16_entries_8 21 rfl rfl)
theorem dX16_entries_209 : decode cX16_entries 209 = .ok (.goto 4, 3) := dk_167 0 4 (dk_at dksX16_entries_9 0 rfl rfl)
theorem dX16_entries_212 : decode cX16_entries 212 = .ok (.iconst 0, 1) := dk_3 (dk_at dksX16_entries_9 3 rfl rfl)
theorem dX16_entries_213 : decode cX16_entries 213 = .ok (.istore 7, 2) := dk_54 7 (dk_at dksX16_entries_9 4 rfl rfl)
theorem dX16_entries_215 : decode cX16_entries 215 = .ok (.aload_n 0, 1) := dk_42 (dk_at dksX16_entries_9 6 rfl rfl)
theorem dX16_entries_216 : decode cX16_entries 216 = .ok (.getfield 28, 3) := dk_180 0 28 (dk_at dksX16_entries_9 7 rfl rfl)
theorem dX16_entries_219 : decode cX16_entries 219 = .ok (.getfield 186, 3) := dk_180 0 186 (dk_at dksX16_entries_9 10 rfl rfl)
theorem dX16_entries_222 : decode cX16_entries 222 = .ok (.iload 8, 2) := dk_21 8 (dk_at dksX16_entries_9 13 rfl rfl)
theorem dX16_entries_224 : decode cX16_entries 224 = .ok (.iaload, 1) := dk_46 (dk_at dksX16_entries_9 15 rfl rfl)
theorem dX16_entries_225 : decode cX16_entries 225 = .ok (.istore 8, 2) := dk_54 8 (dk_at dksX16_entries_9 16 rfl rfl)
theorem dX16_entries_227 : decode cX16_entries 227 = .ok (.iinc 9 1, 3) := dk_132 9 1 (dk_at dksX16_entries_9 18 rfl rfl)
theorem dX16_entries_230 : decode cX16_entries 230 = .ok (.goto (-197), 3) := dk_167 255 59 (dk_at dksX16_entries_9 21 rfl rfl)
theorem dX16_entries_233 : decode cX16_entries 233 = .ok (.iload 7, 2) := dk_21 7 (dk_at dksX16_entries_10 0 rfl rfl)
theorem dX16_entries_235 : decode cX16_entries 235 = .ok (.ireturn, 1) := dk_172 (dk_at dksX16_entries_10 2 rfl rfl)
abbrev cX16_entry : ByteArray := prog_21_method_6_code
def yX16_entry : MethodName := ⟨RX16, "entry", "(IIIJI)V"⟩
def dkwX16_entry_2 : List UInt8 := [22, 4, 80, 42, 180, 0, 40, 180, 0, 159, 21, 7, 21, 6, 145, 84, 177]
abbrev dktX16_entry_2 : List UInt8 := dkwX16_entry_2 ++ []
def dkwX16_entry_1 : List UInt8 := [21, 7, 28, 79, 42, 180, 0, 40, 180, 0, 153, 21, 7, 29, 79, 42, 180, 0, 40, 180, 0, 155, 21, 7]
abbrev dktX16_entry_1 : List UInt8 := dkwX16_entry_1 ++ dktX16_entry_2
def dkwX16_entry_0 : List UInt8 := [42, 180, 0, 40, 89, 180, 0, 117, 90, 4, 96, 181, 0, 117, 54, 7, 42, 180, 0, 40, 180, 0, 151]
abbrev dktX16_entry_0 : List UInt8 := dkwX16_entry_0 ++ dktX16_entry_1
theorem dksX16_entry_0 : cX16_entry.data.toList.drop 0 = dktX16_entry_0 := by decide +kernel
theorem dksX16_entry_1 : cX16_entry.data.toList.drop 23 = dktX16_entry_1 := dk_seg dksX16_entry_0 23 rfl rfl
theorem dksX16_entry_2 : cX16_entry.data.toList.drop 47 = dktX16_entry_2 := dk_seg dksX16_entry_1 24 rfl rfl
theorem dX16_entry_0 : decode cX16_entry 0 = .ok (.aload_n 0, 1) := dk_42 (dk_at dksX16_entry_0 0 rfl rfl)
theorem dX16_entry_1 : decode cX16_entry 1 = .ok (.getfield 40, 3) := dk_180 0 40 (dk_at dksX16_entry_0 1 rfl rfl)
theorem dX16_entry_4 : decode cX16_entry 4 = .ok (.dup, 1) := dk_89 (dk_at dksX16_entry_0 4 rfl rfl)
theorem dX16_entry_5 : decode cX16_entry 5 = .ok (.getfield 117, 3) := dk_180 0 117 (dk_at dksX16_entry_0 5 rfl rfl)
theorem dX16_entry_8 : decode cX16_entry 8 = .ok (.dup_x1, 1) := dk_90 (dk_at dksX16_entry_0 8 rfl rfl)
theorem dX16_entry_9 : decode cX16_entry 9 = .ok (.iconst 1, 1) := dk_4 (dk_at dksX16_entry_0 9 rfl rfl)
theorem dX16_entry_10 : decode cX16_entry 10 = .ok (.iadd, 1) := dk_96 (dk_at dksX16_entry_0 10 rfl rfl)
theorem dX16_entry_11 : decode cX16_entry 11 = .ok (.putfield 117, 3) := dk_181 0 117 (dk_at dksX16_entry_0 11 rfl rfl)
theorem dX16_entry_14 : decode cX16_entry 14 = .ok (.istore 7, 2) := dk_54 7 (dk_at dksX16_entry_0 14 rfl rfl)
theorem dX16_entry_16 : decode cX16_entry 16 = .ok (.aload_n 0, 1) := dk_42 (dk_at dksX16_entry_0 16 rfl rfl)
theorem dX16_entry_17 : decode cX16_entry 17 = .ok (.getfield 40, 3) := dk_180 0 40 (dk_at dksX16_entry_0 17 rfl rfl)
theorem dX16_entry_20 : decode cX16_entry 20 = .ok (.getfield 151, 3) := dk_180 0 151 (dk_at dksX16_entry_0 20 rfl rfl)
theorem dX16_entry_23 : decode cX16_entry 23 = .ok (.iload 7, 2) := dk_21 7 (dk_at dksX16_entry_1 0 rfl rfl)
theorem dX16_entry_25 : decode cX16_entry 25 = .ok (.iload_n 2, 1) := dk_28 (dk_at dksX16_entry_1 2 rfl rfl)
theorem dX16_entry_26 : decode cX16_entry 26 = .ok (.iastore, 1) := dk_79 (dk_at dksX16_entry_1 3 rfl rfl)
theorem dX16_entry_27 : decode cX16_entry 27 = .ok (.aload_n 0, 1) := dk_42 (dk_at dksX16_entry_1 4 rfl rfl)
theorem dX16_entry_28 : decode cX16_entry 28 = .ok (.getfield 40, 3) := dk_180 0 40 (dk_at dksX16_entry_1 5 rfl rfl)
theorem dX16_entry_31 : decode cX16_entry 31 = .ok (.getfield 153, 3) := dk_180 0 153 (dk_at dksX16_entry_1 8 rfl rfl)
theorem dX16_entry_34 : decode cX16_entry 34 = .ok (.iload 7, 2) := dk_21 7 (dk_at dksX16_entry_1 11 rfl rfl)
theorem dX16_entry_36 : decode cX16_entry 36 = .ok (.iload_n 3, 1) := dk_29 (dk_at dksX16_entry_1 13 rfl rfl)
theorem dX16_entry_37 : decode cX16_entry 37 = .ok (.iastore, 1) := dk_79 (dk_at dksX16_entry_1 14 rfl rfl)
theorem dX16_entry_38 : decode cX16_entry 38 = .ok (.aload_n 0, 1) := dk_42 (dk_at dksX16_entry_1 15 rfl rfl)
theorem dX16_entry_39 : decode cX16_entry 39 = .ok (.getfield 40, 3) := dk_180 0 40 (dk_at dksX16_entry_1 16 rfl rfl)
theorem dX16_entry_42 : decode cX16_entry 42 = .ok (.getfield 155, 3) := dk_180 0 155 (dk_at dksX16_entry_1 19 rfl rfl)
theorem dX16_entry_45 : decode cX16_entry 45 = .ok (.iload 7, 2) := dk_21 7 (dk_at dksX16_entry_1 22 rfl rfl)
theorem dX16_entry_47 : decode cX16_entry 47 = .ok (.lload 4, 2) := dk_22 4 (dk_at dksX16_entry_2 0 rfl rfl)
theorem dX16_entry_49 : decode cX16_entry 49 = .ok (.lastore, 1) := dk_80 (dk_at dksX16_entry_2 2 rfl rfl)
theorem dX16_entry_50 : decode cX16_entry 50 = .ok (.aload_n 0, 1) := dk_42 (dk_at dksX16_entry_2 3 rfl rfl)
theorem dX16_entry_51 : decode cX16_entry 51 = .ok (.getfield 40, 3) := dk_180 0 40 (dk_at dksX16_entry_2 4 rfl rfl)
theorem dX16_entry_54 : decode cX16_entry 54 = .ok (.getfield 159, 3) := dk_180 0 159 (dk_at dksX16_entry_2 7 rfl rfl)
theorem dX16_entry_57 : decode cX16_entry 57 = .ok (.iload 7, 2) := dk_21 7 (dk_at dksX16_entry_2 10 rfl rfl)
theorem dX16_entry_59 : decode cX16_entry 59 = .ok (.iload 6, 2) := dk_21 6 (dk_at dksX16_entry_2 12 rfl rfl)
theorem dX16_entry_61 : decode cX16_entry 61 = .ok (.i2b, 1) := dk_145 (dk_at dksX16_entry_2 14 rfl rfl)
theorem dX16_entry_62 : decode cX16_entry 62 = .ok (.bastore, 1) := dk_84 (dk_at dksX16_entry_2 15 rfl rfl)
theorem dX16_entry_63 : decode cX16_entry 63 = .ok (.return_, 1) := dk_177 (dk_at dksX16_entry_2 16 rfl rfl)
abbrev cX16_body : ByteArray := prog_21_method_8_code
def yX16_body : MethodName := ⟨RX16, "body", "(III)V"⟩
def dkwX16_body_8 : List UInt8 := [181, 0, 189, 42, 21, 5, 181, 0, 62, 177]
abbrev dktX16_body_8 : List UInt8 := dkwX16_body_8 ++ []
def dkwX16_body_7 : List UInt8 := [160, 0, 14, 42, 180, 0, 20, 3, 46, 21, 8, 159, 0, 9, 42, 29, 182, 0, 99, 87, 42, 21, 4]
abbrev dktX16_body_7 : List UInt8 := dkwX16_body_7 ++ dktX16_body_8
def dkwX16_body_6 : List UInt8 := [46, 182, 0, 206, 79, 42, 180, 0, 52, 156, 0, 35, 42, 180, 0, 199, 154, 0, 28, 42, 180, 0, 56, 4]
abbrev dktX16_body_6 : List UInt8 := dkwX16_body_6 ++ dktX16_body_7
def dkwX16_body_5 : List UInt8 := [180, 0, 40, 180, 0, 203, 27, 42, 42, 180, 0, 28, 180, 0, 96, 42, 180, 0, 28, 28, 5, 182, 0, 69]
abbrev dktX16_body_5 : List UInt8 := dkwX16_body_5 ++ dktX16_body_6
def dkwX16_body_4 : List UInt8 := [87, 167, 0, 90, 42, 180, 0, 20, 42, 89, 180, 0, 56, 90, 4, 96, 181, 0, 56, 21, 7, 79, 42]
abbrev dktX16_body_4 : List UInt8 := dkwX16_body_4 ++ dktX16_body_5
def dkwX16_body_3 : List UInt8 := [3, 181, 0, 62, 42, 3, 181, 0, 56, 42, 3, 181, 0, 199, 21, 7, 156, 0, 12, 42, 29, 182, 0, 99]
abbrev dktX16_body_3 : List UInt8 := dkwX16_body_3 ++ dktX16_body_4
def dkwX16_body_2 : List UInt8 := [180, 0, 32, 16, 11, 16, 9, 2, 182, 0, 195, 21, 6, 182, 0, 192, 54, 8, 42, 27, 181, 0, 189, 42]
abbrev dktX16_body_2 : List UInt8 := dkwX16_body_2 ++ dktX16_body_3
def dkwX16_body_1 : List UInt8 := [180, 0, 32, 42, 180, 0, 40, 180, 0, 107, 27, 46, 21, 6, 182, 0, 192, 54, 7, 42, 180, 0, 32, 42]
abbrev dktX16_body_1 : List UInt8 := dkwX16_body_1 ++ dktX16_body_2
def dkwX16_body_0 : List UInt8 := [42, 180, 0, 189, 54, 4, 42, 180, 0, 62, 54, 5, 42, 180, 0, 40, 180, 0, 134, 27, 46, 54, 6, 42]
abbrev dktX16_body_0 : List UInt8 := dkwX16_body_0 ++ dktX16_body_1
theorem dksX16_body_0 : cX16_body.data.toList.drop 0 = dktX16_body_0 := by decide +kernel
theorem dksX16_body_1 : cX16_body.data.toList.drop 24 = dktX16_body_1 := dk_seg dksX16_body_0 24 rfl rfl
theorem dksX16_body_2 : cX16_body.data.toList.drop 48 = dktX16_body_2 := dk_seg dksX16_body_1 24 rfl rfl
theorem dksX16_body_3 : cX16_body.data.toList.drop 72 = dktX16_body_3 := dk_seg dksX16_body_2 24 rfl rfl
theorem dksX16_body_4 : cX16_body.data.toList.drop 96 = dktX16_body_4 := dk_seg dksX16_body_3 24 rfl rfl
theorem dksX16_body_5 : cX16_body.data.toList.drop 119 = dktX16_body_5 := dk_seg dksX16_body_4 23 rfl rfl
theorem dksX16_body_6 : cX16_body.data.toList.drop 143 = dktX16_body_6 := dk_seg dksX16_body_5 24 rfl rfl
theorem dksX16_body_7 : cX16_body.data.toList.drop 167 = dktX16_body_7 := dk_seg dksX16_body_6 24 rfl rfl
theorem dksX16_body_8 : cX16_body.data.toList.drop 190 = dktX16_body_8 := dk_seg dksX16_body_7 23 rfl rfl
theorem dX16_body_0 : decode cX16_body 0 = .ok (.aload_n 0, 1) := dk_42 (dk_at dksX16_body_0 0 rfl rfl)
theorem dX16_body_1 : decode cX16_body 1 = .ok (.getfield 189, 3) := dk_180 0 189 (dk_at dksX16_body_0 1 rfl rfl)
theorem dX16_body_4 : decode cX16_body 4 = .ok (.istore 4, 2) := dk_54 4 (dk_at dksX16_body_0 4 rfl rfl)
theorem dX16_body_6 : decode cX16_body 6 = .ok (.aload_n 0, 1) := dk_42 (dk_at dksX16_body_0 6 rfl rfl)
theorem dX16_body_7 : decode cX16_body 7 = .ok (.getfield 62, 3) := dk_180 0 62 (dk_at dksX16_body_0 7 rfl rfl)
theorem dX16_body_10 : decode cX16_body 10 = .ok (.istore 5, 2) := dk_54 5 (dk_at dksX16_body_0 10 rfl rfl)
theorem dX16_body_12 : decode cX16_body 12 = .ok (.aload_n 0, 1) := dk_42 (dk_at dksX16_body_0 12 rfl rfl)
theorem dX16_body_13 : decode cX16_body 13 = .ok (.getfield 40, 3) := dk_180 0 40 (dk_at dksX16_body_0 13 rfl rfl)
theorem dX16_body_16 : decode cX16_body 16 = .ok (.getfield 134, 3) := dk_180 0 134 (dk_at dksX16_body_0 16 rfl rfl)
theorem dX16_body_19 : decode cX16_body 19 = .ok (.iload_n 1, 1) := dk_27 (dk_at dksX16_body_0 19 rfl rfl)
theorem dX16_body_20 : decode cX16_body 20 = .ok (.iaload, 1) := dk_46 (dk_at dksX16_body_0 20 rfl rfl)
theorem dX16_body_21 : decode cX16_body 21 = .ok (.istore 6, 2) := dk_54 6 (dk_at dksX16_body_0 21 rfl rfl)
theorem dX16_body_23 : decode cX16_body 23 = .ok (.aload_n 0, 1) := dk_42 (dk_at dksX16_body_0 23 rfl rfl)
theorem dX16_body_24 : decode cX16_body 24 = .ok (.getfield 32, 3) := dk_180 0 32 (dk_at dksX16_body_1 0 rfl rfl)
theorem dX16_body_27 : decode cX16_body 27 = .ok (.aload_n 0, 1) := dk_42 (dk_at dksX16_body_1 3 rfl rfl)
theorem dX16_body_28 : decode cX16_body 28 = .ok (.getfield 40, 3) := dk_180 0 40 (dk_at dksX16_body_1 4 rfl rfl)
theorem dX16_body_31 : decode cX16_body 31 = .ok (.getfield 107, 3) := dk_180 0 107 (dk_at dksX16_body_1 7 rfl rfl)
theorem dX16_body_34 : decode cX16_body 34 = .ok (.iload_n 1, 1) := dk_27 (dk_at dksX16_body_1 10 rfl rfl)
theorem dX16_body_35 : decode cX16_body 35 = .ok (.iaload, 1) := dk_46 (dk_at dksX16_body_1 11 rfl rfl)
theorem dX16_body_36 : decode cX16_body 36 = .ok (.iload 6, 2) := dk_21 6 (dk_at dksX16_body_1 12 rfl rfl)
theorem dX16_body_38 : decode cX16_body 38 = .ok (.invokevirtual 192, 3) := dk_182 0 192 (dk_at dksX16_body_1 14 rfl rfl)
theorem dX16_body_41 : decode cX16_body 41 = .ok (.istore 7, 2) := dk_54 7 (dk_at dksX16_body_1 17 rfl rfl)
theorem dX16_body_43 : decode cX16_body 43 = .ok (.aload_n 0, 1) := dk_42 (dk_at dksX16_body_1 19 rfl rfl)
theorem dX16_body_44 : decode cX16_body 44 = .ok (.getfield 32, 3) := dk_180 0 32 (dk_at dksX16_body_1 20 rfl rfl)
theorem dX16_body_47 : decode cX16_body 47 = .ok (.aload_n 0, 1) := dk_42 (dk_at dksX16_body_1 23 rfl rfl)
theorem dX16_body_48 : decode cX16_body 48 = .ok (.getfield 32, 3) := dk_180 0 32 (dk_at dksX16_body_2 0 rfl rfl)
theorem dX16_body_51 : decode cX16_body 51 = .ok (.bipush 11, 2) := dk_16 11 (dk_at dksX16_body_2 3 rfl rfl)
theorem dX16_body_53 : decode cX16_body 53 = .ok (.bipush 9, 2) := dk_16 9 (dk_at dksX16_body_2 5 rfl rfl)
theorem dX16_body_55 : decode cX16_body 55 = .ok (.iconst (-1), 1) := dk_2 (dk_at dksX16_body_2 7 rfl rfl)
theorem dX16_body_56 : decode cX16_body 56 = .ok (.invokevirtual 195, 3) := dk_182 0 195 (dk_at dksX16_body_2 8 rfl rfl)
theorem dX16_body_59 : decode cX16_body 59 = .ok (.iload 6, 2) := dk_21 6 (dk_at dksX16_body_2 11 rfl rfl)
theorem dX16_body_61 : decode cX16_body 61 = .ok (.invokevirtual 192, 3) := dk_182 0 192 (dk_at dksX16_body_2 13 rfl rfl)
theorem dX16_body_64 : decode cX16_body 64 = .ok (.istore 8, 2) := dk_54 8 (dk_at dksX16_body_2 16 rfl rfl)
theorem dX16_body_66 : decode cX16_body 66 = .ok (.aload_n 0, 1) := dk_42 (dk_at dksX16_body_2 18 rfl rfl)
theorem dX16_body_67 : decode cX16_body 67 = .ok (.iload_n 1, 1) := dk_27 (dk_at dksX16_body_2 19 rfl rfl)
theorem dX16_body_68 : decode cX16_body 68 = .ok (.putfield 189, 3) := dk_181 0 189 (dk_at dksX16_body_2 20 rfl rfl)
theorem dX16_body_71 : decode cX16_body 71 = .ok (.aload_n 0, 1) := dk_42 (dk_at dksX16_body_2 23 rfl rfl)
theorem dX16_body_72 : decode cX16_body 72 = .ok (.iconst 0, 1) := dk_3 (dk_at dksX16_body_3 0 rfl rfl)
theorem dX16_body_73 : decode cX16_body 73 = .ok (.putfield 62, 3) := dk_181 0 62 (dk_at dksX16_body_3 1 rfl rfl)
theorem dX16_body_76 : decode cX16_body 76 = .ok (.aload_n 0, 1) := dk_42 (dk_at dksX16_body_3 4 rfl rfl)
theorem dX16_body_77 : decode cX16_body 77 = .ok (.iconst 0, 1) := dk_3 (dk_at dksX16_body_3 5 rfl rfl)
theorem dX16_body_78 : decode cX16_body 78 = .ok (.putfield 56, 3) := dk_181 0 56 (dk_at dksX16_body_3 6 rfl rfl)
theorem dX16_body_81 : decode cX16_body 81 = .ok (.aload_n 0, 1) := dk_42 (dk_at dksX16_body_3 9 rfl rfl)
theorem dX16_body_82 : decode cX16_body 82 = .ok (.iconst 0, 1) := dk_3 (dk_at dksX16_body_3 10 rfl rfl)
theorem dX16_body_83 : decode cX16_body 83 = .ok (.putfield 199, 3) := dk_181 0 199 (dk_at dksX16_body_3 11 rfl rfl)
theorem dX16_body_86 : decode cX16_body 86 = .ok (.iload 7, 2) := dk_21 7 (dk_at dksX16_body_3 14 rfl rfl)
theorem dX16_body_88 : decode cX16_body 88 = .ok (.ifCond .ge 12, 3) := dk_156 0 12 (dk_at dksX16_body_3 16 rfl rfl)
theorem dX16_body_91 : decode cX16_body 91 = .ok (.aload_n 0, 1) := dk_42 (dk_at dksX16_body_3 19 rfl rfl)
theorem dX16_body_92 : decode cX16_body 92 = .ok (.iload_n 3, 1) := dk_29 (dk_at dksX16_body_3 20 rfl rfl)
theorem dX16_body_93 : decode cX16_body 93 = .ok (.invokevirtual 99, 3) := dk_182 0 99 (dk_at dksX16_body_3 21 rfl rfl)
theorem dX16_body_96 : decode cX16_body 96 = .ok (.pop, 1) := dk_87 (dk_at dksX16_body_4 0 rfl rfl)
theorem dX16_body_97 : decode cX16_body 97 = .ok (.goto 90, 3) := dk_167 0 90 (dk_at dksX16_body_4 1 rfl rfl)
theorem dX16_body_100 : decode cX16_body 100 = .ok (.aload_n 0, 1) := dk_42 (dk_at dksX16_body_4 4 rfl rfl)
theorem dX16_body_101 : decode cX16_body 101 = .ok (.getfield 20, 3) := dk_180 0 20 (dk_at dksX16_body_4 5 rfl rfl)
theorem dX16_body_104 : decode cX16_body 104 = .ok (.aload_n 0, 1) := dk_42 (dk_at dksX16_body_4 8 rfl rfl)
theorem dX16_body_105 : decode cX16_body 105 = .ok (.dup, 1) := dk_89 (dk_at dksX16_body_4 9 rfl rfl)
theorem dX16_body_106 : decode cX16_body 106 = .ok (.getfield 56, 3) := dk_180 0 56 (dk_at dksX16_body_4 10 rfl rfl)
theorem dX16_body_109 : decode cX16_body 109 = .ok (.dup_x1, 1) := dk_90 (dk_at dksX16_body_4 13 rfl rfl)
theorem dX16_body_110 : decode cX16_body 110 = .ok (.iconst 1, 1) := dk_4 (dk_at dksX16_body_4 14 rfl rfl)
theorem dX16_body_111 : decode cX16_body 111 = .ok (.iadd, 1) := dk_96 (dk_at dksX16_body_4 15 rfl rfl)
theorem dX16_body_112 : decode cX16_body 112 = .ok (.putfield 56, 3) := dk_181 0 56 (dk_at dksX16_body_4 16 rfl rfl)
theorem dX16_body_115 : decode cX16_body 115 = .ok (.iload 7, 2) := dk_21 7 (dk_at dksX16_body_4 19 rfl rfl)
theorem dX16_body_117 : decode cX16_body 117 = .ok (.iastore, 1) := dk_79 (dk_at dksX16_body_4 21 rfl rfl)
theorem dX16_body_118 : decode cX16_body 118 = .ok (.aload_n 0, 1) := dk_42 (dk_at dksX16_body_4 22 rfl rfl)
theorem dX16_body_119 : decode cX16_body 119 = .ok (.getfield 40, 3) := dk_180 0 40 (dk_at dksX16_body_5 0 rfl rfl)
theorem dX16_body_122 : decode cX16_body 122 = .ok (.getfield 203, 3) := dk_180 0 203 (dk_at dksX16_body_5 3 rfl rfl)
theorem dX16_body_125 : decode cX16_body 125 = .ok (.iload_n 1, 1) := dk_27 (dk_at dksX16_body_5 6 rfl rfl)
theorem dX16_body_126 : decode cX16_body 126 = .ok (.aload_n 0, 1) := dk_42 (dk_at dksX16_body_5 7 rfl rfl)
theorem dX16_body_127 : decode cX16_body 127 = .ok (.aload_n 0, 1) := dk_42 (dk_at dksX16_body_5 8 rfl rfl)
theorem dX16_body_128 : decode cX16_body 128 = .ok (.getfield 28, 3) := dk_180 0 28 (dk_at dksX16_body_5 9 rfl rfl)
theorem dX16_body_131 : decode cX16_body 131 = .ok (.getfield 96, 3) := dk_180 0 96 (dk_at dksX16_body_5 12 rfl rfl)
theorem dX16_body_134 : decode cX16_body 134 = .ok (.aload_n 0, 1) := dk_42 (dk_at dksX16_body_5 15 rfl rfl)
theorem dX16_body_135 : decode cX16_body 135 = .ok (.getfield 28, 3) := dk_180 0 28 (dk_at dksX16_body_5 16 rfl rfl)
theorem dX16_body_138 : decode cX16_body 138 = .ok (.iload_n 2, 1) := dk_28 (dk_at dksX16_body_5 19 rfl rfl)
theorem dX16_body_139 : decode cX16_body 139 = .ok (.iconst 2, 1) := dk_5 (dk_at dksX16_body_5 20 rfl rfl)
theorem dX16_body_140 : decode cX16_body 140 = .ok (.invokevirtual 69, 3) := dk_182 0 69 (dk_at dksX16_body_5 21 rfl rfl)
theorem dX16_body_143 : decode cX16_body 143 = .ok (.iaload, 1) := dk_46 (dk_at dksX16_body_6 0 rfl rfl)
theorem dX16_body_144 : decode cX16_body 144 = .ok (.invokevirtual 206, 3) := dk_182 0 206 (dk_at dksX16_body_6 1 rfl rfl)
theorem dX16_body_147 : decode cX16_body 147 = .ok (.iastore, 1) := dk_79 (dk_at dksX16_body_6 4 rfl rfl)
theorem dX16_body_148 : decode cX16_body 148 = .ok (.aload_n 0, 1) := dk_42 (dk_at dksX16_body_6 5 rfl rfl)
theorem dX16_body_149 : decode cX16_body 149 = .ok (.getfield 52, 3) := dk_180 0 52 (dk_at dksX16_body_6 6 rfl rfl)
theorem dX16_body_152 : decode cX16_body 152 = .ok (.ifCond .ge 35, 3) := dk_156 0 35 (dk_at dksX16_body_6 9 rfl rfl)
theorem dX16_body_155 : decode cX16_body 155 = .ok (.aload_n 0, 1) := dk_42 (dk_at dksX16_body_6 12 rfl rfl)
theorem dX16_body_156 : decode cX16_body 156 = .ok (.getfield 199, 3) := dk_180 0 199 (dk_at dksX16_body_6 13 rfl rfl)
theorem dX16_body_159 : decode cX16_body 159 = .ok (.ifCond .ne 28, 3) := dk_154 0 28 (dk_at dksX16_body_6 16 rfl rfl)
theorem dX16_body_162 : decode cX16_body 162 = .ok (.aload_n 0, 1) := dk_42 (dk_at dksX16_body_6 19 rfl rfl)
theorem dX16_body_163 : decode cX16_body 163 = .ok (.getfield 56, 3) := dk_180 0 56 (dk_at dksX16_body_6 20 rfl rfl)
theorem dX16_body_166 : decode cX16_body 166 = .ok (.iconst 1, 1) := dk_4 (dk_at dksX16_body_6 23 rfl rfl)
theorem dX16_body_167 : decode cX16_body 167 = .ok (.if_icmp .ne 14, 3) := dk_160 0 14 (dk_at dksX16_body_7 0 rfl rfl)
theorem dX16_body_170 : decode cX16_body 170 = .ok (.aload_n 0, 1) := dk_42 (dk_at dksX16_body_7 3 rfl rfl)
theorem dX16_body_171 : decode cX16_body 171 = .ok (.getfield 20, 3) := dk_180 0 20 (dk_at dksX16_body_7 4 rfl rfl)
theorem dX16_body_174 : decode cX16_body 174 = .ok (.iconst 0, 1) := dk_3 (dk_at dksX16_body_7 7 rfl rfl)
theorem dX16_body_175 : decode cX16_body 175 = .ok (.iaload, 1) := dk_46 (dk_at dksX16_body_7 8 rfl rfl)
theorem dX16_body_176 : decode cX16_body 176 = .ok (.iload 8, 2) := dk_21 8 (dk_at dksX16_body_7 9 rfl rfl)
theorem dX16_body_178 : decode cX16_body 178 = .ok (.if_icmp .eq 9, 3) := dk_159 0 9 (dk_at dksX16_body_7 11 rfl rfl)
theorem dX16_body_181 : decode cX16_body 181 = .ok (.aload_n 0, 1) := dk_42 (dk_at dksX16_body_7 14 rfl rfl)
theorem dX16_body_182 : decode cX16_body 182 = .ok (.iload_n 3, 1) := dk_29 (dk_at dksX16_body_7 15 rfl rfl)
theorem dX16_body_183 : decode cX16_body 183 = .ok (.invokevirtual 99, 3) := dk_182 0 99 (dk_at dksX16_body_7 16 rfl rfl)
theorem dX16_body_186 : decode cX16_body 186 = .ok (.pop, 1) := dk_87 (dk_at dksX16_body_7 19 rfl rfl)
theorem dX16_body_187 : decode cX16_body 187 = .ok (.aload_n 0, 1) := dk_42 (dk_at dksX16_body_7 20 rfl rfl)
theorem dX16_body_188 : decode cX16_body 188 = .ok (.iload 4, 2) := dk_21 4 (dk_at dksX16_body_7 21 rfl rfl)
theorem dX16_body_190 : decode cX16_body 190 = .ok (.putfield 189, 3) := dk_181 0 189 (dk_at dksX16_body_8 0 rfl rfl)
theorem dX16_body_193 : decode cX16_body 193 = .ok (.aload_n 0, 1) := dk_42 (dk_at dksX16_body_8 3 rfl rfl)
theorem dX16_body_194 : decode cX16_body 194 = .ok (.iload 5, 2) := dk_21 5 (dk_at dksX16_body_8 4 rfl rfl)
theorem dX16_body_196 : decode cX16_body 196 = .ok (.putfield 62, 3) := dk_181 0 62 (dk_at dksX16_body_8 6 rfl rfl)
theorem dX16_body_199 : decode cX16_body 199 = .ok (.return_, 1) := dk_177 (dk_at dksX16_body_8 9 rfl rfl)
abbrev cX16_code : ByteArray := prog_21_method_17_code
def yX16_code : MethodName := ⟨RX16, "code", "(I)I"⟩
def dkwX16_code_5 : List UInt8 := [180, 0, 28, 180, 0, 186, 21, 4, 46, 54, 4, 167, 255, 148, 42, 29, 181, 0, 221, 28, 172]
abbrev dktX16_code_5 : List UInt8 := dkwX16_code_5 ++ []
def dkwX16_code_4 : List UInt8 := [61, 167, 0, 16, 42, 180, 0, 40, 180, 0, 224, 29, 7, 96, 21, 5, 79, 42, 180, 0, 221, 62, 42]
abbrev dktX16_code_4 : List UInt8 := dkwX16_code_4 ++ dktX16_code_5
def dkwX16_code_3 : List UInt8 := [21, 4, 182, 0, 218, 54, 5, 42, 21, 5, 181, 0, 221, 21, 5, 153, 0, 31, 29, 154, 0, 9, 21, 5]
abbrev dktX16_code_3 : List UInt8 := dkwX16_code_3 ++ dktX16_code_4
def dkwX16_code_2 : List UInt8 := [42, 180, 0, 28, 21, 4, 182, 0, 83, 153, 0, 14, 42, 21, 4, 182, 0, 206, 54, 5, 167, 0, 17, 42]
abbrev dktX16_code_2 : List UInt8 := dkwX16_code_2 ++ dktX16_code_3
def dkwX16_code_1 : List UInt8 := [155, 0, 109, 42, 180, 0, 52, 156, 0, 102, 42, 180, 0, 199, 153, 0, 10, 42, 21, 4, 182, 0, 99, 172]
abbrev dktX16_code_1 : List UInt8 := dkwX16_code_1 ++ dktX16_code_2
def dkwX16_code_0 : List UInt8 := [3, 61, 3, 62, 42, 3, 181, 0, 199, 42, 180, 0, 28, 180, 0, 96, 27, 46, 54, 4, 21, 4]
abbrev dktX16_code_0 : List UInt8 := dkwX16_code_0 ++ dktX16_code_1
theorem dksX16_code_0 : cX16_code.data.toList.drop 0 = dktX16_code_0 := by decide +kernel
theorem dksX16_code_1 : cX16_code.data.toList.drop 22 = dktX16_code_1 := dk_seg dksX16_code_0 22 rfl rfl
theorem dksX16_code_2 : cX16_code.data.toList.drop 46 = dktX16_code_2 := dk_seg dksX16_code_1 24 rfl rfl
theorem dksX16_code_3 : cX16_code.data.toList.drop 70 = dktX16_code_3 := dk_seg dksX16_code_2 24 rfl rfl
theorem dksX16_code_4 : cX16_code.data.toList.drop 94 = dktX16_code_4 := dk_seg dksX16_code_3 24 rfl rfl
theorem dksX16_code_5 : cX16_code.data.toList.drop 117 = dktX16_code_5 := dk_seg dksX16_code_4 23 rfl rfl
theorem dX16_code_0 : decode cX16_code 0 = .ok (.iconst 0, 1) := dk_3 (dk_at dksX16_code_0 0 rfl rfl)
theorem dX16_code_1 : decode cX16_code 1 = .ok (.istore_n 2, 1) := dk_61 (dk_at dksX16_code_0 1 rfl rfl)
theorem dX16_code_2 : decode cX16_code 2 = .ok (.iconst 0, 1) := dk_3 (dk_at dksX16_code_0 2 rfl rfl)
theorem dX16_code_3 : decode cX16_code 3 = .ok (.istore_n 3, 1) := dk_62 (dk_at dksX16_code_0 3 rfl rfl)
theorem dX16_code_4 : decode cX16_code 4 = .ok (.aload_n 0, 1) := dk_42 (dk_at dksX16_code_0 4 rfl rfl)
theorem dX16_code_5 : decode cX16_code 5 = .ok (.iconst 0, 1) := dk_3 (dk_at dksX16_code_0 5 rfl rfl)
theorem dX16_code_6 : decode cX16_code 6 = .ok (.putfield 199, 3) := dk_181 0 199 (dk_at dksX16_code_0 6 rfl rfl)
theorem dX16_code_9 : decode cX16_code 9 = .ok (.aload_n 0, 1) := dk_42 (dk_at dksX16_code_0 9 rfl rfl)
theorem dX16_code_10 : decode cX16_code 10 = .ok (.getfield 28, 3) := dk_180 0 28 (dk_at dksX16_code_0 10 rfl rfl)
theorem dX16_code_13 : decode cX16_code 13 = .ok (.getfield 96, 3) := dk_180 0 96 (dk_at dksX16_code_0 13 rfl rfl)
theorem dX16_code_16 : decode cX16_code 16 = .ok (.iload_n 1, 1) := dk_27 (dk_at dksX16_code_0 16 rfl rfl)
theorem dX16_code_17 : decode cX16_code 17 = .ok (.iaload, 1) := dk_46 (dk_at dksX16_code_0 17 rfl rfl)
theorem dX16_code_18 : decode cX16_code 18 = .ok (.istore 4, 2) := dk_54 4 (dk_at dksX16_code_0 18 rfl rfl)
theorem dX16_code_20 : decode cX16_code 20 = .ok (.iload 4, 2) := dk_21 4 (dk_at dksX16_code_0 20 rfl rfl)
theorem dX16_code_22 : decode cX16_code 22 = .ok (.ifCond .lt 109, 3) := dk_155 0 109 (dk_at dksX16_code_1 0 rfl rfl)
theorem dX16_code_25 : decode cX16_code 25 = .ok (.aload_n 0, 1) := dk_42 (dk_at dksX16_code_1 3 rfl rfl)
theorem dX16_code_26 : decode cX16_code 26 = .ok (.getfield 52, 3) := dk_180 0 52 (dk_at dksX16_code_1 4 rfl rfl)
theorem dX16_code_29 : decode cX16_code 29 = .ok (.ifCond .ge 102, 3) := dk_156 0 102 (dk_at dksX16_code_1 7 rfl rfl)
theorem dX16_code_32 : decode cX16_code 32 = .ok (.aload_n 0, 1) := dk_42 (dk_at dksX16_code_1 10 rfl rfl)
theorem dX16_code_33 : decode cX16_code 33 = .ok (.getfield 199, 3) := dk_180 0 199 (dk_at dksX16_code_1 11 rfl rfl)
theorem dX16_code_36 : decode cX16_code 36 = .ok (.ifCond .eq 10, 3) := dk_153 0 10 (dk_at dksX16_code_1 14 rfl rfl)
theorem dX16_code_39 : decode cX16_code 39 = .ok (.aload_n 0, 1) := dk_42 (dk_at dksX16_code_1 17 rfl rfl)
theorem dX16_code_40 : decode cX16_code 40 = .ok (.iload 4, 2) := dk_21 4 (dk_at dksX16_code_1 18 rfl rfl)
theorem dX16_code_42 : decode cX16_code 42 = .ok (.invokevirtual 99, 3) := dk_182 0 99 (dk_at dksX16_code_1 20 rfl rfl)
theorem dX16_code_45 : decode cX16_code 45 = .ok (.ireturn, 1) := dk_172 (dk_at dksX16_code_1 23 rfl rfl)
theorem dX16_code_46 : decode cX16_code 46 = .ok (.aload_n 0, 1) := dk_42 (dk_at dksX16_code_2 0 rfl rfl)
theorem dX16_code_47 : decode cX16_code 47 = .ok (.getfield 28, 3) := dk_180 0 28 (dk_at dksX16_code_2 1 rfl rfl)
theorem dX16_code_50 : decode cX16_code 50 = .ok (.iload 4, 2) := dk_21 4 (dk_at dksX16_code_2 4 rfl rfl)
theorem dX16_code_52 : decode cX16_code 52 = .ok (.invokevirtual 83, 3) := dk_182 0 83 (dk_at dksX16_code_2 6 rfl rfl)
theorem dX16_code_55 : decode cX16_code 55 = .ok (.ifCond .eq 14, 3) := dk_153 0 14 (dk_at dksX16_code_2 9 rfl rfl)
theorem dX16_code_58 : decode cX16_code 58 = .ok (.aload_n 0, 1) := dk_42 (dk_at dksX16_code_2 12 rfl rfl)
theorem dX16_code_59 : decode cX16_code 59 = .ok (.iload 4, 2) := dk_21 4 (dk_at dksX16_code_2 13 rfl rfl)
theorem dX16_code_61 : decode cX16_code 61 = .ok (.invokevirtual 206, 3) := dk_182 0 206 (dk_at dksX16_code_2 15 rfl rfl)
theorem dX16_code_64 : decode cX16_code 64 = .ok (.istore 5, 2) := dk_54 5 (dk_at dksX16_code_2 18 rfl rfl)
theorem dX16_code_66 : decode cX16_code 66 = .ok (.goto 17, 3) := dk_167 0 17 (dk_at dksX16_code_2 20 rfl rfl)
theorem dX16_code_69 : decode cX16_code 69 = .ok (.aload_n 0, 1) := dk_42 (dk_at dksX16_code_2 23 rfl rfl)
theorem dX16_code_70 : decode cX16_code 70 = .ok (.iload 4, 2) := dk_21 4 (dk_at dksX16_code_3 0 rfl rfl)
theorem dX16_code_72 : decode cX16_code 72 = .ok (.invokevirtual 218, 3) := dk_182 0 218 (dk_at dksX16_code_3 2 rfl rfl)
theorem dX16_code_75 : decode cX16_code 75 = .ok (.istore 5, 2) := dk_54 5 (dk_at dksX16_code_3 5 rfl rfl)
theorem dX16_code_77 : decode cX16_code 77 = .ok (.aload_n 0, 1) := dk_42 (dk_at dksX16_code_3 7 rfl rfl)
theorem dX16_code_78 : decode cX16_code 78 = .ok (.iload 5, 2) := dk_21 5 (dk_at dksX16_code_3 8 rfl rfl)
theorem dX16_code_80 : decode cX16_code 80 = .ok (.putfield 221, 3) := dk_181 0 221 (dk_at dksX16_code_3 10 rfl rfl)
theorem dX16_code_83 : decode cX16_code 83 = .ok (.iload 5, 2) := dk_21 5 (dk_at dksX16_code_3 13 rfl rfl)
theorem dX16_code_85 : decode cX16_code 85 = .ok (.ifCond .eq 31, 3) := dk_153 0 31 (dk_at dksX16_code_3 15 rfl rfl)
theorem dX16_code_88 : decode cX16_code 88 = .ok (.iload_n 3, 1) := dk_29 (dk_at dksX16_code_3 18 rfl rfl)
theorem dX16_code_89 : decode cX16_code 89 = .ok (.ifCond .ne 9, 3) := dk_154 0 9 (dk_at dksX16_code_3 19 rfl rfl)
theorem dX16_code_92 : decode cX16_code 92 = .ok (.iload 5, 2) := dk_21 5 (dk_at dksX16_code_3 22 rfl rfl)
theorem dX16_code_94 : decode cX16_code 94 = .ok (.istore_n 2, 1) := dk_61 (dk_at dksX16_code_4 0 rfl rfl)
theorem dX16_code_95 : decode cX16_code 95 = .ok (.goto 16, 3) := dk_167 0 16 (dk_at dksX16_code_4 1 rfl rfl)
theorem dX16_code_98 : decode cX16_code 98 = .ok (.aload_n 0, 1) := dk_42 (dk_at dksX16_code_4 4 rfl rfl)
theorem dX16_code_99 : decode cX16_code 99 = .ok (.getfield 40, 3) := dk_180 0 40 (dk_at dksX16_code_4 5 rfl rfl)
theorem dX16_code_102 : decode cX16_code 102 = .ok (.getfield 224, 3) := dk_180 0 224 (dk_at dksX16_code_4 8 rfl rfl)
theorem dX16_code_105 : decode cX16_code 105 = .ok (.iload_n 3, 1) := dk_29 (dk_at dksX16_code_4 11 rfl rfl)
theorem dX16_code_106 : decode cX16_code 106 = .ok (.iconst 4, 1) := dk_7 (dk_at dksX16_code_4 12 rfl rfl)
theorem dX16_code_107 : decode cX16_code 107 = .ok (.iadd, 1) := dk_96 (dk_at dksX16_code_4 13 rfl rfl)
theorem dX16_code_108 : decode cX16_code 108 = .ok (.iload 5, 2) := dk_21 5 (dk_at dksX16_code_4 14 rfl rfl)
theorem dX16_code_110 : decode cX16_code 110 = .ok (.iastore, 1) := dk_79 (dk_at dksX16_code_4 16 rfl rfl)
theorem dX16_code_111 : decode cX16_code 111 = .ok (.aload_n 0, 1) := dk_42 (dk_at dksX16_code_4 17 rfl rfl)
theorem dX16_code_112 : decode cX16_code 112 = .ok (.getfield 221, 3) := dk_180 0 221 (dk_at dksX16_code_4 18 rfl rfl)
theorem dX16_code_115 : decode cX16_code 115 = .ok (.istore_n 3, 1) := dk_62 (dk_at dksX16_code_4 21 rfl rfl)
theorem dX16_code_116 : decode cX16_code 116 = .ok (.aload_n 0, 1) := dk_42 (dk_at dksX16_code_4 22 rfl rfl)
theorem dX16_code_117 : decode cX16_code 117 = .ok (.getfield 28, 3) := dk_180 0 28 (dk_at dksX16_code_5 0 rfl rfl)
theorem dX16_code_120 : decode cX16_code 120 = .ok (.getfield 186, 3) := dk_180 0 186 (dk_at dksX16_code_5 3 rfl rfl)
theorem dX16_code_123 : decode cX16_code 123 = .ok (.iload 4, 2) := dk_21 4 (dk_at dksX16_code_5 6 rfl rfl)
theorem dX16_code_125 : decode cX16_code 125 = .ok (.iaload, 1) := dk_46 (dk_at dksX16_code_5 8 rfl rfl)
theorem dX16_code_126 : decode cX16_code 126 = .ok (.istore 4, 2) := dk_54 4 (dk_at dksX16_code_5 9 rfl rfl)
theorem dX16_code_128 : decode cX16_code 128 = .ok (.goto (-108), 3) := dk_167 255 148 (dk_at dksX16_code_5 11 rfl rfl)
theorem dX16_code_131 : decode cX16_code 131 = .ok (.aload_n 0, 1) := dk_42 (dk_at dksX16_code_5 14 rfl rfl)
theorem dX16_code_132 : decode cX16_code 132 = .ok (.iload_n 3, 1) := dk_29 (dk_at dksX16_code_5 15 rfl rfl)
theorem dX16_code_133 : decode cX16_code 133 = .ok (.putfield 221, 3) := dk_181 0 221 (dk_at dksX16_code_5 16 rfl rfl)
theorem dX16_code_136 : decode cX16_code 136 = .ok (.iload_n 2, 1) := dk_28 (dk_at dksX16_code_5 19 rfl rfl)
theorem dX16_code_137 : decode cX16_code 137 = .ok (.ireturn, 1) := dk_172 (dk_at dksX16_code_5 20 rfl rfl)
abbrev cX16_instruction : ByteArray := prog_21_method_22_code
def yX16_instruction : MethodName := ⟨RX16, "instruction", "(I)I"⟩
def dkwX16_instruction_7 : List UInt8 := [21, 5, 158, 0, 8, 21, 5, 167, 0, 8, 42, 27, 182, 0, 99, 172]
abbrev dktX16_instruction_7 : List UInt8 := dkwX16_instruction_7 ++ []
def dkwX16_instruction_6 : List UInt8 := [163, 0, 13, 42, 28, 21, 4, 182, 1, 0, 167, 0, 11, 42, 27, 28, 21, 4, 182, 1, 3, 54, 5]
abbrev dktX16_instruction_6 : List UInt8 := dkwX16_instruction_6 ++ dktX16_instruction_7
def dkwX16_instruction_5 : List UInt8 := [167, 0, 44, 28, 16, 63, 163, 0, 14, 42, 27, 28, 21, 4, 182, 0, 253, 167, 0, 27, 28, 16, 85]
abbrev dktX16_instruction_5 : List UInt8 := dkwX16_instruction_5 ++ dktX16_instruction_6
def dkwX16_instruction_4 : List UInt8 := [21, 4, 182, 0, 247, 167, 0, 61, 28, 16, 51, 163, 0, 14, 42, 27, 28, 21, 4, 182, 0, 250]
abbrev dktX16_instruction_4 : List UInt8 := dkwX16_instruction_4 ++ dktX16_instruction_5
def dkwX16_instruction_3 : List UInt8 := [182, 0, 99, 172, 42, 180, 0, 28, 180, 0, 87, 27, 46, 54, 4, 28, 16, 37, 163, 0, 14, 42, 27, 28]
abbrev dktX16_instruction_3 : List UInt8 := dkwX16_instruction_3 ++ dktX16_instruction_4
def dkwX16_instruction_2 : List UInt8 := [16, 31, 161, 0, 19, 42, 180, 0, 28, 180, 0, 172, 27, 46, 153, 0, 13, 29, 154, 0, 9, 42, 27]
abbrev dktX16_instruction_2 : List UInt8 := dkwX16_instruction_2 ++ dktX16_instruction_3
def dkwX16_instruction_1 : List UInt8 := [167, 0, 4, 2, 61, 28, 16, 102, 159, 0, 9, 28, 16, 104, 160, 0, 7, 4, 167, 0, 4, 3, 62, 28]
abbrev dktX16_instruction_1 : List UInt8 := dkwX16_instruction_1 ++ dktX16_instruction_2
def dkwX16_instruction_0 : List UInt8 := [42, 180, 0, 28, 180, 0, 229, 27, 51, 16, 8, 160, 0, 15, 42, 180, 0, 28, 180, 0, 245, 27, 51]
abbrev dktX16_instruction_0 : List UInt8 := dkwX16_instruction_0 ++ dktX16_instruction_1
theorem dksX16_instruction_0 : cX16_instruction.data.toList.drop 0 = dktX16_instruction_0 := by decide +kernel
theorem dksX16_instruction_1 : cX16_instruction.data.toList.drop 23 = dktX16_instruction_1 := dk_seg dksX16_instruction_0 23 rfl rfl
theorem dksX16_instruction_2 : cX16_instruction.data.toList.drop 47 = dktX16_instruction_2 := dk_seg dksX16_instruction_1 24 rfl rfl
theorem dksX16_instruction_3 : cX16_instruction.data.toList.drop 70 = dktX16_instruction_3 := dk_seg dksX16_instruction_2 23 rfl rfl
theorem dksX16_instruction_4 : cX16_instruction.data.toList.drop 94 = dktX16_instruction_4 := dk_seg dksX16_instruction_3 24 rfl rfl
theorem dksX16_instruction_5 : cX16_instruction.data.toList.drop 116 = dktX16_instruction_5 := dk_seg dksX16_instruction_4 22 rfl rfl
theorem dksX16_instruction_6 : cX16_instruction.data.toList.drop 139 = dktX16_instruction_6 := dk_seg dksX16_instruction_5 23 rfl rfl
theorem dksX16_instruction_7 : cX16_instruction.data.toList.drop 162 = dktX16_instruction_7 := dk_seg dksX16_instruction_6 23 rfl rfl
theorem dX16_instruction_0 : decode cX16_instruction 0 = .ok (.aload_n 0, 1) := dk_42 (dk_at dksX16_instruction_0 0 rfl rfl)
theorem dX16_instruction_1 : decode cX16_instruction 1 = .ok (.getfield 28, 3) := dk_180 0 28 (dk_at dksX16_instruction_0 1 rfl rfl)
theorem dX16_instruction_4 : decode cX16_instruction 4 = .ok (.getfield 229, 3) := dk_180 0 229 (dk_at dksX16_instruction_0 4 rfl rfl)
theorem dX16_instruction_7 : decode cX16_instruction 7 = .ok (.iload_n 1, 1) := dk_27 (dk_at dksX16_instruction_0 7 rfl rfl)
theorem dX16_instruction_8 : decode cX16_instruction 8 = .ok (.baload, 1) := dk_51 (dk_at dksX16_instruction_0 8 rfl rfl)
theorem dX16_instruction_9 : decode cX16_instruction 9 = .ok (.bipush 8, 2) := dk_16 8 (dk_at dksX16_instruction_0 9 rfl rfl)
theorem dX16_instruction_11 : decode cX16_instruction 11 = .ok (.if_icmp .ne 15, 3) := dk_160 0 15 (dk_at dksX16_instruction_0 11 rfl rfl)
theorem dX16_instruction_14 : decode cX16_instruction 14 = .ok (.aload_n 0, 1) := dk_42 (dk_at dksX16_instruction_0 14 rfl rfl)
theorem dX16_instruction_15 : decode cX16_instruction 15 = .ok (.getfield 28, 3) := dk_180 0 28 (dk_at dksX16_instruction_0 15 rfl rfl)
theorem dX16_instruction_18 : decode cX16_instruction 18 = .ok (.getfield 245, 3) := dk_180 0 245 (dk_at dksX16_instruction_0 18 rfl rfl)
theorem dX16_instruction_21 : decode cX16_instruction 21 = .ok (.iload_n 1, 1) := dk_27 (dk_at dksX16_instruction_0 21 rfl rfl)
theorem dX16_instruction_22 : decode cX16_instruction 22 = .ok (.baload, 1) := dk_51 (dk_at dksX16_instruction_0 22 rfl rfl)
theorem dX16_instruction_23 : decode cX16_instruction 23 = .ok (.goto 4, 3) := dk_167 0 4 (dk_at dksX16_instruction_1 0 rfl rfl)
theorem dX16_instruction_26 : decode cX16_instruction 26 = .ok (.iconst (-1), 1) := dk_2 (dk_at dksX16_instruction_1 3 rfl rfl)
theorem dX16_instruction_27 : decode cX16_instruction 27 = .ok (.istore_n 2, 1) := dk_61 (dk_at dksX16_instruction_1 4 rfl rfl)
theorem dX16_instruction_28 : decode cX16_instruction 28 = .ok (.iload_n 2, 1) := dk_28 (dk_at dksX16_instruction_1 5 rfl rfl)
theorem dX16_instruction_29 : decode cX16_instruction 29 = .ok (.bipush 102, 2) := dk_16 102 (dk_at dksX16_instruction_1 6 rfl rfl)
theorem dX16_instruction_31 : decode cX16_instruction 31 = .ok (.if_icmp .eq 9, 3) := dk_159 0 9 (dk_at dksX16_instruction_1 8 rfl rfl)
theorem dX16_instruction_34 : decode cX16_instruction 34 = .ok (.iload_n 2, 1) := dk_28 (dk_at dksX16_instruction_1 11 rfl rfl)
theorem dX16_instruction_35 : decode cX16_instruction 35 = .ok (.bipush 104, 2) := dk_16 104 (dk_at dksX16_instruction_1 12 rfl rfl)
theorem dX16_instruction_37 : decode cX16_instruction 37 = .ok (.if_icmp .ne 7, 3) := dk_160 0 7 (dk_at dksX16_instruction_1 14 rfl rfl)
theorem dX16_instruction_40 : decode cX16_instruction 40 = .ok (.iconst 1, 1) := dk_4 (dk_at dksX16_instruction_1 17 rfl rfl)
theorem dX16_instruction_41 : decode cX16_instruction 41 = .ok (.goto 4, 3) := dk_167 0 4 (dk_at dksX16_instruction_1 18 rfl rfl)
theorem dX16_instruction_44 : decode cX16_instruction 44 = .ok (.iconst 0, 1) := dk_3 (dk_at dksX16_instruction_1 21 rfl rfl)
theorem dX16_instruction_45 : decode cX16_instruction 45 = .ok (.istore_n 3, 1) := dk_62 (dk_at dksX16_instruction_1 22 rfl rfl)
theorem dX16_instruction_46 : decode cX16_instruction 46 = .ok (.iload_n 2, 1) := dk_28 (dk_at dksX16_instruction_1 23 rfl rfl)
theorem dX16_instruction_47 : decode cX16_instruction 47 = .ok (.bipush 31, 2) := dk_16 31 (dk_at dksX16_instruction_2 0 rfl rfl)
theorem dX16_instruction_49 : decode cX16_instruction 49 = .ok (.if_icmp .lt 19, 3) := dk_161 0 19 (dk_at dksX16_instruction_2 2 rfl rfl)
theorem dX16_instruction_52 : decode cX16_instruction 52 = .ok (.aload_n 0, 1) := dk_42 (dk_at dksX16_instruction_2 5 rfl rfl)
theorem dX16_instruction_53 : decode cX16_instruction 53 = .ok (.getfield 28, 3) := dk_180 0 28 (dk_at dksX16_instruction_2 6 rfl rfl)
theorem dX16_instruction_56 : decode cX16_instruction 56 = .ok (.getfield 172, 3) := dk_180 0 172 (dk_at dksX16_instruction_2 9 rfl rfl)
theorem dX16_instruction_59 : decode cX16_instruction 59 = .ok (.iload_n 1, 1) := dk_27 (dk_at dksX16_instruction_2 12 rfl rfl)
theorem dX16_instruction_60 : decode cX16_instruction 60 = .ok (.iaload, 1) := dk_46 (dk_at dksX16_instruction_2 13 rfl rfl)
theorem dX16_instruction_61 : decode cX16_instruction 61 = .ok (.ifCond .eq 13, 3) := dk_153 0 13 (dk_at dksX16_instruction_2 14 rfl rfl)
theorem dX16_instruction_64 : decode cX16_instruction 64 = .ok (.iload_n 3, 1) := dk_29 (dk_at dksX16_instruction_2 17 rfl rfl)
theorem dX16_instruction_65 : decode cX16_instruction 65 = .ok (.ifCond .ne 9, 3) := dk_154 0 9 (dk_at dksX16_instruction_2 18 rfl rfl)
theorem dX16_instruction_68 : decode cX16_instruction 68 = .ok (.aload_n 0, 1) := dk_42 (dk_at dksX16_instruction_2 21 rfl rfl)
theorem dX16_instruction_69 : decode cX16_instruction 69 = .ok (.iload_n 1, 1) := dk_27 (dk_at dksX16_instruction_2 22 rfl rfl)
theorem dX16_instruction_70 : decode cX16_instruction 70 = .ok (.invokevirtual 99, 3) := dk_182 0 99 (dk_at dksX16_instruction_3 0 rfl rfl)
theorem dX16_instruction_73 : decode cX16_instruction 73 = .ok (.ireturn, 1) := dk_172 (dk_at dksX16_instruction_3 3 rfl rfl)
theorem dX16_instruction_74 : decode cX16_instruction 74 = .ok (.aload_n 0, 1) := dk_42 (dk_at dksX16_instruction_3 4 rfl rfl)
theorem dX16_instruction_75 : decode cX16_instruction 75 = .ok (.getfield 28, 3) := dk_180 0 28 (dk_at dksX16_instruction_3 5 rfl rfl)
theorem dX16_instruction_78 : decode cX16_instruction 78 = .ok (.getfield 87, 3) := dk_180 0 87 (dk_at dksX16_instruction_3 8 rfl rfl)
theorem dX16_instruction_81 : decode cX16_instruction 81 = .ok (.iload_n 1, 1) := dk_27 (dk_at dksX16_instruction_3 11 rfl rfl)
theorem dX16_instruction_82 : decode cX16_instruction 82 = .ok (.iaload, 1) := dk_46 (dk_at dksX16_instruction_3 12 rfl rfl)
theorem dX16_instruction_83 : decode cX16_instruction 83 = .ok (.istore 4, 2) := dk_54 4 (dk_at dksX16_instruction_3 13 rfl rfl)
theorem dX16_instruction_85 : decode cX16_instruction 85 = .ok (.iload_n 2, 1) := dk_28 (dk_at dksX16_instruction_3 15 rfl rfl)
theorem dX16_instruction_86 : decode cX16_instruction 86 = .ok (.bipush 37, 2) := dk_16 37 (dk_at dksX16_instruction_3 16 rfl rfl)
theorem dX16_instruction_88 : decode cX16_instruction 88 = .ok (.if_icmp .gt 14, 3) := dk_163 0 14 (dk_at dksX16_instruction_3 18 rfl rfl)
theorem dX16_instruction_91 : decode cX16_instruction 91 = .ok (.aload_n 0, 1) := dk_42 (dk_at dksX16_instruction_3 21 rfl rfl)
theorem dX16_instruction_92 : decode cX16_instruction 92 = .ok (.iload_n 1, 1) := dk_27 (dk_at dksX16_instruction_3 22 rfl rfl)
theorem dX16_instruction_93 : decode cX16_instruction 93 = .ok (.iload_n 2, 1) := dk_28 (dk_at dksX16_instruction_3 23 rfl rfl)
theorem dX16_instruction_94 : decode cX16_instruction 94 = .ok (.iload 4, 2) := dk_21 4 (dk_at dksX16_instruction_4 0 rfl rfl)
theorem dX16_instruction_96 : decode cX16_instruction 96 = .ok (.invokevirtual 247, 3) := dk_182 0 247 (dk_at dksX16_instruction_4 2 rfl rfl)
theorem dX16_instruction_99 : decode cX16_instruction 99 = .ok (.goto 61, 3) := dk_167 0 61 (dk_at dksX16_instruction_4 5 rfl rfl)
theorem dX16_instruction_102 : decode cX16_instruction 102 = .ok (.iload_n 2, 1) := dk_28 (dk_at dksX16_instruction_4 8 rfl rfl)
theorem dX16_instruction_103 : decode cX16_instruction 103 = .ok (.bipush 51, 2) := dk_16 51 (dk_at dksX16_instruction_4 9 rfl rfl)
theorem dX16_instruction_105 : decode cX16_instruction 105 = .ok (.if_icmp .gt 14, 3) := dk_163 0 14 (dk_at dksX16_instruction_4 11 rfl rfl)
theorem dX16_instruction_108 : decode cX16_instruction 108 = .ok (.aload_n 0, 1) := dk_42 (dk_at dksX16_instruction_4 14 rfl rfl)
theorem dX16_instruction_109 : decode cX16_instruction 109 = .ok (.iload_n 1, 1) := dk_27 (dk_at dksX16_instruction_4 15 rfl rfl)
theorem dX16_instruction_110 : decode cX16_instruction 110 = .ok (.iload_n 2, 1) := dk_28 (dk_at dksX16_instruction_4 16 rfl rfl)
theorem dX16_instruction_111 : decode cX16_instruction 111 = .ok (.iload 4, 2) := dk_21 4 (dk_at dksX16_instruction_4 17 rfl rfl)
theorem dX16_instruction_113 : decode cX16_instruction 113 = .ok (.invokevirtual 250, 3) := dk_182 0 250 (dk_at dksX16_instruction_4 19 rfl rfl)
theorem dX16_instruction_116 : decode cX16_instruction 116 = .ok (.goto 44, 3) := dk_167 0 44 (dk_at dksX16_instruction_5 0 rfl rfl)
theorem dX16_instruction_119 : decode cX16_instruction 119 = .ok (.iload_n 2, 1) := dk_28 (dk_at dksX16_instruction_5 3 rfl rfl)
theorem dX16_instruction_120 : decode cX16_instruction 120 = .ok (.bipush 63, 2) := dk_16 63 (dk_at dksX16_instruction_5 4 rfl rfl)
theorem dX16_instruction_122 : decode cX16_instruction 122 = .ok (.if_icmp .gt 14, 3) := dk_163 0 14 (dk_at dksX16_instruction_5 6 rfl rfl)
theorem dX16_instruction_125 : decode cX16_instruction 125 = .ok (.aload_n 0, 1) := dk_42 (dk_at dksX16_instruction_5 9 rfl rfl)
theorem dX16_instruction_126 : decode cX16_instruction 126 = .ok (.iload_n 1, 1) := dk_27 (dk_at dksX16_instruction_5 10 rfl rfl)
theorem dX16_instruction_127 : decode cX16_instruction 127 = .ok (.iload_n 2, 1) := dk_28 (dk_at dksX16_instruction_5 11 rfl rfl)
theorem dX16_instruction_128 : decode cX16_instruction 128 = .ok (.iload 4, 2) := dk_21 4 (dk_at dksX16_instruction_5 12 rfl rfl)
theorem dX16_instruction_130 : decode cX16_instruction 130 = .ok (.invokevirtual 253, 3) := dk_182 0 253 (dk_at dksX16_instruction_5 14 rfl rfl)
theorem dX16_instruction_133 : decode cX16_instruction 133 = .ok (.goto 27, 3) := dk_167 0 27 (dk_at dksX16_instruction_5 17 rfl rfl)
theorem dX16_instruction_136 : decode cX16_instruction 136 = .ok (.iload_n 2, 1) := dk_28 (dk_at dksX16_instruction_5 20 rfl rfl)
theorem dX16_instruction_137 : decode cX16_instruction 137 = .ok (.bipush 85, 2) := dk_16 85 (dk_at dksX16_instruction_5 21 rfl rfl)
theorem dX16_instruction_139 : decode cX16_instruction 139 = .ok (.if_icmp .gt 13, 3) := dk_163 0 13 (dk_at dksX16_instruction_6 0 rfl rfl)
theorem dX16_instruction_142 : decode cX16_instruction 142 = .ok (.aload_n 0, 1) := dk_42 (dk_at dksX16_instruction_6 3 rfl rfl)
theorem dX16_instruction_143 : decode cX16_instruction 143 = .ok (.iload_n 2, 1) := dk_28 (dk_at dksX16_instruction_6 4 rfl rfl)
theorem dX16_instruction_144 : decode cX16_instruction 144 = .ok (.iload 4, 2) := dk_21 4 (dk_at dksX16_instruction_6 5 rfl rfl)
theorem dX16_instruction_146 : decode cX16_instruction 146 = .ok (.invokevirtual 256, 3) := dk_182 1 0 (dk_at dksX16_instruction_6 7 rfl rfl)
theorem dX16_instruction_149 : decode cX16_instruction 149 = .ok (.goto 11, 3) := dk_167 0 11 (dk_at dksX16_instruction_6 10 rfl rfl)
theorem dX16_instruction_152 : decode cX16_instruction 152 = .ok (.aload_n 0, 1) := dk_42 (dk_at dksX16_instruction_6 13 rfl rfl)
theorem dX16_instruction_153 : decode cX16_instruction 153 = .ok (.iload_n 1, 1) := dk_27 (dk_at dksX16_instruction_6 14 rfl rfl)
theorem dX16_instruction_154 : decode cX16_instruction 154 = .ok (.iload_n 2, 1) := dk_28 (dk_at dksX16_instruction_6 15 rfl rfl)
theorem dX16_instruction_155 : decode cX16_instruction 155 = .ok (.iload 4, 2) := dk_21 4 (dk_at dksX16_instruction_6 16 rfl rfl)
theorem dX16_instruction_157 : decode cX16_instruction 157 = .ok (.invokevirtual 259, 3) := dk_182 1 3 (dk_at dksX16_instruction_6 18 rfl rfl)
theorem dX16_instruction_160 : decode cX16_instruction 160 = .ok (.istore 5, 2) := dk_54 5 (dk_at dksX16_instruction_6 21 rfl rfl)
theorem dX16_instruction_162 : decode cX16_instruction 162 = .ok (.iload 5, 2) := dk_21 5 (dk_at dksX16_instruction_7 0 rfl rfl)
theorem dX16_instruction_164 : decode cX16_instruction 164 = .ok (.ifCond .le 8, 3) := dk_158 0 8 (dk_at dksX16_instruction_7 2 rfl rfl)
theorem dX16_instruction_167 : decode cX16_instruction 167 = .ok (.iload 5, 2) := dk_21 5 (dk_at dksX16_instruction_7 5 rfl rfl)
theorem dX16_instruction_169 : decode cX16_instruction 169 = .ok (.goto 8, 3) := dk_167 0 8 (dk_at dksX16_instruction_7 7 rfl rfl)
theorem dX16_instruction_172 : decode cX16_instruction 172 = .ok (.aload_n 0, 1) := dk_42 (dk_at dksX16_instruction_7 10 rfl rfl)
theorem dX16_instruction_173 : decode cX16_instruction 173 = .ok (.iload_n 1, 1) := dk_27 (dk_at dksX16_instruction_7 11 rfl rfl)
theorem dX16_instruction_174 : decode cX16_instruction 174 = .ok (.invokevirtual 99, 3) := dk_182 0 99 (dk_at dksX16_instruction_7 12 rfl rfl)
theorem dX16_instruction_177 : decode cX16_instruction 177 = .ok (.ireturn, 1) := dk_172 (dk_at dksX16_instruction_7 15 rfl rfl)
abbrev cX16_shuffle : ByteArray := prog_21_method_24_code
def yX16_shuffle : MethodName := ⟨RX16, "shuffle", "(III)I"⟩
def dkwX16_shuffle_13 : List UInt8 := [153, 0, 7, 4, 167, 0, 4, 3, 28, 21, 5, 3, 21, 6, 182, 1, 18, 172]
abbrev dktX16_shuffle_13 : List UInt8 := dkwX16_shuffle_13 ++ []
def dkwX16_shuffle_12 : List UInt8 := [180, 0, 56, 162, 0, 27, 42, 21, 5, 28, 16, 34, 160, 0, 7, 4, 167, 0, 4, 3, 182, 1, 25]
abbrev dktX16_shuffle_12 : List UInt8 := dkwX16_shuffle_12 ++ dktX16_shuffle_13
def dkwX16_shuffle_11 : List UInt8 := [182, 1, 25, 153, 0, 7, 4, 167, 0, 4, 3, 28, 3, 3, 3, 182, 1, 18, 172, 42, 21, 5, 42]
abbrev dktX16_shuffle_11 : List UInt8 := dkwX16_shuffle_11 ++ dktX16_shuffle_12
def dkwX16_shuffle_10 : List UInt8 := [28, 21, 5, 3, 21, 6, 182, 1, 18, 172, 42, 42, 180, 0, 56, 4, 164, 0, 16, 42, 4, 4]
abbrev dktX16_shuffle_10 : List UInt8 := dkwX16_shuffle_10 ++ dktX16_shuffle_11
def dkwX16_shuffle_9 : List UInt8 := [163, 0, 23, 42, 3, 42, 21, 5, 4, 100, 182, 0, 209, 182, 1, 22, 153, 0, 7, 4, 167, 0, 4, 3]
abbrev dktX16_shuffle_9 : List UInt8 := dkwX16_shuffle_9 ++ dktX16_shuffle_10
def dkwX16_shuffle_8 : List UInt8 := [4, 160, 0, 8, 21, 5, 167, 0, 4, 4, 54, 5, 42, 21, 5, 158, 0, 32, 21, 5, 42, 180, 0, 56]
abbrev dktX16_shuffle_8 : List UInt8 := dkwX16_shuffle_8 ++ dktX16_shuffle_9
def dkwX16_shuffle_7 : List UInt8 := [42, 89, 180, 0, 56, 21, 5, 100, 181, 0, 56, 42, 4, 28, 21, 5, 3, 21, 6, 182, 1, 18, 172, 29]
abbrev dktX16_shuffle_7 : List UInt8 := dkwX16_shuffle_7 ++ dktX16_shuffle_8
def dkwX16_shuffle_6 : List UInt8 := [29, 4, 160, 0, 8, 21, 5, 167, 0, 4, 4, 54, 5, 21, 5, 42, 180, 0, 56, 164, 0, 5, 3, 172]
abbrev dktX16_shuffle_6 : List UInt8 := dkwX16_shuffle_6 ++ dktX16_shuffle_7
def dkwX16_shuffle_5 : List UInt8 := [170, 0, 0, 0, 0, 163, 0, 0, 0, 31, 0, 0, 0, 33, 0, 0, 0, 26, 0, 0, 0, 73, 0, 0, 0, 132]
abbrev dktX16_shuffle_5 : List UInt8 := dkwX16_shuffle_5 ++ dktX16_shuffle_6
def dkwX16_shuffle_4 : List UInt8 := [172, 29, 4, 160, 0, 10, 8, 21, 5, 104, 167, 0, 4, 3, 54, 6, 28]
abbrev dktX16_shuffle_4 : List UInt8 := dkwX16_shuffle_4 ++ dktX16_shuffle_5
def dkwX16_shuffle_3 : List UInt8 := [160, 0, 14, 21, 5, 155, 0, 18, 28, 16, 33, 159, 0, 12, 29, 154, 0, 10, 21, 4, 153, 0, 5, 3]
abbrev dktX16_shuffle_3 : List UInt8 := dkwX16_shuffle_3 ++ dktX16_shuffle_4
def dkwX16_shuffle_2 : List UInt8 := [4, 160, 0, 12, 42, 27, 3, 182, 1, 15, 167, 0, 4, 2, 54, 5, 29, 4, 163, 0, 28, 29, 4]
abbrev dktX16_shuffle_2 : List UInt8 := dkwX16_shuffle_2 ++ dktX16_shuffle_3
def dkwX16_shuffle_1 : List UInt8 := [182, 1, 12, 172, 28, 16, 34, 159, 0, 9, 28, 16, 35, 160, 0, 7, 4, 167, 0, 4, 3, 54, 4, 29]
abbrev dktX16_shuffle_1 : List UInt8 := dkwX16_shuffle_1 ++ dktX16_shuffle_2
def dkwX16_shuffle_0 : List UInt8 := [28, 16, 36, 160, 0, 10, 42, 27, 29, 182, 1, 9, 172, 28, 16, 37, 160, 0, 10, 42, 27, 29]
abbrev dktX16_shuffle_0 : List UInt8 := dkwX16_shuffle_0 ++ dktX16_shuffle_1
theorem dksX16_shuffle_0 : cX16_shuffle.data.toList.drop 0 = dktX16_shuffle_0 := by decide +kernel
theorem dksX16_shuffle_1 : cX16_shuffle.data.toList.drop 22 = dktX16_shuffle_1 := dk_seg dksX16_shuffle_0 22 rfl rfl
theorem dksX16_shuffle_2 : cX16_shuffle.data.toList.drop 46 = dktX16_shuffle_2 := dk_seg dksX16_shuffle_1 24 rfl rfl
theorem dksX16_shuffle_3 : cX16_shuffle.data.toList.drop 69 = dktX16_shuffle_3 := dk_seg dksX16_shuffle_2 23 rfl rfl
theorem dksX16_shuffle_4 : cX16_shuffle.data.toList.drop 93 = dktX16_shuffle_4 := dk_seg dksX16_shuffle_3 24 rfl rfl
theorem dksX16_shuffle_5 : cX16_shuffle.data.toList.drop 110 = dktX16_shuffle_5 := dk_seg dksX16_shuffle_4 17 rfl rfl
theorem dksX16_shuffle_6 : cX16_shuffle.data.toList.drop 136 = dktX16_shuffle_6 := dk_seg dksX16_shuffle_5 26 rfl rfl
theorem dksX16_shuffle_7 : cX16_shuffle.data.toList.drop 160 = dktX16_shuffle_7 := dk_seg dksX16_shuffle_6 24 rfl rfl
theorem dksX16_shuffle_8 : cX16_shuffle.data.toList.drop 184 = dktX16_shuffle_8 := dk_seg dksX16_shuffle_7 24 rfl rfl
theorem dksX16_shuffle_9 : cX16_shuffle.data.toList.drop 208 = dktX16_shuffle_9 := dk_seg dksX16_shuffle_8 24 rfl rfl
theorem dksX16_shuffle_10 : cX16_shuffle.data.toList.drop 232 = dktX16_shuffle_10 := dk_seg dksX16_shuffle_9 24 rfl rfl
theorem dksX16_shuffle_11 : cX16_shuffle.data.toList.drop 254 = dktX16_shuffle_11 := dk_seg dksX16_shuffle_10 22 rfl rfl
theorem dksX16_shuffle_12 : cX16_shuffle.data.toList.drop 277 = dktX16_shuffle_12 := dk_seg dksX16_shuffle_11 23 rfl rfl
theorem dksX16_shuffle_13 : cX16_shuffle.data.toList.drop 300 = dktX16_shuffle_13 := dk_seg dksX16_shuffle_12 23 rfl rfl
theorem dX16_shuffle_0 : decode cX16_shuffle 0 = .ok (.iload_n 2, 1) := dk_28 (dk_at dksX16_shuffle_0 0 rfl rfl)
theorem dX16_shuffle_1 : decode cX16_shuffle 1 = .ok (.bipush 36, 2) := dk_16 36 (dk_at dksX16_shuffle_0 1 rfl rfl)
theorem dX16_shuffle_3 : decode cX16_shuffle 3 = .ok (.if_icmp .ne 10, 3) := dk_160 0 10 (dk_at dksX16_shuffle_0 3 rfl rfl)
theorem dX16_shuffle_6 : decode cX16_shuffle 6 = .ok (.aload_n 0, 1) := dk_42 (dk_at dksX16_shuffle_0 6 rfl rfl)
theorem dX16_shuffle_7 : decode cX16_shuffle 7 = .ok (.iload_n 1, 1) := dk_27 (dk_at dksX16_shuffle_0 7 rfl rfl)
theorem dX16_shuffle_8 : decode cX16_shuffle 8 = .ok (.iload_n 3, 1) := dk_29 (dk_at dksX16_shuffle_0 8 rfl rfl)
theorem dX16_shuffle_9 : decode cX16_shuffle 9 = .ok (.invokevirtual 265, 3) := dk_182 1 9 (dk_at dksX16_shuffle_0 9 rfl rfl)
theorem dX16_shuffle_12 : decode cX16_shuffle 12 = .ok (.ireturn, 1) := dk_172 (dk_at dksX16_shuffle_0 12 rfl rfl)
theorem dX16_shuffle_13 : decode cX16_shuffle 13 = .ok (.iload_n 2, 1) := dk_28 (dk_at dksX16_shuffle_0 13 rfl rfl)
theorem dX16_shuffle_14 : decode cX16_shuffle 14 = .ok (.bipush 37, 2) := dk_16 37 (dk_at dksX16_shuffle_0 14 rfl rfl)
theorem dX16_shuffle_16 : decode cX16_shuffle 16 = .ok (.if_icmp .ne 10, 3) := dk_160 0 10 (dk_at dksX16_shuffle_0 16 rfl rfl)
theorem dX16_shuffle_19 : decode cX16_shuffle 19 = .ok (.aload_n 0, 1) := dk_42 (dk_at dksX16_shuffle_0 19 rfl rfl)
theorem dX16_shuffle_20 : decode cX16_shuffle 20 = .ok (.iload_n 1, 1) := dk_27 (dk_at dksX16_shuffle_0 20 rfl rfl)
theorem dX16_shuffle_21 : decode cX16_shuffle 21 = .ok (.iload_n 3, 1) := dk_29 (dk_at dksX16_shuffle_0 21 rfl rfl)
theorem dX16_shuffle_22 : decode cX16_shuffle 22 = .ok (.invokevirtual 268, 3) := dk_182 1 12 (dk_at dksX16_shuffle_1 0 rfl rfl)
theorem dX16_shuffle_25 : decode cX16_shuffle 25 = .ok (.ireturn, 1) := dk_172 (dk_at dksX16_shuffle_1 3 rfl rfl)
theorem dX16_shuffle_26 : decode cX16_shuffle 26 = .ok (.iload_n 2, 1) := dk_28 (dk_at dksX16_shuffle_1 4 rfl rfl)
theorem dX16_shuffle_27 : decode cX16_shuffle 27 = .ok (.bipush 34, 2) := dk_16 34 (dk_at dksX16_shuffle_1 5 rfl rfl)
theorem dX16_shuffle_29 : decode cX16_shuffle 29 = .ok (.if_icmp .eq 9, 3) := dk_159 0 9 (dk_at dksX16_shuffle_1 7 rfl rfl)
theorem dX16_shuffle_32 : decode cX16_shuffle 32 = .ok (.iload_n 2, 1) := dk_28 (dk_at dksX16_shuffle_1 10 rfl rfl)
theorem dX16_shuffle_33 : decode cX16_shuffle 33 = .ok (.bipush 35, 2) := dk_16 35 (dk_at dksX16_shuffle_1 11 rfl rfl)
theorem dX16_shuffle_35 : decode cX16_shuffle 35 = .ok (.if_icmp .ne 7, 3) := dk_160 0 7 (dk_at dksX16_shuffle_1 13 rfl rfl)
theorem dX16_shuffle_38 : decode cX16_shuffle 38 = .ok (.iconst 1, 1) := dk_4 (dk_at dksX16_shuffle_1 16 rfl rfl)
theorem dX16_shuffle_39 : decode cX16_shuffle 39 = .ok (.goto 4, 3) := dk_167 0 4 (dk_at dksX16_shuffle_1 17 rfl rfl)
theorem dX16_shuffle_42 : decode cX16_shuffle 42 = .ok (.iconst 0, 1) := dk_3 (dk_at dksX16_shuffle_1 20 rfl rfl)
theorem dX16_shuffle_43 : decode cX16_shuffle 43 = .ok (.istore 4, 2) := dk_54 4 (dk_at dksX16_shuffle_1 21 rfl rfl)
theorem dX16_shuffle_45 : decode cX16_shuffle 45 = .ok (.iload_n 3, 1) := dk_29 (dk_at dksX16_shuffle_1 23 rfl rfl)
theorem dX16_shuffle_46 : decode cX16_shuffle 46 = .ok (.iconst 1, 1) := dk_4 (dk_at dksX16_shuffle_2 0 rfl rfl)
theorem dX16_shuffle_47 : decode cX16_shuffle 47 = .ok (.if_icmp .ne 12, 3) := dk_160 0 12 (dk_at dksX16_shuffle_2 1 rfl rfl)
theorem dX16_shuffle_50 : decode cX16_shuffle 50 = .ok (.aload_n 0, 1) := dk_42 (dk_at dksX16_shuffle_2 4 rfl rfl)
theorem dX16_shuffle_51 : decode cX16_shuffle 51 = .ok (.iload_n 1, 1) := dk_27 (dk_at dksX16_shuffle_2 5 rfl rfl)
theorem dX16_shuffle_52 : decode cX16_shuffle 52 = .ok (.iconst 0, 1) := dk_3 (dk_at dksX16_shuffle_2 6 rfl rfl)
theorem dX16_shuffle_53 : decode cX16_shuffle 53 = .ok (.invokevirtual 271, 3) := dk_182 1 15 (dk_at dksX16_shuffle_2 7 rfl rfl)
theorem dX16_shuffle_56 : decode cX16_shuffle 56 = .ok (.goto 4, 3) := dk_167 0 4 (dk_at dksX16_shuffle_2 10 rfl rfl)
theorem dX16_shuffle_59 : decode cX16_shuffle 59 = .ok (.iconst (-1), 1) := dk_2 (dk_at dksX16_shuffle_2 13 rfl rfl)
theorem dX16_shuffle_60 : decode cX16_shuffle 60 = .ok (.istore 5, 2) := dk_54 5 (dk_at dksX16_shuffle_2 14 rfl rfl)
theorem dX16_shuffle_62 : decode cX16_shuffle 62 = .ok (.iload_n 3, 1) := dk_29 (dk_at dksX16_shuffle_2 16 rfl rfl)
theorem dX16_shuffle_63 : decode cX16_shuffle 63 = .ok (.iconst 1, 1) := dk_4 (dk_at dksX16_shuffle_2 17 rfl rfl)
theorem dX16_shuffle_64 : decode cX16_shuffle 64 = .ok (.if_icmp .gt 28, 3) := dk_163 0 28 (dk_at dksX16_shuffle_2 18 rfl rfl)
theorem dX16_shuffle_67 : decode cX16_shuffle 67 = .ok (.iload_n 3, 1) := dk_29 (dk_at dksX16_shuffle_2 21 rfl rfl)
theorem dX16_shuffle_68 : decode cX16_shuffle 68 = .ok (.iconst 1, 1) := dk_4 (dk_at dksX16_shuffle_2 22 rfl rfl)
theorem dX16_shuffle_69 : decode cX16_shuffle 69 = .ok (.if_icmp .ne 14, 3) := dk_160 0 14 (dk_at dksX16_shuffle_3 0 rfl rfl)
theorem dX16_shuffle_72 : decode cX16_shuffle 72 = .ok (.iload 5, 2) := dk_21 5 (dk_at dksX16_shuffle_3 3 rfl rfl)
theorem dX16_shuffle_74 : decode cX16_shuffle 74 = .ok (.ifCond .lt 18, 3) := dk_155 0 18 (dk_at dksX16_shuffle_3 5 rfl rfl)
theorem dX16_shuffle_77 : decode cX16_shuffle 77 = .ok (.iload_n 2, 1) := dk_28 (dk_at dksX16_shuffle_3 8 rfl rfl)
theorem dX16_shuffle_78 : decode cX16_shuffle 78 = .ok (.bipush 33, 2) := dk_16 33 (dk_at dksX16_shuffle_3 9 rfl rfl)
theorem dX16_shuffle_80 : decode cX16_shuffle 80 = .ok (.if_icmp .eq 12, 3) := dk_159 0 12 (dk_at dksX16_shuffle_3 11 rfl rfl)
theorem dX16_shuffle_83 : decode cX16_shuffle 83 = .ok (.iload_n 3, 1) := dk_29 (dk_at dksX16_shuffle_3 14 rfl rfl)
theorem dX16_shuffle_84 : decode cX16_shuffle 84 = .ok (.ifCond .ne 10, 3) := dk_154 0 10 (dk_at dksX16_shuffle_3 15 rfl rfl)
theorem dX16_shuffle_87 : decode cX16_shuffle 87 = .ok (.iload 4, 2) := dk_21 4 (dk_at dksX16_shuffle_3 18 rfl rfl)
theorem dX16_shuffle_89 : decode cX16_shuffle 89 = .ok (.ifCond .eq 5, 3) := dk_153 0 5 (dk_at dksX16_shuffle_3 20 rfl rfl)
theorem dX16_shuffle_92 : decode cX16_shuffle 92 = .ok (.iconst 0, 1) := dk_3 (dk_at dksX16_shuffle_3 23 rfl rfl)
theorem dX16_shuffle_93 : decode cX16_shuffle 93 = .ok (.ireturn, 1) := dk_172 (dk_at dksX16_shuffle_4 0 rfl rfl)
theorem dX16_shuffle_94 : decode cX16_shuffle 94 = .ok (.iload_n 3, 1) := dk_29 (dk_at dksX16_shuffle_4 1 rfl rfl)
theorem dX16_shuffle_95 : decode cX16_shuffle 95 = .ok (.iconst 1, 1) := dk_4 (dk_at dksX16_shuffle_4 2 rfl rfl)
theorem dX16_shuffle_96 : decode cX16_shuffle 96 = .ok (.if_icmp .ne 10, 3) := dk_160 0 10 (dk_at dksX16_shuffle_4 3 rfl rfl)
theorem dX16_shuffle_99 : decode cX16_shuffle 99 = .ok (.iconst 5, 1) := dk_8 (dk_at dksX16_shuffle_4 6 rfl rfl)
theorem dX16_shuffle_100 : decode cX16_shuffle 100 = .ok (.iload 5, 2) := dk_21 5 (dk_at dksX16_shuffle_4 7 rfl rfl)
theorem dX16_shuffle_102 : decode cX16_shuffle 102 = .ok (.imul, 1) := dk_104 (dk_at dksX16_shuffle_4 9 rfl rfl)
theorem dX16_shuffle_103 : decode cX16_shuffle 103 = .ok (.goto 4, 3) := dk_167 0 4 (dk_at dksX16_shuffle_4 10 rfl rfl)
theorem dX16_shuffle_106 : decode cX16_shuffle 106 = .ok (.iconst 0, 1) := dk_3 (dk_at dksX16_shuffle_4 13 rfl rfl)
theorem dX16_shuffle_107 : decode cX16_shuffle 107 = .ok (.istore 6, 2) := dk_54 6 (dk_at dksX16_shuffle_4 14 rfl rfl)
theorem dX16_shuffle_109 : decode cX16_shuffle 109 = .ok (.iload_n 2, 1) := dk_28 (dk_at dksX16_shuffle_4 16 rfl rfl)
theorem dX16_shuffle_110 : decode cX16_shuffle 110 = .ok (.tableswitch 163 31 33 #[26, 73, 132], 26) := by decide +kernel
theorem dX16_shuffle_136 : decode cX16_shuffle 136 = .ok (.iload_n 3, 1) := dk_29 (dk_at dksX16_shuffle_6 0 rfl rfl)
theorem dX16_shuffle_137 : decode cX16_shuffle 137 = .ok (.iconst 1, 1) := dk_4 (dk_at dksX16_shuffle_6 1 rfl rfl)
theorem dX16_shuffle_138 : decode cX16_shuffle 138 = .ok (.if_icmp .ne 8, 3) := dk_160 0 8 (dk_at dksX16_shuffle_6 2 rfl rfl)
theorem dX16_shuffle_141 : decode cX16_shuffle 141 = .ok (.iload 5, 2) := dk_21 5 (dk_at dksX16_shuffle_6 5 rfl rfl)
theorem dX16_shuffle_143 : decode cX16_shuffle 143 = .ok (.goto 4, 3) := dk_167 0 4 (dk_at dksX16_shuffle_6 7 rfl rfl)
theorem dX16_shuffle_146 : decode cX16_shuffle 146 = .ok (.iconst 1, 1) := dk_4 (dk_at dksX16_shuffle_6 10 rfl rfl)
theorem dX16_shuffle_147 : decode cX16_shuffle 147 = .ok (.istore 5, 2) := dk_54 5 (dk_at dksX16_shuffle_6 11 rfl rfl)
theorem dX16_shuffle_149 : decode cX16_shuffle 149 = .ok (.iload 5, 2) := dk_21 5 (dk_at dksX16_shuffle_6 13 rfl rfl)
theorem dX16_shuffle_151 : decode cX16_shuffle 151 = .ok (.aload_n 0, 1) := dk_42 (dk_at dksX16_shuffle_6 15 rfl rfl)
theorem dX16_shuffle_152 : decode cX16_shuffle 152 = .ok (.getfield 56, 3) := dk_180 0 56 (dk_at dksX16_shuffle_6 16 rfl rfl)
theorem dX16_shuffle_155 : decode cX16_shuffle 155 = .ok (.if_icmp .le 5, 3) := dk_164 0 5 (dk_at dksX16_shuffle_6 19 rfl rfl)
theorem dX16_shuffle_158 : decode cX16_shuffle 158 = .ok (.iconst 0, 1) := dk_3 (dk_at dksX16_shuffle_6 22 rfl rfl)
theorem dX16_shuffle_159 : decode cX16_shuffle 159 = .ok (.ireturn, 1) := dk_172 (dk_at dksX16_shuffle_6 23 rfl rfl)
theorem dX16_shuffle_160 : decode cX16_shuffle 160 = .ok (.aload_n 0, 1) := dk_42 (dk_at dksX16_shuffle_7 0 rfl rfl)
theorem dX16_shuffle_161 : decode cX16_shuffle 161 = .ok (.dup, 1) := dk_89 (dk_at dksX16_shuffle_7 1 rfl rfl)
theorem dX16_shuffle_162 : decode cX16_shuffle 162 = .ok (.getfield 56, 3) := dk_180 0 56 (dk_at dksX16_shuffle_7 2 rfl rfl)
theorem dX16_shuffle_165 : decode cX16_shuffle 165 = .ok (.iload 5, 2) := dk_21 5 (dk_at dksX16_shuffle_7 5 rfl rfl)
theorem dX16_shuffle_167 : decode cX16_shuffle 167 = .ok (.isub, 1) := dk_100 (dk_at dksX16_shuffle_7 7 rfl rfl)
theorem dX16_shuffle_168 : decode cX16_shuffle 168 = .ok (.putfield 56, 3) := dk_181 0 56 (dk_at dksX16_shuffle_7 8 rfl rfl)
theorem dX16_shuffle_171 : decode cX16_shuffle 171 = .ok (.aload_n 0, 1) := dk_42 (dk_at dksX16_shuffle_7 11 rfl rfl)
theorem dX16_shuffle_172 : decode cX16_shuffle 172 = .ok (.iconst 1, 1) := dk_4 (dk_at dksX16_shuffle_7 12 rfl rfl)
theorem dX16_shuffle_173 : decode cX16_shuffle 173 = .ok (.iload_n 2, 1) := dk_28 (dk_at dksX16_shuffle_7 13 rfl rfl)
theorem dX16_shuffle_174 : decode cX16_shuffle 174 = .ok (.iload 5, 2) := dk_21 5 (dk_at dksX16_shuffle_7 14 rfl rfl)
theorem dX16_shuffle_176 : decode cX16_shuffle 176 = .ok (.iconst 0, 1) := dk_3 (dk_at dksX16_shuffle_7 16 rfl rfl)
theorem dX16_shuffle_177 : decode cX16_shuffle 177 = .ok (.iload 6, 2) := dk_21 6 (dk_at dksX16_shuffle_7 17 rfl rfl)
theorem dX16_shuffle_179 : decode cX16_shuffle 179 = .ok (.invokevirtual 274, 3) := dk_182 1 18 (dk_at dksX16_shuffle_7 19 rfl rfl)
theorem dX16_shuffle_182 : decode cX16_shuffle 182 = .ok (.ireturn, 1) := dk_172 (dk_at dksX16_shuffle_7 22 rfl rfl)
theorem dX16_shuffle_183 : decode cX16_shuffle 183 = .ok (.iload_n 3, 1) := dk_29 (dk_at dksX16_shuffle_7 23 rfl rfl)
theorem dX16_shuffle_184 : decode cX16_shuffle 184 = .ok (.iconst 1, 1) := dk_4 (dk_at dksX16_shuffle_8 0 rfl rfl)
theorem dX16_shuffle_185 : decode cX16_shuffle 185 = .ok (.if_icmp .ne 8, 3) := dk_160 0 8 (dk_at dksX16_shuffle_8 1 rfl rfl)
theorem dX16_shuffle_188 : decode cX16_shuffle 188 = .ok (.iload 5, 2) := dk_21 5 (dk_at dksX16_shuffle_8 4 rfl rfl)
theorem dX16_shuffle_190 : decode cX16_shuffle 190 = .ok (.goto 4, 3) := dk_167 0 4 (dk_at dksX16_shuffle_8 6 rfl rfl)
theorem dX16_shuffle_193 : decode cX16_shuffle 193 = .ok (.iconst 1, 1) := dk_4 (dk_at dksX16_shuffle_8 9 rfl rfl)
theorem dX16_shuffle_194 : decode cX16_shuffle 194 = .ok (.istore 5, 2) := dk_54 5 (dk_at dksX16_shuffle_8 10 rfl rfl)
theorem dX16_shuffle_196 : decode cX16_shuffle 196 = .ok (.aload_n 0, 1) := dk_42 (dk_at dksX16_shuffle_8 12 rfl rfl)
theorem dX16_shuffle_197 : decode cX16_shuffle 197 = .ok (.iload 5, 2) := dk_21 5 (dk_at dksX16_shuffle_8 13 rfl rfl)
theorem dX16_shuffle_199 : decode cX16_shuffle 199 = .ok (.ifCond .le 32, 3) := dk_158 0 32 (dk_at dksX16_shuffle_8 15 rfl rfl)
theorem dX16_shuffle_202 : decode cX16_shuffle 202 = .ok (.iload 5, 2) := dk_21 5 (dk_at dksX16_shuffle_8 18 rfl rfl)
theorem dX16_shuffle_204 : decode cX16_shuffle 204 = .ok (.aload_n 0, 1) := dk_42 (dk_at dksX16_shuffle_8 20 rfl rfl)
theorem dX16_shuffle_205 : decode cX16_shuffle 205 = .ok (.getfield 56, 3) := dk_180 0 56 (dk_at dksX16_shuffle_8 21 rfl rfl)
theorem dX16_shuffle_208 : decode cX16_shuffle 208 = .ok (.if_icmp .gt 23, 3) := dk_163 0 23 (dk_at dksX16_shuffle_9 0 rfl rfl)
theorem dX16_shuffle_211 : decode cX16_shuffle 211 = .ok (.aload_n 0, 1) := dk_42 (dk_at dksX16_shuffle_9 3 rfl rfl)
theorem dX16_shuffle_212 : decode cX16_shuffle 212 = .ok (.iconst 0, 1) := dk_3 (dk_at dksX16_shuffle_9 4 rfl rfl)
theorem dX16_shuffle_213 : decode cX16_shuffle 213 = .ok (.aload_n 0, 1) := dk_42 (dk_at dksX16_shuffle_9 5 rfl rfl)
theorem dX16_shuffle_214 : decode cX16_shuffle 214 = .ok (.iload 5, 2) := dk_21 5 (dk_at dksX16_shuffle_9 6 rfl rfl)
theorem dX16_shuffle_216 : decode cX16_shuffle 216 = .ok (.iconst 1, 1) := dk_4 (dk_at dksX16_shuffle_9 8 rfl rfl)
theorem dX16_shuffle_217 : decode cX16_shuffle 217 = .ok (.isub, 1) := dk_100 (dk_at dksX16_shuffle_9 9 rfl rfl)
theorem dX16_shuffle_218 : decode cX16_shuffle 218 = .ok (.invokevirtual 209, 3) := dk_182 0 209 (dk_at dksX16_shuffle_9 10 rfl rfl)
theorem dX16_shuffle_221 : decode cX16_shuffle 221 = .ok (.invokevirtual 278, 3) := dk_182 1 22 (dk_at dksX16_shuffle_9 13 rfl rfl)
theorem dX16_shuffle_224 : decode cX16_shuffle 224 = .ok (.ifCond .eq 7, 3) := dk_153 0 7 (dk_at dksX16_shuffle_9 16 rfl rfl)
theorem dX16_shuffle_227 : decode cX16_shuffle 227 = .ok (.iconst 1, 1) := dk_4 (dk_at dksX16_shuffle_9 19 rfl rfl)
theorem dX16_shuffle_228 : decode cX16_shuffle 228 = .ok (.goto 4, 3) := dk_167 0 4 (dk_at dksX16_shuffle_9 20 rfl rfl)
theorem dX16_shuffle_231 : decode cX16_shuffle 231 = .ok (.iconst 0, 1) := dk_3 (dk_at dksX16_shuffle_9 23 rfl rfl)
theorem dX16_shuffle_232 : decode cX16_shuffle 232 = .ok (.iload_n 2, 1) := dk_28 (dk_at dksX16_shuffle_10 0 rfl rfl)
theorem dX16_shuffle_233 : decode cX16_shuffle 233 = .ok (.iload 5, 2) := dk_21 5 (dk_at dksX16_shuffle_10 1 rfl rfl)
theorem dX16_shuffle_235 : decode cX16_shuffle 235 = .ok (.iconst 0, 1) := dk_3 (dk_at dksX16_shuffle_10 3 rfl rfl)
theorem dX16_shuffle_236 : decode cX16_shuffle 236 = .ok (.iload 6, 2) := dk_21 6 (dk_at dksX16_shuffle_10 4 rfl rfl)
theorem dX16_shuffle_238 : decode cX16_shuffle 238 = .ok (.invokevirtual 274, 3) := dk_182 1 18 (dk_at dksX16_shuffle_10 6 rfl rfl)
theorem dX16_shuffle_241 : decode cX16_shuffle 241 = .ok (.ireturn, 1) := dk_172 (dk_at dksX16_shuffle_10 9 rfl rfl)
theorem dX16_shuffle_242 : decode cX16_shuffle 242 = .ok (.aload_n 0, 1) := dk_42 (dk_at dksX16_shuffle_10 10 rfl rfl)
theorem dX16_shuffle_243 : decode cX16_shuffle 243 = .ok (.aload_n 0, 1) := dk_42 (dk_at dksX16_shuffle_10 11 rfl rfl)
theorem dX16_shuffle_244 : decode cX16_shuffle 244 = .ok (.getfield 56, 3) := dk_180 0 56 (dk_at dksX16_shuffle_10 12 rfl rfl)
theorem dX16_shuffle_247 : decode cX16_shuffle 247 = .ok (.iconst 1, 1) := dk_4 (dk_at dksX16_shuffle_10 15 rfl rfl)
theorem dX16_shuffle_248 : decode cX16_shuffle 248 = .ok (.if_icmp .le 16, 3) := dk_164 0 16 (dk_at dksX16_shuffle_10 16 rfl rfl)
theorem dX16_shuffle_251 : decode cX16_shuffle 251 = .ok (.aload_n 0, 1) := dk_42 (dk_at dksX16_shuffle_10 19 rfl rfl)
theorem dX16_shuffle_252 : decode cX16_shuffle 252 = .ok (.iconst 1, 1) := dk_4 (dk_at dksX16_shuffle_10 20 rfl rfl)
theorem dX16_shuffle_253 : decode cX16_shuffle 253 = .ok (.iconst 1, 1) := dk_4 (dk_at dksX16_shuffle_10 21 rfl rfl)
theorem dX16_shuffle_254 : decode cX16_shuffle 254 = .ok (.invokevirtual 281, 3) := dk_182 1 25 (dk_at dksX16_shuffle_11 0 rfl rfl)
theorem dX16_shuffle_257 : decode cX16_shuffle 257 = .ok (.ifCond .eq 7, 3) := dk_153 0 7 (dk_at dksX16_shuffle_11 3 rfl rfl)
theorem dX16_shuffle_260 : decode cX16_shuffle 260 = .ok (.iconst 1, 1) := dk_4 (dk_at dksX16_shuffle_11 6 rfl rfl)
theorem dX16_shuffle_261 : decode cX16_shuffle 261 = .ok (.goto 4, 3) := dk_167 0 4 (dk_at dksX16_shuffle_11 7 rfl rfl)
theorem dX16_shuffle_264 : decode cX16_shuffle 264 = .ok (.iconst 0, 1) := dk_3 (dk_at dksX16_shuffle_11 10 rfl rfl)
theorem dX16_shuffle_265 : decode cX16_shuffle 265 = .ok (.iload_n 2, 1) := dk_28 (dk_at dksX16_shuffle_11 11 rfl rfl)
theorem dX16_shuffle_266 : decode cX16_shuffle 266 = .ok (.iconst 0, 1) := dk_3 (dk_at dksX16_shuffle_11 12 rfl rfl)
theorem dX16_shuffle_267 : decode cX16_shuffle 267 = .ok (.iconst 0, 1) := dk_3 (dk_at dksX16_shuffle_11 13 rfl rfl)
theorem dX16_shuffle_268 : decode cX16_shuffle 268 = .ok (.iconst 0, 1) := dk_3 (dk_at dksX16_shuffle_11 14 rfl rfl)
theorem dX16_shuffle_269 : decode cX16_shuffle 269 = .ok (.invokevirtual 274, 3) := dk_182 1 18 (dk_at dksX16_shuffle_11 15 rfl rfl)
theorem dX16_shuffle_272 : decode cX16_shuffle 272 = .ok (.ireturn, 1) := dk_172 (dk_at dksX16_shuffle_11 18 rfl rfl)
theorem dX16_shuffle_273 : decode cX16_shuffle 273 = .ok (.aload_n 0, 1) := dk_42 (dk_at dksX16_shuffle_11 19 rfl rfl)
theorem dX16_shuffle_274 : decode cX16_shuffle 274 = .ok (.iload 5, 2) := dk_21 5 (dk_at dksX16_shuffle_11 20 rfl rfl)
theorem dX16_shuffle_276 : decode cX16_shuffle 276 = .ok (.aload_n 0, 1) := dk_42 (dk_at dksX16_shuffle_11 22 rfl rfl)
theorem dX16_shuffle_277 : decode cX16_shuffle 277 = .ok (.getfield 56, 3) := dk_180 0 56 (dk_at dksX16_shuffle_12 0 rfl rfl)
theorem dX16_shuffle_280 : decode cX16_shuffle 280 = .ok (.if_icmp .ge 27, 3) := dk_162 0 27 (dk_at dksX16_shuffle_12 3 rfl rfl)
theorem dX16_shuffle_283 : decode cX16_shuffle 283 = .ok (.aload_n 0, 1) := dk_42 (dk_at dksX16_shuffle_12 6 rfl rfl)
theorem dX16_shuffle_284 : decode cX16_shuffle 284 = .ok (.iload 5, 2) := dk_21 5 (dk_at dksX16_shuffle_12 7 rfl rfl)
theorem dX16_shuffle_286 : decode cX16_shuffle 286 = .ok (.iload_n 2, 1) := dk_28 (dk_at dksX16_shuffle_12 9 rfl rfl)
theorem dX16_shuffle_287 : decode cX16_shuffle 287 = .ok (.bipush 34, 2) := dk_16 34 (dk_at dksX16_shuffle_12 10 rfl rfl)
theorem dX16_shuffle_289 : decode cX16_shuffle 289 = .ok (.if_icmp .ne 7, 3) := dk_160 0 7 (dk_at dksX16_shuffle_12 12 rfl rfl)
theorem dX16_shuffle_292 : decode cX16_shuffle 292 = .ok (.iconst 1, 1) := dk_4 (dk_at dksX16_shuffle_12 15 rfl rfl)
theorem dX16_shuffle_293 : decode cX16_shuffle 293 = .ok (.goto 4, 3) := dk_167 0 4 (dk_at dksX16_shuffle_12 16 rfl rfl)
theorem dX16_shuffle_296 : decode cX16_shuffle 296 = .ok (.iconst 0, 1) := dk_3 (dk_at dksX16_shuffle_12 19 rfl rfl)
theorem dX16_shuffle_297 : decode cX16_shuffle 297 = .ok (.invokevirtual 281, 3) := dk_182 1 25 (dk_at dksX16_shuffle_12 20 rfl rfl)
theorem dX16_shuffle_300 : decode cX16_shuffle 300 = .ok (.ifCond .eq 7, 3) := dk_153 0 7 (dk_at dksX16_shuffle_13 0 rfl rfl)
theorem dX16_shuffle_303 : decode cX16_shuffle 303 = .ok (.iconst 1, 1) := dk_4 (dk_at dksX16_shuffle_13 3 rfl rfl)
theorem dX16_shuffle_304 : decode cX16_shuffle 304 = .ok (.goto 4, 3) := dk_167 0 4 (dk_at dksX16_shuffle_13 4 rfl rfl)
theorem dX16_shuffle_307 : decode cX16_shuffle 307 = .ok (.iconst 0, 1) := dk_3 (dk_at dksX16_shuffle_13 7 rfl rfl)
theorem dX16_shuffle_308 : decode cX16_shuffle 308 = .ok (.iload_n 2, 1) := dk_28 (dk_at dksX16_shuffle_13 8 rfl rfl)
theorem dX16_shuffle_309 : decode cX16_shuffle 309 = .ok (.iload 5, 2) := dk_21 5 (dk_at dksX16_shuffle_13 9 rfl rfl)
theorem dX16_shuffle_311 : decode cX16_shuffle 311 = .ok (.iconst 0, 1) := dk_3 (dk_at dksX16_shuffle_13 11 rfl rfl)
theorem dX16_shuffle_312 : decode cX16_shuffle 312 = .ok (.iload 6, 2) := dk_21 6 (dk_at dksX16_shuffle_13 12 rfl rfl)
theorem dX16_shuffle_314 : decode cX16_shuffle 314 = .ok (.invokevirtual 274, 3) := dk_182 1 18 (dk_at dksX16_shuffle_13 14 rfl rfl)
theorem dX16_shuffle_317 : decode cX16_shuffle 317 = .ok (.ireturn, 1) := dk_172 (dk_at dksX16_shuffle_13 17 rfl rfl)
abbrev cX16_push : ByteArray := prog_21_method_26_code
def yX16_push : MethodName := ⟨RX16, "push", "(II)I"⟩
def dkwX16_push_3 : List UInt8 := [167, 0, 19, 42, 42, 3, 29, 182, 1, 22, 16, 36, 21, 4, 3, 3, 182, 1, 18, 172]
abbrev dktX16_push_3 : List UInt8 := dkwX16_push_3 ++ []
def dkwX16_push_2 : List UInt8 := [4, 182, 0, 226, 29, 182, 1, 37, 54, 4, 42, 180, 0, 48, 3, 181, 1, 32, 21, 4, 154, 0, 7, 3]
abbrev dktX16_push_2 : List UInt8 := dkwX16_push_2 ++ dktX16_push_3
def dkwX16_push_1 : List UInt8 := [29, 5, 182, 0, 120, 154, 0, 5, 3, 172, 42, 180, 0, 48, 4, 181, 1, 32, 42, 180, 0, 44, 42, 27]
abbrev dktX16_push_1 : List UInt8 := dkwX16_push_1 ++ dktX16_push_2
def dkwX16_push_0 : List UInt8 := [28, 5, 160, 0, 12, 42, 27, 3, 182, 1, 29, 167, 0, 4, 2, 62, 29, 155, 0, 15, 42, 180, 0, 32]
abbrev dktX16_push_0 : List UInt8 := dkwX16_push_0 ++ dktX16_push_1
theorem dksX16_push_0 : cX16_push.data.toList.drop 0 = dktX16_push_0 := by decide +kernel
theorem dksX16_push_1 : cX16_push.data.toList.drop 24 = dktX16_push_1 := dk_seg dksX16_push_0 24 rfl rfl
theorem dksX16_push_2 : cX16_push.data.toList.drop 48 = dktX16_push_2 := dk_seg dksX16_push_1 24 rfl rfl
theorem dksX16_push_3 : cX16_push.data.toList.drop 72 = dktX16_push_3 := dk_seg dksX16_push_2 24 rfl rfl
theorem dX16_push_0 : decode cX16_push 0 = .ok (.iload_n 2, 1) := dk_28 (dk_at dksX16_push_0 0 rfl rfl)
theorem dX16_push_1 : decode cX16_push 1 = .ok (.iconst 2, 1) := dk_5 (dk_at dksX16_push_0 1 rfl rfl)
theorem dX16_push_2 : decode cX16_push 2 = .ok (.if_icmp .ne 12, 3) := dk_160 0 12 (dk_at dksX16_push_0 2 rfl rfl)
theorem dX16_push_5 : decode cX16_push 5 = .ok (.aload_n 0, 1) := dk_42 (dk_at dksX16_push_0 5 rfl rfl)
theorem dX16_push_6 : decode cX16_push 6 = .ok (.iload_n 1, 1) := dk_27 (dk_at dksX16_push_0 6 rfl rfl)
theorem dX16_push_7 : decode cX16_push 7 = .ok (.iconst 0, 1) := dk_3 (dk_at dksX16_push_0 7 rfl rfl)
theorem dX16_push_8 : decode cX16_push 8 = .ok (.invokevirtual 285, 3) := dk_182 1 29 (dk_at dksX16_push_0 8 rfl rfl)
theorem dX16_push_11 : decode cX16_push 11 = .ok (.goto 4, 3) := dk_167 0 4 (dk_at dksX16_push_0 11 rfl rfl)
theorem dX16_push_14 : decode cX16_push 14 = .ok (.iconst (-1), 1) := dk_2 (dk_at dksX16_push_0 14 rfl rfl)
theorem dX16_push_15 : decode cX16_push 15 = .ok (.istore_n 3, 1) := dk_62 (dk_at dksX16_push_0 15 rfl rfl)
theorem dX16_push_16 : decode cX16_push 16 = .ok (.iload_n 3, 1) := dk_29 (dk_at dksX16_push_0 16 rfl rfl)
theorem dX16_push_17 : decode cX16_push 17 = .ok (.ifCond .lt 15, 3) := dk_155 0 15 (dk_at dksX16_push_0 17 rfl rfl)
theorem dX16_push_20 : decode cX16_push 20 = .ok (.aload_n 0, 1) := dk_42 (dk_at dksX16_push_0 20 rfl rfl)
theorem dX16_push_21 : decode cX16_push 21 = .ok (.getfield 32, 3) := dk_180 0 32 (dk_at dksX16_push_0 21 rfl rfl)
theorem dX16_push_24 : decode cX16_push 24 = .ok (.iload_n 3, 1) := dk_29 (dk_at dksX16_push_1 0 rfl rfl)
theorem dX16_push_25 : decode cX16_push 25 = .ok (.iconst 2, 1) := dk_5 (dk_at dksX16_push_1 1 rfl rfl)
theorem dX16_push_26 : decode cX16_push 26 = .ok (.invokevirtual 120, 3) := dk_182 0 120 (dk_at dksX16_push_1 2 rfl rfl)
theorem dX16_push_29 : decode cX16_push 29 = .ok (.ifCond .ne 5, 3) := dk_154 0 5 (dk_at dksX16_push_1 5 rfl rfl)
theorem dX16_push_32 : decode cX16_push 32 = .ok (.iconst 0, 1) := dk_3 (dk_at dksX16_push_1 8 rfl rfl)
theorem dX16_push_33 : decode cX16_push 33 = .ok (.ireturn, 1) := dk_172 (dk_at dksX16_push_1 9 rfl rfl)
theorem dX16_push_34 : decode cX16_push 34 = .ok (.aload_n 0, 1) := dk_42 (dk_at dksX16_push_1 10 rfl rfl)
theorem dX16_push_35 : decode cX16_push 35 = .ok (.getfield 48, 3) := dk_180 0 48 (dk_at dksX16_push_1 11 rfl rfl)
theorem dX16_push_38 : decode cX16_push 38 = .ok (.iconst 1, 1) := dk_4 (dk_at dksX16_push_1 14 rfl rfl)
theorem dX16_push_39 : decode cX16_push 39 = .ok (.putfield 288, 3) := dk_181 1 32 (dk_at dksX16_push_1 15 rfl rfl)
theorem dX16_push_42 : decode cX16_push 42 = .ok (.aload_n 0, 1) := dk_42 (dk_at dksX16_push_1 18 rfl rfl)
theorem dX16_push_43 : decode cX16_push 43 = .ok (.getfield 44, 3) := dk_180 0 44 (dk_at dksX16_push_1 19 rfl rfl)
theorem dX16_push_46 : decode cX16_push 46 = .ok (.aload_n 0, 1) := dk_42 (dk_at dksX16_push_1 22 rfl rfl)
theorem dX16_push_47 : decode cX16_push 47 = .ok (.iload_n 1, 1) := dk_27 (dk_at dksX16_push_1 23 rfl rfl)
theorem dX16_push_48 : decode cX16_push 48 = .ok (.iconst 1, 1) := dk_4 (dk_at dksX16_push_2 0 rfl rfl)
theorem dX16_push_49 : decode cX16_push 49 = .ok (.invokevirtual 226, 3) := dk_182 0 226 (dk_at dksX16_push_2 1 rfl rfl)
theorem dX16_push_52 : decode cX16_push 52 = .ok (.iload_n 3, 1) := dk_29 (dk_at dksX16_push_2 4 rfl rfl)
theorem dX16_push_53 : decode cX16_push 53 = .ok (.invokevirtual 293, 3) := dk_182 1 37 (dk_at dksX16_push_2 5 rfl rfl)
theorem dX16_push_56 : decode cX16_push 56 = .ok (.istore 4, 2) := dk_54 4 (dk_at dksX16_push_2 8 rfl rfl)
theorem dX16_push_58 : decode cX16_push 58 = .ok (.aload_n 0, 1) := dk_42 (dk_at dksX16_push_2 10 rfl rfl)
theorem dX16_push_59 : decode cX16_push 59 = .ok (.getfield 48, 3) := dk_180 0 48 (dk_at dksX16_push_2 11 rfl rfl)
theorem dX16_push_62 : decode cX16_push 62 = .ok (.iconst 0, 1) := dk_3 (dk_at dksX16_push_2 14 rfl rfl)
theorem dX16_push_63 : decode cX16_push 63 = .ok (.putfield 288, 3) := dk_181 1 32 (dk_at dksX16_push_2 15 rfl rfl)
theorem dX16_push_66 : decode cX16_push 66 = .ok (.iload 4, 2) := dk_21 4 (dk_at dksX16_push_2 18 rfl rfl)
theorem dX16_push_68 : decode cX16_push 68 = .ok (.ifCond .ne 7, 3) := dk_154 0 7 (dk_at dksX16_push_2 20 rfl rfl)
theorem dX16_push_71 : decode cX16_push 71 = .ok (.iconst 0, 1) := dk_3 (dk_at dksX16_push_2 23 rfl rfl)
theorem dX16_push_72 : decode cX16_push 72 = .ok (.goto 19, 3) := dk_167 0 19 (dk_at dksX16_push_3 0 rfl rfl)
theorem dX16_push_75 : decode cX16_push 75 = .ok (.aload_n 0, 1) := dk_42 (dk_at dksX16_push_3 3 rfl rfl)
theorem dX16_push_76 : decode cX16_push 76 = .ok (.aload_n 0, 1) := dk_42 (dk_at dksX16_push_3 4 rfl rfl)
theorem dX16_push_77 : decode cX16_push 77 = .ok (.iconst 0, 1) := dk_3 (dk_at dksX16_push_3 5 rfl rfl)
theorem dX16_push_78 : decode cX16_push 78 = .ok (.iload_n 3, 1) := dk_29 (dk_at dksX16_push_3 6 rfl rfl)
theorem dX16_push_79 : decode cX16_push 79 = .ok (.invokevirtual 278, 3) := dk_182 1 22 (dk_at dksX16_push_3 7 rfl rfl)
theorem dX16_push_82 : decode cX16_push 82 = .ok (.bipush 36, 2) := dk_16 36 (dk_at dksX16_push_3 10 rfl rfl)
theorem dX16_push_84 : decode cX16_push 84 = .ok (.iload 4, 2) := dk_21 4 (dk_at dksX16_push_3 12 rfl rfl)
theorem dX16_push_86 : decode cX16_push 86 = .ok (.iconst 0, 1) := dk_3 (dk_at dksX16_push_3 14 rfl rfl)
theorem dX16_push_87 : decode cX16_push 87 = .ok (.iconst 0, 1) := dk_3 (dk_at dksX16_push_3 15 rfl rfl)
theorem dX16_push_88 : decode cX16_push 88 = .ok (.invokevirtual 274, 3) := dk_182 1 18 (dk_at dksX16_push_3 16 rfl rfl)
theorem dX16_push_91 : decode cX16_push 91 = .ok (.ireturn, 1) := dk_172 (dk_at dksX16_push_3 19 rfl rfl)
abbrev cX16_typeAt : ByteArray := prog_21_method_20_code
def yX16_typeAt : MethodName := ⟨RX16, "typeAt", "(II)I"⟩
def dkwX16_typeAt_0 : List UInt8 := [42, 180, 0, 32, 42, 180, 0, 28, 42, 27, 28, 182, 0, 226, 182, 0, 110, 172]
abbrev dktX16_typeAt_0 : List UInt8 := dkwX16_typeAt_0 ++ []
theorem dksX16_typeAt_0 : cX16_typeAt.data.toList.drop 0 = dktX16_typeAt_0 := by decide +kernel
theorem dX16_typeAt_0 : decode cX16_typeAt 0 = .ok (.aload_n 0, 1) := dk_42 (dk_at dksX16_typeAt_0 0 rfl rfl)
theorem dX16_typeAt_1 : decode cX16_typeAt 1 = .ok (.getfield 32, 3) := dk_180 0 32 (dk_at dksX16_typeAt_0 1 rfl rfl)
theorem dX16_typeAt_4 : decode cX16_typeAt 4 = .ok (.aload_n 0, 1) := dk_42 (dk_at dksX16_typeAt_0 4 rfl rfl)
theorem dX16_typeAt_5 : decode cX16_typeAt 5 = .ok (.getfield 28, 3) := dk_180 0 28 (dk_at dksX16_typeAt_0 5 rfl rfl)
theorem dX16_typeAt_8 : decode cX16_typeAt 8 = .ok (.aload_n 0, 1) := dk_42 (dk_at dksX16_typeAt_0 8 rfl rfl)
theorem dX16_typeAt_9 : decode cX16_typeAt 9 = .ok (.iload_n 1, 1) := dk_27 (dk_at dksX16_typeAt_0 9 rfl rfl)
theorem dX16_typeAt_10 : decode cX16_typeAt 10 = .ok (.iload_n 2, 1) := dk_28 (dk_at dksX16_typeAt_0 10 rfl rfl)
theorem dX16_typeAt_11 : decode cX16_typeAt 11 = .ok (.invokevirtual 226, 3) := dk_182 0 226 (dk_at dksX16_typeAt_0 11 rfl rfl)
theorem dX16_typeAt_14 : decode cX16_typeAt 14 = .ok (.invokevirtual 110, 3) := dk_182 0 110 (dk_at dksX16_typeAt_0 14 rfl rfl)
theorem dX16_typeAt_17 : decode cX16_typeAt 17 = .ok (.ireturn, 1) := dk_172 (dk_at dksX16_typeAt_0 17 rfl rfl)
abbrev cX16_argument : ByteArray := prog_21_method_18_code
def yX16_argument : MethodName := ⟨RX16, "argument", "(II)I"⟩
def dkwX16_argument_0 : List UInt8 := [42, 180, 0, 28, 27, 28, 182, 0, 69, 172]
abbrev dktX16_argument_0 : List UInt8 := dkwX16_argument_0 ++ []
theorem dksX16_argument_0 : cX16_argument.data.toList.drop 0 = dktX16_argument_0 := by decide +kernel
theorem dX16_argument_0 : decode cX16_argument 0 = .ok (.aload_n 0, 1) := dk_42 (dk_at dksX16_argument_0 0 rfl rfl)
theorem dX16_argument_1 : decode cX16_argument 1 = .ok (.getfield 28, 3) := dk_180 0 28 (dk_at dksX16_argument_0 1 rfl rfl)
theorem dX16_argument_4 : decode cX16_argument 4 = .ok (.iload_n 1, 1) := dk_27 (dk_at dksX16_argument_0 4 rfl rfl)
theorem dX16_argument_5 : decode cX16_argument 5 = .ok (.iload_n 2, 1) := dk_28 (dk_at dksX16_argument_0 5 rfl rfl)
theorem dX16_argument_6 : decode cX16_argument 6 = .ok (.invokevirtual 69, 3) := dk_182 0 69 (dk_at dksX16_argument_0 6 rfl rfl)
theorem dX16_argument_9 : decode cX16_argument 9 = .ok (.ireturn, 1) := dk_172 (dk_at dksX16_argument_0 9 rfl rfl)
abbrev cX16_become : ByteArray := prog_21_method_13_code
def yX16_become : MethodName := ⟨RX16, "become", "(II)Z"⟩
def dkwX16_become_1 : List UInt8 := [3, 172, 42, 180, 0, 20, 42, 89, 180, 0, 56, 90, 4, 96, 181, 0, 56, 28, 79, 4, 172]
abbrev dktX16_become_1 : List UInt8 := dkwX16_become_1 ++ []
def dkwX16_become_0 : List UInt8 := [42, 89, 180, 0, 56, 27, 100, 181, 0, 56, 28, 155, 0, 13, 42, 180, 0, 56, 17, 1, 44, 160, 0, 5]
abbrev dktX16_become_0 : List UInt8 := dkwX16_become_0 ++ dktX16_become_1
theorem dksX16_become_0 : cX16_become.data.toList.drop 0 = dktX16_become_0 := by decide +kernel
theorem dksX16_become_1 : cX16_become.data.toList.drop 24 = dktX16_become_1 := dk_seg dksX16_become_0 24 rfl rfl
theorem dX16_become_0 : decode cX16_become 0 = .ok (.aload_n 0, 1) := dk_42 (dk_at dksX16_become_0 0 rfl rfl)
theorem dX16_become_1 : decode cX16_become 1 = .ok (.dup, 1) := dk_89 (dk_at dksX16_become_0 1 rfl rfl)
theorem dX16_become_2 : decode cX16_become 2 = .ok (.getfield 56, 3) := dk_180 0 56 (dk_at dksX16_become_0 2 rfl rfl)
theorem dX16_become_5 : decode cX16_become 5 = .ok (.iload_n 1, 1) := dk_27 (dk_at dksX16_become_0 5 rfl rfl)
theorem dX16_become_6 : decode cX16_become 6 = .ok (.isub, 1) := dk_100 (dk_at dksX16_become_0 6 rfl rfl)
theorem dX16_become_7 : decode cX16_become 7 = .ok (.putfield 56, 3) := dk_181 0 56 (dk_at dksX16_become_0 7 rfl rfl)
theorem dX16_become_10 : decode cX16_become 10 = .ok (.iload_n 2, 1) := dk_28 (dk_at dksX16_become_0 10 rfl rfl)
theorem dX16_become_11 : decode cX16_become 11 = .ok (.ifCond .lt 13, 3) := dk_155 0 13 (dk_at dksX16_become_0 11 rfl rfl)
theorem dX16_become_14 : decode cX16_become 14 = .ok (.aload_n 0, 1) := dk_42 (dk_at dksX16_become_0 14 rfl rfl)
theorem dX16_become_15 : decode cX16_become 15 = .ok (.getfield 56, 3) := dk_180 0 56 (dk_at dksX16_become_0 15 rfl rfl)
theorem dX16_become_18 : decode cX16_become 18 = .ok (.sipush 300, 3) := dk_17 1 44 (dk_at dksX16_become_0 18 rfl rfl)
theorem dX16_become_21 : decode cX16_become 21 = .ok (.if_icmp .ne 5, 3) := dk_160 0 5 (dk_at dksX16_become_0 21 rfl rfl)
theorem dX16_become_24 : decode cX16_become 24 = .ok (.iconst 0, 1) := dk_3 (dk_at dksX16_become_1 0 rfl rfl)
theorem dX16_become_25 : decode cX16_become 25 = .ok (.ireturn, 1) := dk_172 (dk_at dksX16_become_1 1 rfl rfl)
theorem dX16_become_26 : decode cX16_become 26 = .ok (.aload_n 0, 1) := dk_42 (dk_at dksX16_become_1 2 rfl rfl)
theorem dX16_become_27 : decode cX16_become 27 = .ok (.getfield 20, 3) := dk_180 0 20 (dk_at dksX16_become_1 3 rfl rfl)
theorem dX16_become_30 : decode cX16_become 30 = .ok (.aload_n 0, 1) := dk_42 (dk_at dksX16_become_1 6 rfl rfl)
theorem dX16_become_31 : decode cX16_become 31 = .ok (.dup, 1) := dk_89 (dk_at dksX16_become_1 7 rfl rfl)
theorem dX16_become_32 : decode cX16_become 32 = .ok (.getfield 56, 3) := dk_180 0 56 (dk_at dksX16_become_1 8 rfl rfl)
theorem dX16_become_35 : decode cX16_become 35 = .ok (.dup_x1, 1) := dk_90 (dk_at dksX16_become_1 11 rfl rfl)
theorem dX16_become_36 : decode cX16_become 36 = .ok (.iconst 1, 1) := dk_4 (dk_at dksX16_become_1 12 rfl rfl)
theorem dX16_become_37 : decode cX16_become 37 = .ok (.iadd, 1) := dk_96 (dk_at dksX16_become_1 13 rfl rfl)
theorem dX16_become_38 : decode cX16_become 38 = .ok (.putfield 56, 3) := dk_181 0 56 (dk_at dksX16_become_1 14 rfl rfl)
theorem dX16_become_41 : decode cX16_become 41 = .ok (.iload_n 2, 1) := dk_28 (dk_at dksX16_become_1 17 rfl rfl)
theorem dX16_become_42 : decode cX16_become 42 = .ok (.iastore, 1) := dk_79 (dk_at dksX16_become_1 18 rfl rfl)
theorem dX16_become_43 : decode cX16_become 43 = .ok (.iconst 1, 1) := dk_4 (dk_at dksX16_become_1 19 rfl rfl)
theorem dX16_become_44 : decode cX16_become 44 = .ok (.ireturn, 1) := dk_172 (dk_at dksX16_become_1 20 rfl rfl)
abbrev cX16_done : ByteArray := prog_21_method_23_code
def yX16_done : MethodName := ⟨RX16, "done", "(ZIIII)I"⟩
def dkwX16_done_0 : List UInt8 := [27, 153, 0, 19, 42, 180, 0, 40, 28, 29, 21, 4, 21, 5, 182, 1, 6, 167, 0, 4, 3, 172]
abbrev dktX16_done_0 : List UInt8 := dkwX16_done_0 ++ []
theorem dksX16_done_0 : cX16_done.data.toList.drop 0 = dktX16_done_0 := by decide +kernel
theorem dX16_done_0 : decode cX16_done 0 = .ok (.iload_n 1, 1) := dk_27 (dk_at dksX16_done_0 0 rfl rfl)
theorem dX16_done_1 : decode cX16_done 1 = .ok (.ifCond .eq 19, 3) := dk_153 0 19 (dk_at dksX16_done_0 1 rfl rfl)
theorem dX16_done_4 : decode cX16_done 4 = .ok (.aload_n 0, 1) := dk_42 (dk_at dksX16_done_0 4 rfl rfl)
theorem dX16_done_5 : decode cX16_done 5 = .ok (.getfield 40, 3) := dk_180 0 40 (dk_at dksX16_done_0 5 rfl rfl)
theorem dX16_done_8 : decode cX16_done 8 = .ok (.iload_n 2, 1) := dk_28 (dk_at dksX16_done_0 8 rfl rfl)
theorem dX16_done_9 : decode cX16_done 9 = .ok (.iload_n 3, 1) := dk_29 (dk_at dksX16_done_0 9 rfl rfl)
theorem dX16_done_10 : decode cX16_done 10 = .ok (.iload 4, 2) := dk_21 4 (dk_at dksX16_done_0 10 rfl rfl)
theorem dX16_done_12 : decode cX16_done 12 = .ok (.iload 5, 2) := dk_21 5 (dk_at dksX16_done_0 12 rfl rfl)
theorem dX16_done_14 : decode cX16_done 14 = .ok (.invokevirtual 262, 3) := dk_182 1 6 (dk_at dksX16_done_0 14 rfl rfl)
theorem dX16_done_17 : decode cX16_done 17 = .ok (.goto 4, 3) := dk_167 0 4 (dk_at dksX16_done_0 17 rfl rfl)
theorem dX16_done_20 : decode cX16_done 20 = .ok (.iconst 0, 1) := dk_3 (dk_at dksX16_done_0 20 rfl rfl)
theorem dX16_done_21 : decode cX16_done 21 = .ok (.ireturn, 1) := dk_172 (dk_at dksX16_done_0 21 rfl rfl)
abbrev cX16_dip : ByteArray := prog_21_method_27_code
def yX16_dip : MethodName := ⟨RX16, "dip", "(II)I"⟩
def dkwX16_dip_8 : List UInt8 := [167, 0, 4, 3, 182, 1, 18, 172]
abbrev dktX16_dip_8 : List UInt8 := dkwX16_dip_8 ++ []
def dkwX16_dip_7 : List UInt8 := [180, 0, 56, 29, 96, 181, 0, 56, 42, 4, 16, 37, 21, 5, 29, 28, 5, 160, 0, 9, 8, 29, 104]
abbrev dktX16_dip_7 : List UInt8 := dkwX16_dip_7 ++ dktX16_dip_8
def dkwX16_dip_6 : List UInt8 := [3, 172, 42, 180, 0, 25, 21, 4, 42, 180, 0, 20, 42, 180, 0, 56, 29, 184, 0, 212, 42, 89]
abbrev dktX16_dip_6 : List UInt8 := dkwX16_dip_6 ++ dktX16_dip_7
def dkwX16_dip_5 : List UInt8 := [21, 4, 181, 0, 59, 42, 180, 0, 199, 154, 0, 15, 42, 180, 0, 56, 29, 96, 17, 1, 44, 164, 0, 5]
abbrev dktX16_dip_5 : List UInt8 := dkwX16_dip_5 ++ dktX16_dip_6
def dkwX16_dip_4 : List UInt8 := [42, 27, 28, 4, 100, 182, 0, 226, 182, 0, 206, 54, 5, 42, 180, 0, 52, 155, 0, 5, 3, 172, 42]
abbrev dktX16_dip_4 : List UInt8 := dkwX16_dip_4 ++ dktX16_dip_5
def dkwX16_dip_3 : List UInt8 := [180, 0, 56, 42, 180, 0, 25, 21, 4, 29, 184, 0, 212, 42, 89, 180, 0, 59, 29, 96, 181, 0, 59, 42]
abbrev dktX16_dip_3 : List UInt8 := dkwX16_dip_3 ++ dktX16_dip_4
def dkwX16_dip_2 : List UInt8 := [3, 172, 42, 180, 0, 59, 54, 4, 42, 89, 180, 0, 56, 29, 100, 181, 0, 56, 42, 180, 0, 20, 42]
abbrev dktX16_dip_2 : List UInt8 := dkwX16_dip_2 ++ dktX16_dip_3
def dkwX16_dip_1 : List UInt8 := [62, 29, 155, 0, 22, 29, 42, 180, 0, 56, 163, 0, 14, 42, 27, 28, 4, 100, 182, 1, 42, 154, 0, 5]
abbrev dktX16_dip_1 : List UInt8 := dkwX16_dip_1 ++ dktX16_dip_2
def dkwX16_dip_0 : List UInt8 := [28, 4, 160, 0, 7, 4, 167, 0, 18, 28, 5, 160, 0, 12, 42, 27, 3, 182, 1, 15, 167, 0, 4, 2]
abbrev dktX16_dip_0 : List UInt8 := dkwX16_dip_0 ++ dktX16_dip_1
theorem dksX16_dip_0 : cX16_dip.data.toList.drop 0 = dktX16_dip_0 := by decide +kernel
theorem dksX16_dip_1 : cX16_dip.data.toList.drop 24 = dktX16_dip_1 := dk_seg dksX16_dip_0 24 rfl rfl
theorem dksX16_dip_2 : cX16_dip.data.toList.drop 48 = dktX16_dip_2 := dk_seg dksX16_dip_1 24 rfl rfl
theorem dksX16_dip_3 : cX16_dip.data.toList.drop 71 = dktX16_dip_3 := dk_seg dksX16_dip_2 23 rfl rfl
theorem dksX16_dip_4 : cX16_dip.data.toList.drop 95 = dktX16_dip_4 := dk_seg dksX16_dip_3 24 rfl rfl
theorem dksX16_dip_5 : cX16_dip.data.toList.drop 118 = dktX16_dip_5 := dk_seg dksX16_dip_4 23 rfl rfl
theorem dksX16_dip_6 : cX16_dip.data.toList.drop 142 = dktX16_dip_6 := dk_seg dksX16_dip_5 24 rfl rfl
theorem dksX16_dip_7 : cX16_dip.data.toList.drop 164 = dktX16_dip_7 := dk_seg dksX16_dip_6 22 rfl rfl
theorem dksX16_dip_8 : cX16_dip.data.toList.drop 187 = dktX16_dip_8 := dk_seg dksX16_dip_7 23 rfl rfl
theorem dX16_dip_0 : decode cX16_dip 0 = .ok (.iload_n 2, 1) := dk_28 (dk_at dksX16_dip_0 0 rfl rfl)
theorem dX16_dip_1 : decode cX16_dip 1 = .ok (.iconst 1, 1) := dk_4 (dk_at dksX16_dip_0 1 rfl rfl)
theorem dX16_dip_2 : decode cX16_dip 2 = .ok (.if_icmp .ne 7, 3) := dk_160 0 7 (dk_at dksX16_dip_0 2 rfl rfl)
theorem dX16_dip_5 : decode cX16_dip 5 = .ok (.iconst 1, 1) := dk_4 (dk_at dksX16_dip_0 5 rfl rfl)
theorem dX16_dip_6 : decode cX16_dip 6 = .ok (.goto 18, 3) := dk_167 0 18 (dk_at dksX16_dip_0 6 rfl rfl)
theorem dX16_dip_9 : decode cX16_dip 9 = .ok (.iload_n 2, 1) := dk_28 (dk_at dksX16_dip_0 9 rfl rfl)
theorem dX16_dip_10 : decode cX16_dip 10 = .ok (.iconst 2, 1) := dk_5 (dk_at dksX16_dip_0 10 rfl rfl)
theorem dX16_dip_11 : decode cX16_dip 11 = .ok (.if_icmp .ne 12, 3) := dk_160 0 12 (dk_at dksX16_dip_0 11 rfl rfl)
theorem dX16_dip_14 : decode cX16_dip 14 = .ok (.aload_n 0, 1) := dk_42 (dk_at dksX16_dip_0 14 rfl rfl)
theorem dX16_dip_15 : decode cX16_dip 15 = .ok (.iload_n 1, 1) := dk_27 (dk_at dksX16_dip_0 15 rfl rfl)
theorem dX16_dip_16 : decode cX16_dip 16 = .ok (.iconst 0, 1) := dk_3 (dk_at dksX16_dip_0 16 rfl rfl)
theorem dX16_dip_17 : decode cX16_dip 17 = .ok (.invokevirtual 271, 3) := dk_182 1 15 (dk_at dksX16_dip_0 17 rfl rfl)
theorem dX16_dip_20 : decode cX16_dip 20 = .ok (.goto 4, 3) := dk_167 0 4 (dk_at dksX16_dip_0 20 rfl rfl)
theorem dX16_dip_23 : decode cX16_dip 23 = .ok (.iconst (-1), 1) := dk_2 (dk_at dksX16_dip_0 23 rfl rfl)
theorem dX16_dip_24 : decode cX16_dip 24 = .ok (.istore_n 3, 1) := dk_62 (dk_at dksX16_dip_1 0 rfl rfl)
theorem dX16_dip_25 : decode cX16_dip 25 = .ok (.iload_n 3, 1) := dk_29 (dk_at dksX16_dip_1 1 rfl rfl)
theorem dX16_dip_26 : decode cX16_dip 26 = .ok (.ifCond .lt 22, 3) := dk_155 0 22 (dk_at dksX16_dip_1 2 rfl rfl)
theorem dX16_dip_29 : decode cX16_dip 29 = .ok (.iload_n 3, 1) := dk_29 (dk_at dksX16_dip_1 5 rfl rfl)
theorem dX16_dip_30 : decode cX16_dip 30 = .ok (.aload_n 0, 1) := dk_42 (dk_at dksX16_dip_1 6 rfl rfl)
theorem dX16_dip_31 : decode cX16_dip 31 = .ok (.getfield 56, 3) := dk_180 0 56 (dk_at dksX16_dip_1 7 rfl rfl)
theorem dX16_dip_34 : decode cX16_dip 34 = .ok (.if_icmp .gt 14, 3) := dk_163 0 14 (dk_at dksX16_dip_1 10 rfl rfl)
theorem dX16_dip_37 : decode cX16_dip 37 = .ok (.aload_n 0, 1) := dk_42 (dk_at dksX16_dip_1 13 rfl rfl)
theorem dX16_dip_38 : decode cX16_dip 38 = .ok (.iload_n 1, 1) := dk_27 (dk_at dksX16_dip_1 14 rfl rfl)
theorem dX16_dip_39 : decode cX16_dip 39 = .ok (.iload_n 2, 1) := dk_28 (dk_at dksX16_dip_1 15 rfl rfl)
theorem dX16_dip_40 : decode cX16_dip 40 = .ok (.iconst 1, 1) := dk_4 (dk_at dksX16_dip_1 16 rfl rfl)
theorem dX16_dip_41 : decode cX16_dip 41 = .ok (.isub, 1) := dk_100 (dk_at dksX16_dip_1 17 rfl rfl)
theorem dX16_dip_42 : decode cX16_dip 42 = .ok (.invokevirtual 298, 3) := dk_182 1 42 (dk_at dksX16_dip_1 18 rfl rfl)
theorem dX16_dip_45 : decode cX16_dip 45 = .ok (.ifCond .ne 5, 3) := dk_154 0 5 (dk_at dksX16_dip_1 21 rfl rfl)
theorem dX16_dip_48 : decode cX16_dip 48 = .ok (.iconst 0, 1) := dk_3 (dk_at dksX16_dip_2 0 rfl rfl)
theorem dX16_dip_49 : decode cX16_dip 49 = .ok (.ireturn, 1) := dk_172 (dk_at dksX16_dip_2 1 rfl rfl)
theorem dX16_dip_50 : decode cX16_dip 50 = .ok (.aload_n 0, 1) := dk_42 (dk_at dksX16_dip_2 2 rfl rfl)
theorem dX16_dip_51 : decode cX16_dip 51 = .ok (.getfield 59, 3) := dk_180 0 59 (dk_at dksX16_dip_2 3 rfl rfl)
theorem dX16_dip_54 : decode cX16_dip 54 = .ok (.istore 4, 2) := dk_54 4 (dk_at dksX16_dip_2 6 rfl rfl)
theorem dX16_dip_56 : decode cX16_dip 56 = .ok (.aload_n 0, 1) := dk_42 (dk_at dksX16_dip_2 8 rfl rfl)
theorem dX16_dip_57 : decode cX16_dip 57 = .ok (.dup, 1) := dk_89 (dk_at dksX16_dip_2 9 rfl rfl)
theorem dX16_dip_58 : decode cX16_dip 58 = .ok (.getfield 56, 3) := dk_180 0 56 (dk_at dksX16_dip_2 10 rfl rfl)
theorem dX16_dip_61 : decode cX16_dip 61 = .ok (.iload_n 3, 1) := dk_29 (dk_at dksX16_dip_2 13 rfl rfl)
theorem dX16_dip_62 : decode cX16_dip 62 = .ok (.isub, 1) := dk_100 (dk_at dksX16_dip_2 14 rfl rfl)
theorem dX16_dip_63 : decode cX16_dip 63 = .ok (.putfield 56, 3) := dk_181 0 56 (dk_at dksX16_dip_2 15 rfl rfl)
theorem dX16_dip_66 : decode cX16_dip 66 = .ok (.aload_n 0, 1) := dk_42 (dk_at dksX16_dip_2 18 rfl rfl)
theorem dX16_dip_67 : decode cX16_dip 67 = .ok (.getfield 20, 3) := dk_180 0 20 (dk_at dksX16_dip_2 19 rfl rfl)
theorem dX16_dip_70 : decode cX16_dip 70 = .ok (.aload_n 0, 1) := dk_42 (dk_at dksX16_dip_2 22 rfl rfl)
theorem dX16_dip_71 : decode cX16_dip 71 = .ok (.getfield 56, 3) := dk_180 0 56 (dk_at dksX16_dip_3 0 rfl rfl)
theorem dX16_dip_74 : decode cX16_dip 74 = .ok (.aload_n 0, 1) := dk_42 (dk_at dksX16_dip_3 3 rfl rfl)
theorem dX16_dip_75 : decode cX16_dip 75 = .ok (.getfield 25, 3) := dk_180 0 25 (dk_at dksX16_dip_3 4 rfl rfl)
theorem dX16_dip_78 : decode cX16_dip 78 = .ok (.iload 4, 2) := dk_21 4 (dk_at dksX16_dip_3 7 rfl rfl)
theorem dX16_dip_80 : decode cX16_dip 80 = .ok (.iload_n 3, 1) := dk_29 (dk_at dksX16_dip_3 9 rfl rfl)
theorem dX16_dip_81 : decode cX16_dip 81 = .ok (.invokestatic 212, 3) := dk_184 0 212 (dk_at dksX16_dip_3 10 rfl rfl)
theorem dX16_dip_84 : decode cX16_dip 84 = .ok (.aload_n 0, 1) := dk_42 (dk_at dksX16_dip_3 13 rfl rfl)
theorem dX16_dip_85 : decode cX16_dip 85 = .ok (.dup, 1) := dk_89 (dk_at dksX16_dip_3 14 rfl rfl)
theorem dX16_dip_86 : decode cX16_dip 86 = .ok (.getfield 59, 3) := dk_180 0 59 (dk_at dksX16_dip_3 15 rfl rfl)
theorem dX16_dip_89 : decode cX16_dip 89 = .ok (.iload_n 3, 1) := dk_29 (dk_at dksX16_dip_3 18 rfl rfl)
theorem dX16_dip_90 : decode cX16_dip 90 = .ok (.iadd, 1) := dk_96 (dk_at dksX16_dip_3 19 rfl rfl)
theorem dX16_dip_91 : decode cX16_dip 91 = .ok (.putfield 59, 3) := dk_181 0 59 (dk_at dksX16_dip_3 20 rfl rfl)
theorem dX16_dip_94 : decode cX16_dip 94 = .ok (.aload_n 0, 1) := dk_42 (dk_at dksX16_dip_3 23 rfl rfl)
theorem dX16_dip_95 : decode cX16_dip 95 = .ok (.aload_n 0, 1) := dk_42 (dk_at dksX16_dip_4 0 rfl rfl)
theorem dX16_dip_96 : decode cX16_dip 96 = .ok (.iload_n 1, 1) := dk_27 (dk_at dksX16_dip_4 1 rfl rfl)
theorem dX16_dip_97 : decode cX16_dip 97 = .ok (.iload_n 2, 1) := dk_28 (dk_at dksX16_dip_4 2 rfl rfl)
theorem dX16_dip_98 : decode cX16_dip 98 = .ok (.iconst 1, 1) := dk_4 (dk_at dksX16_dip_4 3 rfl rfl)
theorem dX16_dip_99 : decode cX16_dip 99 = .ok (.isub, 1) := dk_100 (dk_at dksX16_dip_4 4 rfl rfl)
theorem dX16_dip_100 : decode cX16_dip 100 = .ok (.invokevirtual 226, 3) := dk_182 0 226 (dk_at dksX16_dip_4 5 rfl rfl)
theorem dX16_dip_103 : decode cX16_dip 103 = .ok (.invokevirtual 206, 3) := dk_182 0 206 (dk_at dksX16_dip_4 8 rfl rfl)
theorem dX16_dip_106 : decode cX16_dip 106 = .ok (.istore 5, 2) := dk_54 5 (dk_at dksX16_dip_4 11 rfl rfl)
theorem dX16_dip_108 : decode cX16_dip 108 = .ok (.aload_n 0, 1) := dk_42 (dk_at dksX16_dip_4 13 rfl rfl)
theorem dX16_dip_109 : decode cX16_dip 109 = .ok (.getfield 52, 3) := dk_180 0 52 (dk_at dksX16_dip_4 14 rfl rfl)
theorem dX16_dip_112 : decode cX16_dip 112 = .ok (.ifCond .lt 5, 3) := dk_155 0 5 (dk_at dksX16_dip_4 17 rfl rfl)
theorem dX16_dip_115 : decode cX16_dip 115 = .ok (.iconst 0, 1) := dk_3 (dk_at dksX16_dip_4 20 rfl rfl)
theorem dX16_dip_116 : decode cX16_dip 116 = .ok (.ireturn, 1) := dk_172 (dk_at dksX16_dip_4 21 rfl rfl)
theorem dX16_dip_117 : decode cX16_dip 117 = .ok (.aload_n 0, 1) := dk_42 (dk_at dksX16_dip_4 22 rfl rfl)
theorem dX16_dip_118 : decode cX16_dip 118 = .ok (.iload 4, 2) := dk_21 4 (dk_at dksX16_dip_5 0 rfl rfl)
theorem dX16_dip_120 : decode cX16_dip 120 = .ok (.putfield 59, 3) := dk_181 0 59 (dk_at dksX16_dip_5 2 rfl rfl)
theorem dX16_dip_123 : decode cX16_dip 123 = .ok (.aload_n 0, 1) := dk_42 (dk_at dksX16_dip_5 5 rfl rfl)
theorem dX16_dip_124 : decode cX16_dip 124 = .ok (.getfield 199, 3) := dk_180 0 199 (dk_at dksX16_dip_5 6 rfl rfl)
theorem dX16_dip_127 : decode cX16_dip 127 = .ok (.ifCond .ne 15, 3) := dk_154 0 15 (dk_at dksX16_dip_5 9 rfl rfl)
theorem dX16_dip_130 : decode cX16_dip 130 = .ok (.aload_n 0, 1) := dk_42 (dk_at dksX16_dip_5 12 rfl rfl)
theorem dX16_dip_131 : decode cX16_dip 131 = .ok (.getfield 56, 3) := dk_180 0 56 (dk_at dksX16_dip_5 13 rfl rfl)
theorem dX16_dip_134 : decode cX16_dip 134 = .ok (.iload_n 3, 1) := dk_29 (dk_at dksX16_dip_5 16 rfl rfl)
theorem dX16_dip_135 : decode cX16_dip 135 = .ok (.iadd, 1) := dk_96 (dk_at dksX16_dip_5 17 rfl rfl)
theorem dX16_dip_136 : decode cX16_dip 136 = .ok (.sipush 300, 3) := dk_17 1 44 (dk_at dksX16_dip_5 18 rfl rfl)
theorem dX16_dip_139 : decode cX16_dip 139 = .ok (.if_icmp .le 5, 3) := dk_164 0 5 (dk_at dksX16_dip_5 21 rfl rfl)
theorem dX16_dip_142 : decode cX16_dip 142 = .ok (.iconst 0, 1) := dk_3 (dk_at dksX16_dip_6 0 rfl rfl)
theorem dX16_dip_143 : decode cX16_dip 143 = .ok (.ireturn, 1) := dk_172 (dk_at dksX16_dip_6 1 rfl rfl)
theorem dX16_dip_144 : decode cX16_dip 144 = .ok (.aload_n 0, 1) := dk_42 (dk_at dksX16_dip_6 2 rfl rfl)
theorem dX16_dip_145 : decode cX16_dip 145 = .ok (.getfield 25, 3) := dk_180 0 25 (dk_at dksX16_dip_6 3 rfl rfl)
theorem dX16_dip_148 : decode cX16_dip 148 = .ok (.iload 4, 2) := dk_21 4 (dk_at dksX16_dip_6 6 rfl rfl)
theorem dX16_dip_150 : decode cX16_dip 150 = .ok (.aload_n 0, 1) := dk_42 (dk_at dksX16_dip_6 8 rfl rfl)
theorem dX16_dip_151 : decode cX16_dip 151 = .ok (.getfield 20, 3) := dk_180 0 20 (dk_at dksX16_dip_6 9 rfl rfl)
theorem dX16_dip_154 : decode cX16_dip 154 = .ok (.aload_n 0, 1) := dk_42 (dk_at dksX16_dip_6 12 rfl rfl)
theorem dX16_dip_155 : decode cX16_dip 155 = .ok (.getfield 56, 3) := dk_180 0 56 (dk_at dksX16_dip_6 13 rfl rfl)
theorem dX16_dip_158 : decode cX16_dip 158 = .ok (.iload_n 3, 1) := dk_29 (dk_at dksX16_dip_6 16 rfl rfl)
theorem dX16_dip_159 : decode cX16_dip 159 = .ok (.invokestatic 212, 3) := dk_184 0 212 (dk_at dksX16_dip_6 17 rfl rfl)
theorem dX16_dip_162 : decode cX16_dip 162 = .ok (.aload_n 0, 1) := dk_42 (dk_at dksX16_dip_6 20 rfl rfl)
theorem dX16_dip_163 : decode cX16_dip 163 = .ok (.dup, 1) := dk_89 (dk_at dksX16_dip_6 21 rfl rfl)
theorem dX16_dip_164 : decode cX16_dip 164 = .ok (.getfield 56, 3) := dk_180 0 56 (dk_at dksX16_dip_7 0 rfl rfl)
theorem dX16_dip_167 : decode cX16_dip 167 = .ok (.iload_n 3, 1) := dk_29 (dk_at dksX16_dip_7 3 rfl rfl)
theorem dX16_dip_168 : decode cX16_dip 168 = .ok (.iadd, 1) := dk_96 (dk_at dksX16_dip_7 4 rfl rfl)
theorem dX16_dip_169 : decode cX16_dip 169 = .ok (.putfield 56, 3) := dk_181 0 56 (dk_at dksX16_dip_7 5 rfl rfl)
theorem dX16_dip_172 : decode cX16_dip 172 = .ok (.aload_n 0, 1) := dk_42 (dk_at dksX16_dip_7 8 rfl rfl)
theorem dX16_dip_173 : decode cX16_dip 173 = .ok (.iconst 1, 1) := dk_4 (dk_at dksX16_dip_7 9 rfl rfl)
theorem dX16_dip_174 : decode cX16_dip 174 = .ok (.bipush 37, 2) := dk_16 37 (dk_at dksX16_dip_7 10 rfl rfl)
theorem dX16_dip_176 : decode cX16_dip 176 = .ok (.iload 5, 2) := dk_21 5 (dk_at dksX16_dip_7 12 rfl rfl)
theorem dX16_dip_178 : decode cX16_dip 178 = .ok (.iload_n 3, 1) := dk_29 (dk_at dksX16_dip_7 14 rfl rfl)
theorem dX16_dip_179 : decode cX16_dip 179 = .ok (.iload_n 2, 1) := dk_28 (dk_at dksX16_dip_7 15 rfl rfl)
theorem dX16_dip_180 : decode cX16_dip 180 = .ok (.iconst 2, 1) := dk_5 (dk_at dksX16_dip_7 16 rfl rfl)
theorem dX16_dip_181 : decode cX16_dip 181 = .ok (.if_icmp .ne 9, 3) := dk_160 0 9 (dk_at dksX16_dip_7 17 rfl rfl)
theorem dX16_dip_184 : decode cX16_dip 184 = .ok (.iconst 5, 1) := dk_8 (dk_at dksX16_dip_7 20 rfl rfl)
theorem dX16_dip_185 : decode cX16_dip 185 = .ok (.iload_n 3, 1) := dk_29 (dk_at dksX16_dip_7 21 rfl rfl)
theorem dX16_dip_186 : decode cX16_dip 186 = .ok (.imul, 1) := dk_104 (dk_at dksX16_dip_7 22 rfl rfl)
theorem dX16_dip_187 : decode cX16_dip 187 = .ok (.goto 4, 3) := dk_167 0 4 (dk_at dksX16_dip_8 0 rfl rfl)
theorem dX16_dip_190 : decode cX16_dip 190 = .ok (.iconst 0, 1) := dk_3 (dk_at dksX16_dip_8 3 rfl rfl)
theorem dX16_dip_191 : decode cX16_dip 191 = .ok (.invokevirtual 274, 3) := dk_182 1 18 (dk_at dksX16_dip_8 4 rfl rfl)
theorem dX16_dip_194 : decode cX16_dip 194 = .ok (.ireturn, 1) := dk_172 (dk_at dksX16_dip_8 7 rfl rfl)
abbrev cX16_told : ByteArray := prog_21_method_19_code
def yX16_told : MethodName := ⟨RX16, "told", "(II)I"⟩
def dkwX16_told_4 : List UInt8 := [180, 0, 14, 3, 182, 0, 244, 172]
abbrev dktX16_told_4 : List UInt8 := dkwX16_told_4 ++ []
def dkwX16_told_3 : List UInt8 := [16, 8, 163, 0, 17, 42, 180, 0, 14, 3, 182, 0, 244, 17, 0, 200, 164, 0, 7, 2, 167, 0, 11, 42]
abbrev dktX16_told_3 : List UInt8 := dkwX16_told_3 ++ dktX16_told_4
def dkwX16_told_2 : List UInt8 := [42, 180, 0, 14, 184, 0, 234, 42, 180, 0, 14, 180, 0, 237, 154, 0, 29, 42, 180, 0, 14, 182, 0, 240]
abbrev dktX16_told_2 : List UInt8 := dkwX16_told_2 ++ dktX16_told_3
def dkwX16_told_1 : List UInt8 := [180, 0, 28, 182, 0, 175, 42, 180, 0, 28, 180, 0, 148, 29, 46, 42, 180, 0, 28, 180, 0, 145, 29, 46]
abbrev dktX16_told_1 : List UInt8 := dkwX16_told_1 ++ dktX16_told_2
def dkwX16_told_0 : List UInt8 := [42, 27, 28, 182, 0, 226, 62, 42, 180, 0, 28, 180, 0, 229, 29, 51, 5, 159, 0, 5, 2, 172, 42]
abbrev dktX16_told_0 : List UInt8 := dkwX16_told_0 ++ dktX16_told_1
theorem dksX16_told_0 : cX16_told.data.toList.drop 0 = dktX16_told_0 := by decide +kernel
theorem dksX16_told_1 : cX16_told.data.toList.drop 23 = dktX16_told_1 := dk_seg dksX16_told_0 23 rfl rfl
theorem dksX16_told_2 : cX16_told.data.toList.drop 47 = dktX16_told_2 := dk_seg dksX16_told_1 24 rfl rfl
theorem dksX16_told_3 : cX16_told.data.toList.drop 71 = dktX16_told_3 := dk_seg dksX16_told_2 24 rfl rfl
theorem dksX16_told_4 : cX16_told.data.toList.drop 95 = dktX16_told_4 := dk_seg dksX16_told_3 24 rfl rfl
theorem dX16_told_0 : decode cX16_told 0 = .ok (.aload_n 0, 1) := dk_42 (dk_at dksX16_told_0 0 rfl rfl)
theorem dX16_told_1 : decode cX16_told 1 = .ok (.iload_n 1, 1) := dk_27 (dk_at dksX16_told_0 1 rfl rfl)
theorem dX16_told_2 : decode cX16_told 2 = .ok (.iload_n 2, 1) := dk_28 (dk_at dksX16_told_0 2 rfl rfl)
theorem dX16_told_3 : decode cX16_told 3 = .ok (.invokevirtual 226, 3) := dk_182 0 226 (dk_at dksX16_told_0 3 rfl rfl)
theorem dX16_told_6 : decode cX16_told 6 = .ok (.istore_n 3, 1) := dk_62 (dk_at dksX16_told_0 6 rfl rfl)
theorem dX16_told_7 : decode cX16_told 7 = .ok (.aload_n 0, 1) := dk_42 (dk_at dksX16_told_0 7 rfl rfl)
theorem dX16_told_8 : decode cX16_told 8 = .ok (.getfield 28, 3) := dk_180 0 28 (dk_at dksX16_told_0 8 rfl rfl)
theorem dX16_told_11 : decode cX16_told 11 = .ok (.getfield 229, 3) := dk_180 0 229 (dk_at dksX16_told_0 11 rfl rfl)
theorem dX16_told_14 : decode cX16_told 14 = .ok (.iload_n 3, 1) := dk_29 (dk_at dksX16_told_0 14 rfl rfl)
theorem dX16_told_15 : decode cX16_told 15 = .ok (.baload, 1) := dk_51 (dk_at dksX16_told_0 15 rfl rfl)
theorem dX16_told_16 : decode cX16_told 16 = .ok (.iconst 2, 1) := dk_5 (dk_at dksX16_told_0 16 rfl rfl)
theorem dX16_told_17 : decode cX16_told 17 = .ok (.if_icmp .eq 5, 3) := dk_159 0 5 (dk_at dksX16_told_0 17 rfl rfl)
theorem dX16_told_20 : decode cX16_told 20 = .ok (.iconst (-1), 1) := dk_2 (dk_at dksX16_told_0 20 rfl rfl)
theorem dX16_told_21 : decode cX16_told 21 = .ok (.ireturn, 1) := dk_172 (dk_at dksX16_told_0 21 rfl rfl)
theorem dX16_told_22 : decode cX16_told 22 = .ok (.aload_n 0, 1) := dk_42 (dk_at dksX16_told_0 22 rfl rfl)
theorem dX16_told_23 : decode cX16_told 23 = .ok (.getfield 28, 3) := dk_180 0 28 (dk_at dksX16_told_1 0 rfl rfl)
theorem dX16_told_26 : decode cX16_told 26 = .ok (.invokevirtual 175, 3) := dk_182 0 175 (dk_at dksX16_told_1 3 rfl rfl)
theorem dX16_told_29 : decode cX16_told 29 = .ok (.aload_n 0, 1) := dk_42 (dk_at dksX16_told_1 6 rfl rfl)
theorem dX16_told_30 : decode cX16_told 30 = .ok (.getfield 28, 3) := dk_180 0 28 (dk_at dksX16_told_1 7 rfl rfl)
theorem dX16_told_33 : decode cX16_told 33 = .ok (.getfield 148, 3) := dk_180 0 148 (dk_at dksX16_told_1 10 rfl rfl)
theorem dX16_told_36 : decode cX16_told 36 = .ok (.iload_n 3, 1) := dk_29 (dk_at dksX16_told_1 13 rfl rfl)
theorem dX16_told_37 : decode cX16_told 37 = .ok (.iaload, 1) := dk_46 (dk_at dksX16_told_1 14 rfl rfl)
theorem dX16_told_38 : decode cX16_told 38 = .ok (.aload_n 0, 1) := dk_42 (dk_at dksX16_told_1 15 rfl rfl)
theorem dX16_told_39 : decode cX16_told 39 = .ok (.getfield 28, 3) := dk_180 0 28 (dk_at dksX16_told_1 16 rfl rfl)
theorem dX16_told_42 : decode cX16_told 42 = .ok (.getfield 145, 3) := dk_180 0 145 (dk_at dksX16_told_1 19 rfl rfl)
theorem dX16_told_45 : decode cX16_told 45 = .ok (.iload_n 3, 1) := dk_29 (dk_at dksX16_told_1 22 rfl rfl)
theorem dX16_told_46 : decode cX16_told 46 = .ok (.iaload, 1) := dk_46 (dk_at dksX16_told_1 23 rfl rfl)
theorem dX16_told_47 : decode cX16_told 47 = .ok (.aload_n 0, 1) := dk_42 (dk_at dksX16_told_2 0 rfl rfl)
theorem dX16_told_48 : decode cX16_told 48 = .ok (.getfield 14, 3) := dk_180 0 14 (dk_at dksX16_told_2 1 rfl rfl)
theorem dX16_told_51 : decode cX16_told 51 = .ok (.invokestatic 234, 3) := dk_184 0 234 (dk_at dksX16_told_2 4 rfl rfl)
theorem dX16_told_54 : decode cX16_told 54 = .ok (.aload_n 0, 1) := dk_42 (dk_at dksX16_told_2 7 rfl rfl)
theorem dX16_told_55 : decode cX16_told 55 = .ok (.getfield 14, 3) := dk_180 0 14 (dk_at dksX16_told_2 8 rfl rfl)
theorem dX16_told_58 : decode cX16_told 58 = .ok (.getfield 237, 3) := dk_180 0 237 (dk_at dksX16_told_2 11 rfl rfl)
theorem dX16_told_61 : decode cX16_told 61 = .ok (.ifCond .ne 29, 3) := dk_154 0 29 (dk_at dksX16_told_2 14 rfl rfl)
theorem dX16_told_64 : decode cX16_told 64 = .ok (.aload_n 0, 1) := dk_42 (dk_at dksX16_told_2 17 rfl rfl)
theorem dX16_told_65 : decode cX16_told 65 = .ok (.getfield 14, 3) := dk_180 0 14 (dk_at dksX16_told_2 18 rfl rfl)
theorem dX16_told_68 : decode cX16_told 68 = .ok (.invokevirtual 240, 3) := dk_182 0 240 (dk_at dksX16_told_2 21 rfl rfl)
theorem dX16_told_71 : decode cX16_told 71 = .ok (.bipush 8, 2) := dk_16 8 (dk_at dksX16_told_3 0 rfl rfl)
theorem dX16_told_73 : decode cX16_told 73 = .ok (.if_icmp .gt 17, 3) := dk_163 0 17 (dk_at dksX16_told_3 2 rfl rfl)
theorem dX16_told_76 : decode cX16_told 76 = .ok (.aload_n 0, 1) := dk_42 (dk_at dksX16_told_3 5 rfl rfl)
theorem dX16_told_77 : decode cX16_told 77 = .ok (.getfield 14, 3) := dk_180 0 14 (dk_at dksX16_told_3 6 rfl rfl)
theorem dX16_told_80 : decode cX16_told 80 = .ok (.iconst 0, 1) := dk_3 (dk_at dksX16_told_3 9 rfl rfl)
theorem dX16_told_81 : decode cX16_told 81 = .ok (.invokevirtual 244, 3) := dk_182 0 244 (dk_at dksX16_told_3 10 rfl rfl)
theorem dX16_told_84 : decode cX16_told 84 = .ok (.sipush 200, 3) := dk_17 0 200 (dk_at dksX16_told_3 13 rfl rfl)
theorem dX16_told_87 : decode cX16_told 87 = .ok (.if_icmp .le 7, 3) := dk_164 0 7 (dk_at dksX16_told_3 16 rfl rfl)
theorem dX16_told_90 : decode cX16_told 90 = .ok (.iconst (-1), 1) := dk_2 (dk_at dksX16_told_3 19 rfl rfl)
theorem dX16_told_91 : decode cX16_told 91 = .ok (.goto 11, 3) := dk_167 0 11 (dk_at dksX16_told_3 20 rfl rfl)
theorem dX16_told_94 : decode cX16_told 94 = .ok (.aload_n 0, 1) := dk_42 (dk_at dksX16_told_3 23 rfl rfl)
theorem dX16_told_95 : decode cX16_told 95 = .ok (.getfield 14, 3) := dk_180 0 14 (dk_at dksX16_told_4 0 rfl rfl)
theorem dX16_told_98 : decode cX16_told 98 = .ok (.iconst 0, 1) := dk_3 (dk_at dksX16_told_4 3 rfl rfl)
theorem dX16_told_99 : decode cX16_told 99 = .ok (.invokevirtual 244, 3) := dk_182 0 244 (dk_at dksX16_told_4 4 rfl rfl)
theorem dX16_told_102 : decode cX16_told 102 = .ok (.ireturn, 1) := dk_172 (dk_at dksX16_told_4 7 rfl rfl)
abbrev cX16_isCode : ByteArray := prog_21_method_21_code
def yX16_isCode : MethodName := ⟨RX16, "isCode", "(II)Z"⟩
def dkwX16_isCode_0 : List UInt8 := [42, 180, 0, 28, 42, 27, 28, 182, 0, 226, 182, 0, 83, 172]
abbrev dktX16_isCode_0 : List UInt8 := dkwX16_isCode_0 ++ []
theorem dksX16_isCode_0 : cX16_isCode.data.toList.drop 0 = dktX16_isCode_0 := by decide +kernel
theorem dX16_isCode_0 : decode cX16_isCode 0 = .ok (.aload_n 0, 1) := dk_42 (dk_at dksX16_isCode_0 0 rfl rfl)
theorem dX16_isCode_1 : decode cX16_isCode 1 = .ok (.getfield 28, 3) := dk_180 0 28 (dk_at dksX16_isCode_0 1 rfl rfl)
theorem dX16_isCode_4 : decode cX16_isCode 4 = .ok (.aload_n 0, 1) := dk_42 (dk_at dksX16_isCode_0 4 rfl rfl)
theorem dX16_isCode_5 : decode cX16_isCode 5 = .ok (.iload_n 1, 1) := dk_27 (dk_at dksX16_isCode_0 5 rfl rfl)
theorem dX16_isCode_6 : decode cX16_isCode 6 = .ok (.iload_n 2, 1) := dk_28 (dk_at dksX16_isCode_0 6 rfl rfl)
theorem dX16_isCode_7 : decode cX16_isCode 7 = .ok (.invokevirtual 226, 3) := dk_182 0 226 (dk_at dksX16_isCode_0 7 rfl rfl)
theorem dX16_isCode_10 : decode cX16_isCode 10 = .ok (.invokevirtual 83, 3) := dk_182 0 83 (dk_at dksX16_isCode_0 10 rfl rfl)
theorem dX16_isCode_13 : decode cX16_isCode 13 = .ok (.ireturn, 1) := dk_172 (dk_at dksX16_isCode_0 13 rfl rfl)
abbrev cX16_at : ByteArray := prog_21_method_9_code
def yX16_at : MethodName := ⟨RX16, "at", "(I)I"⟩
def dkwX16_at_0 : List UInt8 := [42, 180, 0, 20, 42, 180, 0, 56, 4, 100, 27, 100, 46, 172]
abbrev dktX16_at_0 : List UInt8 := dkwX16_at_0 ++ []
theorem dksX16_at_0 : cX16_at.data.toList.drop 0 = dktX16_at_0 := by decide +kernel
theorem dX16_at_0 : decode cX16_at 0 = .ok (.aload_n 0, 1) := dk_42 (dk_at dksX16_at_0 0 rfl rfl)
theorem dX16_at_1 : decode cX16_at 1 = .ok (.getfield 20, 3) := dk_180 0 20 (dk_at dksX16_at_0 1 rfl rfl)
theorem dX16_at_4 : decode cX16_at 4 = .ok (.aload_n 0, 1) := dk_42 (dk_at dksX16_at_0 4 rfl rfl)
theorem dX16_at_5 : decode cX16_at 5 = .ok (.getfield 56, 3) := dk_180 0 56 (dk_at dksX16_at_0 5 rfl rfl)
theorem dX16_at_8 : decode cX16_at 8 = .ok (.iconst 1, 1) := dk_4 (dk_at dksX16_at_0 8 rfl rfl)
theorem dX16_at_9 : decode cX16_at 9 = .ok (.isub, 1) := dk_100 (dk_at dksX16_at_0 9 rfl rfl)
theorem dX16_at_10 : decode cX16_at 10 = .ok (.iload_n 1, 1) := dk_27 (dk_at dksX16_at_0 10 rfl rfl)
theorem dX16_at_11 : decode cX16_at 11 = .ok (.isub, 1) := dk_100 (dk_at dksX16_at_0 11 rfl rfl)
theorem dX16_at_12 : decode cX16_at 12 = .ok (.iaload, 1) := dk_46 (dk_at dksX16_at_0 12 rfl rfl)
theorem dX16_at_13 : decode cX16_at 13 = .ok (.ireturn, 1) := dk_172 (dk_at dksX16_at_0 13 rfl rfl)
abbrev cX16_turn : ByteArray := prog_21_method_25_code
def yX16_turn : MethodName := ⟨RX16, "turn", "(IZ)Z"⟩
def dkwX16_turn_3 : List UInt8 := [132, 6, 1, 167, 255, 227, 42, 180, 0, 20, 29, 21, 4, 79, 4, 172]
abbrev dktX16_turn_3 : List UInt8 := dkwX16_turn_3 ++ []
def dkwX16_turn_2 : List UInt8 := [162, 0, 29, 42, 180, 0, 20, 29, 42, 180, 0, 20, 29, 21, 5, 96, 46, 79, 29, 21, 5, 96, 62]
abbrev dktX16_turn_2 : List UInt8 := dkwX16_turn_2 ++ dktX16_turn_3
def dkwX16_turn_1 : List UInt8 := [180, 0, 20, 29, 46, 54, 4, 28, 153, 0, 7, 4, 167, 0, 4, 2, 54, 5, 3, 54, 6, 21, 6, 27]
abbrev dktX16_turn_1 : List UInt8 := dkwX16_turn_1 ++ dktX16_turn_2
def dkwX16_turn_0 : List UInt8 := [28, 153, 0, 14, 42, 180, 0, 56, 4, 100, 27, 100, 167, 0, 9, 42, 180, 0, 56, 4, 100, 62, 42]
abbrev dktX16_turn_0 : List UInt8 := dkwX16_turn_0 ++ dktX16_turn_1
theorem dksX16_turn_0 : cX16_turn.data.toList.drop 0 = dktX16_turn_0 := by decide +kernel
theorem dksX16_turn_1 : cX16_turn.data.toList.drop 23 = dktX16_turn_1 := dk_seg dksX16_turn_0 23 rfl rfl
theorem dksX16_turn_2 : cX16_turn.data.toList.drop 47 = dktX16_turn_2 := dk_seg dksX16_turn_1 24 rfl rfl
theorem dksX16_turn_3 : cX16_turn.data.toList.drop 70 = dktX16_turn_3 := dk_seg dksX16_turn_2 23 rfl rfl
theorem dX16_turn_0 : decode cX16_turn 0 = .ok (.iload_n 2, 1) := dk_28 (dk_at dksX16_turn_0 0 rfl rfl)
theorem dX16_turn_1 : decode cX16_turn 1 = .ok (.ifCond .eq 14, 3) := dk_153 0 14 (dk_at dksX16_turn_0 1 rfl rfl)
theorem dX16_turn_4 : decode cX16_turn 4 = .ok (.aload_n 0, 1) := dk_42 (dk_at dksX16_turn_0 4 rfl rfl)
theorem dX16_turn_5 : decode cX16_turn 5 = .ok (.getfield 56, 3) := dk_180 0 56 (dk_at dksX16_turn_0 5 rfl rfl)
theorem dX16_turn_8 : decode cX16_turn 8 = .ok (.iconst 1, 1) := dk_4 (dk_at dksX16_turn_0 8 rfl rfl)
theorem dX16_turn_9 : decode cX16_turn 9 = .ok (.isub, 1) := dk_100 (dk_at dksX16_turn_0 9 rfl rfl)
theorem dX16_turn_10 : decode cX16_turn 10 = .ok (.iload_n 1, 1) := dk_27 (dk_at dksX16_turn_0 10 rfl rfl)
theorem dX16_turn_11 : decode cX16_turn 11 = .ok (.isub, 1) := dk_100 (dk_at dksX16_turn_0 11 rfl rfl)
theorem dX16_turn_12 : decode cX16_turn 12 = .ok (.goto 9, 3) := dk_167 0 9 (dk_at dksX16_turn_0 12 rfl rfl)
theorem dX16_turn_15 : decode cX16_turn 15 = .ok (.aload_n 0, 1) := dk_42 (dk_at dksX16_turn_0 15 rfl rfl)
theorem dX16_turn_16 : decode cX16_turn 16 = .ok (.getfield 56, 3) := dk_180 0 56 (dk_at dksX16_turn_0 16 rfl rfl)
theorem dX16_turn_19 : decode cX16_turn 19 = .ok (.iconst 1, 1) := dk_4 (dk_at dksX16_turn_0 19 rfl rfl)
theorem dX16_turn_20 : decode cX16_turn 20 = .ok (.isub, 1) := dk_100 (dk_at dksX16_turn_0 20 rfl rfl)
theorem dX16_turn_21 : decode cX16_turn 21 = .ok (.istore_n 3, 1) := dk_62 (dk_at dksX16_turn_0 21 rfl rfl)
theorem dX16_turn_22 : decode cX16_turn 22 = .ok (.aload_n 0, 1) := dk_42 (dk_at dksX16_turn_0 22 rfl rfl)
theorem dX16_turn_23 : decode cX16_turn 23 = .ok (.getfield 20, 3) := dk_180 0 20 (dk_at dksX16_turn_1 0 rfl rfl)
theorem dX16_turn_26 : decode cX16_turn 26 = .ok (.iload_n 3, 1) := dk_29 (dk_at dksX16_turn_1 3 rfl rfl)
theorem dX16_turn_27 : decode cX16_turn 27 = .ok (.iaload, 1) := dk_46 (dk_at dksX16_turn_1 4 rfl rfl)
theorem dX16_turn_28 : decode cX16_turn 28 = .ok (.istore 4, 2) := dk_54 4 (dk_at dksX16_turn_1 5 rfl rfl)
theorem dX16_turn_30 : decode cX16_turn 30 = .ok (.iload_n 2, 1) := dk_28 (dk_at dksX16_turn_1 7 rfl rfl)
theorem dX16_turn_31 : decode cX16_turn 31 = .ok (.ifCond .eq 7, 3) := dk_153 0 7 (dk_at dksX16_turn_1 8 rfl rfl)
theorem dX16_turn_34 : decode cX16_turn 34 = .ok (.iconst 1, 1) := dk_4 (dk_at dksX16_turn_1 11 rfl rfl)
theorem dX16_turn_35 : decode cX16_turn 35 = .ok (.goto 4, 3) := dk_167 0 4 (dk_at dksX16_turn_1 12 rfl rfl)
theorem dX16_turn_38 : decode cX16_turn 38 = .ok (.iconst (-1), 1) := dk_2 (dk_at dksX16_turn_1 15 rfl rfl)
theorem dX16_turn_39 : decode cX16_turn 39 = .ok (.istore 5, 2) := dk_54 5 (dk_at dksX16_turn_1 16 rfl rfl)
theorem dX16_turn_41 : decode cX16_turn 41 = .ok (.iconst 0, 1) := dk_3 (dk_at dksX16_turn_1 18 rfl rfl)
theorem dX16_turn_42 : decode cX16_turn 42 = .ok (.istore 6, 2) := dk_54 6 (dk_at dksX16_turn_1 19 rfl rfl)
theorem dX16_turn_44 : decode cX16_turn 44 = .ok (.iload 6, 2) := dk_21 6 (dk_at dksX16_turn_1 21 rfl rfl)
theorem dX16_turn_46 : decode cX16_turn 46 = .ok (.iload_n 1, 1) := dk_27 (dk_at dksX16_turn_1 23 rfl rfl)
theorem dX16_turn_47 : decode cX16_turn 47 = .ok (.if_icmp .ge 29, 3) := dk_162 0 29 (dk_at dksX16_turn_2 0 rfl rfl)
theorem dX16_turn_50 : decode cX16_turn 50 = .ok (.aload_n 0, 1) := dk_42 (dk_at dksX16_turn_2 3 rfl rfl)
theorem dX16_turn_51 : decode cX16_turn 51 = .ok (.getfield 20, 3) := dk_180 0 20 (dk_at dksX16_turn_2 4 rfl rfl)
theorem dX16_turn_54 : decode cX16_turn 54 = .ok (.iload_n 3, 1) := dk_29 (dk_at dksX16_turn_2 7 rfl rfl)
theorem dX16_turn_55 : decode cX16_turn 55 = .ok (.aload_n 0, 1) := dk_42 (dk_at dksX16_turn_2 8 rfl rfl)
theorem dX16_turn_56 : decode cX16_turn 56 = .ok (.getfield 20, 3) := dk_180 0 20 (dk_at dksX16_turn_2 9 rfl rfl)
theorem dX16_turn_59 : decode cX16_turn 59 = .ok (.iload_n 3, 1) := dk_29 (dk_at dksX16_turn_2 12 rfl rfl)
theorem dX16_turn_60 : decode cX16_turn 60 = .ok (.iload 5, 2) := dk_21 5 (dk_at dksX16_turn_2 13 rfl rfl)
theorem dX16_turn_62 : decode cX16_turn 62 = .ok (.iadd, 1) := dk_96 (dk_at dksX16_turn_2 15 rfl rfl)
theorem dX16_turn_63 : decode cX16_turn 63 = .ok (.iaload, 1) := dk_46 (dk_at dksX16_turn_2 16 rfl rfl)
theorem dX16_turn_64 : decode cX16_turn 64 = .ok (.iastore, 1) := dk_79 (dk_at dksX16_turn_2 17 rfl rfl)
theorem dX16_turn_65 : decode cX16_turn 65 = .ok (.iload_n 3, 1) := dk_29 (dk_at dksX16_turn_2 18 rfl rfl)
theorem dX16_turn_66 : decode cX16_turn 66 = .ok (.iload 5, 2) := dk_21 5 (dk_at dksX16_turn_2 19 rfl rfl)
theorem dX16_turn_68 : decode cX16_turn 68 = .ok (.iadd, 1) := dk_96 (dk_at dksX16_turn_2 21 rfl rfl)
theorem dX16_turn_69 : decode cX16_turn 69 = .ok (.istore_n 3, 1) := dk_62 (dk_at dksX16_turn_2 22 rfl rfl)
theorem dX16_turn_70 : decode cX16_turn 70 = .ok (.iinc 6 1, 3) := dk_132 6 1 (dk_at dksX16_turn_3 0 rfl rfl)
theorem dX16_turn_73 : decode cX16_turn 73 = .ok (.goto (-29), 3) := dk_167 255 227 (dk_at dksX16_turn_3 3 rfl rfl)
theorem dX16_turn_76 : decode cX16_turn 76 = .ok (.aload_n 0, 1) := dk_42 (dk_at dksX16_turn_3 6 rfl rfl)
theorem dX16_turn_77 : decode cX16_turn 77 = .ok (.getfield 20, 3) := dk_180 0 20 (dk_at dksX16_turn_3 7 rfl rfl)
theorem dX16_turn_80 : decode cX16_turn 80 = .ok (.iload_n 3, 1) := dk_29 (dk_at dksX16_turn_3 10 rfl rfl)
theorem dX16_turn_81 : decode cX16_turn 81 = .ok (.iload 4, 2) := dk_21 4 (dk_at dksX16_turn_3 11 rfl rfl)
theorem dX16_turn_83 : decode cX16_turn 83 = .ok (.iastore, 1) := dk_79 (dk_at dksX16_turn_3 13 rfl rfl)
theorem dX16_turn_84 : decode cX16_turn 84 = .ok (.iconst 1, 1) := dk_4 (dk_at dksX16_turn_3 14 rfl rfl)
theorem dX16_turn_85 : decode cX16_turn 85 = .ok (.ireturn, 1) := dk_172 (dk_at dksX16_turn_3 15 rfl rfl)
abbrev cX16_maker : ByteArray := prog_21_method_28_code
def yX16_maker : MethodName := ⟨RX16, "maker", "(III)I"⟩
def dkwX16_maker_10 : List UInt8 := [27, 28, 29, 182, 1, 60, 172]
abbrev dktX16_maker_10 : List UInt8 := dkwX16_maker_10 ++ []
def dkwX16_maker_9 : List UInt8 := [4, 182, 0, 209, 182, 1, 22, 153, 0, 7, 4, 167, 0, 4, 3, 28, 3, 3, 3, 182, 1, 18, 172, 42]
abbrev dktX16_maker_9 : List UInt8 := dkwX16_maker_9 ++ dktX16_maker_10
def dkwX16_maker_8 : List UInt8 := [182, 1, 48, 16, 11, 160, 0, 33, 42, 4, 182, 1, 51, 42, 3, 182, 0, 209, 160, 0, 20, 42, 5, 42]
abbrev dktX16_maker_8 : List UInt8 := dkwX16_maker_8 ++ dktX16_maker_9
def dkwX16_maker_7 : List UInt8 := [153, 0, 7, 4, 167, 0, 4, 3, 28, 3, 3, 3, 182, 1, 18, 172, 42, 29, 154, 0, 43, 42, 4]
abbrev dktX16_maker_7 : List UInt8 := dkwX16_maker_7 ++ dktX16_maker_8
def dkwX16_maker_6 : List UInt8 := [42, 180, 0, 56, 158, 0, 27, 42, 4, 42, 180, 0, 32, 42, 3, 182, 0, 209, 182, 1, 57, 182, 1, 22]
abbrev dktX16_maker_6 : List UInt8 := dkwX16_maker_6 ++ dktX16_maker_7
def dkwX16_maker_5 : List UInt8 := [182, 1, 22, 153, 0, 7, 4, 167, 0, 4, 3, 28, 3, 3, 3, 182, 1, 18, 172, 42, 29, 154, 0, 34]
abbrev dktX16_maker_5 : List UInt8 := dkwX16_maker_5 ++ dktX16_maker_6
def dkwX16_maker_4 : List UInt8 := [160, 0, 34, 42, 4, 28, 16, 41, 160, 0, 11, 42, 3, 182, 1, 51, 167, 0, 8, 42, 3, 182, 1, 54]
abbrev dktX16_maker_4 : List UInt8 := dkwX16_maker_4 ++ dktX16_maker_5
def dkwX16_maker_3 : List UInt8 := [182, 1, 18, 172, 42, 27, 28, 29, 182, 1, 45, 172, 42, 29, 154, 0, 44, 42, 3, 182, 1, 48, 16, 18]
abbrev dktX16_maker_3 : List UInt8 := dkwX16_maker_3 ++ dktX16_maker_4
def dkwX16_maker_2 : List UInt8 := [42, 29, 154, 0, 16, 42, 3, 3, 182, 1, 22, 153, 0, 7, 4, 167, 0, 4, 3, 28, 3, 3, 3]
abbrev dktX16_maker_2 : List UInt8 := dkwX16_maker_2 ++ dktX16_maker_3
def dkwX16_maker_1 : List UInt8 := [170, 0, 0, 0, 0, 0, 248, 0, 0, 0, 38, 0, 0, 0, 48, 0, 0, 0, 59, 0, 0, 0, 86, 0, 0, 0, 86, 0, 0, 0, 94, 0, 0, 0, 94, 0, 0, 0, 149, 0, 0, 0, 248, 0, 0, 0, 248, 0, 0, 0, 248, 0, 0, 0, 248, 0, 0, 0, 194]
abbrev dktX16_maker_1 : List UInt8 := dkwX16_maker_1 ++ dktX16_maker_2
def dkwX16_maker_0 : List UInt8 := [28]
abbrev dktX16_maker_0 : List UInt8 := dkwX16_maker_0 ++ dktX16_maker_1
theorem dksX16_maker_0 : cX16_maker.data.toList.drop 0 = dktX16_maker_0 := by decide +kernel
theorem dksX16_maker_1 : cX16_maker.data.toList.drop 1 = dktX16_maker_1 := dk_seg dksX16_maker_0 1 rfl rfl
theorem dksX16_maker_2 : cX16_maker.data.toList.drop 60 = dktX16_maker_2 := dk_seg dksX16_maker_1 59 rfl rfl
theorem dksX16_maker_3 : cX16_maker.data.toList.drop 83 = dktX16_maker_3 := dk_seg dksX16_maker_2 23 rfl rfl
theorem dksX16_maker_4 : cX16_maker.data.toList.drop 107 = dktX16_maker_4 := dk_seg dksX16_maker_3 24 rfl rfl
theorem dksX16_maker_5 : cX16_maker.data.toList.drop 131 = dktX16_maker_5 := dk_seg dksX16_maker_4 24 rfl rfl
theorem dksX16_maker_6 : cX16_maker.data.toList.drop 155 = dktX16_maker_6 := dk_seg dksX16_maker_5 24 rfl rfl
theorem dksX16_maker_7 : cX16_maker.data.toList.drop 179 = dktX16_maker_7 := dk_seg dksX16_maker_6 24 rfl rfl
theorem dksX16_maker_8 : cX16_maker.data.toList.drop 202 = dktX16_maker_8 := dk_seg dksX16_maker_7 23 rfl rfl
theorem dksX16_maker_9 : cX16_maker.data.toList.drop 226 = dktX16_maker_9 := dk_seg dksX16_maker_8 24 rfl rfl
theorem dksX16_maker_10 : cX16_maker.data.toList.drop 250 = dktX16_maker_10 := dk_seg dksX16_maker_9 24 rfl rfl
theorem dX16_maker_0 : decode cX16_maker 0 = .ok (.iload_n 2, 1) := dk_28 (dk_at dksX16_maker_0 0 rfl rfl)
theorem dX16_maker_1 : decode cX16_maker 1 = .ok (.tableswitch 248 38 48 #[59, 86, 86, 94, 94, 149, 248, 248, 248, 248, 194], 59) := by decide +kernel
theorem dX16_maker_60 : decode cX16_maker 60 = .ok (.aload_n 0, 1) := dk_42 (dk_at dksX16_maker_2 0 rfl rfl)
theorem dX16_maker_61 : decode cX16_maker 61 = .ok (.iload_n 3, 1) := dk_29 (dk_at dksX16_maker_2 1 rfl rfl)
theorem dX16_maker_62 : decode cX16_maker 62 = .ok (.ifCond .ne 16, 3) := dk_154 0 16 (dk_at dksX16_maker_2 2 rfl rfl)
theorem dX16_maker_65 : decode cX16_maker 65 = .ok (.aload_n 0, 1) := dk_42 (dk_at dksX16_maker_2 5 rfl rfl)
theorem dX16_maker_66 : decode cX16_maker 66 = .ok (.iconst 0, 1) := dk_3 (dk_at dksX16_maker_2 6 rfl rfl)
theorem dX16_maker_67 : decode cX16_maker 67 = .ok (.iconst 0, 1) := dk_3 (dk_at dksX16_maker_2 7 rfl rfl)
theorem dX16_maker_68 : decode cX16_maker 68 = .ok (.invokevirtual 278, 3) := dk_182 1 22 (dk_at dksX16_maker_2 8 rfl rfl)
theorem dX16_maker_71 : decode cX16_maker 71 = .ok (.ifCond .eq 7, 3) := dk_153 0 7 (dk_at dksX16_maker_2 11 rfl rfl)
theorem dX16_maker_74 : decode cX16_maker 74 = .ok (.iconst 1, 1) := dk_4 (dk_at dksX16_maker_2 14 rfl rfl)
theorem dX16_maker_75 : decode cX16_maker 75 = .ok (.goto 4, 3) := dk_167 0 4 (dk_at dksX16_maker_2 15 rfl rfl)
theorem dX16_maker_78 : decode cX16_maker 78 = .ok (.iconst 0, 1) := dk_3 (dk_at dksX16_maker_2 18 rfl rfl)
theorem dX16_maker_79 : decode cX16_maker 79 = .ok (.iload_n 2, 1) := dk_28 (dk_at dksX16_maker_2 19 rfl rfl)
theorem dX16_maker_80 : decode cX16_maker 80 = .ok (.iconst 0, 1) := dk_3 (dk_at dksX16_maker_2 20 rfl rfl)
theorem dX16_maker_81 : decode cX16_maker 81 = .ok (.iconst 0, 1) := dk_3 (dk_at dksX16_maker_2 21 rfl rfl)
theorem dX16_maker_82 : decode cX16_maker 82 = .ok (.iconst 0, 1) := dk_3 (dk_at dksX16_maker_2 22 rfl rfl)
theorem dX16_maker_83 : decode cX16_maker 83 = .ok (.invokevirtual 274, 3) := dk_182 1 18 (dk_at dksX16_maker_3 0 rfl rfl)
theorem dX16_maker_86 : decode cX16_maker 86 = .ok (.ireturn, 1) := dk_172 (dk_at dksX16_maker_3 3 rfl rfl)
theorem dX16_maker_87 : decode cX16_maker 87 = .ok (.aload_n 0, 1) := dk_42 (dk_at dksX16_maker_3 4 rfl rfl)
theorem dX16_maker_88 : decode cX16_maker 88 = .ok (.iload_n 1, 1) := dk_27 (dk_at dksX16_maker_3 5 rfl rfl)
theorem dX16_maker_89 : decode cX16_maker 89 = .ok (.iload_n 2, 1) := dk_28 (dk_at dksX16_maker_3 6 rfl rfl)
theorem dX16_maker_90 : decode cX16_maker 90 = .ok (.iload_n 3, 1) := dk_29 (dk_at dksX16_maker_3 7 rfl rfl)
theorem dX16_maker_91 : decode cX16_maker 91 = .ok (.invokevirtual 301, 3) := dk_182 1 45 (dk_at dksX16_maker_3 8 rfl rfl)
theorem dX16_maker_94 : decode cX16_maker 94 = .ok (.ireturn, 1) := dk_172 (dk_at dksX16_maker_3 11 rfl rfl)
theorem dX16_maker_95 : decode cX16_maker 95 = .ok (.aload_n 0, 1) := dk_42 (dk_at dksX16_maker_3 12 rfl rfl)
theorem dX16_maker_96 : decode cX16_maker 96 = .ok (.iload_n 3, 1) := dk_29 (dk_at dksX16_maker_3 13 rfl rfl)
theorem dX16_maker_97 : decode cX16_maker 97 = .ok (.ifCond .ne 44, 3) := dk_154 0 44 (dk_at dksX16_maker_3 14 rfl rfl)
theorem dX16_maker_100 : decode cX16_maker 100 = .ok (.aload_n 0, 1) := dk_42 (dk_at dksX16_maker_3 17 rfl rfl)
theorem dX16_maker_101 : decode cX16_maker 101 = .ok (.iconst 0, 1) := dk_3 (dk_at dksX16_maker_3 18 rfl rfl)
theorem dX16_maker_102 : decode cX16_maker 102 = .ok (.invokevirtual 304, 3) := dk_182 1 48 (dk_at dksX16_maker_3 19 rfl rfl)
theorem dX16_maker_105 : decode cX16_maker 105 = .ok (.bipush 18, 2) := dk_16 18 (dk_at dksX16_maker_3 22 rfl rfl)
theorem dX16_maker_107 : decode cX16_maker 107 = .ok (.if_icmp .ne 34, 3) := dk_160 0 34 (dk_at dksX16_maker_4 0 rfl rfl)
theorem dX16_maker_110 : decode cX16_maker 110 = .ok (.aload_n 0, 1) := dk_42 (dk_at dksX16_maker_4 3 rfl rfl)
theorem dX16_maker_111 : decode cX16_maker 111 = .ok (.iconst 1, 1) := dk_4 (dk_at dksX16_maker_4 4 rfl rfl)
theorem dX16_maker_112 : decode cX16_maker 112 = .ok (.iload_n 2, 1) := dk_28 (dk_at dksX16_maker_4 5 rfl rfl)
theorem dX16_maker_113 : decode cX16_maker 113 = .ok (.bipush 41, 2) := dk_16 41 (dk_at dksX16_maker_4 6 rfl rfl)
theorem dX16_maker_115 : decode cX16_maker 115 = .ok (.if_icmp .ne 11, 3) := dk_160 0 11 (dk_at dksX16_maker_4 8 rfl rfl)
theorem dX16_maker_118 : decode cX16_maker 118 = .ok (.aload_n 0, 1) := dk_42 (dk_at dksX16_maker_4 11 rfl rfl)
theorem dX16_maker_119 : decode cX16_maker 119 = .ok (.iconst 0, 1) := dk_3 (dk_at dksX16_maker_4 12 rfl rfl)
theorem dX16_maker_120 : decode cX16_maker 120 = .ok (.invokevirtual 307, 3) := dk_182 1 51 (dk_at dksX16_maker_4 13 rfl rfl)
theorem dX16_maker_123 : decode cX16_maker 123 = .ok (.goto 8, 3) := dk_167 0 8 (dk_at dksX16_maker_4 16 rfl rfl)
theorem dX16_maker_126 : decode cX16_maker 126 = .ok (.aload_n 0, 1) := dk_42 (dk_at dksX16_maker_4 19 rfl rfl)
theorem dX16_maker_127 : decode cX16_maker 127 = .ok (.iconst 0, 1) := dk_3 (dk_at dksX16_maker_4 20 rfl rfl)
theorem dX16_maker_128 : decode cX16_maker 128 = .ok (.invokevirtual 310, 3) := dk_182 1 54 (dk_at dksX16_maker_4 21 rfl rfl)
theorem dX16_maker_131 : decode cX16_maker 131 = .ok (.invokevirtual 278, 3) := dk_182 1 22 (dk_at dksX16_maker_5 0 rfl rfl)
theorem dX16_maker_134 : decode cX16_maker 134 = .ok (.ifCond .eq 7, 3) := dk_153 0 7 (dk_at dksX16_maker_5 3 rfl rfl)
theorem dX16_maker_137 : decode cX16_maker 137 = .ok (.iconst 1, 1) := dk_4 (dk_at dksX16_maker_5 6 rfl rfl)
theorem dX16_maker_138 : decode cX16_maker 138 = .ok (.goto 4, 3) := dk_167 0 4 (dk_at dksX16_maker_5 7 rfl rfl)
theorem dX16_maker_141 : decode cX16_maker 141 = .ok (.iconst 0, 1) := dk_3 (dk_at dksX16_maker_5 10 rfl rfl)
theorem dX16_maker_142 : decode cX16_maker 142 = .ok (.iload_n 2, 1) := dk_28 (dk_at dksX16_maker_5 11 rfl rfl)
theorem dX16_maker_143 : decode cX16_maker 143 = .ok (.iconst 0, 1) := dk_3 (dk_at dksX16_maker_5 12 rfl rfl)
theorem dX16_maker_144 : decode cX16_maker 144 = .ok (.iconst 0, 1) := dk_3 (dk_at dksX16_maker_5 13 rfl rfl)
theorem dX16_maker_145 : decode cX16_maker 145 = .ok (.iconst 0, 1) := dk_3 (dk_at dksX16_maker_5 14 rfl rfl)
theorem dX16_maker_146 : decode cX16_maker 146 = .ok (.invokevirtual 274, 3) := dk_182 1 18 (dk_at dksX16_maker_5 15 rfl rfl)
theorem dX16_maker_149 : decode cX16_maker 149 = .ok (.ireturn, 1) := dk_172 (dk_at dksX16_maker_5 18 rfl rfl)
theorem dX16_maker_150 : decode cX16_maker 150 = .ok (.aload_n 0, 1) := dk_42 (dk_at dksX16_maker_5 19 rfl rfl)
theorem dX16_maker_151 : decode cX16_maker 151 = .ok (.iload_n 3, 1) := dk_29 (dk_at dksX16_maker_5 20 rfl rfl)
theorem dX16_maker_152 : decode cX16_maker 152 = .ok (.ifCond .ne 34, 3) := dk_154 0 34 (dk_at dksX16_maker_5 21 rfl rfl)
theorem dX16_maker_155 : decode cX16_maker 155 = .ok (.aload_n 0, 1) := dk_42 (dk_at dksX16_maker_6 0 rfl rfl)
theorem dX16_maker_156 : decode cX16_maker 156 = .ok (.getfield 56, 3) := dk_180 0 56 (dk_at dksX16_maker_6 1 rfl rfl)
theorem dX16_maker_159 : decode cX16_maker 159 = .ok (.ifCond .le 27, 3) := dk_158 0 27 (dk_at dksX16_maker_6 4 rfl rfl)
theorem dX16_maker_162 : decode cX16_maker 162 = .ok (.aload_n 0, 1) := dk_42 (dk_at dksX16_maker_6 7 rfl rfl)
theorem dX16_maker_163 : decode cX16_maker 163 = .ok (.iconst 1, 1) := dk_4 (dk_at dksX16_maker_6 8 rfl rfl)
theorem dX16_maker_164 : decode cX16_maker 164 = .ok (.aload_n 0, 1) := dk_42 (dk_at dksX16_maker_6 9 rfl rfl)
theorem dX16_maker_165 : decode cX16_maker 165 = .ok (.getfield 32, 3) := dk_180 0 32 (dk_at dksX16_maker_6 10 rfl rfl)
theorem dX16_maker_168 : decode cX16_maker 168 = .ok (.aload_n 0, 1) := dk_42 (dk_at dksX16_maker_6 13 rfl rfl)
theorem dX16_maker_169 : decode cX16_maker 169 = .ok (.iconst 0, 1) := dk_3 (dk_at dksX16_maker_6 14 rfl rfl)
theorem dX16_maker_170 : decode cX16_maker 170 = .ok (.invokevirtual 209, 3) := dk_182 0 209 (dk_at dksX16_maker_6 15 rfl rfl)
theorem dX16_maker_173 : decode cX16_maker 173 = .ok (.invokevirtual 313, 3) := dk_182 1 57 (dk_at dksX16_maker_6 18 rfl rfl)
theorem dX16_maker_176 : decode cX16_maker 176 = .ok (.invokevirtual 278, 3) := dk_182 1 22 (dk_at dksX16_maker_6 21 rfl rfl)
theorem dX16_maker_179 : decode cX16_maker 179 = .ok (.ifCond .eq 7, 3) := dk_153 0 7 (dk_at dksX16_maker_7 0 rfl rfl)
theorem dX16_maker_182 : decode cX16_maker 182 = .ok (.iconst 1, 1) := dk_4 (dk_at dksX16_maker_7 3 rfl rfl)
theorem dX16_maker_183 : decode cX16_maker 183 = .ok (.goto 4, 3) := dk_167 0 4 (dk_at dksX16_maker_7 4 rfl rfl)
theorem dX16_maker_186 : decode cX16_maker 186 = .ok (.iconst 0, 1) := dk_3 (dk_at dksX16_maker_7 7 rfl rfl)
theorem dX16_maker_187 : decode cX16_maker 187 = .ok (.iload_n 2, 1) := dk_28 (dk_at dksX16_maker_7 8 rfl rfl)
theorem dX16_maker_188 : decode cX16_maker 188 = .ok (.iconst 0, 1) := dk_3 (dk_at dksX16_maker_7 9 rfl rfl)
theorem dX16_maker_189 : decode cX16_maker 189 = .ok (.iconst 0, 1) := dk_3 (dk_at dksX16_maker_7 10 rfl rfl)
theorem dX16_maker_190 : decode cX16_maker 190 = .ok (.iconst 0, 1) := dk_3 (dk_at dksX16_maker_7 11 rfl rfl)
theorem dX16_maker_191 : decode cX16_maker 191 = .ok (.invokevirtual 274, 3) := dk_182 1 18 (dk_at dksX16_maker_7 12 rfl rfl)
theorem dX16_maker_194 : decode cX16_maker 194 = .ok (.ireturn, 1) := dk_172 (dk_at dksX16_maker_7 15 rfl rfl)
theorem dX16_maker_195 : decode cX16_maker 195 = .ok (.aload_n 0, 1) := dk_42 (dk_at dksX16_maker_7 16 rfl rfl)
theorem dX16_maker_196 : decode cX16_maker 196 = .ok (.iload_n 3, 1) := dk_29 (dk_at dksX16_maker_7 17 rfl rfl)
theorem dX16_maker_197 : decode cX16_maker 197 = .ok (.ifCond .ne 43, 3) := dk_154 0 43 (dk_at dksX16_maker_7 18 rfl rfl)
theorem dX16_maker_200 : decode cX16_maker 200 = .ok (.aload_n 0, 1) := dk_42 (dk_at dksX16_maker_7 21 rfl rfl)
theorem dX16_maker_201 : decode cX16_maker 201 = .ok (.iconst 1, 1) := dk_4 (dk_at dksX16_maker_7 22 rfl rfl)
theorem dX16_maker_202 : decode cX16_maker 202 = .ok (.invokevirtual 304, 3) := dk_182 1 48 (dk_at dksX16_maker_8 0 rfl rfl)
theorem dX16_maker_205 : decode cX16_maker 205 = .ok (.bipush 11, 2) := dk_16 11 (dk_at dksX16_maker_8 3 rfl rfl)
theorem dX16_maker_207 : decode cX16_maker 207 = .ok (.if_icmp .ne 33, 3) := dk_160 0 33 (dk_at dksX16_maker_8 5 rfl rfl)
theorem dX16_maker_210 : decode cX16_maker 210 = .ok (.aload_n 0, 1) := dk_42 (dk_at dksX16_maker_8 8 rfl rfl)
theorem dX16_maker_211 : decode cX16_maker 211 = .ok (.iconst 1, 1) := dk_4 (dk_at dksX16_maker_8 9 rfl rfl)
theorem dX16_maker_212 : decode cX16_maker 212 = .ok (.invokevirtual 307, 3) := dk_182 1 51 (dk_at dksX16_maker_8 10 rfl rfl)
theorem dX16_maker_215 : decode cX16_maker 215 = .ok (.aload_n 0, 1) := dk_42 (dk_at dksX16_maker_8 13 rfl rfl)
theorem dX16_maker_216 : decode cX16_maker 216 = .ok (.iconst 0, 1) := dk_3 (dk_at dksX16_maker_8 14 rfl rfl)
theorem dX16_maker_217 : decode cX16_maker 217 = .ok (.invokevirtual 209, 3) := dk_182 0 209 (dk_at dksX16_maker_8 15 rfl rfl)
theorem dX16_maker_220 : decode cX16_maker 220 = .ok (.if_icmp .ne 20, 3) := dk_160 0 20 (dk_at dksX16_maker_8 18 rfl rfl)
theorem dX16_maker_223 : decode cX16_maker 223 = .ok (.aload_n 0, 1) := dk_42 (dk_at dksX16_maker_8 21 rfl rfl)
theorem dX16_maker_224 : decode cX16_maker 224 = .ok (.iconst 2, 1) := dk_5 (dk_at dksX16_maker_8 22 rfl rfl)
theorem dX16_maker_225 : decode cX16_maker 225 = .ok (.aload_n 0, 1) := dk_42 (dk_at dksX16_maker_8 23 rfl rfl)
theorem dX16_maker_226 : decode cX16_maker 226 = .ok (.iconst 1, 1) := dk_4 (dk_at dksX16_maker_9 0 rfl rfl)
theorem dX16_maker_227 : decode cX16_maker 227 = .ok (.invokevirtual 209, 3) := dk_182 0 209 (dk_at dksX16_maker_9 1 rfl rfl)
theorem dX16_maker_230 : decode cX16_maker 230 = .ok (.invokevirtual 278, 3) := dk_182 1 22 (dk_at dksX16_maker_9 4 rfl rfl)
theorem dX16_maker_233 : decode cX16_maker 233 = .ok (.ifCond .eq 7, 3) := dk_153 0 7 (dk_at dksX16_maker_9 7 rfl rfl)
theorem dX16_maker_236 : decode cX16_maker 236 = .ok (.iconst 1, 1) := dk_4 (dk_at dksX16_maker_9 10 rfl rfl)
theorem dX16_maker_237 : decode cX16_maker 237 = .ok (.goto 4, 3) := dk_167 0 4 (dk_at dksX16_maker_9 11 rfl rfl)
theorem dX16_maker_240 : decode cX16_maker 240 = .ok (.iconst 0, 1) := dk_3 (dk_at dksX16_maker_9 14 rfl rfl)
theorem dX16_maker_241 : decode cX16_maker 241 = .ok (.iload_n 2, 1) := dk_28 (dk_at dksX16_maker_9 15 rfl rfl)
theorem dX16_maker_242 : decode cX16_maker 242 = .ok (.iconst 0, 1) := dk_3 (dk_at dksX16_maker_9 16 rfl rfl)
theorem dX16_maker_243 : decode cX16_maker 243 = .ok (.iconst 0, 1) := dk_3 (dk_at dksX16_maker_9 17 rfl rfl)
theorem dX16_maker_244 : decode cX16_maker 244 = .ok (.iconst 0, 1) := dk_3 (dk_at dksX16_maker_9 18 rfl rfl)
theorem dX16_maker_245 : decode cX16_maker 245 = .ok (.invokevirtual 274, 3) := dk_182 1 18 (dk_at dksX16_maker_9 19 rfl rfl)
theorem dX16_maker_248 : decode cX16_maker 248 = .ok (.ireturn, 1) := dk_172 (dk_at dksX16_maker_9 22 rfl rfl)
theorem dX16_maker_249 : decode cX16_maker 249 = .ok (.aload_n 0, 1) := dk_42 (dk_at dksX16_maker_9 23 rfl rfl)
theorem dX16_maker_250 : decode cX16_maker 250 = .ok (.iload_n 1, 1) := dk_27 (dk_at dksX16_maker_10 0 rfl rfl)
theorem dX16_maker_251 : decode cX16_maker 251 = .ok (.iload_n 2, 1) := dk_28 (dk_at dksX16_maker_10 1 rfl rfl)
theorem dX16_maker_252 : decode cX16_maker 252 = .ok (.iload_n 3, 1) := dk_29 (dk_at dksX16_maker_10 2 rfl rfl)
theorem dX16_maker_253 : decode cX16_maker 253 = .ok (.invokevirtual 316, 3) := dk_182 1 60 (dk_at dksX16_maker_10 3 rfl rfl)
theorem dX16_maker_256 : decode cX16_maker 256 = .ok (.ireturn, 1) := dk_172 (dk_at dksX16_maker_10 6 rfl rfl)
abbrev cX16_comb : ByteArray := prog_21_method_29_code
def yX16_comb : MethodName := ⟨RX16, "comb", "(III)I"⟩
def dkwX16_comb_15 : List UInt8 := [3, 21, 5, 182, 1, 18, 172]
abbrev dktX16_comb_15 : List UInt8 := dkwX16_comb_15 ++ []
def dkwX16_comb_14 : List UInt8 := [54, 7, 132, 8, 1, 167, 255, 179, 42, 89, 180, 0, 56, 21, 4, 96, 181, 0, 56, 42, 4, 28, 21, 4]
abbrev dktX16_comb_14 : List UInt8 := dkwX16_comb_14 ++ dktX16_comb_15
def dkwX16_comb_13 : List UInt8 := [21, 8, 21, 4, 4, 100, 162, 0, 16, 42, 180, 0, 32, 180, 0, 169, 21, 7, 46, 167, 0, 5, 21, 7]
abbrev dktX16_comb_13 : List UInt8 := dkwX16_comb_13 ++ dktX16_comb_14
def dkwX16_comb_12 : List UInt8 := [21, 4, 4, 100, 162, 0, 16, 42, 180, 0, 32, 180, 0, 166, 21, 7, 46, 167, 0, 5, 21, 7, 79]
abbrev dktX16_comb_12 : List UInt8 := dkwX16_comb_12 ++ dktX16_comb_13
def dkwX16_comb_11 : List UInt8 := [21, 4, 162, 0, 76, 42, 180, 0, 20, 42, 180, 0, 56, 21, 4, 96, 4, 100, 21, 8, 100, 21, 8]
abbrev dktX16_comb_11 : List UInt8 := dkwX16_comb_11 ++ dktX16_comb_12
def dkwX16_comb_10 : List UInt8 := [172, 42, 180, 0, 20, 42, 89, 180, 0, 56, 4, 100, 90, 181, 0, 56, 46, 54, 7, 3, 54, 8, 21, 8]
abbrev dktX16_comb_10 : List UInt8 := dkwX16_comb_10 ++ dktX16_comb_11
def dkwX16_comb_9 : List UInt8 := [167, 255, 210, 21, 6, 155, 0, 18, 42, 180, 0, 56, 21, 4, 96, 4, 100, 17, 1, 44, 164, 0, 5, 3]
abbrev dktX16_comb_9 : List UInt8 := dkwX16_comb_9 ++ dktX16_comb_10
def dkwX16_comb_8 : List UInt8 := [160, 0, 16, 42, 180, 0, 32, 180, 0, 169, 21, 6, 46, 167, 0, 4, 2, 54, 6, 132, 7, 1]
abbrev dktX16_comb_8 : List UInt8 := dkwX16_comb_8 ++ dktX16_comb_9
def dkwX16_comb_7 : List UInt8 := [21, 4, 162, 0, 45, 21, 6, 155, 0, 40, 42, 180, 0, 32, 180, 0, 163, 21, 6, 51, 16, 18]
abbrev dktX16_comb_7 : List UInt8 := dkwX16_comb_7 ++ dktX16_comb_8
def dkwX16_comb_6 : List UInt8 := [172, 42, 180, 0, 56, 158, 0, 11, 42, 3, 182, 0, 209, 167, 0, 4, 2, 54, 6, 4, 54, 7, 21, 7]
abbrev dktX16_comb_6 : List UInt8 := dkwX16_comb_6 ++ dktX16_comb_7
def dkwX16_comb_5 : List UInt8 := [132, 7, 255, 167, 255, 226, 42, 42, 21, 4, 21, 6, 182, 1, 22, 28, 21, 4, 3, 21, 5, 182, 1, 18]
abbrev dktX16_comb_5 : List UInt8 := dkwX16_comb_5 ++ dktX16_comb_6
def dkwX16_comb_4 : List UInt8 := [21, 6, 155, 0, 26, 42, 180, 0, 32, 42, 21, 7, 182, 0, 209, 21, 6, 182, 0, 192, 54, 6]
abbrev dktX16_comb_4 : List UInt8 := dkwX16_comb_4 ++ dktX16_comb_5
def dkwX16_comb_3 : List UInt8 := [3, 172, 42, 21, 4, 4, 100, 182, 0, 209, 54, 6, 21, 4, 5, 100, 54, 7, 21, 7, 155, 0, 31]
abbrev dktX16_comb_3 : List UInt8 := dkwX16_comb_3 ++ dktX16_comb_4
def dkwX16_comb_2 : List UInt8 := [21, 4, 104, 167, 0, 4, 3, 54, 5, 28, 16, 39, 160, 0, 82, 42, 180, 0, 56, 21, 4, 162, 0, 5]
abbrev dktX16_comb_2 : List UInt8 := dkwX16_comb_2 ++ dktX16_comb_3
def dkwX16_comb_1 : List UInt8 := [54, 4, 21, 4, 5, 161, 0, 10, 21, 4, 16, 8, 164, 0, 5, 3, 172, 29, 4, 160, 0, 10, 8]
abbrev dktX16_comb_1 : List UInt8 := dkwX16_comb_1 ++ dktX16_comb_2
def dkwX16_comb_0 : List UInt8 := [29, 154, 0, 7, 5, 167, 0, 18, 29, 4, 160, 0, 12, 42, 27, 3, 182, 1, 15, 167, 0, 4, 2]
abbrev dktX16_comb_0 : List UInt8 := dkwX16_comb_0 ++ dktX16_comb_1
theorem dksX16_comb_0 : cX16_comb.data.toList.drop 0 = dktX16_comb_0 := by decide +kernel
theorem dksX16_comb_1 : cX16_comb.data.toList.drop 23 = dktX16_comb_1 := dk_seg dksX16_comb_0 23 rfl rfl
theorem dksX16_comb_2 : cX16_comb.data.toList.drop 46 = dktX16_comb_2 := dk_seg dksX16_comb_1 23 rfl rfl
theorem dksX16_comb_3 : cX16_comb.data.toList.drop 70 = dktX16_comb_3 := dk_seg dksX16_comb_2 24 rfl rfl
theorem dksX16_comb_4 : cX16_comb.data.toList.drop 93 = dktX16_comb_4 := dk_seg dksX16_comb_3 23 rfl rfl
theorem dksX16_comb_5 : cX16_comb.data.toList.drop 115 = dktX16_comb_5 := dk_seg dksX16_comb_4 22 rfl rfl
theorem dksX16_comb_6 : cX16_comb.data.toList.drop 139 = dktX16_comb_6 := dk_seg dksX16_comb_5 24 rfl rfl
theorem dksX16_comb_7 : cX16_comb.data.toList.drop 163 = dktX16_comb_7 := dk_seg dksX16_comb_6 24 rfl rfl
theorem dksX16_comb_8 : cX16_comb.data.toList.drop 185 = dktX16_comb_8 := dk_seg dksX16_comb_7 22 rfl rfl
theorem dksX16_comb_9 : cX16_comb.data.toList.drop 207 = dktX16_comb_9 := dk_seg dksX16_comb_8 22 rfl rfl
theorem dksX16_comb_10 : cX16_comb.data.toList.drop 231 = dktX16_comb_10 := dk_seg dksX16_comb_9 24 rfl rfl
theorem dksX16_comb_11 : cX16_comb.data.toList.drop 255 = dktX16_comb_11 := dk_seg dksX16_comb_10 24 rfl rfl
theorem dksX16_comb_12 : cX16_comb.data.toList.drop 278 = dktX16_comb_12 := dk_seg dksX16_comb_11 23 rfl rfl
theorem dksX16_comb_13 : cX16_comb.data.toList.drop 301 = dktX16_comb_13 := dk_seg dksX16_comb_12 23 rfl rfl
theorem dksX16_comb_14 : cX16_comb.data.toList.drop 325 = dktX16_comb_14 := dk_seg dksX16_comb_13 24 rfl rfl
theorem dksX16_comb_15 : cX16_comb.data.toList.drop 349 = dktX16_comb_15 := dk_seg dksX16_comb_14 24 rfl rfl
theorem dX16_comb_0 : decode cX16_comb 0 = .ok (.iload_n 3, 1) := dk_29 (dk_at dksX16_comb_0 0 rfl rfl)
theorem dX16_comb_1 : decode cX16_comb 1 = .ok (.ifCond .ne 7, 3) := dk_154 0 7 (dk_at dksX16_comb_0 1 rfl rfl)
theorem dX16_comb_4 : decode cX16_comb 4 = .ok (.iconst 2, 1) := dk_5 (dk_at dksX16_comb_0 4 rfl rfl)
theorem dX16_comb_5 : decode cX16_comb 5 = .ok (.goto 18, 3) := dk_167 0 18 (dk_at dksX16_comb_0 5 rfl rfl)
theorem dX16_comb_8 : decode cX16_comb 8 = .ok (.iload_n 3, 1) := dk_29 (dk_at dksX16_comb_0 8 rfl rfl)
theorem dX16_comb_9 : decode cX16_comb 9 = .ok (.iconst 1, 1) := dk_4 (dk_at dksX16_comb_0 9 rfl rfl)
theorem dX16_comb_10 : decode cX16_comb 10 = .ok (.if_icmp .ne 12, 3) := dk_160 0 12 (dk_at dksX16_comb_0 10 rfl rfl)
theorem dX16_comb_13 : decode cX16_comb 13 = .ok (.aload_n 0, 1) := dk_42 (dk_at dksX16_comb_0 13 rfl rfl)
theorem dX16_comb_14 : decode cX16_comb 14 = .ok (.iload_n 1, 1) := dk_27 (dk_at dksX16_comb_0 14 rfl rfl)
theorem dX16_comb_15 : decode cX16_comb 15 = .ok (.iconst 0, 1) := dk_3 (dk_at dksX16_comb_0 15 rfl rfl)
theorem dX16_comb_16 : decode cX16_comb 16 = .ok (.invokevirtual 271, 3) := dk_182 1 15 (dk_at dksX16_comb_0 16 rfl rfl)
theorem dX16_comb_19 : decode cX16_comb 19 = .ok (.goto 4, 3) := dk_167 0 4 (dk_at dksX16_comb_0 19 rfl rfl)
theorem dX16_comb_22 : decode cX16_comb 22 = .ok (.iconst (-1), 1) := dk_2 (dk_at dksX16_comb_0 22 rfl rfl)
theorem dX16_comb_23 : decode cX16_comb 23 = .ok (.istore 4, 2) := dk_54 4 (dk_at dksX16_comb_1 0 rfl rfl)
theorem dX16_comb_25 : decode cX16_comb 25 = .ok (.iload 4, 2) := dk_21 4 (dk_at dksX16_comb_1 2 rfl rfl)
theorem dX16_comb_27 : decode cX16_comb 27 = .ok (.iconst 2, 1) := dk_5 (dk_at dksX16_comb_1 4 rfl rfl)
theorem dX16_comb_28 : decode cX16_comb 28 = .ok (.if_icmp .lt 10, 3) := dk_161 0 10 (dk_at dksX16_comb_1 5 rfl rfl)
theorem dX16_comb_31 : decode cX16_comb 31 = .ok (.iload 4, 2) := dk_21 4 (dk_at dksX16_comb_1 8 rfl rfl)
theorem dX16_comb_33 : decode cX16_comb 33 = .ok (.bipush 8, 2) := dk_16 8 (dk_at dksX16_comb_1 10 rfl rfl)
theorem dX16_comb_35 : decode cX16_comb 35 = .ok (.if_icmp .le 5, 3) := dk_164 0 5 (dk_at dksX16_comb_1 12 rfl rfl)
theorem dX16_comb_38 : decode cX16_comb 38 = .ok (.iconst 0, 1) := dk_3 (dk_at dksX16_comb_1 15 rfl rfl)
theorem dX16_comb_39 : decode cX16_comb 39 = .ok (.ireturn, 1) := dk_172 (dk_at dksX16_comb_1 16 rfl rfl)
theorem dX16_comb_40 : decode cX16_comb 40 = .ok (.iload_n 3, 1) := dk_29 (dk_at dksX16_comb_1 17 rfl rfl)
theorem dX16_comb_41 : decode cX16_comb 41 = .ok (.iconst 1, 1) := dk_4 (dk_at dksX16_comb_1 18 rfl rfl)
theorem dX16_comb_42 : decode cX16_comb 42 = .ok (.if_icmp .ne 10, 3) := dk_160 0 10 (dk_at dksX16_comb_1 19 rfl rfl)
theorem dX16_comb_45 : decode cX16_comb 45 = .ok (.iconst 5, 1) := dk_8 (dk_at dksX16_comb_1 22 rfl rfl)
theorem dX16_comb_46 : decode cX16_comb 46 = .ok (.iload 4, 2) := dk_21 4 (dk_at dksX16_comb_2 0 rfl rfl)
theorem dX16_comb_48 : decode cX16_comb 48 = .ok (.imul, 1) := dk_104 (dk_at dksX16_comb_2 2 rfl rfl)
theorem dX16_comb_49 : decode cX16_comb 49 = .ok (.goto 4, 3) := dk_167 0 4 (dk_at dksX16_comb_2 3 rfl rfl)
theorem dX16_comb_52 : decode cX16_comb 52 = .ok (.iconst 0, 1) := dk_3 (dk_at dksX16_comb_2 6 rfl rfl)
theorem dX16_comb_53 : decode cX16_comb 53 = .ok (.istore 5, 2) := dk_54 5 (dk_at dksX16_comb_2 7 rfl rfl)
theorem dX16_comb_55 : decode cX16_comb 55 = .ok (.iload_n 2, 1) := dk_28 (dk_at dksX16_comb_2 9 rfl rfl)
theorem dX16_comb_56 : decode cX16_comb 56 = .ok (.bipush 39, 2) := dk_16 39 (dk_at dksX16_comb_2 10 rfl rfl)
theorem dX16_comb_58 : decode cX16_comb 58 = .ok (.if_icmp .ne 82, 3) := dk_160 0 82 (dk_at dksX16_comb_2 12 rfl rfl)
theorem dX16_comb_61 : decode cX16_comb 61 = .ok (.aload_n 0, 1) := dk_42 (dk_at dksX16_comb_2 15 rfl rfl)
theorem dX16_comb_62 : decode cX16_comb 62 = .ok (.getfield 56, 3) := dk_180 0 56 (dk_at dksX16_comb_2 16 rfl rfl)
theorem dX16_comb_65 : decode cX16_comb 65 = .ok (.iload 4, 2) := dk_21 4 (dk_at dksX16_comb_2 19 rfl rfl)
theorem dX16_comb_67 : decode cX16_comb 67 = .ok (.if_icmp .ge 5, 3) := dk_162 0 5 (dk_at dksX16_comb_2 21 rfl rfl)
theorem dX16_comb_70 : decode cX16_comb 70 = .ok (.iconst 0, 1) := dk_3 (dk_at dksX16_comb_3 0 rfl rfl)
theorem dX16_comb_71 : decode cX16_comb 71 = .ok (.ireturn, 1) := dk_172 (dk_at dksX16_comb_3 1 rfl rfl)
theorem dX16_comb_72 : decode cX16_comb 72 = .ok (.aload_n 0, 1) := dk_42 (dk_at dksX16_comb_3 2 rfl rfl)
theorem dX16_comb_73 : decode cX16_comb 73 = .ok (.iload 4, 2) := dk_21 4 (dk_at dksX16_comb_3 3 rfl rfl)
theorem dX16_comb_75 : decode cX16_comb 75 = .ok (.iconst 1, 1) := dk_4 (dk_at dksX16_comb_3 5 rfl rfl)
theorem dX16_comb_76 : decode cX16_comb 76 = .ok (.isub, 1) := dk_100 (dk_at dksX16_comb_3 6 rfl rfl)
theorem dX16_comb_77 : decode cX16_comb 77 = .ok (.invokevirtual 209, 3) := dk_182 0 209 (dk_at dksX16_comb_3 7 rfl rfl)
theorem dX16_comb_80 : decode cX16_comb 80 = .ok (.istore 6, 2) := dk_54 6 (dk_at dksX16_comb_3 10 rfl rfl)
theorem dX16_comb_82 : decode cX16_comb 82 = .ok (.iload 4, 2) := dk_21 4 (dk_at dksX16_comb_3 12 rfl rfl)
theorem dX16_comb_84 : decode cX16_comb 84 = .ok (.iconst 2, 1) := dk_5 (dk_at dksX16_comb_3 14 rfl rfl)
theorem dX16_comb_85 : decode cX16_comb 85 = .ok (.isub, 1) := dk_100 (dk_at dksX16_comb_3 15 rfl rfl)
theorem dX16_comb_86 : decode cX16_comb 86 = .ok (.istore 7, 2) := dk_54 7 (dk_at dksX16_comb_3 16 rfl rfl)
theorem dX16_comb_88 : decode cX16_comb 88 = .ok (.iload 7, 2) := dk_21 7 (dk_at dksX16_comb_3 18 rfl rfl)
theorem dX16_comb_90 : decode cX16_comb 90 = .ok (.ifCond .lt 31, 3) := dk_155 0 31 (dk_at dksX16_comb_3 20 rfl rfl)
theorem dX16_comb_93 : decode cX16_comb 93 = .ok (.iload 6, 2) := dk_21 6 (dk_at dksX16_comb_4 0 rfl rfl)
theorem dX16_comb_95 : decode cX16_comb 95 = .ok (.ifCond .lt 26, 3) := dk_155 0 26 (dk_at dksX16_comb_4 2 rfl rfl)
theorem dX16_comb_98 : decode cX16_comb 98 = .ok (.aload_n 0, 1) := dk_42 (dk_at dksX16_comb_4 5 rfl rfl)
theorem dX16_comb_99 : decode cX16_comb 99 = .ok (.getfield 32, 3) := dk_180 0 32 (dk_at dksX16_comb_4 6 rfl rfl)
theorem dX16_comb_102 : decode cX16_comb 102 = .ok (.aload_n 0, 1) := dk_42 (dk_at dksX16_comb_4 9 rfl rfl)
theorem dX16_comb_103 : decode cX16_comb 103 = .ok (.iload 7, 2) := dk_21 7 (dk_at dksX16_comb_4 10 rfl rfl)
theorem dX16_comb_105 : decode cX16_comb 105 = .ok (.invokevirtual 209, 3) := dk_182 0 209 (dk_at dksX16_comb_4 12 rfl rfl)
theorem dX16_comb_108 : decode cX16_comb 108 = .ok (.iload 6, 2) := dk_21 6 (dk_at dksX16_comb_4 15 rfl rfl)
theorem dX16_comb_110 : decode cX16_comb 110 = .ok (.invokevirtual 192, 3) := dk_182 0 192 (dk_at dksX16_comb_4 17 rfl rfl)
theorem dX16_comb_113 : decode cX16_comb 113 = .ok (.istore 6, 2) := dk_54 6 (dk_at dksX16_comb_4 20 rfl rfl)
theorem dX16_comb_115 : decode cX16_comb 115 = .ok (.iinc 7 (-1), 3) := dk_132 7 255 (dk_at dksX16_comb_5 0 rfl rfl)
theorem dX16_comb_118 : decode cX16_comb 118 = .ok (.goto (-30), 3) := dk_167 255 226 (dk_at dksX16_comb_5 3 rfl rfl)
theorem dX16_comb_121 : decode cX16_comb 121 = .ok (.aload_n 0, 1) := dk_42 (dk_at dksX16_comb_5 6 rfl rfl)
theorem dX16_comb_122 : decode cX16_comb 122 = .ok (.aload_n 0, 1) := dk_42 (dk_at dksX16_comb_5 7 rfl rfl)
theorem dX16_comb_123 : decode cX16_comb 123 = .ok (.iload 4, 2) := dk_21 4 (dk_at dksX16_comb_5 8 rfl rfl)
theorem dX16_comb_125 : decode cX16_comb 125 = .ok (.iload 6, 2) := dk_21 6 (dk_at dksX16_comb_5 10 rfl rfl)
theorem dX16_comb_127 : decode cX16_comb 127 = .ok (.invokevirtual 278, 3) := dk_182 1 22 (dk_at dksX16_comb_5 12 rfl rfl)
theorem dX16_comb_130 : decode cX16_comb 130 = .ok (.iload_n 2, 1) := dk_28 (dk_at dksX16_comb_5 15 rfl rfl)
theorem dX16_comb_131 : decode cX16_comb 131 = .ok (.iload 4, 2) := dk_21 4 (dk_at dksX16_comb_5 16 rfl rfl)
theorem dX16_comb_133 : decode cX16_comb 133 = .ok (.iconst 0, 1) := dk_3 (dk_at dksX16_comb_5 18 rfl rfl)
theorem dX16_comb_134 : decode cX16_comb 134 = .ok (.iload 5, 2) := dk_21 5 (dk_at dksX16_comb_5 19 rfl rfl)
theorem dX16_comb_136 : decode cX16_comb 136 = .ok (.invokevirtual 274, 3) := dk_182 1 18 (dk_at dksX16_comb_5 21 rfl rfl)
theorem dX16_comb_139 : decode cX16_comb 139 = .ok (.ireturn, 1) := dk_172 (dk_at dksX16_comb_6 0 rfl rfl)
theorem dX16_comb_140 : decode cX16_comb 140 = .ok (.aload_n 0, 1) := dk_42 (dk_at dksX16_comb_6 1 rfl rfl)
theorem dX16_comb_141 : decode cX16_comb 141 = .ok (.getfield 56, 3) := dk_180 0 56 (dk_at dksX16_comb_6 2 rfl rfl)
theorem dX16_comb_144 : decode cX16_comb 144 = .ok (.ifCond .le 11, 3) := dk_158 0 11 (dk_at dksX16_comb_6 5 rfl rfl)
theorem dX16_comb_147 : decode cX16_comb 147 = .ok (.aload_n 0, 1) := dk_42 (dk_at dksX16_comb_6 8 rfl rfl)
theorem dX16_comb_148 : decode cX16_comb 148 = .ok (.iconst 0, 1) := dk_3 (dk_at dksX16_comb_6 9 rfl rfl)
theorem dX16_comb_149 : decode cX16_comb 149 = .ok (.invokevirtual 209, 3) := dk_182 0 209 (dk_at dksX16_comb_6 10 rfl rfl)
theorem dX16_comb_152 : decode cX16_comb 152 = .ok (.goto 4, 3) := dk_167 0 4 (dk_at dksX16_comb_6 13 rfl rfl)
theorem dX16_comb_155 : decode cX16_comb 155 = .ok (.iconst (-1), 1) := dk_2 (dk_at dksX16_comb_6 16 rfl rfl)
theorem dX16_comb_156 : decode cX16_comb 156 = .ok (.istore 6, 2) := dk_54 6 (dk_at dksX16_comb_6 17 rfl rfl)
theorem dX16_comb_158 : decode cX16_comb 158 = .ok (.iconst 1, 1) := dk_4 (dk_at dksX16_comb_6 19 rfl rfl)
theorem dX16_comb_159 : decode cX16_comb 159 = .ok (.istore 7, 2) := dk_54 7 (dk_at dksX16_comb_6 20 rfl rfl)
theorem dX16_comb_161 : decode cX16_comb 161 = .ok (.iload 7, 2) := dk_21 7 (dk_at dksX16_comb_6 22 rfl rfl)
theorem dX16_comb_163 : decode cX16_comb 163 = .ok (.iload 4, 2) := dk_21 4 (dk_at dksX16_comb_7 0 rfl rfl)
theorem dX16_comb_165 : decode cX16_comb 165 = .ok (.if_icmp .ge 45, 3) := dk_162 0 45 (dk_at dksX16_comb_7 2 rfl rfl)
theorem dX16_comb_168 : decode cX16_comb 168 = .ok (.iload 6, 2) := dk_21 6 (dk_at dksX16_comb_7 5 rfl rfl)
theorem dX16_comb_170 : decode cX16_comb 170 = .ok (.ifCond .lt 40, 3) := dk_155 0 40 (dk_at dksX16_comb_7 7 rfl rfl)
theorem dX16_comb_173 : decode cX16_comb 173 = .ok (.aload_n 0, 1) := dk_42 (dk_at dksX16_comb_7 10 rfl rfl)
theorem dX16_comb_174 : decode cX16_comb 174 = .ok (.getfield 32, 3) := dk_180 0 32 (dk_at dksX16_comb_7 11 rfl rfl)
theorem dX16_comb_177 : decode cX16_comb 177 = .ok (.getfield 163, 3) := dk_180 0 163 (dk_at dksX16_comb_7 14 rfl rfl)
theorem dX16_comb_180 : decode cX16_comb 180 = .ok (.iload 6, 2) := dk_21 6 (dk_at dksX16_comb_7 17 rfl rfl)
theorem dX16_comb_182 : decode cX16_comb 182 = .ok (.baload, 1) := dk_51 (dk_at dksX16_comb_7 19 rfl rfl)
theorem dX16_comb_183 : decode cX16_comb 183 = .ok (.bipush 18, 2) := dk_16 18 (dk_at dksX16_comb_7 20 rfl rfl)
theorem dX16_comb_185 : decode cX16_comb 185 = .ok (.if_icmp .ne 16, 3) := dk_160 0 16 (dk_at dksX16_comb_8 0 rfl rfl)
theorem dX16_comb_188 : decode cX16_comb 188 = .ok (.aload_n 0, 1) := dk_42 (dk_at dksX16_comb_8 3 rfl rfl)
theorem dX16_comb_189 : decode cX16_comb 189 = .ok (.getfield 32, 3) := dk_180 0 32 (dk_at dksX16_comb_8 4 rfl rfl)
theorem dX16_comb_192 : decode cX16_comb 192 = .ok (.getfield 169, 3) := dk_180 0 169 (dk_at dksX16_comb_8 7 rfl rfl)
theorem dX16_comb_195 : decode cX16_comb 195 = .ok (.iload 6, 2) := dk_21 6 (dk_at dksX16_comb_8 10 rfl rfl)
theorem dX16_comb_197 : decode cX16_comb 197 = .ok (.iaload, 1) := dk_46 (dk_at dksX16_comb_8 12 rfl rfl)
theorem dX16_comb_198 : decode cX16_comb 198 = .ok (.goto 4, 3) := dk_167 0 4 (dk_at dksX16_comb_8 13 rfl rfl)
theorem dX16_comb_201 : decode cX16_comb 201 = .ok (.iconst (-1), 1) := dk_2 (dk_at dksX16_comb_8 16 rfl rfl)
theorem dX16_comb_202 : decode cX16_comb 202 = .ok (.istore 6, 2) := dk_54 6 (dk_at dksX16_comb_8 17 rfl rfl)
theorem dX16_comb_204 : decode cX16_comb 204 = .ok (.iinc 7 1, 3) := dk_132 7 1 (dk_at dksX16_comb_8 19 rfl rfl)
theorem dX16_comb_207 : decode cX16_comb 207 = .ok (.goto (-46), 3) := dk_167 255 210 (dk_at dksX16_comb_9 0 rfl rfl)
theorem dX16_comb_210 : decode cX16_comb 210 = .ok (.iload 6, 2) := dk_21 6 (dk_at dksX16_comb_9 3 rfl rfl)
theorem dX16_comb_212 : decode cX16_comb 212 = .ok (.ifCond .lt 18, 3) := dk_155 0 18 (dk_at dksX16_comb_9 5 rfl rfl)
theorem dX16_comb_215 : decode cX16_comb 215 = .ok (.aload_n 0, 1) := dk_42 (dk_at dksX16_comb_9 8 rfl rfl)
theorem dX16_comb_216 : decode cX16_comb 216 = .ok (.getfield 56, 3) := dk_180 0 56 (dk_at dksX16_comb_9 9 rfl rfl)
theorem dX16_comb_219 : decode cX16_comb 219 = .ok (.iload 4, 2) := dk_21 4 (dk_at dksX16_comb_9 12 rfl rfl)
theorem dX16_comb_221 : decode cX16_comb 221 = .ok (.iadd, 1) := dk_96 (dk_at dksX16_comb_9 14 rfl rfl)
theorem dX16_comb_222 : decode cX16_comb 222 = .ok (.iconst 1, 1) := dk_4 (dk_at dksX16_comb_9 15 rfl rfl)
theorem dX16_comb_223 : decode cX16_comb 223 = .ok (.isub, 1) := dk_100 (dk_at dksX16_comb_9 16 rfl rfl)
theorem dX16_comb_224 : decode cX16_comb 224 = .ok (.sipush 300, 3) := dk_17 1 44 (dk_at dksX16_comb_9 17 rfl rfl)
theorem dX16_comb_227 : decode cX16_comb 227 = .ok (.if_icmp .le 5, 3) := dk_164 0 5 (dk_at dksX16_comb_9 20 rfl rfl)
theorem dX16_comb_230 : decode cX16_comb 230 = .ok (.iconst 0, 1) := dk_3 (dk_at dksX16_comb_9 23 rfl rfl)
theorem dX16_comb_231 : decode cX16_comb 231 = .ok (.ireturn, 1) := dk_172 (dk_at dksX16_comb_10 0 rfl rfl)
theorem dX16_comb_232 : decode cX16_comb 232 = .ok (.aload_n 0, 1) := dk_42 (dk_at dksX16_comb_10 1 rfl rfl)
theorem dX16_comb_233 : decode cX16_comb 233 = .ok (.getfield 20, 3) := dk_180 0 20 (dk_at dksX16_comb_10 2 rfl rfl)
theorem dX16_comb_236 : decode cX16_comb 236 = .ok (.aload_n 0, 1) := dk_42 (dk_at dksX16_comb_10 5 rfl rfl)
theorem dX16_comb_237 : decode cX16_comb 237 = .ok (.dup, 1) := dk_89 (dk_at dksX16_comb_10 6 rfl rfl)
theorem dX16_comb_238 : decode cX16_comb 238 = .ok (.getfield 56, 3) := dk_180 0 56 (dk_at dksX16_comb_10 7 rfl rfl)
theorem dX16_comb_241 : decode cX16_comb 241 = .ok (.iconst 1, 1) := dk_4 (dk_at dksX16_comb_10 10 rfl rfl)
theorem dX16_comb_242 : decode cX16_comb 242 = .ok (.isub, 1) := dk_100 (dk_at dksX16_comb_10 11 rfl rfl)
theorem dX16_comb_243 : decode cX16_comb 243 = .ok (.dup_x1, 1) := dk_90 (dk_at dksX16_comb_10 12 rfl rfl)
theorem dX16_comb_244 : decode cX16_comb 244 = .ok (.putfield 56, 3) := dk_181 0 56 (dk_at dksX16_comb_10 13 rfl rfl)
theorem dX16_comb_247 : decode cX16_comb 247 = .ok (.iaload, 1) := dk_46 (dk_at dksX16_comb_10 16 rfl rfl)
theorem dX16_comb_248 : decode cX16_comb 248 = .ok (.istore 7, 2) := dk_54 7 (dk_at dksX16_comb_10 17 rfl rfl)
theorem dX16_comb_250 : decode cX16_comb 250 = .ok (.iconst 0, 1) := dk_3 (dk_at dksX16_comb_10 19 rfl rfl)
theorem dX16_comb_251 : decode cX16_comb 251 = .ok (.istore 8, 2) := dk_54 8 (dk_at dksX16_comb_10 20 rfl rfl)
theorem dX16_comb_253 : decode cX16_comb 253 = .ok (.iload 8, 2) := dk_21 8 (dk_at dksX16_comb_10 22 rfl rfl)
theorem dX16_comb_255 : decode cX16_comb 255 = .ok (.iload 4, 2) := dk_21 4 (dk_at dksX16_comb_11 0 rfl rfl)
theorem dX16_comb_257 : decode cX16_comb 257 = .ok (.if_icmp .ge 76, 3) := dk_162 0 76 (dk_at dksX16_comb_11 2 rfl rfl)
theorem dX16_comb_260 : decode cX16_comb 260 = .ok (.aload_n 0, 1) := dk_42 (dk_at dksX16_comb_11 5 rfl rfl)
theorem dX16_comb_261 : decode cX16_comb 261 = .ok (.getfield 20, 3) := dk_180 0 20 (dk_at dksX16_comb_11 6 rfl rfl)
theorem dX16_comb_264 : decode cX16_comb 264 = .ok (.aload_n 0, 1) := dk_42 (dk_at dksX16_comb_11 9 rfl rfl)
theorem dX16_comb_265 : decode cX16_comb 265 = .ok (.getfield 56, 3) := dk_180 0 56 (dk_at dksX16_comb_11 10 rfl rfl)
theorem dX16_comb_268 : decode cX16_comb 268 = .ok (.iload 4, 2) := dk_21 4 (dk_at dksX16_comb_11 13 rfl rfl)
theorem dX16_comb_270 : decode cX16_comb 270 = .ok (.iadd, 1) := dk_96 (dk_at dksX16_comb_11 15 rfl rfl)
theorem dX16_comb_271 : decode cX16_comb 271 = .ok (.iconst 1, 1) := dk_4 (dk_at dksX16_comb_11 16 rfl rfl)
theorem dX16_comb_272 : decode cX16_comb 272 = .ok (.isub, 1) := dk_100 (dk_at dksX16_comb_11 17 rfl rfl)
theorem dX16_comb_273 : decode cX16_comb 273 = .ok (.iload 8, 2) := dk_21 8 (dk_at dksX16_comb_11 18 rfl rfl)
theorem dX16_comb_275 : decode cX16_comb 275 = .ok (.isub, 1) := dk_100 (dk_at dksX16_comb_11 20 rfl rfl)
theorem dX16_comb_276 : decode cX16_comb 276 = .ok (.iload 8, 2) := dk_21 8 (dk_at dksX16_comb_11 21 rfl rfl)
theorem dX16_comb_278 : decode cX16_comb 278 = .ok (.iload 4, 2) := dk_21 4 (dk_at dksX16_comb_12 0 rfl rfl)
theorem dX16_comb_280 : decode cX16_comb 280 = .ok (.iconst 1, 1) := dk_4 (dk_at dksX16_comb_12 2 rfl rfl)
theorem dX16_comb_281 : decode cX16_comb 281 = .ok (.isub, 1) := dk_100 (dk_at dksX16_comb_12 3 rfl rfl)
theorem dX16_comb_282 : decode cX16_comb 282 = .ok (.if_icmp .ge 16, 3) := dk_162 0 16 (dk_at dksX16_comb_12 4 rfl rfl)
theorem dX16_comb_285 : decode cX16_comb 285 = .ok (.aload_n 0, 1) := dk_42 (dk_at dksX16_comb_12 7 rfl rfl)
theorem dX16_comb_286 : decode cX16_comb 286 = .ok (.getfield 32, 3) := dk_180 0 32 (dk_at dksX16_comb_12 8 rfl rfl)
theorem dX16_comb_289 : decode cX16_comb 289 = .ok (.getfield 166, 3) := dk_180 0 166 (dk_at dksX16_comb_12 11 rfl rfl)
theorem dX16_comb_292 : decode cX16_comb 292 = .ok (.iload 7, 2) := dk_21 7 (dk_at dksX16_comb_12 14 rfl rfl)
theorem dX16_comb_294 : decode cX16_comb 294 = .ok (.iaload, 1) := dk_46 (dk_at dksX16_comb_12 16 rfl rfl)
theorem dX16_comb_295 : decode cX16_comb 295 = .ok (.goto 5, 3) := dk_167 0 5 (dk_at dksX16_comb_12 17 rfl rfl)
theorem dX16_comb_298 : decode cX16_comb 298 = .ok (.iload 7, 2) := dk_21 7 (dk_at dksX16_comb_12 20 rfl rfl)
theorem dX16_comb_300 : decode cX16_comb 300 = .ok (.iastore, 1) := dk_79 (dk_at dksX16_comb_12 22 rfl rfl)
theorem dX16_comb_301 : decode cX16_comb 301 = .ok (.iload 8, 2) := dk_21 8 (dk_at dksX16_comb_13 0 rfl rfl)
theorem dX16_comb_303 : decode cX16_comb 303 = .ok (.iload 4, 2) := dk_21 4 (dk_at dksX16_comb_13 2 rfl rfl)
theorem dX16_comb_305 : decode cX16_comb 305 = .ok (.iconst 1, 1) := dk_4 (dk_at dksX16_comb_13 4 rfl rfl)
theorem dX16_comb_306 : decode cX16_comb 306 = .ok (.isub, 1) := dk_100 (dk_at dksX16_comb_13 5 rfl rfl)
theorem dX16_comb_307 : decode cX16_comb 307 = .ok (.if_icmp .ge 16, 3) := dk_162 0 16 (dk_at dksX16_comb_13 6 rfl rfl)
theorem dX16_comb_310 : decode cX16_comb 310 = .ok (.aload_n 0, 1) := dk_42 (dk_at dksX16_comb_13 9 rfl rfl)
theorem dX16_comb_311 : decode cX16_comb 311 = .ok (.getfield 32, 3) := dk_180 0 32 (dk_at dksX16_comb_13 10 rfl rfl)
theorem dX16_comb_314 : decode cX16_comb 314 = .ok (.getfield 169, 3) := dk_180 0 169 (dk_at dksX16_comb_13 13 rfl rfl)
theorem dX16_comb_317 : decode cX16_comb 317 = .ok (.iload 7, 2) := dk_21 7 (dk_at dksX16_comb_13 16 rfl rfl)
theorem dX16_comb_319 : decode cX16_comb 319 = .ok (.iaload, 1) := dk_46 (dk_at dksX16_comb_13 18 rfl rfl)
theorem dX16_comb_320 : decode cX16_comb 320 = .ok (.goto 5, 3) := dk_167 0 5 (dk_at dksX16_comb_13 19 rfl rfl)
theorem dX16_comb_323 : decode cX16_comb 323 = .ok (.iload 7, 2) := dk_21 7 (dk_at dksX16_comb_13 22 rfl rfl)
theorem dX16_comb_325 : decode cX16_comb 325 = .ok (.istore 7, 2) := dk_54 7 (dk_at dksX16_comb_14 0 rfl rfl)
theorem dX16_comb_327 : decode cX16_comb 327 = .ok (.iinc 8 1, 3) := dk_132 8 1 (dk_at dksX16_comb_14 2 rfl rfl)
theorem dX16_comb_330 : decode cX16_comb 330 = .ok (.goto (-77), 3) := dk_167 255 179 (dk_at dksX16_comb_14 5 rfl rfl)
theorem dX16_comb_333 : decode cX16_comb 333 = .ok (.aload_n 0, 1) := dk_42 (dk_at dksX16_comb_14 8 rfl rfl)
theorem dX16_comb_334 : decode cX16_comb 334 = .ok (.dup, 1) := dk_89 (dk_at dksX16_comb_14 9 rfl rfl)
theorem dX16_comb_335 : decode cX16_comb 335 = .ok (.getfield 56, 3) := dk_180 0 56 (dk_at dksX16_comb_14 10 rfl rfl)
theorem dX16_comb_338 : decode cX16_comb 338 = .ok (.iload 4, 2) := dk_21 4 (dk_at dksX16_comb_14 13 rfl rfl)
theorem dX16_comb_340 : decode cX16_comb 340 = .ok (.iadd, 1) := dk_96 (dk_at dksX16_comb_14 15 rfl rfl)
theorem dX16_comb_341 : decode cX16_comb 341 = .ok (.putfield 56, 3) := dk_181 0 56 (dk_at dksX16_comb_14 16 rfl rfl)
theorem dX16_comb_344 : decode cX16_comb 344 = .ok (.aload_n 0, 1) := dk_42 (dk_at dksX16_comb_14 19 rfl rfl)
theorem dX16_comb_345 : decode cX16_comb 345 = .ok (.iconst 1, 1) := dk_4 (dk_at dksX16_comb_14 20 rfl rfl)
theorem dX16_comb_346 : decode cX16_comb 346 = .ok (.iload_n 2, 1) := dk_28 (dk_at dksX16_comb_14 21 rfl rfl)
theorem dX16_comb_347 : decode cX16_comb 347 = .ok (.iload 4, 2) := dk_21 4 (dk_at dksX16_comb_14 22 rfl rfl)
theorem dX16_comb_349 : decode cX16_comb 349 = .ok (.iconst 0, 1) := dk_3 (dk_at dksX16_comb_15 0 rfl rfl)
theorem dX16_comb_350 : decode cX16_comb 350 = .ok (.iload 5, 2) := dk_21 5 (dk_at dksX16_comb_15 1 rfl rfl)
theorem dX16_comb_352 : decode cX16_comb 352 = .ok (.invokevirtual 274, 3) := dk_182 1 18 (dk_at dksX16_comb_15 3 rfl rfl)
theorem dX16_comb_355 : decode cX16_comb 355 = .ok (.ireturn, 1) := dk_172 (dk_at dksX16_comb_15 6 rfl rfl)
abbrev cX16_word : ByteArray := prog_21_method_10_code
def yX16_word : MethodName := ⟨RX16, "word", "(I)I"⟩
def dkwX16_word_1 : List UInt8 := [2, 172]
abbrev dktX16_word_1 : List UInt8 := dkwX16_word_1 ++ []
def dkwX16_word_0 : List UInt8 := [27, 42, 180, 0, 56, 162, 0, 19, 42, 180, 0, 32, 180, 0, 163, 42, 27, 182, 0, 209, 51, 167, 0, 4]
abbrev dktX16_word_0 : List UInt8 := dkwX16_word_0 ++ dktX16_word_1
theorem dksX16_word_0 : cX16_word.data.toList.drop 0 = dktX16_word_0 := by decide +kernel
theorem dksX16_word_1 : cX16_word.data.toList.drop 24 = dktX16_word_1 := dk_seg dksX16_word_0 24 rfl rfl
theorem dX16_word_0 : decode cX16_word 0 = .ok (.iload_n 1, 1) := dk_27 (dk_at dksX16_word_0 0 rfl rfl)
theorem dX16_word_1 : decode cX16_word 1 = .ok (.aload_n 0, 1) := dk_42 (dk_at dksX16_word_0 1 rfl rfl)
theorem dX16_word_2 : decode cX16_word 2 = .ok (.getfield 56, 3) := dk_180 0 56 (dk_at dksX16_word_0 2 rfl rfl)
theorem dX16_word_5 : decode cX16_word 5 = .ok (.if_icmp .ge 19, 3) := dk_162 0 19 (dk_at dksX16_word_0 5 rfl rfl)
theorem dX16_word_8 : decode cX16_word 8 = .ok (.aload_n 0, 1) := dk_42 (dk_at dksX16_word_0 8 rfl rfl)
theorem dX16_word_9 : decode cX16_word 9 = .ok (.getfield 32, 3) := dk_180 0 32 (dk_at dksX16_word_0 9 rfl rfl)
theorem dX16_word_12 : decode cX16_word 12 = .ok (.getfield 163, 3) := dk_180 0 163 (dk_at dksX16_word_0 12 rfl rfl)
theorem dX16_word_15 : decode cX16_word 15 = .ok (.aload_n 0, 1) := dk_42 (dk_at dksX16_word_0 15 rfl rfl)
theorem dX16_word_16 : decode cX16_word 16 = .ok (.iload_n 1, 1) := dk_27 (dk_at dksX16_word_0 16 rfl rfl)
theorem dX16_word_17 : decode cX16_word 17 = .ok (.invokevirtual 209, 3) := dk_182 0 209 (dk_at dksX16_word_0 17 rfl rfl)
theorem dX16_word_20 : decode cX16_word 20 = .ok (.baload, 1) := dk_51 (dk_at dksX16_word_0 20 rfl rfl)
theorem dX16_word_21 : decode cX16_word 21 = .ok (.goto 4, 3) := dk_167 0 4 (dk_at dksX16_word_0 21 rfl rfl)
theorem dX16_word_24 : decode cX16_word 24 = .ok (.iconst (-1), 1) := dk_2 (dk_at dksX16_word_1 0 rfl rfl)
theorem dX16_word_25 : decode cX16_word 25 = .ok (.ireturn, 1) := dk_172 (dk_at dksX16_word_1 1 rfl rfl)
abbrev cX16_left : ByteArray := prog_21_method_11_code
def yX16_left : MethodName := ⟨RX16, "left", "(I)I"⟩
def dkwX16_left_0 : List UInt8 := [42, 180, 0, 32, 180, 0, 166, 42, 27, 182, 0, 209, 46, 172]
abbrev dktX16_left_0 : List UInt8 := dkwX16_left_0 ++ []
theorem dksX16_left_0 : cX16_left.data.toList.drop 0 = dktX16_left_0 := by decide +kernel
theorem dX16_left_0 : decode cX16_left 0 = .ok (.aload_n 0, 1) := dk_42 (dk_at dksX16_left_0 0 rfl rfl)
theorem dX16_left_1 : decode cX16_left 1 = .ok (.getfield 32, 3) := dk_180 0 32 (dk_at dksX16_left_0 1 rfl rfl)
theorem dX16_left_4 : decode cX16_left 4 = .ok (.getfield 166, 3) := dk_180 0 166 (dk_at dksX16_left_0 4 rfl rfl)
theorem dX16_left_7 : decode cX16_left 7 = .ok (.aload_n 0, 1) := dk_42 (dk_at dksX16_left_0 7 rfl rfl)
theorem dX16_left_8 : decode cX16_left 8 = .ok (.iload_n 1, 1) := dk_27 (dk_at dksX16_left_0 8 rfl rfl)
theorem dX16_left_9 : decode cX16_left 9 = .ok (.invokevirtual 209, 3) := dk_182 0 209 (dk_at dksX16_left_0 9 rfl rfl)
theorem dX16_left_12 : decode cX16_left 12 = .ok (.iaload, 1) := dk_46 (dk_at dksX16_left_0 12 rfl rfl)
theorem dX16_left_13 : decode cX16_left 13 = .ok (.ireturn, 1) := dk_172 (dk_at dksX16_left_0 13 rfl rfl)
abbrev cX16_right : ByteArray := prog_21_method_12_code
def yX16_right : MethodName := ⟨RX16, "right", "(I)I"⟩
def dkwX16_right_0 : List UInt8 := [42, 180, 0, 32, 180, 0, 169, 42, 27, 182, 0, 209, 46, 172]
abbrev dktX16_right_0 : List UInt8 := dkwX16_right_0 ++ []
theorem dksX16_right_0 : cX16_right.data.toList.drop 0 = dktX16_right_0 := by decide +kernel
theorem dX16_right_0 : decode cX16_right 0 = .ok (.aload_n 0, 1) := dk_42 (dk_at dksX16_right_0 0 rfl rfl)
theorem dX16_right_1 : decode cX16_right 1 = .ok (.getfield 32, 3) := dk_180 0 32 (dk_at dksX16_right_0 1 rfl rfl)
theorem dX16_right_4 : decode cX16_right 4 = .ok (.getfield 169, 3) := dk_180 0 169 (dk_at dksX16_right_0 4 rfl rfl)
theorem dX16_right_7 : decode cX16_right 7 = .ok (.aload_n 0, 1) := dk_42 (dk_at dksX16_right_0 7 rfl rfl)
theorem dX16_right_8 : decode cX16_right 8 = .ok (.iload_n 1, 1) := dk_27 (dk_at dksX16_right_0 8 rfl rfl)
theorem dX16_right_9 : decode cX16_right 9 = .ok (.invokevirtual 209, 3) := dk_182 0 209 (dk_at dksX16_right_0 9 rfl rfl)
theorem dX16_right_12 : decode cX16_right 12 = .ok (.iaload, 1) := dk_46 (dk_at dksX16_right_0 12 rfl rfl)
theorem dX16_right_13 : decode cX16_right 13 = .ok (.ireturn, 1) := dk_172 (dk_at dksX16_right_0 13 rfl rfl)
abbrev cX16_told_2 : ByteArray := prog_21_method_30_code
def yX16_told_2 : MethodName := ⟨RX16, "told", "(III)I"⟩
def dkwX16_told_2_15 : List UInt8 := [167, 0, 4, 3, 28, 3, 3, 3, 182, 1, 18, 172]
abbrev dktX16_told_2_15 : List UInt8 := dkwX16_told_2_15 ++ []
def dkwX16_told_2_14 : List UInt8 := [42, 3, 42, 180, 0, 32, 21, 8, 21, 5, 21, 6, 182, 0, 195, 182, 1, 22, 153, 0, 7, 4]
abbrev dktX16_told_2_14 : List UInt8 := dkwX16_told_2_14 ++ dktX16_told_2_15
def dkwX16_told_2_13 : List UInt8 := [167, 0, 16, 28, 16, 50, 160, 0, 8, 16, 15, 167, 0, 5, 16, 16, 54, 8, 42, 21, 7, 153, 0, 28]
abbrev dktX16_told_2_13 : List UInt8 := dkwX16_told_2_13 ++ dktX16_told_2_14
def dkwX16_told_2_12 : List UInt8 := [5, 182, 0, 120, 153, 0, 7, 4, 167, 0, 4, 3, 54, 7, 28, 16, 49, 160, 0, 8, 16, 12]
abbrev dktX16_told_2_12 : List UInt8 := dkwX16_told_2_12 ++ dktX16_told_2_13
def dkwX16_told_2_11 : List UInt8 := [180, 0, 32, 21, 5, 4, 182, 0, 120, 153, 0, 26, 28, 16, 51, 160, 0, 16, 42, 180, 0, 32, 21, 6]
abbrev dktX16_told_2_11 : List UInt8 := dkwX16_told_2_11 ++ dktX16_told_2_12
def dkwX16_told_2_10 : List UInt8 := [180, 0, 32, 16, 11, 21, 5, 2, 182, 0, 195, 182, 1, 22, 28, 3, 3, 3, 182, 1, 18, 172, 42]
abbrev dktX16_told_2_10 : List UInt8 := dkwX16_told_2_10 ++ dktX16_told_2_11
def dkwX16_told_2_9 : List UInt8 := [182, 1, 22, 153, 0, 7, 4, 167, 0, 4, 3, 28, 3, 3, 3, 182, 1, 18, 172, 42, 42, 3, 42]
abbrev dktX16_told_2_9 : List UInt8 := dkwX16_told_2_9 ++ dktX16_told_2_10
def dkwX16_told_2_8 : List UInt8 := [180, 0, 56, 158, 0, 31, 42, 4, 42, 180, 0, 32, 16, 14, 21, 5, 42, 3, 182, 0, 209, 182, 0, 195]
abbrev dktX16_told_2_8 : List UInt8 := dkwX16_told_2_8 ++ dktX16_told_2_9
def dkwX16_told_2_7 : List UInt8 := [182, 0, 195, 182, 1, 22, 153, 0, 7, 4, 167, 0, 4, 3, 28, 3, 3, 3, 182, 1, 18, 172, 42, 42]
abbrev dktX16_told_2_7 : List UInt8 := dkwX16_told_2_7 ++ dktX16_told_2_8
def dkwX16_told_2_6 : List UInt8 := [42, 180, 0, 56, 158, 0, 31, 42, 4, 42, 180, 0, 32, 16, 14, 42, 3, 182, 0, 209, 21, 5]
abbrev dktX16_told_2_6 : List UInt8 := dkwX16_told_2_6 ++ dktX16_told_2_7
def dkwX16_told_2_5 : List UInt8 := [42, 42, 3, 42, 180, 0, 32, 21, 5, 182, 1, 57, 182, 1, 22, 28, 3, 3, 3, 182, 1, 18, 172, 42]
abbrev dktX16_told_2_5 : List UInt8 := dkwX16_told_2_5 ++ dktX16_told_2_6
def dkwX16_told_2_4 : List UInt8 := [170, 0, 0, 0, 0, 169, 0, 0, 0, 44, 0, 0, 0, 47, 0, 0, 0, 30, 0, 0, 0, 53, 0, 0, 0, 98, 0, 0, 0, 143]
abbrev dktX16_told_2_4 : List UInt8 := dkwX16_told_2_4 ++ dktX16_told_2_5
def dkwX16_told_2_3 : List UInt8 := [153, 0, 10, 21, 6, 156, 0, 5, 3, 172, 28]
abbrev dktX16_told_2_3 : List UInt8 := dkwX16_told_2_3 ++ dktX16_told_2_4
def dkwX16_told_2_2 : List UInt8 := [153, 0, 12, 42, 27, 4, 182, 1, 29, 167, 0, 4, 2, 54, 6, 21, 5, 155, 0, 13, 21, 4]
abbrev dktX16_told_2_2 : List UInt8 := dkwX16_told_2_2 ++ dktX16_told_2_3
def dkwX16_told_2_1 : List UInt8 := [153, 0, 7, 5, 167, 0, 4, 4, 159, 0, 5, 3, 172, 42, 27, 3, 182, 1, 29, 54, 5, 21, 4]
abbrev dktX16_told_2_1 : List UInt8 := dkwX16_told_2_1 ++ dktX16_told_2_2
def dkwX16_told_2_0 : List UInt8 := [28, 16, 50, 159, 0, 9, 28, 16, 51, 160, 0, 7, 4, 167, 0, 4, 3, 54, 4, 29, 21, 4]
abbrev dktX16_told_2_0 : List UInt8 := dkwX16_told_2_0 ++ dktX16_told_2_1
theorem dksX16_told_2_0 : cX16_told_2.data.toList.drop 0 = dktX16_told_2_0 := by decide +kernel
theorem dksX16_told_2_1 : cX16_told_2.data.toList.drop 22 = dktX16_told_2_1 := dk_seg dksX16_told_2_0 22 rfl rfl
theorem dksX16_told_2_2 : cX16_told_2.data.toList.drop 45 = dktX16_told_2_2 := dk_seg dksX16_told_2_1 23 rfl rfl
theorem dksX16_told_2_3 : cX16_told_2.data.toList.drop 67 = dktX16_told_2_3 := dk_seg dksX16_told_2_2 22 rfl rfl
theorem dksX16_told_2_4 : cX16_told_2.data.toList.drop 78 = dktX16_told_2_4 := dk_seg dksX16_told_2_3 11 rfl rfl
theorem dksX16_told_2_5 : cX16_told_2.data.toList.drop 108 = dktX16_told_2_5 := dk_seg dksX16_told_2_4 30 rfl rfl
theorem dksX16_told_2_6 : cX16_told_2.data.toList.drop 132 = dktX16_told_2_6 := dk_seg dksX16_told_2_5 24 rfl rfl
theorem dksX16_told_2_7 : cX16_told_2.data.toList.drop 154 = dktX16_told_2_7 := dk_seg dksX16_told_2_6 22 rfl rfl
theorem dksX16_told_2_8 : cX16_told_2.data.toList.drop 178 = dktX16_told_2_8 := dk_seg dksX16_told_2_7 24 rfl rfl
theorem dksX16_told_2_9 : cX16_told_2.data.toList.drop 202 = dktX16_told_2_9 := dk_seg dksX16_told_2_8 24 rfl rfl
theorem dksX16_told_2_10 : cX16_told_2.data.toList.drop 225 = dktX16_told_2_10 := dk_seg dksX16_told_2_9 23 rfl rfl
theorem dksX16_told_2_11 : cX16_told_2.data.toList.drop 248 = dktX16_told_2_11 := dk_seg dksX16_told_2_10 23 rfl rfl
theorem dksX16_told_2_12 : cX16_told_2.data.toList.drop 272 = dktX16_told_2_12 := dk_seg dksX16_told_2_11 24 rfl rfl
theorem dksX16_told_2_13 : cX16_told_2.data.toList.drop 294 = dktX16_told_2_13 := dk_seg dksX16_told_2_12 22 rfl rfl
theorem dksX16_told_2_14 : cX16_told_2.data.toList.drop 318 = dktX16_told_2_14 := dk_seg dksX16_told_2_13 24 rfl rfl
theorem dksX16_told_2_15 : cX16_told_2.data.toList.drop 340 = dktX16_told_2_15 := dk_seg dksX16_told_2_14 22 rfl rfl
theorem dX16_told_2_0 : decode cX16_told_2 0 = .ok (.iload_n 2, 1) := dk_28 (dk_at dksX16_told_2_0 0 rfl rfl)
theorem dX16_told_2_1 : decode cX16_told_2 1 = .ok (.bipush 50, 2) := dk_16 50 (dk_at dksX16_told_2_0 1 rfl rfl)
theorem dX16_told_2_3 : decode cX16_told_2 3 = .ok (.if_icmp .eq 9, 3) := dk_159 0 9 (dk_at dksX16_told_2_0 3 rfl rfl)
theorem dX16_told_2_6 : decode cX16_told_2 6 = .ok (.iload_n 2, 1) := dk_28 (dk_at dksX16_told_2_0 6 rfl rfl)
theorem dX16_told_2_7 : decode cX16_told_2 7 = .ok (.bipush 51, 2) := dk_16 51 (dk_at dksX16_told_2_0 7 rfl rfl)
theorem dX16_told_2_9 : decode cX16_told_2 9 = .ok (.if_icmp .ne 7, 3) := dk_160 0 7 (dk_at dksX16_told_2_0 9 rfl rfl)
theorem dX16_told_2_12 : decode cX16_told_2 12 = .ok (.iconst 1, 1) := dk_4 (dk_at dksX16_told_2_0 12 rfl rfl)
theorem dX16_told_2_13 : decode cX16_told_2 13 = .ok (.goto 4, 3) := dk_167 0 4 (dk_at dksX16_told_2_0 13 rfl rfl)
theorem dX16_told_2_16 : decode cX16_told_2 16 = .ok (.iconst 0, 1) := dk_3 (dk_at dksX16_told_2_0 16 rfl rfl)
theorem dX16_told_2_17 : decode cX16_told_2 17 = .ok (.istore 4, 2) := dk_54 4 (dk_at dksX16_told_2_0 17 rfl rfl)
theorem dX16_told_2_19 : decode cX16_told_2 19 = .ok (.iload_n 3, 1) := dk_29 (dk_at dksX16_told_2_0 19 rfl rfl)
theorem dX16_told_2_20 : decode cX16_told_2 20 = .ok (.iload 4, 2) := dk_21 4 (dk_at dksX16_told_2_0 20 rfl rfl)
theorem dX16_told_2_22 : decode cX16_told_2 22 = .ok (.ifCond .eq 7, 3) := dk_153 0 7 (dk_at dksX16_told_2_1 0 rfl rfl)
theorem dX16_told_2_25 : decode cX16_told_2 25 = .ok (.iconst 2, 1) := dk_5 (dk_at dksX16_told_2_1 3 rfl rfl)
theorem dX16_told_2_26 : decode cX16_told_2 26 = .ok (.goto 4, 3) := dk_167 0 4 (dk_at dksX16_told_2_1 4 rfl rfl)
theorem dX16_told_2_29 : decode cX16_told_2 29 = .ok (.iconst 1, 1) := dk_4 (dk_at dksX16_told_2_1 7 rfl rfl)
theorem dX16_told_2_30 : decode cX16_told_2 30 = .ok (.if_icmp .eq 5, 3) := dk_159 0 5 (dk_at dksX16_told_2_1 8 rfl rfl)
theorem dX16_told_2_33 : decode cX16_told_2 33 = .ok (.iconst 0, 1) := dk_3 (dk_at dksX16_told_2_1 11 rfl rfl)
theorem dX16_told_2_34 : decode cX16_told_2 34 = .ok (.ireturn, 1) := dk_172 (dk_at dksX16_told_2_1 12 rfl rfl)
theorem dX16_told_2_35 : decode cX16_told_2 35 = .ok (.aload_n 0, 1) := dk_42 (dk_at dksX16_told_2_1 13 rfl rfl)
theorem dX16_told_2_36 : decode cX16_told_2 36 = .ok (.iload_n 1, 1) := dk_27 (dk_at dksX16_told_2_1 14 rfl rfl)
theorem dX16_told_2_37 : decode cX16_told_2 37 = .ok (.iconst 0, 1) := dk_3 (dk_at dksX16_told_2_1 15 rfl rfl)
theorem dX16_told_2_38 : decode cX16_told_2 38 = .ok (.invokevirtual 285, 3) := dk_182 1 29 (dk_at dksX16_told_2_1 16 rfl rfl)
theorem dX16_told_2_41 : decode cX16_told_2 41 = .ok (.istore 5, 2) := dk_54 5 (dk_at dksX16_told_2_1 19 rfl rfl)
theorem dX16_told_2_43 : decode cX16_told_2 43 = .ok (.iload 4, 2) := dk_21 4 (dk_at dksX16_told_2_1 21 rfl rfl)
theorem dX16_told_2_45 : decode cX16_told_2 45 = .ok (.ifCond .eq 12, 3) := dk_153 0 12 (dk_at dksX16_told_2_2 0 rfl rfl)
theorem dX16_told_2_48 : decode cX16_told_2 48 = .ok (.aload_n 0, 1) := dk_42 (dk_at dksX16_told_2_2 3 rfl rfl)
theorem dX16_told_2_49 : decode cX16_told_2 49 = .ok (.iload_n 1, 1) := dk_27 (dk_at dksX16_told_2_2 4 rfl rfl)
theorem dX16_told_2_50 : decode cX16_told_2 50 = .ok (.iconst 1, 1) := dk_4 (dk_at dksX16_told_2_2 5 rfl rfl)
theorem dX16_told_2_51 : decode cX16_told_2 51 = .ok (.invokevirtual 285, 3) := dk_182 1 29 (dk_at dksX16_told_2_2 6 rfl rfl)
theorem dX16_told_2_54 : decode cX16_told_2 54 = .ok (.goto 4, 3) := dk_167 0 4 (dk_at dksX16_told_2_2 9 rfl rfl)
theorem dX16_told_2_57 : decode cX16_told_2 57 = .ok (.iconst (-1), 1) := dk_2 (dk_at dksX16_told_2_2 12 rfl rfl)
theorem dX16_told_2_58 : decode cX16_told_2 58 = .ok (.istore 6, 2) := dk_54 6 (dk_at dksX16_told_2_2 13 rfl rfl)
theorem dX16_told_2_60 : decode cX16_told_2 60 = .ok (.iload 5, 2) := dk_21 5 (dk_at dksX16_told_2_2 15 rfl rfl)
theorem dX16_told_2_62 : decode cX16_told_2 62 = .ok (.ifCond .lt 13, 3) := dk_155 0 13 (dk_at dksX16_told_2_2 17 rfl rfl)
theorem dX16_told_2_65 : decode cX16_told_2 65 = .ok (.iload 4, 2) := dk_21 4 (dk_at dksX16_told_2_2 20 rfl rfl)
theorem dX16_told_2_67 : decode cX16_told_2 67 = .ok (.ifCond .eq 10, 3) := dk_153 0 10 (dk_at dksX16_told_2_3 0 rfl rfl)
theorem dX16_told_2_70 : decode cX16_told_2 70 = .ok (.iload 6, 2) := dk_21 6 (dk_at dksX16_told_2_3 3 rfl rfl)
theorem dX16_told_2_72 : decode cX16_told_2 72 = .ok (.ifCond .ge 5, 3) := dk_156 0 5 (dk_at dksX16_told_2_3 5 rfl rfl)
theorem dX16_told_2_75 : decode cX16_told_2 75 = .ok (.iconst 0, 1) := dk_3 (dk_at dksX16_told_2_3 8 rfl rfl)
theorem dX16_told_2_76 : decode cX16_told_2 76 = .ok (.ireturn, 1) := dk_172 (dk_at dksX16_told_2_3 9 rfl rfl)
theorem dX16_told_2_77 : decode cX16_told_2 77 = .ok (.iload_n 2, 1) := dk_28 (dk_at dksX16_told_2_3 10 rfl rfl)
theorem dX16_told_2_78 : decode cX16_told_2 78 = .ok (.tableswitch 169 44 47 #[30, 53, 98, 143], 30) := by decide +kernel
theorem dX16_told_2_108 : decode cX16_told_2 108 = .ok (.aload_n 0, 1) := dk_42 (dk_at dksX16_told_2_5 0 rfl rfl)
theorem dX16_told_2_109 : decode cX16_told_2 109 = .ok (.aload_n 0, 1) := dk_42 (dk_at dksX16_told_2_5 1 rfl rfl)
theorem dX16_told_2_110 : decode cX16_told_2 110 = .ok (.iconst 0, 1) := dk_3 (dk_at dksX16_told_2_5 2 rfl rfl)
theorem dX16_told_2_111 : decode cX16_told_2 111 = .ok (.aload_n 0, 1) := dk_42 (dk_at dksX16_told_2_5 3 rfl rfl)
theorem dX16_told_2_112 : decode cX16_told_2 112 = .ok (.getfield 32, 3) := dk_180 0 32 (dk_at dksX16_told_2_5 4 rfl rfl)
theorem dX16_told_2_115 : decode cX16_told_2 115 = .ok (.iload 5, 2) := dk_21 5 (dk_at dksX16_told_2_5 7 rfl rfl)
theorem dX16_told_2_117 : decode cX16_told_2 117 = .ok (.invokevirtual 313, 3) := dk_182 1 57 (dk_at dksX16_told_2_5 9 rfl rfl)
theorem dX16_told_2_120 : decode cX16_told_2 120 = .ok (.invokevirtual 278, 3) := dk_182 1 22 (dk_at dksX16_told_2_5 12 rfl rfl)
theorem dX16_told_2_123 : decode cX16_told_2 123 = .ok (.iload_n 2, 1) := dk_28 (dk_at dksX16_told_2_5 15 rfl rfl)
theorem dX16_told_2_124 : decode cX16_told_2 124 = .ok (.iconst 0, 1) := dk_3 (dk_at dksX16_told_2_5 16 rfl rfl)
theorem dX16_told_2_125 : decode cX16_told_2 125 = .ok (.iconst 0, 1) := dk_3 (dk_at dksX16_told_2_5 17 rfl rfl)
theorem dX16_told_2_126 : decode cX16_told_2 126 = .ok (.iconst 0, 1) := dk_3 (dk_at dksX16_told_2_5 18 rfl rfl)
theorem dX16_told_2_127 : decode cX16_told_2 127 = .ok (.invokevirtual 274, 3) := dk_182 1 18 (dk_at dksX16_told_2_5 19 rfl rfl)
theorem dX16_told_2_130 : decode cX16_told_2 130 = .ok (.ireturn, 1) := dk_172 (dk_at dksX16_told_2_5 22 rfl rfl)
theorem dX16_told_2_131 : decode cX16_told_2 131 = .ok (.aload_n 0, 1) := dk_42 (dk_at dksX16_told_2_5 23 rfl rfl)
theorem dX16_told_2_132 : decode cX16_told_2 132 = .ok (.aload_n 0, 1) := dk_42 (dk_at dksX16_told_2_6 0 rfl rfl)
theorem dX16_told_2_133 : decode cX16_told_2 133 = .ok (.getfield 56, 3) := dk_180 0 56 (dk_at dksX16_told_2_6 1 rfl rfl)
theorem dX16_told_2_136 : decode cX16_told_2 136 = .ok (.ifCond .le 31, 3) := dk_158 0 31 (dk_at dksX16_told_2_6 4 rfl rfl)
theorem dX16_told_2_139 : decode cX16_told_2 139 = .ok (.aload_n 0, 1) := dk_42 (dk_at dksX16_told_2_6 7 rfl rfl)
theorem dX16_told_2_140 : decode cX16_told_2 140 = .ok (.iconst 1, 1) := dk_4 (dk_at dksX16_told_2_6 8 rfl rfl)
theorem dX16_told_2_141 : decode cX16_told_2 141 = .ok (.aload_n 0, 1) := dk_42 (dk_at dksX16_told_2_6 9 rfl rfl)
theorem dX16_told_2_142 : decode cX16_told_2 142 = .ok (.getfield 32, 3) := dk_180 0 32 (dk_at dksX16_told_2_6 10 rfl rfl)
theorem dX16_told_2_145 : decode cX16_told_2 145 = .ok (.bipush 14, 2) := dk_16 14 (dk_at dksX16_told_2_6 13 rfl rfl)
theorem dX16_told_2_147 : decode cX16_told_2 147 = .ok (.aload_n 0, 1) := dk_42 (dk_at dksX16_told_2_6 15 rfl rfl)
theorem dX16_told_2_148 : decode cX16_told_2 148 = .ok (.iconst 0, 1) := dk_3 (dk_at dksX16_told_2_6 16 rfl rfl)
theorem dX16_told_2_149 : decode cX16_told_2 149 = .ok (.invokevirtual 209, 3) := dk_182 0 209 (dk_at dksX16_told_2_6 17 rfl rfl)
theorem dX16_told_2_152 : decode cX16_told_2 152 = .ok (.iload 5, 2) := dk_21 5 (dk_at dksX16_told_2_6 20 rfl rfl)
theorem dX16_told_2_154 : decode cX16_told_2 154 = .ok (.invokevirtual 195, 3) := dk_182 0 195 (dk_at dksX16_told_2_7 0 rfl rfl)
theorem dX16_told_2_157 : decode cX16_told_2 157 = .ok (.invokevirtual 278, 3) := dk_182 1 22 (dk_at dksX16_told_2_7 3 rfl rfl)
theorem dX16_told_2_160 : decode cX16_told_2 160 = .ok (.ifCond .eq 7, 3) := dk_153 0 7 (dk_at dksX16_told_2_7 6 rfl rfl)
theorem dX16_told_2_163 : decode cX16_told_2 163 = .ok (.iconst 1, 1) := dk_4 (dk_at dksX16_told_2_7 9 rfl rfl)
theorem dX16_told_2_164 : decode cX16_told_2 164 = .ok (.goto 4, 3) := dk_167 0 4 (dk_at dksX16_told_2_7 10 rfl rfl)
theorem dX16_told_2_167 : decode cX16_told_2 167 = .ok (.iconst 0, 1) := dk_3 (dk_at dksX16_told_2_7 13 rfl rfl)
theorem dX16_told_2_168 : decode cX16_told_2 168 = .ok (.iload_n 2, 1) := dk_28 (dk_at dksX16_told_2_7 14 rfl rfl)
theorem dX16_told_2_169 : decode cX16_told_2 169 = .ok (.iconst 0, 1) := dk_3 (dk_at dksX16_told_2_7 15 rfl rfl)
theorem dX16_told_2_170 : decode cX16_told_2 170 = .ok (.iconst 0, 1) := dk_3 (dk_at dksX16_told_2_7 16 rfl rfl)
theorem dX16_told_2_171 : decode cX16_told_2 171 = .ok (.iconst 0, 1) := dk_3 (dk_at dksX16_told_2_7 17 rfl rfl)
theorem dX16_told_2_172 : decode cX16_told_2 172 = .ok (.invokevirtual 274, 3) := dk_182 1 18 (dk_at dksX16_told_2_7 18 rfl rfl)
theorem dX16_told_2_175 : decode cX16_told_2 175 = .ok (.ireturn, 1) := dk_172 (dk_at dksX16_told_2_7 21 rfl rfl)
theorem dX16_told_2_176 : decode cX16_told_2 176 = .ok (.aload_n 0, 1) := dk_42 (dk_at dksX16_told_2_7 22 rfl rfl)
theorem dX16_told_2_177 : decode cX16_told_2 177 = .ok (.aload_n 0, 1) := dk_42 (dk_at dksX16_told_2_7 23 rfl rfl)
theorem dX16_told_2_178 : decode cX16_told_2 178 = .ok (.getfield 56, 3) := dk_180 0 56 (dk_at dksX16_told_2_8 0 rfl rfl)
theorem dX16_told_2_181 : decode cX16_told_2 181 = .ok (.ifCond .le 31, 3) := dk_158 0 31 (dk_at dksX16_told_2_8 3 rfl rfl)
theorem dX16_told_2_184 : decode cX16_told_2 184 = .ok (.aload_n 0, 1) := dk_42 (dk_at dksX16_told_2_8 6 rfl rfl)
theorem dX16_told_2_185 : decode cX16_told_2 185 = .ok (.iconst 1, 1) := dk_4 (dk_at dksX16_told_2_8 7 rfl rfl)
theorem dX16_told_2_186 : decode cX16_told_2 186 = .ok (.aload_n 0, 1) := dk_42 (dk_at dksX16_told_2_8 8 rfl rfl)
theorem dX16_told_2_187 : decode cX16_told_2 187 = .ok (.getfield 32, 3) := dk_180 0 32 (dk_at dksX16_told_2_8 9 rfl rfl)
theorem dX16_told_2_190 : decode cX16_told_2 190 = .ok (.bipush 14, 2) := dk_16 14 (dk_at dksX16_told_2_8 12 rfl rfl)
theorem dX16_told_2_192 : decode cX16_told_2 192 = .ok (.iload 5, 2) := dk_21 5 (dk_at dksX16_told_2_8 14 rfl rfl)
theorem dX16_told_2_194 : decode cX16_told_2 194 = .ok (.aload_n 0, 1) := dk_42 (dk_at dksX16_told_2_8 16 rfl rfl)
theorem dX16_told_2_195 : decode cX16_told_2 195 = .ok (.iconst 0, 1) := dk_3 (dk_at dksX16_told_2_8 17 rfl rfl)
theorem dX16_told_2_196 : decode cX16_told_2 196 = .ok (.invokevirtual 209, 3) := dk_182 0 209 (dk_at dksX16_told_2_8 18 rfl rfl)
theorem dX16_told_2_199 : decode cX16_told_2 199 = .ok (.invokevirtual 195, 3) := dk_182 0 195 (dk_at dksX16_told_2_8 21 rfl rfl)
theorem dX16_told_2_202 : decode cX16_told_2 202 = .ok (.invokevirtual 278, 3) := dk_182 1 22 (dk_at dksX16_told_2_9 0 rfl rfl)
theorem dX16_told_2_205 : decode cX16_told_2 205 = .ok (.ifCond .eq 7, 3) := dk_153 0 7 (dk_at dksX16_told_2_9 3 rfl rfl)
theorem dX16_told_2_208 : decode cX16_told_2 208 = .ok (.iconst 1, 1) := dk_4 (dk_at dksX16_told_2_9 6 rfl rfl)
theorem dX16_told_2_209 : decode cX16_told_2 209 = .ok (.goto 4, 3) := dk_167 0 4 (dk_at dksX16_told_2_9 7 rfl rfl)
theorem dX16_told_2_212 : decode cX16_told_2 212 = .ok (.iconst 0, 1) := dk_3 (dk_at dksX16_told_2_9 10 rfl rfl)
theorem dX16_told_2_213 : decode cX16_told_2 213 = .ok (.iload_n 2, 1) := dk_28 (dk_at dksX16_told_2_9 11 rfl rfl)
theorem dX16_told_2_214 : decode cX16_told_2 214 = .ok (.iconst 0, 1) := dk_3 (dk_at dksX16_told_2_9 12 rfl rfl)
theorem dX16_told_2_215 : decode cX16_told_2 215 = .ok (.iconst 0, 1) := dk_3 (dk_at dksX16_told_2_9 13 rfl rfl)
theorem dX16_told_2_216 : decode cX16_told_2 216 = .ok (.iconst 0, 1) := dk_3 (dk_at dksX16_told_2_9 14 rfl rfl)
theorem dX16_told_2_217 : decode cX16_told_2 217 = .ok (.invokevirtual 274, 3) := dk_182 1 18 (dk_at dksX16_told_2_9 15 rfl rfl)
theorem dX16_told_2_220 : decode cX16_told_2 220 = .ok (.ireturn, 1) := dk_172 (dk_at dksX16_told_2_9 18 rfl rfl)
theorem dX16_told_2_221 : decode cX16_told_2 221 = .ok (.aload_n 0, 1) := dk_42 (dk_at dksX16_told_2_9 19 rfl rfl)
theorem dX16_told_2_222 : decode cX16_told_2 222 = .ok (.aload_n 0, 1) := dk_42 (dk_at dksX16_told_2_9 20 rfl rfl)
theorem dX16_told_2_223 : decode cX16_told_2 223 = .ok (.iconst 0, 1) := dk_3 (dk_at dksX16_told_2_9 21 rfl rfl)
theorem dX16_told_2_224 : decode cX16_told_2 224 = .ok (.aload_n 0, 1) := dk_42 (dk_at dksX16_told_2_9 22 rfl rfl)
theorem dX16_told_2_225 : decode cX16_told_2 225 = .ok (.getfield 32, 3) := dk_180 0 32 (dk_at dksX16_told_2_10 0 rfl rfl)
theorem dX16_told_2_228 : decode cX16_told_2 228 = .ok (.bipush 11, 2) := dk_16 11 (dk_at dksX16_told_2_10 3 rfl rfl)
theorem dX16_told_2_230 : decode cX16_told_2 230 = .ok (.iload 5, 2) := dk_21 5 (dk_at dksX16_told_2_10 5 rfl rfl)
theorem dX16_told_2_232 : decode cX16_told_2 232 = .ok (.iconst (-1), 1) := dk_2 (dk_at dksX16_told_2_10 7 rfl rfl)
theorem dX16_told_2_233 : decode cX16_told_2 233 = .ok (.invokevirtual 195, 3) := dk_182 0 195 (dk_at dksX16_told_2_10 8 rfl rfl)
theorem dX16_told_2_236 : decode cX16_told_2 236 = .ok (.invokevirtual 278, 3) := dk_182 1 22 (dk_at dksX16_told_2_10 11 rfl rfl)
theorem dX16_told_2_239 : decode cX16_told_2 239 = .ok (.iload_n 2, 1) := dk_28 (dk_at dksX16_told_2_10 14 rfl rfl)
theorem dX16_told_2_240 : decode cX16_told_2 240 = .ok (.iconst 0, 1) := dk_3 (dk_at dksX16_told_2_10 15 rfl rfl)
theorem dX16_told_2_241 : decode cX16_told_2 241 = .ok (.iconst 0, 1) := dk_3 (dk_at dksX16_told_2_10 16 rfl rfl)
theorem dX16_told_2_242 : decode cX16_told_2 242 = .ok (.iconst 0, 1) := dk_3 (dk_at dksX16_told_2_10 17 rfl rfl)
theorem dX16_told_2_243 : decode cX16_told_2 243 = .ok (.invokevirtual 274, 3) := dk_182 1 18 (dk_at dksX16_told_2_10 18 rfl rfl)
theorem dX16_told_2_246 : decode cX16_told_2 246 = .ok (.ireturn, 1) := dk_172 (dk_at dksX16_told_2_10 21 rfl rfl)
theorem dX16_told_2_247 : decode cX16_told_2 247 = .ok (.aload_n 0, 1) := dk_42 (dk_at dksX16_told_2_10 22 rfl rfl)
theorem dX16_told_2_248 : decode cX16_told_2 248 = .ok (.getfield 32, 3) := dk_180 0 32 (dk_at dksX16_told_2_11 0 rfl rfl)
theorem dX16_told_2_251 : decode cX16_told_2 251 = .ok (.iload 5, 2) := dk_21 5 (dk_at dksX16_told_2_11 3 rfl rfl)
theorem dX16_told_2_253 : decode cX16_told_2 253 = .ok (.iconst 1, 1) := dk_4 (dk_at dksX16_told_2_11 5 rfl rfl)
theorem dX16_told_2_254 : decode cX16_told_2 254 = .ok (.invokevirtual 120, 3) := dk_182 0 120 (dk_at dksX16_told_2_11 6 rfl rfl)
theorem dX16_told_2_257 : decode cX16_told_2 257 = .ok (.ifCond .eq 26, 3) := dk_153 0 26 (dk_at dksX16_told_2_11 9 rfl rfl)
theorem dX16_told_2_260 : decode cX16_told_2 260 = .ok (.iload_n 2, 1) := dk_28 (dk_at dksX16_told_2_11 12 rfl rfl)
theorem dX16_told_2_261 : decode cX16_told_2 261 = .ok (.bipush 51, 2) := dk_16 51 (dk_at dksX16_told_2_11 13 rfl rfl)
theorem dX16_told_2_263 : decode cX16_told_2 263 = .ok (.if_icmp .ne 16, 3) := dk_160 0 16 (dk_at dksX16_told_2_11 15 rfl rfl)
theorem dX16_told_2_266 : decode cX16_told_2 266 = .ok (.aload_n 0, 1) := dk_42 (dk_at dksX16_told_2_11 18 rfl rfl)
theorem dX16_told_2_267 : decode cX16_told_2 267 = .ok (.getfield 32, 3) := dk_180 0 32 (dk_at dksX16_told_2_11 19 rfl rfl)
theorem dX16_told_2_270 : decode cX16_told_2 270 = .ok (.iload 6, 2) := dk_21 6 (dk_at dksX16_told_2_11 22 rfl rfl)
theorem dX16_told_2_272 : decode cX16_told_2 272 = .ok (.iconst 2, 1) := dk_5 (dk_at dksX16_told_2_12 0 rfl rfl)
theorem dX16_told_2_273 : decode cX16_told_2 273 = .ok (.invokevirtual 120, 3) := dk_182 0 120 (dk_at dksX16_told_2_12 1 rfl rfl)
theorem dX16_told_2_276 : decode cX16_told_2 276 = .ok (.ifCond .eq 7, 3) := dk_153 0 7 (dk_at dksX16_told_2_12 4 rfl rfl)
theorem dX16_told_2_279 : decode cX16_told_2 279 = .ok (.iconst 1, 1) := dk_4 (dk_at dksX16_told_2_12 7 rfl rfl)
theorem dX16_told_2_280 : decode cX16_told_2 280 = .ok (.goto 4, 3) := dk_167 0 4 (dk_at dksX16_told_2_12 8 rfl rfl)
theorem dX16_told_2_283 : decode cX16_told_2 283 = .ok (.iconst 0, 1) := dk_3 (dk_at dksX16_told_2_12 11 rfl rfl)
theorem dX16_told_2_284 : decode cX16_told_2 284 = .ok (.istore 7, 2) := dk_54 7 (dk_at dksX16_told_2_12 12 rfl rfl)
theorem dX16_told_2_286 : decode cX16_told_2 286 = .ok (.iload_n 2, 1) := dk_28 (dk_at dksX16_told_2_12 14 rfl rfl)
theorem dX16_told_2_287 : decode cX16_told_2 287 = .ok (.bipush 49, 2) := dk_16 49 (dk_at dksX16_told_2_12 15 rfl rfl)
theorem dX16_told_2_289 : decode cX16_told_2 289 = .ok (.if_icmp .ne 8, 3) := dk_160 0 8 (dk_at dksX16_told_2_12 17 rfl rfl)
theorem dX16_told_2_292 : decode cX16_told_2 292 = .ok (.bipush 12, 2) := dk_16 12 (dk_at dksX16_told_2_12 20 rfl rfl)
theorem dX16_told_2_294 : decode cX16_told_2 294 = .ok (.goto 16, 3) := dk_167 0 16 (dk_at dksX16_told_2_13 0 rfl rfl)
theorem dX16_told_2_297 : decode cX16_told_2 297 = .ok (.iload_n 2, 1) := dk_28 (dk_at dksX16_told_2_13 3 rfl rfl)
theorem dX16_told_2_298 : decode cX16_told_2 298 = .ok (.bipush 50, 2) := dk_16 50 (dk_at dksX16_told_2_13 4 rfl rfl)
theorem dX16_told_2_300 : decode cX16_told_2 300 = .ok (.if_icmp .ne 8, 3) := dk_160 0 8 (dk_at dksX16_told_2_13 6 rfl rfl)
theorem dX16_told_2_303 : decode cX16_told_2 303 = .ok (.bipush 15, 2) := dk_16 15 (dk_at dksX16_told_2_13 9 rfl rfl)
theorem dX16_told_2_305 : decode cX16_told_2 305 = .ok (.goto 5, 3) := dk_167 0 5 (dk_at dksX16_told_2_13 11 rfl rfl)
theorem dX16_told_2_308 : decode cX16_told_2 308 = .ok (.bipush 16, 2) := dk_16 16 (dk_at dksX16_told_2_13 14 rfl rfl)
theorem dX16_told_2_310 : decode cX16_told_2 310 = .ok (.istore 8, 2) := dk_54 8 (dk_at dksX16_told_2_13 16 rfl rfl)
theorem dX16_told_2_312 : decode cX16_told_2 312 = .ok (.aload_n 0, 1) := dk_42 (dk_at dksX16_told_2_13 18 rfl rfl)
theorem dX16_told_2_313 : decode cX16_told_2 313 = .ok (.iload 7, 2) := dk_21 7 (dk_at dksX16_told_2_13 19 rfl rfl)
theorem dX16_told_2_315 : decode cX16_told_2 315 = .ok (.ifCond .eq 28, 3) := dk_153 0 28 (dk_at dksX16_told_2_13 21 rfl rfl)
theorem dX16_told_2_318 : decode cX16_told_2 318 = .ok (.aload_n 0, 1) := dk_42 (dk_at dksX16_told_2_14 0 rfl rfl)
theorem dX16_told_2_319 : decode cX16_told_2 319 = .ok (.iconst 0, 1) := dk_3 (dk_at dksX16_told_2_14 1 rfl rfl)
theorem dX16_told_2_320 : decode cX16_told_2 320 = .ok (.aload_n 0, 1) := dk_42 (dk_at dksX16_told_2_14 2 rfl rfl)
theorem dX16_told_2_321 : decode cX16_told_2 321 = .ok (.getfield 32, 3) := dk_180 0 32 (dk_at dksX16_told_2_14 3 rfl rfl)
theorem dX16_told_2_324 : decode cX16_told_2 324 = .ok (.iload 8, 2) := dk_21 8 (dk_at dksX16_told_2_14 6 rfl rfl)
theorem dX16_told_2_326 : decode cX16_told_2 326 = .ok (.iload 5, 2) := dk_21 5 (dk_at dksX16_told_2_14 8 rfl rfl)
theorem dX16_told_2_328 : decode cX16_told_2 328 = .ok (.iload 6, 2) := dk_21 6 (dk_at dksX16_told_2_14 10 rfl rfl)
theorem dX16_told_2_330 : decode cX16_told_2 330 = .ok (.invokevirtual 195, 3) := dk_182 0 195 (dk_at dksX16_told_2_14 12 rfl rfl)
theorem dX16_told_2_333 : decode cX16_told_2 333 = .ok (.invokevirtual 278, 3) := dk_182 1 22 (dk_at dksX16_told_2_14 15 rfl rfl)
theorem dX16_told_2_336 : decode cX16_told_2 336 = .ok (.ifCond .eq 7, 3) := dk_153 0 7 (dk_at dksX16_told_2_14 18 rfl rfl)
theorem dX16_told_2_339 : decode cX16_told_2 339 = .ok (.iconst 1, 1) := dk_4 (dk_at dksX16_told_2_14 21 rfl rfl)
theorem dX16_told_2_340 : decode cX16_told_2 340 = .ok (.goto 4, 3) := dk_167 0 4 (dk_at dksX16_told_2_15 0 rfl rfl)
theorem dX16_told_2_343 : decode cX16_told_2 343 = .ok (.iconst 0, 1) := dk_3 (dk_at dksX16_told_2_15 3 rfl rfl)
theorem dX16_told_2_344 : decode cX16_told_2 344 = .ok (.iload_n 2, 1) := dk_28 (dk_at dksX16_told_2_15 4 rfl rfl)
theorem dX16_told_2_345 : decode cX16_told_2 345 = .ok (.iconst 0, 1) := dk_3 (dk_at dksX16_told_2_15 5 rfl rfl)
theorem dX16_told_2_346 : decode cX16_told_2 346 = .ok (.iconst 0, 1) := dk_3 (dk_at dksX16_told_2_15 6 rfl rfl)
theorem dX16_told_2_347 : decode cX16_told_2 347 = .ok (.iconst 0, 1) := dk_3 (dk_at dksX16_told_2_15 7 rfl rfl)
theorem dX16_told_2_348 : decode cX16_told_2 348 = .ok (.invokevirtual 274, 3) := dk_182 1 18 (dk_at dksX16_told_2_15 8 rfl rfl)
theorem dX16_told_2_351 : decode cX16_told_2 351 = .ok (.ireturn, 1) := dk_172 (dk_at dksX16_told_2_15 11 rfl rfl)
abbrev cX16_control : ByteArray := prog_21_method_31_code
def yX16_control : MethodName := ⟨RX16, "control", "(III)I"⟩
def dkwX16_control_16 : List UInt8 := [167, 0, 4, 3, 28, 3, 3, 3, 182, 1, 18, 172]
abbrev dktX16_control_16 : List UInt8 := dkwX16_control_16 ++ []
def dkwX16_control_15 : List UInt8 := [180, 0, 169, 42, 4, 182, 1, 51, 46, 42, 4, 182, 1, 54, 182, 0, 195, 182, 1, 22, 153, 0, 7, 4]
abbrev dktX16_control_15 : List UInt8 := dkwX16_control_15 ++ dktX16_control_16
def dkwX16_control_14 : List UInt8 := [167, 0, 4, 3, 54, 4, 42, 21, 4, 153, 0, 42, 42, 5, 42, 180, 0, 32, 16, 17, 42, 180, 0, 32]
abbrev dktX16_control_14 : List UInt8 := dkwX16_control_14 ++ dktX16_control_15
def dkwX16_control_13 : List UInt8 := [182, 0, 209, 160, 0, 23, 42, 180, 0, 32, 42, 3, 182, 0, 209, 5, 182, 0, 120, 153, 0, 7, 4]
abbrev dktX16_control_13 : List UInt8 := dkwX16_control_13 ++ dktX16_control_14
def dkwX16_control_12 : List UInt8 := [182, 1, 51, 51, 16, 18, 160, 0, 44, 42, 180, 0, 32, 180, 0, 166, 42, 4, 182, 1, 51, 46, 42, 3]
abbrev dktX16_control_12 : List UInt8 := dkwX16_control_12 ++ dktX16_control_13
def dkwX16_control_11 : List UInt8 := [154, 0, 72, 42, 4, 182, 1, 48, 16, 17, 160, 0, 62, 42, 180, 0, 32, 180, 0, 163, 42, 4]
abbrev dktX16_control_11 : List UInt8 := dkwX16_control_11 ++ dktX16_control_12
def dkwX16_control_10 : List UInt8 := [4, 182, 1, 54, 182, 1, 22, 153, 0, 7, 4, 167, 0, 4, 3, 28, 3, 3, 3, 182, 1, 18, 172, 29]
abbrev dktX16_control_10 : List UInt8 := dkwX16_control_10 ++ dktX16_control_11
def dkwX16_control_9 : List UInt8 := [182, 1, 48, 16, 17, 160, 0, 33, 42, 4, 182, 1, 51, 42, 3, 182, 0, 209, 160, 0, 20, 42, 5, 42]
abbrev dktX16_control_9 : List UInt8 := dkwX16_control_9 ++ dktX16_control_10
def dkwX16_control_8 : List UInt8 := [5, 182, 1, 42, 153, 0, 11, 42, 27, 182, 1, 71, 167, 0, 4, 3, 172, 42, 29, 154, 0, 43, 42, 4]
abbrev dktX16_control_8 : List UInt8 := dkwX16_control_8 ++ dktX16_control_9
def dkwX16_control_7 : List UInt8 := [181, 0, 199, 42, 4, 28, 42, 3, 182, 0, 209, 3, 3, 182, 1, 18, 172, 29, 6, 160, 0, 20, 42, 27]
abbrev dktX16_control_7 : List UInt8 := dkwX16_control_7 ++ dktX16_control_8
def dkwX16_control_6 : List UInt8 := [153, 0, 19, 42, 180, 0, 32, 42, 3, 182, 0, 209, 5, 182, 0, 120, 154, 0, 5, 3, 172, 42, 4]
abbrev dktX16_control_6 : List UInt8 := dkwX16_control_6 ++ dktX16_control_7
def dkwX16_control_5 : List UInt8 := [153, 0, 12, 42, 27, 28, 182, 1, 68, 167, 0, 4, 3, 172, 29, 154, 0, 26, 42, 180, 0, 56]
abbrev dktX16_control_5 : List UInt8 := dkwX16_control_5 ++ dktX16_control_6
def dkwX16_control_4 : List UInt8 := [42, 27, 28, 182, 1, 65, 167, 0, 4, 3, 172, 29, 4, 160, 0, 21, 42, 27, 3, 182, 1, 42]
abbrev dktX16_control_4 : List UInt8 := dkwX16_control_4 ++ dktX16_control_5
def dkwX16_control_3 : List UInt8 := [27, 28, 182, 1, 62, 167, 0, 4, 3, 172, 29, 4, 160, 0, 21, 42, 27, 3, 182, 1, 42, 153, 0, 12]
abbrev dktX16_control_3 : List UInt8 := dkwX16_control_3 ++ dktX16_control_4
def dkwX16_control_2 : List UInt8 := [29, 5, 160, 0, 30, 42, 27, 3, 182, 1, 42, 153, 0, 21, 42, 27, 4, 182, 1, 42, 153, 0, 12, 42]
abbrev dktX16_control_2 : List UInt8 := dkwX16_control_2 ++ dktX16_control_3
def dkwX16_control_1 : List UInt8 := [170, 0, 0, 0, 0, 1, 13, 0, 0, 0, 52, 0, 0, 0, 62, 0, 0, 0, 59, 0, 0, 0, 59, 0, 0, 0, 59, 0, 0, 0, 59, 0, 0, 0, 93, 0, 0, 0, 93, 0, 0, 0, 118, 0, 0, 0, 118, 0, 0, 0, 143, 0, 0, 0, 191, 0, 0, 0, 215]
abbrev dktX16_control_1 : List UInt8 := dkwX16_control_1 ++ dktX16_control_2
def dkwX16_control_0 : List UInt8 := [28]
abbrev dktX16_control_0 : List UInt8 := dkwX16_control_0 ++ dktX16_control_1
theorem dksX16_control_0 : cX16_control.data.toList.drop 0 = dktX16_control_0 := by decide +kernel
theorem dksX16_control_1 : cX16_control.data.toList.drop 1 = dktX16_control_1 := dk_seg dksX16_control_0 1 rfl rfl
theorem dksX16_control_2 : cX16_control.data.toList.drop 60 = dktX16_control_2 := dk_seg dksX16_control_1 59 rfl rfl
theorem dksX16_control_3 : cX16_control.data.toList.drop 84 = dktX16_control_3 := dk_seg dksX16_control_2 24 rfl rfl
theorem dksX16_control_4 : cX16_control.data.toList.drop 108 = dktX16_control_4 := dk_seg dksX16_control_3 24 rfl rfl
theorem dksX16_control_5 : cX16_control.data.toList.drop 130 = dktX16_control_5 := dk_seg dksX16_control_4 22 rfl rfl
theorem dksX16_control_6 : cX16_control.data.toList.drop 152 = dktX16_control_6 := dk_seg dksX16_control_5 22 rfl rfl
theorem dksX16_control_7 : cX16_control.data.toList.drop 175 = dktX16_control_7 := dk_seg dksX16_control_6 23 rfl rfl
theorem dksX16_control_8 : cX16_control.data.toList.drop 199 = dktX16_control_8 := dk_seg dksX16_control_7 24 rfl rfl
theorem dksX16_control_9 : cX16_control.data.toList.drop 223 = dktX16_control_9 := dk_seg dksX16_control_8 24 rfl rfl
theorem dksX16_control_10 : cX16_control.data.toList.drop 247 = dktX16_control_10 := dk_seg dksX16_control_9 24 rfl rfl
theorem dksX16_control_11 : cX16_control.data.toList.drop 271 = dktX16_control_11 := dk_seg dksX16_control_10 24 rfl rfl
theorem dksX16_control_12 : cX16_control.data.toList.drop 293 = dktX16_control_12 := dk_seg dksX16_control_11 22 rfl rfl
theorem dksX16_control_13 : cX16_control.data.toList.drop 317 = dktX16_control_13 := dk_seg dksX16_control_12 24 rfl rfl
theorem dksX16_control_14 : cX16_control.data.toList.drop 340 = dktX16_control_14 := dk_seg dksX16_control_13 23 rfl rfl
theorem dksX16_control_15 : cX16_control.data.toList.drop 364 = dktX16_control_15 := dk_seg dksX16_control_14 24 rfl rfl
theorem dksX16_control_16 : cX16_control.data.toList.drop 388 = dktX16_control_16 := dk_seg dksX16_control_15 24 rfl rfl
theorem dX16_control_0 : decode cX16_control 0 = .ok (.iload_n 2, 1) := dk_28 (dk_at dksX16_control_0 0 rfl rfl)
theorem dX16_control_1 : decode cX16_control 1 = .ok (.tableswitch 269 52 62 #[59, 59, 59, 59, 93, 93, 118, 118, 143, 191, 215], 59) := by decide +kernel
theorem dX16_control_60 : decode cX16_control 60 = .ok (.iload_n 3, 1) := dk_29 (dk_at dksX16_control_2 0 rfl rfl)
theorem dX16_control_61 : decode cX16_control 61 = .ok (.iconst 2, 1) := dk_5 (dk_at dksX16_control_2 1 rfl rfl)
theorem dX16_control_62 : decode cX16_control 62 = .ok (.if_icmp .ne 30, 3) := dk_160 0 30 (dk_at dksX16_control_2 2 rfl rfl)
theorem dX16_control_65 : decode cX16_control 65 = .ok (.aload_n 0, 1) := dk_42 (dk_at dksX16_control_2 5 rfl rfl)
theorem dX16_control_66 : decode cX16_control 66 = .ok (.iload_n 1, 1) := dk_27 (dk_at dksX16_control_2 6 rfl rfl)
theorem dX16_control_67 : decode cX16_control 67 = .ok (.iconst 0, 1) := dk_3 (dk_at dksX16_control_2 7 rfl rfl)
theorem dX16_control_68 : decode cX16_control 68 = .ok (.invokevirtual 298, 3) := dk_182 1 42 (dk_at dksX16_control_2 8 rfl rfl)
theorem dX16_control_71 : decode cX16_control 71 = .ok (.ifCond .eq 21, 3) := dk_153 0 21 (dk_at dksX16_control_2 11 rfl rfl)
theorem dX16_control_74 : decode cX16_control 74 = .ok (.aload_n 0, 1) := dk_42 (dk_at dksX16_control_2 14 rfl rfl)
theorem dX16_control_75 : decode cX16_control 75 = .ok (.iload_n 1, 1) := dk_27 (dk_at dksX16_control_2 15 rfl rfl)
theorem dX16_control_76 : decode cX16_control 76 = .ok (.iconst 1, 1) := dk_4 (dk_at dksX16_control_2 16 rfl rfl)
theorem dX16_control_77 : decode cX16_control 77 = .ok (.invokevirtual 298, 3) := dk_182 1 42 (dk_at dksX16_control_2 17 rfl rfl)
theorem dX16_control_80 : decode cX16_control 80 = .ok (.ifCond .eq 12, 3) := dk_153 0 12 (dk_at dksX16_control_2 20 rfl rfl)
theorem dX16_control_83 : decode cX16_control 83 = .ok (.aload_n 0, 1) := dk_42 (dk_at dksX16_control_2 23 rfl rfl)
theorem dX16_control_84 : decode cX16_control 84 = .ok (.iload_n 1, 1) := dk_27 (dk_at dksX16_control_3 0 rfl rfl)
theorem dX16_control_85 : decode cX16_control 85 = .ok (.iload_n 2, 1) := dk_28 (dk_at dksX16_control_3 1 rfl rfl)
theorem dX16_control_86 : decode cX16_control 86 = .ok (.invokevirtual 318, 3) := dk_182 1 62 (dk_at dksX16_control_3 2 rfl rfl)
theorem dX16_control_89 : decode cX16_control 89 = .ok (.goto 4, 3) := dk_167 0 4 (dk_at dksX16_control_3 5 rfl rfl)
theorem dX16_control_92 : decode cX16_control 92 = .ok (.iconst 0, 1) := dk_3 (dk_at dksX16_control_3 8 rfl rfl)
theorem dX16_control_93 : decode cX16_control 93 = .ok (.ireturn, 1) := dk_172 (dk_at dksX16_control_3 9 rfl rfl)
theorem dX16_control_94 : decode cX16_control 94 = .ok (.iload_n 3, 1) := dk_29 (dk_at dksX16_control_3 10 rfl rfl)
theorem dX16_control_95 : decode cX16_control 95 = .ok (.iconst 1, 1) := dk_4 (dk_at dksX16_control_3 11 rfl rfl)
theorem dX16_control_96 : decode cX16_control 96 = .ok (.if_icmp .ne 21, 3) := dk_160 0 21 (dk_at dksX16_control_3 12 rfl rfl)
theorem dX16_control_99 : decode cX16_control 99 = .ok (.aload_n 0, 1) := dk_42 (dk_at dksX16_control_3 15 rfl rfl)
theorem dX16_control_100 : decode cX16_control 100 = .ok (.iload_n 1, 1) := dk_27 (dk_at dksX16_control_3 16 rfl rfl)
theorem dX16_control_101 : decode cX16_control 101 = .ok (.iconst 0, 1) := dk_3 (dk_at dksX16_control_3 17 rfl rfl)
theorem dX16_control_102 : decode cX16_control 102 = .ok (.invokevirtual 298, 3) := dk_182 1 42 (dk_at dksX16_control_3 18 rfl rfl)
theorem dX16_control_105 : decode cX16_control 105 = .ok (.ifCond .eq 12, 3) := dk_153 0 12 (dk_at dksX16_control_3 21 rfl rfl)
theorem dX16_control_108 : decode cX16_control 108 = .ok (.aload_n 0, 1) := dk_42 (dk_at dksX16_control_4 0 rfl rfl)
theorem dX16_control_109 : decode cX16_control 109 = .ok (.iload_n 1, 1) := dk_27 (dk_at dksX16_control_4 1 rfl rfl)
theorem dX16_control_110 : decode cX16_control 110 = .ok (.iload_n 2, 1) := dk_28 (dk_at dksX16_control_4 2 rfl rfl)
theorem dX16_control_111 : decode cX16_control 111 = .ok (.invokevirtual 321, 3) := dk_182 1 65 (dk_at dksX16_control_4 3 rfl rfl)
theorem dX16_control_114 : decode cX16_control 114 = .ok (.goto 4, 3) := dk_167 0 4 (dk_at dksX16_control_4 6 rfl rfl)
theorem dX16_control_117 : decode cX16_control 117 = .ok (.iconst 0, 1) := dk_3 (dk_at dksX16_control_4 9 rfl rfl)
theorem dX16_control_118 : decode cX16_control 118 = .ok (.ireturn, 1) := dk_172 (dk_at dksX16_control_4 10 rfl rfl)
theorem dX16_control_119 : decode cX16_control 119 = .ok (.iload_n 3, 1) := dk_29 (dk_at dksX16_control_4 11 rfl rfl)
theorem dX16_control_120 : decode cX16_control 120 = .ok (.iconst 1, 1) := dk_4 (dk_at dksX16_control_4 12 rfl rfl)
theorem dX16_control_121 : decode cX16_control 121 = .ok (.if_icmp .ne 21, 3) := dk_160 0 21 (dk_at dksX16_control_4 13 rfl rfl)
theorem dX16_control_124 : decode cX16_control 124 = .ok (.aload_n 0, 1) := dk_42 (dk_at dksX16_control_4 16 rfl rfl)
theorem dX16_control_125 : decode cX16_control 125 = .ok (.iload_n 1, 1) := dk_27 (dk_at dksX16_control_4 17 rfl rfl)
theorem dX16_control_126 : decode cX16_control 126 = .ok (.iconst 0, 1) := dk_3 (dk_at dksX16_control_4 18 rfl rfl)
theorem dX16_control_127 : decode cX16_control 127 = .ok (.invokevirtual 298, 3) := dk_182 1 42 (dk_at dksX16_control_4 19 rfl rfl)
theorem dX16_control_130 : decode cX16_control 130 = .ok (.ifCond .eq 12, 3) := dk_153 0 12 (dk_at dksX16_control_5 0 rfl rfl)
theorem dX16_control_133 : decode cX16_control 133 = .ok (.aload_n 0, 1) := dk_42 (dk_at dksX16_control_5 3 rfl rfl)
theorem dX16_control_134 : decode cX16_control 134 = .ok (.iload_n 1, 1) := dk_27 (dk_at dksX16_control_5 4 rfl rfl)
theorem dX16_control_135 : decode cX16_control 135 = .ok (.iload_n 2, 1) := dk_28 (dk_at dksX16_control_5 5 rfl rfl)
theorem dX16_control_136 : decode cX16_control 136 = .ok (.invokevirtual 324, 3) := dk_182 1 68 (dk_at dksX16_control_5 6 rfl rfl)
theorem dX16_control_139 : decode cX16_control 139 = .ok (.goto 4, 3) := dk_167 0 4 (dk_at dksX16_control_5 9 rfl rfl)
theorem dX16_control_142 : decode cX16_control 142 = .ok (.iconst 0, 1) := dk_3 (dk_at dksX16_control_5 12 rfl rfl)
theorem dX16_control_143 : decode cX16_control 143 = .ok (.ireturn, 1) := dk_172 (dk_at dksX16_control_5 13 rfl rfl)
theorem dX16_control_144 : decode cX16_control 144 = .ok (.iload_n 3, 1) := dk_29 (dk_at dksX16_control_5 14 rfl rfl)
theorem dX16_control_145 : decode cX16_control 145 = .ok (.ifCond .ne 26, 3) := dk_154 0 26 (dk_at dksX16_control_5 15 rfl rfl)
theorem dX16_control_148 : decode cX16_control 148 = .ok (.aload_n 0, 1) := dk_42 (dk_at dksX16_control_5 18 rfl rfl)
theorem dX16_control_149 : decode cX16_control 149 = .ok (.getfield 56, 3) := dk_180 0 56 (dk_at dksX16_control_5 19 rfl rfl)
theorem dX16_control_152 : decode cX16_control 152 = .ok (.ifCond .eq 19, 3) := dk_153 0 19 (dk_at dksX16_control_6 0 rfl rfl)
theorem dX16_control_155 : decode cX16_control 155 = .ok (.aload_n 0, 1) := dk_42 (dk_at dksX16_control_6 3 rfl rfl)
theorem dX16_control_156 : decode cX16_control 156 = .ok (.getfield 32, 3) := dk_180 0 32 (dk_at dksX16_control_6 4 rfl rfl)
theorem dX16_control_159 : decode cX16_control 159 = .ok (.aload_n 0, 1) := dk_42 (dk_at dksX16_control_6 7 rfl rfl)
theorem dX16_control_160 : decode cX16_control 160 = .ok (.iconst 0, 1) := dk_3 (dk_at dksX16_control_6 8 rfl rfl)
theorem dX16_control_161 : decode cX16_control 161 = .ok (.invokevirtual 209, 3) := dk_182 0 209 (dk_at dksX16_control_6 9 rfl rfl)
theorem dX16_control_164 : decode cX16_control 164 = .ok (.iconst 2, 1) := dk_5 (dk_at dksX16_control_6 12 rfl rfl)
theorem dX16_control_165 : decode cX16_control 165 = .ok (.invokevirtual 120, 3) := dk_182 0 120 (dk_at dksX16_control_6 13 rfl rfl)
theorem dX16_control_168 : decode cX16_control 168 = .ok (.ifCond .ne 5, 3) := dk_154 0 5 (dk_at dksX16_control_6 16 rfl rfl)
theorem dX16_control_171 : decode cX16_control 171 = .ok (.iconst 0, 1) := dk_3 (dk_at dksX16_control_6 19 rfl rfl)
theorem dX16_control_172 : decode cX16_control 172 = .ok (.ireturn, 1) := dk_172 (dk_at dksX16_control_6 20 rfl rfl)
theorem dX16_control_173 : decode cX16_control 173 = .ok (.aload_n 0, 1) := dk_42 (dk_at dksX16_control_6 21 rfl rfl)
theorem dX16_control_174 : decode cX16_control 174 = .ok (.iconst 1, 1) := dk_4 (dk_at dksX16_control_6 22 rfl rfl)
theorem dX16_control_175 : decode cX16_control 175 = .ok (.putfield 199, 3) := dk_181 0 199 (dk_at dksX16_control_7 0 rfl rfl)
theorem dX16_control_178 : decode cX16_control 178 = .ok (.aload_n 0, 1) := dk_42 (dk_at dksX16_control_7 3 rfl rfl)
theorem dX16_control_179 : decode cX16_control 179 = .ok (.iconst 1, 1) := dk_4 (dk_at dksX16_control_7 4 rfl rfl)
theorem dX16_control_180 : decode cX16_control 180 = .ok (.iload_n 2, 1) := dk_28 (dk_at dksX16_control_7 5 rfl rfl)
theorem dX16_control_181 : decode cX16_control 181 = .ok (.aload_n 0, 1) := dk_42 (dk_at dksX16_control_7 6 rfl rfl)
theorem dX16_control_182 : decode cX16_control 182 = .ok (.iconst 0, 1) := dk_3 (dk_at dksX16_control_7 7 rfl rfl)
theorem dX16_control_183 : decode cX16_control 183 = .ok (.invokevirtual 209, 3) := dk_182 0 209 (dk_at dksX16_control_7 8 rfl rfl)
theorem dX16_control_186 : decode cX16_control 186 = .ok (.iconst 0, 1) := dk_3 (dk_at dksX16_control_7 11 rfl rfl)
theorem dX16_control_187 : decode cX16_control 187 = .ok (.iconst 0, 1) := dk_3 (dk_at dksX16_control_7 12 rfl rfl)
theorem dX16_control_188 : decode cX16_control 188 = .ok (.invokevirtual 274, 3) := dk_182 1 18 (dk_at dksX16_control_7 13 rfl rfl)
theorem dX16_control_191 : decode cX16_control 191 = .ok (.ireturn, 1) := dk_172 (dk_at dksX16_control_7 16 rfl rfl)
theorem dX16_control_192 : decode cX16_control 192 = .ok (.iload_n 3, 1) := dk_29 (dk_at dksX16_control_7 17 rfl rfl)
theorem dX16_control_193 : decode cX16_control 193 = .ok (.iconst 3, 1) := dk_6 (dk_at dksX16_control_7 18 rfl rfl)
theorem dX16_control_194 : decode cX16_control 194 = .ok (.if_icmp .ne 20, 3) := dk_160 0 20 (dk_at dksX16_control_7 19 rfl rfl)
theorem dX16_control_197 : decode cX16_control 197 = .ok (.aload_n 0, 1) := dk_42 (dk_at dksX16_control_7 22 rfl rfl)
theorem dX16_control_198 : decode cX16_control 198 = .ok (.iload_n 1, 1) := dk_27 (dk_at dksX16_control_7 23 rfl rfl)
theorem dX16_control_199 : decode cX16_control 199 = .ok (.iconst 2, 1) := dk_5 (dk_at dksX16_control_8 0 rfl rfl)
theorem dX16_control_200 : decode cX16_control 200 = .ok (.invokevirtual 298, 3) := dk_182 1 42 (dk_at dksX16_control_8 1 rfl rfl)
theorem dX16_control_203 : decode cX16_control 203 = .ok (.ifCond .eq 11, 3) := dk_153 0 11 (dk_at dksX16_control_8 4 rfl rfl)
theorem dX16_control_206 : decode cX16_control 206 = .ok (.aload_n 0, 1) := dk_42 (dk_at dksX16_control_8 7 rfl rfl)
theorem dX16_control_207 : decode cX16_control 207 = .ok (.iload_n 1, 1) := dk_27 (dk_at dksX16_control_8 8 rfl rfl)
theorem dX16_control_208 : decode cX16_control 208 = .ok (.invokevirtual 327, 3) := dk_182 1 71 (dk_at dksX16_control_8 9 rfl rfl)
theorem dX16_control_211 : decode cX16_control 211 = .ok (.goto 4, 3) := dk_167 0 4 (dk_at dksX16_control_8 12 rfl rfl)
theorem dX16_control_214 : decode cX16_control 214 = .ok (.iconst 0, 1) := dk_3 (dk_at dksX16_control_8 15 rfl rfl)
theorem dX16_control_215 : decode cX16_control 215 = .ok (.ireturn, 1) := dk_172 (dk_at dksX16_control_8 16 rfl rfl)
theorem dX16_control_216 : decode cX16_control 216 = .ok (.aload_n 0, 1) := dk_42 (dk_at dksX16_control_8 17 rfl rfl)
theorem dX16_control_217 : decode cX16_control 217 = .ok (.iload_n 3, 1) := dk_29 (dk_at dksX16_control_8 18 rfl rfl)
theorem dX16_control_218 : decode cX16_control 218 = .ok (.ifCond .ne 43, 3) := dk_154 0 43 (dk_at dksX16_control_8 19 rfl rfl)
theorem dX16_control_221 : decode cX16_control 221 = .ok (.aload_n 0, 1) := dk_42 (dk_at dksX16_control_8 22 rfl rfl)
theorem dX16_control_222 : decode cX16_control 222 = .ok (.iconst 1, 1) := dk_4 (dk_at dksX16_control_8 23 rfl rfl)
theorem dX16_control_223 : decode cX16_control 223 = .ok (.invokevirtual 304, 3) := dk_182 1 48 (dk_at dksX16_control_9 0 rfl rfl)
theorem dX16_control_226 : decode cX16_control 226 = .ok (.bipush 17, 2) := dk_16 17 (dk_at dksX16_control_9 3 rfl rfl)
theorem dX16_control_228 : decode cX16_control 228 = .ok (.if_icmp .ne 33, 3) := dk_160 0 33 (dk_at dksX16_control_9 5 rfl rfl)
theorem dX16_control_231 : decode cX16_control 231 = .ok (.aload_n 0, 1) := dk_42 (dk_at dksX16_control_9 8 rfl rfl)
theorem dX16_control_232 : decode cX16_control 232 = .ok (.iconst 1, 1) := dk_4 (dk_at dksX16_control_9 9 rfl rfl)
theorem dX16_control_233 : decode cX16_control 233 = .ok (.invokevirtual 307, 3) := dk_182 1 51 (dk_at dksX16_control_9 10 rfl rfl)
theorem dX16_control_236 : decode cX16_control 236 = .ok (.aload_n 0, 1) := dk_42 (dk_at dksX16_control_9 13 rfl rfl)
theorem dX16_control_237 : decode cX16_control 237 = .ok (.iconst 0, 1) := dk_3 (dk_at dksX16_control_9 14 rfl rfl)
theorem dX16_control_238 : decode cX16_control 238 = .ok (.invokevirtual 209, 3) := dk_182 0 209 (dk_at dksX16_control_9 15 rfl rfl)
theorem dX16_control_241 : decode cX16_control 241 = .ok (.if_icmp .ne 20, 3) := dk_160 0 20 (dk_at dksX16_control_9 18 rfl rfl)
theorem dX16_control_244 : decode cX16_control 244 = .ok (.aload_n 0, 1) := dk_42 (dk_at dksX16_control_9 21 rfl rfl)
theorem dX16_control_245 : decode cX16_control 245 = .ok (.iconst 2, 1) := dk_5 (dk_at dksX16_control_9 22 rfl rfl)
theorem dX16_control_246 : decode cX16_control 246 = .ok (.aload_n 0, 1) := dk_42 (dk_at dksX16_control_9 23 rfl rfl)
theorem dX16_control_247 : decode cX16_control 247 = .ok (.iconst 1, 1) := dk_4 (dk_at dksX16_control_10 0 rfl rfl)
theorem dX16_control_248 : decode cX16_control 248 = .ok (.invokevirtual 310, 3) := dk_182 1 54 (dk_at dksX16_control_10 1 rfl rfl)
theorem dX16_control_251 : decode cX16_control 251 = .ok (.invokevirtual 278, 3) := dk_182 1 22 (dk_at dksX16_control_10 4 rfl rfl)
theorem dX16_control_254 : decode cX16_control 254 = .ok (.ifCond .eq 7, 3) := dk_153 0 7 (dk_at dksX16_control_10 7 rfl rfl)
theorem dX16_control_257 : decode cX16_control 257 = .ok (.iconst 1, 1) := dk_4 (dk_at dksX16_control_10 10 rfl rfl)
theorem dX16_control_258 : decode cX16_control 258 = .ok (.goto 4, 3) := dk_167 0 4 (dk_at dksX16_control_10 11 rfl rfl)
theorem dX16_control_261 : decode cX16_control 261 = .ok (.iconst 0, 1) := dk_3 (dk_at dksX16_control_10 14 rfl rfl)
theorem dX16_control_262 : decode cX16_control 262 = .ok (.iload_n 2, 1) := dk_28 (dk_at dksX16_control_10 15 rfl rfl)
theorem dX16_control_263 : decode cX16_control 263 = .ok (.iconst 0, 1) := dk_3 (dk_at dksX16_control_10 16 rfl rfl)
theorem dX16_control_264 : decode cX16_control 264 = .ok (.iconst 0, 1) := dk_3 (dk_at dksX16_control_10 17 rfl rfl)
theorem dX16_control_265 : decode cX16_control 265 = .ok (.iconst 0, 1) := dk_3 (dk_at dksX16_control_10 18 rfl rfl)
theorem dX16_control_266 : decode cX16_control 266 = .ok (.invokevirtual 274, 3) := dk_182 1 18 (dk_at dksX16_control_10 19 rfl rfl)
theorem dX16_control_269 : decode cX16_control 269 = .ok (.ireturn, 1) := dk_172 (dk_at dksX16_control_10 22 rfl rfl)
theorem dX16_control_270 : decode cX16_control 270 = .ok (.iload_n 3, 1) := dk_29 (dk_at dksX16_control_10 23 rfl rfl)
theorem dX16_control_271 : decode cX16_control 271 = .ok (.ifCond .ne 72, 3) := dk_154 0 72 (dk_at dksX16_control_11 0 rfl rfl)
theorem dX16_control_274 : decode cX16_control 274 = .ok (.aload_n 0, 1) := dk_42 (dk_at dksX16_control_11 3 rfl rfl)
theorem dX16_control_275 : decode cX16_control 275 = .ok (.iconst 1, 1) := dk_4 (dk_at dksX16_control_11 4 rfl rfl)
theorem dX16_control_276 : decode cX16_control 276 = .ok (.invokevirtual 304, 3) := dk_182 1 48 (dk_at dksX16_control_11 5 rfl rfl)
theorem dX16_control_279 : decode cX16_control 279 = .ok (.bipush 17, 2) := dk_16 17 (dk_at dksX16_control_11 8 rfl rfl)
theorem dX16_control_281 : decode cX16_control 281 = .ok (.if_icmp .ne 62, 3) := dk_160 0 62 (dk_at dksX16_control_11 10 rfl rfl)
theorem dX16_control_284 : decode cX16_control 284 = .ok (.aload_n 0, 1) := dk_42 (dk_at dksX16_control_11 13 rfl rfl)
theorem dX16_control_285 : decode cX16_control 285 = .ok (.getfield 32, 3) := dk_180 0 32 (dk_at dksX16_control_11 14 rfl rfl)
theorem dX16_control_288 : decode cX16_control 288 = .ok (.getfield 163, 3) := dk_180 0 163 (dk_at dksX16_control_11 17 rfl rfl)
theorem dX16_control_291 : decode cX16_control 291 = .ok (.aload_n 0, 1) := dk_42 (dk_at dksX16_control_11 20 rfl rfl)
theorem dX16_control_292 : decode cX16_control 292 = .ok (.iconst 1, 1) := dk_4 (dk_at dksX16_control_11 21 rfl rfl)
theorem dX16_control_293 : decode cX16_control 293 = .ok (.invokevirtual 307, 3) := dk_182 1 51 (dk_at dksX16_control_12 0 rfl rfl)
theorem dX16_control_296 : decode cX16_control 296 = .ok (.baload, 1) := dk_51 (dk_at dksX16_control_12 3 rfl rfl)
theorem dX16_control_297 : decode cX16_control 297 = .ok (.bipush 18, 2) := dk_16 18 (dk_at dksX16_control_12 4 rfl rfl)
theorem dX16_control_299 : decode cX16_control 299 = .ok (.if_icmp .ne 44, 3) := dk_160 0 44 (dk_at dksX16_control_12 6 rfl rfl)
theorem dX16_control_302 : decode cX16_control 302 = .ok (.aload_n 0, 1) := dk_42 (dk_at dksX16_control_12 9 rfl rfl)
theorem dX16_control_303 : decode cX16_control 303 = .ok (.getfield 32, 3) := dk_180 0 32 (dk_at dksX16_control_12 10 rfl rfl)
theorem dX16_control_306 : decode cX16_control 306 = .ok (.getfield 166, 3) := dk_180 0 166 (dk_at dksX16_control_12 13 rfl rfl)
theorem dX16_control_309 : decode cX16_control 309 = .ok (.aload_n 0, 1) := dk_42 (dk_at dksX16_control_12 16 rfl rfl)
theorem dX16_control_310 : decode cX16_control 310 = .ok (.iconst 1, 1) := dk_4 (dk_at dksX16_control_12 17 rfl rfl)
theorem dX16_control_311 : decode cX16_control 311 = .ok (.invokevirtual 307, 3) := dk_182 1 51 (dk_at dksX16_control_12 18 rfl rfl)
theorem dX16_control_314 : decode cX16_control 314 = .ok (.iaload, 1) := dk_46 (dk_at dksX16_control_12 21 rfl rfl)
theorem dX16_control_315 : decode cX16_control 315 = .ok (.aload_n 0, 1) := dk_42 (dk_at dksX16_control_12 22 rfl rfl)
theorem dX16_control_316 : decode cX16_control 316 = .ok (.iconst 0, 1) := dk_3 (dk_at dksX16_control_12 23 rfl rfl)
theorem dX16_control_317 : decode cX16_control 317 = .ok (.invokevirtual 209, 3) := dk_182 0 209 (dk_at dksX16_control_13 0 rfl rfl)
theorem dX16_control_320 : decode cX16_control 320 = .ok (.if_icmp .ne 23, 3) := dk_160 0 23 (dk_at dksX16_control_13 3 rfl rfl)
theorem dX16_control_323 : decode cX16_control 323 = .ok (.aload_n 0, 1) := dk_42 (dk_at dksX16_control_13 6 rfl rfl)
theorem dX16_control_324 : decode cX16_control 324 = .ok (.getfield 32, 3) := dk_180 0 32 (dk_at dksX16_control_13 7 rfl rfl)
theorem dX16_control_327 : decode cX16_control 327 = .ok (.aload_n 0, 1) := dk_42 (dk_at dksX16_control_13 10 rfl rfl)
theorem dX16_control_328 : decode cX16_control 328 = .ok (.iconst 0, 1) := dk_3 (dk_at dksX16_control_13 11 rfl rfl)
theorem dX16_control_329 : decode cX16_control 329 = .ok (.invokevirtual 209, 3) := dk_182 0 209 (dk_at dksX16_control_13 12 rfl rfl)
theorem dX16_control_332 : decode cX16_control 332 = .ok (.iconst 2, 1) := dk_5 (dk_at dksX16_control_13 15 rfl rfl)
theorem dX16_control_333 : decode cX16_control 333 = .ok (.invokevirtual 120, 3) := dk_182 0 120 (dk_at dksX16_control_13 16 rfl rfl)
theorem dX16_control_336 : decode cX16_control 336 = .ok (.ifCond .eq 7, 3) := dk_153 0 7 (dk_at dksX16_control_13 19 rfl rfl)
theorem dX16_control_339 : decode cX16_control 339 = .ok (.iconst 1, 1) := dk_4 (dk_at dksX16_control_13 22 rfl rfl)
theorem dX16_control_340 : decode cX16_control 340 = .ok (.goto 4, 3) := dk_167 0 4 (dk_at dksX16_control_14 0 rfl rfl)
theorem dX16_control_343 : decode cX16_control 343 = .ok (.iconst 0, 1) := dk_3 (dk_at dksX16_control_14 3 rfl rfl)
theorem dX16_control_344 : decode cX16_control 344 = .ok (.istore 4, 2) := dk_54 4 (dk_at dksX16_control_14 4 rfl rfl)
theorem dX16_control_346 : decode cX16_control 346 = .ok (.aload_n 0, 1) := dk_42 (dk_at dksX16_control_14 6 rfl rfl)
theorem dX16_control_347 : decode cX16_control 347 = .ok (.iload 4, 2) := dk_21 4 (dk_at dksX16_control_14 7 rfl rfl)
theorem dX16_control_349 : decode cX16_control 349 = .ok (.ifCond .eq 42, 3) := dk_153 0 42 (dk_at dksX16_control_14 9 rfl rfl)
theorem dX16_control_352 : decode cX16_control 352 = .ok (.aload_n 0, 1) := dk_42 (dk_at dksX16_control_14 12 rfl rfl)
theorem dX16_control_353 : decode cX16_control 353 = .ok (.iconst 2, 1) := dk_5 (dk_at dksX16_control_14 13 rfl rfl)
theorem dX16_control_354 : decode cX16_control 354 = .ok (.aload_n 0, 1) := dk_42 (dk_at dksX16_control_14 14 rfl rfl)
theorem dX16_control_355 : decode cX16_control 355 = .ok (.getfield 32, 3) := dk_180 0 32 (dk_at dksX16_control_14 15 rfl rfl)
theorem dX16_control_358 : decode cX16_control 358 = .ok (.bipush 17, 2) := dk_16 17 (dk_at dksX16_control_14 18 rfl rfl)
theorem dX16_control_360 : decode cX16_control 360 = .ok (.aload_n 0, 1) := dk_42 (dk_at dksX16_control_14 20 rfl rfl)
theorem dX16_control_361 : decode cX16_control 361 = .ok (.getfield 32, 3) := dk_180 0 32 (dk_at dksX16_control_14 21 rfl rfl)
theorem dX16_control_364 : decode cX16_control 364 = .ok (.getfield 169, 3) := dk_180 0 169 (dk_at dksX16_control_15 0 rfl rfl)
theorem dX16_control_367 : decode cX16_control 367 = .ok (.aload_n 0, 1) := dk_42 (dk_at dksX16_control_15 3 rfl rfl)
theorem dX16_control_368 : decode cX16_control 368 = .ok (.iconst 1, 1) := dk_4 (dk_at dksX16_control_15 4 rfl rfl)
theorem dX16_control_369 : decode cX16_control 369 = .ok (.invokevirtual 307, 3) := dk_182 1 51 (dk_at dksX16_control_15 5 rfl rfl)
theorem dX16_control_372 : decode cX16_control 372 = .ok (.iaload, 1) := dk_46 (dk_at dksX16_control_15 8 rfl rfl)
theorem dX16_control_373 : decode cX16_control 373 = .ok (.aload_n 0, 1) := dk_42 (dk_at dksX16_control_15 9 rfl rfl)
theorem dX16_control_374 : decode cX16_control 374 = .ok (.iconst 1, 1) := dk_4 (dk_at dksX16_control_15 10 rfl rfl)
theorem dX16_control_375 : decode cX16_control 375 = .ok (.invokevirtual 310, 3) := dk_182 1 54 (dk_at dksX16_control_15 11 rfl rfl)
theorem dX16_control_378 : decode cX16_control 378 = .ok (.invokevirtual 195, 3) := dk_182 0 195 (dk_at dksX16_control_15 14 rfl rfl)
theorem dX16_control_381 : decode cX16_control 381 = .ok (.invokevirtual 278, 3) := dk_182 1 22 (dk_at dksX16_control_15 17 rfl rfl)
theorem dX16_control_384 : decode cX16_control 384 = .ok (.ifCond .eq 7, 3) := dk_153 0 7 (dk_at dksX16_control_15 20 rfl rfl)
theorem dX16_control_387 : decode cX16_control 387 = .ok (.iconst 1, 1) := dk_4 (dk_at dksX16_control_15 23 rfl rfl)
theorem dX16_control_388 : decode cX16_control 388 = .ok (.goto 4, 3) := dk_167 0 4 (dk_at dksX16_control_16 0 rfl rfl)
theorem dX16_control_391 : decode cX16_control 391 = .ok (.iconst 0, 1) := dk_3 (dk_at dksX16_control_16 3 rfl rfl)
theorem dX16_control_392 : decode cX16_control 392 = .ok (.iload_n 2, 1) := dk_28 (dk_at dksX16_control_16 4 rfl rfl)
theorem dX16_control_393 : decode cX16_control 393 = .ok (.iconst 0, 1) := dk_3 (dk_at dksX16_control_16 5 rfl rfl)
theorem dX16_control_394 : decode cX16_control 394 = .ok (.iconst 0, 1) := dk_3 (dk_at dksX16_control_16 6 rfl rfl)
theorem dX16_control_395 : decode cX16_control 395 = .ok (.iconst 0, 1) := dk_3 (dk_at dksX16_control_16 7 rfl rfl)
theorem dX16_control_396 : decode cX16_control 396 = .ok (.invokevirtual 274, 3) := dk_182 1 18 (dk_at dksX16_control_16 8 rfl rfl)
theorem dX16_control_399 : decode cX16_control 399 = .ok (.ireturn, 1) := dk_172 (dk_at dksX16_control_16 11 rfl rfl)
abbrev cX16_branch : ByteArray := prog_21_method_32_code
def yX16_branch : MethodName := ⟨RX16, "branch", "(II)I"⟩
def dkwX16_branch_15 : List UInt8 := [182, 1, 18, 172]
abbrev dktX16_branch_15 : List UInt8 := dkwX16_branch_15 ++ []
def dkwX16_branch_14 : List UInt8 := [4, 167, 0, 4, 3, 181, 0, 199, 42, 21, 5, 181, 0, 59, 42, 21, 13, 28, 21, 8, 21, 11, 3]
abbrev dktX16_branch_14 : List UInt8 := dkwX16_branch_14 ++ dktX16_branch_15
def dkwX16_branch_13 : List UInt8 := [182, 1, 80, 153, 0, 7, 4, 167, 0, 4, 3, 54, 13, 42, 21, 9, 153, 0, 12, 21, 12, 153, 0, 7]
abbrev dktX16_branch_13 : List UInt8 := dkwX16_branch_13 ++ dktX16_branch_14
def dkwX16_branch_12 : List UInt8 := [154, 0, 9, 42, 21, 10, 182, 1, 77, 21, 9, 154, 0, 17, 21, 12, 154, 0, 12, 42, 21, 10]
abbrev dktX16_branch_12 : List UInt8 := dkwX16_branch_12 ++ dktX16_branch_13
def dkwX16_branch_11 : List UInt8 := [54, 11, 42, 180, 0, 52, 155, 0, 5, 3, 172, 42, 180, 0, 199, 54, 12, 21, 12, 153, 0, 14, 21, 9]
abbrev dktX16_branch_11 : List UInt8 := dkwX16_branch_11 ++ dktX16_branch_12
def dkwX16_branch_10 : List UInt8 := [42, 180, 0, 32, 180, 0, 169, 21, 4, 46, 182, 1, 22, 87, 42, 42, 27, 4, 182, 0, 226, 182, 0, 206]
abbrev dktX16_branch_10 : List UInt8 := dkwX16_branch_10 ++ dktX16_branch_11
def dkwX16_branch_9 : List UInt8 := [180, 0, 32, 180, 0, 166, 21, 4, 46, 182, 1, 22, 87, 167, 0, 25, 28, 16, 54, 160, 0, 19, 42, 3]
abbrev dktX16_branch_9 : List UInt8 := dkwX16_branch_9 ++ dktX16_branch_10
def dkwX16_branch_8 : List UInt8 := [182, 1, 74, 42, 180, 0, 59, 54, 10, 42, 21, 6, 182, 1, 77, 28, 16, 53, 160, 0, 22, 42, 3, 42]
abbrev dktX16_branch_8 : List UInt8 := dkwX16_branch_8 ++ dktX16_branch_9
def dkwX16_branch_7 : List UInt8 := [182, 0, 226, 182, 0, 206, 54, 8, 42, 180, 0, 52, 155, 0, 5, 3, 172, 42, 180, 0, 199, 54, 9, 42]
abbrev dktX16_branch_7 : List UInt8 := dkwX16_branch_7 ++ dktX16_branch_8
def dkwX16_branch_6 : List UInt8 := [182, 1, 22, 87, 42, 3, 42, 180, 0, 32, 180, 0, 166, 21, 4, 46, 182, 1, 22, 87, 42, 42, 27, 3]
abbrev dktX16_branch_6 : List UInt8 := dkwX16_branch_6 ++ dktX16_branch_7
def dkwX16_branch_5 : List UInt8 := [182, 1, 22, 87, 167, 0, 40, 28, 16, 55, 160, 0, 34, 21, 7, 154, 0, 5, 3, 172, 42, 3, 21, 4]
abbrev dktX16_branch_5 : List UInt8 := dkwX16_branch_5 ++ dktX16_branch_6
def dkwX16_branch_4 : List UInt8 := [167, 0, 4, 3, 54, 7, 28, 16, 54, 160, 0, 22, 42, 3, 42, 180, 0, 32, 180, 0, 166, 21, 4, 46]
abbrev dktX16_branch_4 : List UInt8 := dkwX16_branch_4 ++ dktX16_branch_5
def dkwX16_branch_3 : List UInt8 := [182, 1, 74, 42, 180, 0, 59, 54, 6, 42, 180, 0, 56, 5, 96, 17, 1, 44, 163, 0, 7, 4]
abbrev dktX16_branch_3 : List UInt8 := dkwX16_branch_3 ++ dktX16_branch_4
def dkwX16_branch_2 : List UInt8 := [180, 0, 20, 42, 89, 180, 0, 56, 4, 100, 90, 181, 0, 56, 46, 54, 4, 42, 180, 0, 59, 54, 5, 42]
abbrev dktX16_branch_2 : List UInt8 := dkwX16_branch_2 ++ dktX16_branch_3
def dkwX16_branch_1 : List UInt8 := [160, 0, 8, 16, 14, 167, 0, 5, 16, 11, 62, 42, 3, 182, 1, 48, 29, 159, 0, 5, 3, 172, 42]
abbrev dktX16_branch_1 : List UInt8 := dkwX16_branch_1 ++ dktX16_branch_2
def dkwX16_branch_0 : List UInt8 := [28, 16, 52, 160, 0, 7, 4, 167, 0, 27, 28, 16, 53, 160, 0, 8, 16, 10, 167, 0, 16, 28, 16, 54]
abbrev dktX16_branch_0 : List UInt8 := dkwX16_branch_0 ++ dktX16_branch_1
theorem dksX16_branch_0 : cX16_branch.data.toList.drop 0 = dktX16_branch_0 := by decide +kernel
theorem dksX16_branch_1 : cX16_branch.data.toList.drop 24 = dktX16_branch_1 := dk_seg dksX16_branch_0 24 rfl rfl
theorem dksX16_branch_2 : cX16_branch.data.toList.drop 47 = dktX16_branch_2 := dk_seg dksX16_branch_1 23 rfl rfl
theorem dksX16_branch_3 : cX16_branch.data.toList.drop 71 = dktX16_branch_3 := dk_seg dksX16_branch_2 24 rfl rfl
theorem dksX16_branch_4 : cX16_branch.data.toList.drop 93 = dktX16_branch_4 := dk_seg dksX16_branch_3 22 rfl rfl
theorem dksX16_branch_5 : cX16_branch.data.toList.drop 117 = dktX16_branch_5 := dk_seg dksX16_branch_4 24 rfl rfl
theorem dksX16_branch_6 : cX16_branch.data.toList.drop 141 = dktX16_branch_6 := dk_seg dksX16_branch_5 24 rfl rfl
theorem dksX16_branch_7 : cX16_branch.data.toList.drop 165 = dktX16_branch_7 := dk_seg dksX16_branch_6 24 rfl rfl
theorem dksX16_branch_8 : cX16_branch.data.toList.drop 189 = dktX16_branch_8 := dk_seg dksX16_branch_7 24 rfl rfl
theorem dksX16_branch_9 : cX16_branch.data.toList.drop 213 = dktX16_branch_9 := dk_seg dksX16_branch_8 24 rfl rfl
theorem dksX16_branch_10 : cX16_branch.data.toList.drop 237 = dktX16_branch_10 := dk_seg dksX16_branch_9 24 rfl rfl
theorem dksX16_branch_11 : cX16_branch.data.toList.drop 261 = dktX16_branch_11 := dk_seg dksX16_branch_10 24 rfl rfl
theorem dksX16_branch_12 : cX16_branch.data.toList.drop 285 = dktX16_branch_12 := dk_seg dksX16_branch_11 24 rfl rfl
theorem dksX16_branch_13 : cX16_branch.data.toList.drop 307 = dktX16_branch_13 := dk_seg dksX16_branch_12 22 rfl rfl
theorem dksX16_branch_14 : cX16_branch.data.toList.drop 331 = dktX16_branch_14 := dk_seg dksX16_branch_13 24 rfl rfl
theorem dksX16_branch_15 : cX16_branch.data.toList.drop 354 = dktX16_branch_15 := dk_seg dksX16_branch_14 23 rfl rfl
theorem dX16_branch_0 : decode cX16_branch 0 = .ok (.iload_n 2, 1) := dk_28 (dk_at dksX16_branch_0 0 rfl rfl)
theorem dX16_branch_1 : decode cX16_branch 1 = .ok (.bipush 52, 2) := dk_16 52 (dk_at dksX16_branch_0 1 rfl rfl)
theorem dX16_branch_3 : decode cX16_branch 3 = .ok (.if_icmp .ne 7, 3) := dk_160 0 7 (dk_at dksX16_branch_0 3 rfl rfl)
theorem dX16_branch_6 : decode cX16_branch 6 = .ok (.iconst 1, 1) := dk_4 (dk_at dksX16_branch_0 6 rfl rfl)
theorem dX16_branch_7 : decode cX16_branch 7 = .ok (.goto 27, 3) := dk_167 0 27 (dk_at dksX16_branch_0 7 rfl rfl)
theorem dX16_branch_10 : decode cX16_branch 10 = .ok (.iload_n 2, 1) := dk_28 (dk_at dksX16_branch_0 10 rfl rfl)
theorem dX16_branch_11 : decode cX16_branch 11 = .ok (.bipush 53, 2) := dk_16 53 (dk_at dksX16_branch_0 11 rfl rfl)
theorem dX16_branch_13 : decode cX16_branch 13 = .ok (.if_icmp .ne 8, 3) := dk_160 0 8 (dk_at dksX16_branch_0 13 rfl rfl)
theorem dX16_branch_16 : decode cX16_branch 16 = .ok (.bipush 10, 2) := dk_16 10 (dk_at dksX16_branch_0 16 rfl rfl)
theorem dX16_branch_18 : decode cX16_branch 18 = .ok (.goto 16, 3) := dk_167 0 16 (dk_at dksX16_branch_0 18 rfl rfl)
theorem dX16_branch_21 : decode cX16_branch 21 = .ok (.iload_n 2, 1) := dk_28 (dk_at dksX16_branch_0 21 rfl rfl)
theorem dX16_branch_22 : decode cX16_branch 22 = .ok (.bipush 54, 2) := dk_16 54 (dk_at dksX16_branch_0 22 rfl rfl)
theorem dX16_branch_24 : decode cX16_branch 24 = .ok (.if_icmp .ne 8, 3) := dk_160 0 8 (dk_at dksX16_branch_1 0 rfl rfl)
theorem dX16_branch_27 : decode cX16_branch 27 = .ok (.bipush 14, 2) := dk_16 14 (dk_at dksX16_branch_1 3 rfl rfl)
theorem dX16_branch_29 : decode cX16_branch 29 = .ok (.goto 5, 3) := dk_167 0 5 (dk_at dksX16_branch_1 5 rfl rfl)
theorem dX16_branch_32 : decode cX16_branch 32 = .ok (.bipush 11, 2) := dk_16 11 (dk_at dksX16_branch_1 8 rfl rfl)
theorem dX16_branch_34 : decode cX16_branch 34 = .ok (.istore_n 3, 1) := dk_62 (dk_at dksX16_branch_1 10 rfl rfl)
theorem dX16_branch_35 : decode cX16_branch 35 = .ok (.aload_n 0, 1) := dk_42 (dk_at dksX16_branch_1 11 rfl rfl)
theorem dX16_branch_36 : decode cX16_branch 36 = .ok (.iconst 0, 1) := dk_3 (dk_at dksX16_branch_1 12 rfl rfl)
theorem dX16_branch_37 : decode cX16_branch 37 = .ok (.invokevirtual 304, 3) := dk_182 1 48 (dk_at dksX16_branch_1 13 rfl rfl)
theorem dX16_branch_40 : decode cX16_branch 40 = .ok (.iload_n 3, 1) := dk_29 (dk_at dksX16_branch_1 16 rfl rfl)
theorem dX16_branch_41 : decode cX16_branch 41 = .ok (.if_icmp .eq 5, 3) := dk_159 0 5 (dk_at dksX16_branch_1 17 rfl rfl)
theorem dX16_branch_44 : decode cX16_branch 44 = .ok (.iconst 0, 1) := dk_3 (dk_at dksX16_branch_1 20 rfl rfl)
theorem dX16_branch_45 : decode cX16_branch 45 = .ok (.ireturn, 1) := dk_172 (dk_at dksX16_branch_1 21 rfl rfl)
theorem dX16_branch_46 : decode cX16_branch 46 = .ok (.aload_n 0, 1) := dk_42 (dk_at dksX16_branch_1 22 rfl rfl)
theorem dX16_branch_47 : decode cX16_branch 47 = .ok (.getfield 20, 3) := dk_180 0 20 (dk_at dksX16_branch_2 0 rfl rfl)
theorem dX16_branch_50 : decode cX16_branch 50 = .ok (.aload_n 0, 1) := dk_42 (dk_at dksX16_branch_2 3 rfl rfl)
theorem dX16_branch_51 : decode cX16_branch 51 = .ok (.dup, 1) := dk_89 (dk_at dksX16_branch_2 4 rfl rfl)
theorem dX16_branch_52 : decode cX16_branch 52 = .ok (.getfield 56, 3) := dk_180 0 56 (dk_at dksX16_branch_2 5 rfl rfl)
theorem dX16_branch_55 : decode cX16_branch 55 = .ok (.iconst 1, 1) := dk_4 (dk_at dksX16_branch_2 8 rfl rfl)
theorem dX16_branch_56 : decode cX16_branch 56 = .ok (.isub, 1) := dk_100 (dk_at dksX16_branch_2 9 rfl rfl)
theorem dX16_branch_57 : decode cX16_branch 57 = .ok (.dup_x1, 1) := dk_90 (dk_at dksX16_branch_2 10 rfl rfl)
theorem dX16_branch_58 : decode cX16_branch 58 = .ok (.putfield 56, 3) := dk_181 0 56 (dk_at dksX16_branch_2 11 rfl rfl)
theorem dX16_branch_61 : decode cX16_branch 61 = .ok (.iaload, 1) := dk_46 (dk_at dksX16_branch_2 14 rfl rfl)
theorem dX16_branch_62 : decode cX16_branch 62 = .ok (.istore 4, 2) := dk_54 4 (dk_at dksX16_branch_2 15 rfl rfl)
theorem dX16_branch_64 : decode cX16_branch 64 = .ok (.aload_n 0, 1) := dk_42 (dk_at dksX16_branch_2 17 rfl rfl)
theorem dX16_branch_65 : decode cX16_branch 65 = .ok (.getfield 59, 3) := dk_180 0 59 (dk_at dksX16_branch_2 18 rfl rfl)
theorem dX16_branch_68 : decode cX16_branch 68 = .ok (.istore 5, 2) := dk_54 5 (dk_at dksX16_branch_2 21 rfl rfl)
theorem dX16_branch_70 : decode cX16_branch 70 = .ok (.aload_n 0, 1) := dk_42 (dk_at dksX16_branch_2 23 rfl rfl)
theorem dX16_branch_71 : decode cX16_branch 71 = .ok (.invokevirtual 330, 3) := dk_182 1 74 (dk_at dksX16_branch_3 0 rfl rfl)
theorem dX16_branch_74 : decode cX16_branch 74 = .ok (.aload_n 0, 1) := dk_42 (dk_at dksX16_branch_3 3 rfl rfl)
theorem dX16_branch_75 : decode cX16_branch 75 = .ok (.getfield 59, 3) := dk_180 0 59 (dk_at dksX16_branch_3 4 rfl rfl)
theorem dX16_branch_78 : decode cX16_branch 78 = .ok (.istore 6, 2) := dk_54 6 (dk_at dksX16_branch_3 7 rfl rfl)
theorem dX16_branch_80 : decode cX16_branch 80 = .ok (.aload_n 0, 1) := dk_42 (dk_at dksX16_branch_3 9 rfl rfl)
theorem dX16_branch_81 : decode cX16_branch 81 = .ok (.getfield 56, 3) := dk_180 0 56 (dk_at dksX16_branch_3 10 rfl rfl)
theorem dX16_branch_84 : decode cX16_branch 84 = .ok (.iconst 2, 1) := dk_5 (dk_at dksX16_branch_3 13 rfl rfl)
theorem dX16_branch_85 : decode cX16_branch 85 = .ok (.iadd, 1) := dk_96 (dk_at dksX16_branch_3 14 rfl rfl)
theorem dX16_branch_86 : decode cX16_branch 86 = .ok (.sipush 300, 3) := dk_17 1 44 (dk_at dksX16_branch_3 15 rfl rfl)
theorem dX16_branch_89 : decode cX16_branch 89 = .ok (.if_icmp .gt 7, 3) := dk_163 0 7 (dk_at dksX16_branch_3 18 rfl rfl)
theorem dX16_branch_92 : decode cX16_branch 92 = .ok (.iconst 1, 1) := dk_4 (dk_at dksX16_branch_3 21 rfl rfl)
theorem dX16_branch_93 : decode cX16_branch 93 = .ok (.goto 4, 3) := dk_167 0 4 (dk_at dksX16_branch_4 0 rfl rfl)
theorem dX16_branch_96 : decode cX16_branch 96 = .ok (.iconst 0, 1) := dk_3 (dk_at dksX16_branch_4 3 rfl rfl)
theorem dX16_branch_97 : decode cX16_branch 97 = .ok (.istore 7, 2) := dk_54 7 (dk_at dksX16_branch_4 4 rfl rfl)
theorem dX16_branch_99 : decode cX16_branch 99 = .ok (.iload_n 2, 1) := dk_28 (dk_at dksX16_branch_4 6 rfl rfl)
theorem dX16_branch_100 : decode cX16_branch 100 = .ok (.bipush 54, 2) := dk_16 54 (dk_at dksX16_branch_4 7 rfl rfl)
theorem dX16_branch_102 : decode cX16_branch 102 = .ok (.if_icmp .ne 22, 3) := dk_160 0 22 (dk_at dksX16_branch_4 9 rfl rfl)
theorem dX16_branch_105 : decode cX16_branch 105 = .ok (.aload_n 0, 1) := dk_42 (dk_at dksX16_branch_4 12 rfl rfl)
theorem dX16_branch_106 : decode cX16_branch 106 = .ok (.iconst 0, 1) := dk_3 (dk_at dksX16_branch_4 13 rfl rfl)
theorem dX16_branch_107 : decode cX16_branch 107 = .ok (.aload_n 0, 1) := dk_42 (dk_at dksX16_branch_4 14 rfl rfl)
theorem dX16_branch_108 : decode cX16_branch 108 = .ok (.getfield 32, 3) := dk_180 0 32 (dk_at dksX16_branch_4 15 rfl rfl)
theorem dX16_branch_111 : decode cX16_branch 111 = .ok (.getfield 166, 3) := dk_180 0 166 (dk_at dksX16_branch_4 18 rfl rfl)
theorem dX16_branch_114 : decode cX16_branch 114 = .ok (.iload 4, 2) := dk_21 4 (dk_at dksX16_branch_4 21 rfl rfl)
theorem dX16_branch_116 : decode cX16_branch 116 = .ok (.iaload, 1) := dk_46 (dk_at dksX16_branch_4 23 rfl rfl)
theorem dX16_branch_117 : decode cX16_branch 117 = .ok (.invokevirtual 278, 3) := dk_182 1 22 (dk_at dksX16_branch_5 0 rfl rfl)
theorem dX16_branch_120 : decode cX16_branch 120 = .ok (.pop, 1) := dk_87 (dk_at dksX16_branch_5 3 rfl rfl)
theorem dX16_branch_121 : decode cX16_branch 121 = .ok (.goto 40, 3) := dk_167 0 40 (dk_at dksX16_branch_5 4 rfl rfl)
theorem dX16_branch_124 : decode cX16_branch 124 = .ok (.iload_n 2, 1) := dk_28 (dk_at dksX16_branch_5 7 rfl rfl)
theorem dX16_branch_125 : decode cX16_branch 125 = .ok (.bipush 55, 2) := dk_16 55 (dk_at dksX16_branch_5 8 rfl rfl)
theorem dX16_branch_127 : decode cX16_branch 127 = .ok (.if_icmp .ne 34, 3) := dk_160 0 34 (dk_at dksX16_branch_5 10 rfl rfl)
theorem dX16_branch_130 : decode cX16_branch 130 = .ok (.iload 7, 2) := dk_21 7 (dk_at dksX16_branch_5 13 rfl rfl)
theorem dX16_branch_132 : decode cX16_branch 132 = .ok (.ifCond .ne 5, 3) := dk_154 0 5 (dk_at dksX16_branch_5 15 rfl rfl)
theorem dX16_branch_135 : decode cX16_branch 135 = .ok (.iconst 0, 1) := dk_3 (dk_at dksX16_branch_5 18 rfl rfl)
theorem dX16_branch_136 : decode cX16_branch 136 = .ok (.ireturn, 1) := dk_172 (dk_at dksX16_branch_5 19 rfl rfl)
theorem dX16_branch_137 : decode cX16_branch 137 = .ok (.aload_n 0, 1) := dk_42 (dk_at dksX16_branch_5 20 rfl rfl)
theorem dX16_branch_138 : decode cX16_branch 138 = .ok (.iconst 0, 1) := dk_3 (dk_at dksX16_branch_5 21 rfl rfl)
theorem dX16_branch_139 : decode cX16_branch 139 = .ok (.iload 4, 2) := dk_21 4 (dk_at dksX16_branch_5 22 rfl rfl)
theorem dX16_branch_141 : decode cX16_branch 141 = .ok (.invokevirtual 278, 3) := dk_182 1 22 (dk_at dksX16_branch_6 0 rfl rfl)
theorem dX16_branch_144 : decode cX16_branch 144 = .ok (.pop, 1) := dk_87 (dk_at dksX16_branch_6 3 rfl rfl)
theorem dX16_branch_145 : decode cX16_branch 145 = .ok (.aload_n 0, 1) := dk_42 (dk_at dksX16_branch_6 4 rfl rfl)
theorem dX16_branch_146 : decode cX16_branch 146 = .ok (.iconst 0, 1) := dk_3 (dk_at dksX16_branch_6 5 rfl rfl)
theorem dX16_branch_147 : decode cX16_branch 147 = .ok (.aload_n 0, 1) := dk_42 (dk_at dksX16_branch_6 6 rfl rfl)
theorem dX16_branch_148 : decode cX16_branch 148 = .ok (.getfield 32, 3) := dk_180 0 32 (dk_at dksX16_branch_6 7 rfl rfl)
theorem dX16_branch_151 : decode cX16_branch 151 = .ok (.getfield 166, 3) := dk_180 0 166 (dk_at dksX16_branch_6 10 rfl rfl)
theorem dX16_branch_154 : decode cX16_branch 154 = .ok (.iload 4, 2) := dk_21 4 (dk_at dksX16_branch_6 13 rfl rfl)
theorem dX16_branch_156 : decode cX16_branch 156 = .ok (.iaload, 1) := dk_46 (dk_at dksX16_branch_6 15 rfl rfl)
theorem dX16_branch_157 : decode cX16_branch 157 = .ok (.invokevirtual 278, 3) := dk_182 1 22 (dk_at dksX16_branch_6 16 rfl rfl)
theorem dX16_branch_160 : decode cX16_branch 160 = .ok (.pop, 1) := dk_87 (dk_at dksX16_branch_6 19 rfl rfl)
theorem dX16_branch_161 : decode cX16_branch 161 = .ok (.aload_n 0, 1) := dk_42 (dk_at dksX16_branch_6 20 rfl rfl)
theorem dX16_branch_162 : decode cX16_branch 162 = .ok (.aload_n 0, 1) := dk_42 (dk_at dksX16_branch_6 21 rfl rfl)
theorem dX16_branch_163 : decode cX16_branch 163 = .ok (.iload_n 1, 1) := dk_27 (dk_at dksX16_branch_6 22 rfl rfl)
theorem dX16_branch_164 : decode cX16_branch 164 = .ok (.iconst 0, 1) := dk_3 (dk_at dksX16_branch_6 23 rfl rfl)
theorem dX16_branch_165 : decode cX16_branch 165 = .ok (.invokevirtual 226, 3) := dk_182 0 226 (dk_at dksX16_branch_7 0 rfl rfl)
theorem dX16_branch_168 : decode cX16_branch 168 = .ok (.invokevirtual 206, 3) := dk_182 0 206 (dk_at dksX16_branch_7 3 rfl rfl)
theorem dX16_branch_171 : decode cX16_branch 171 = .ok (.istore 8, 2) := dk_54 8 (dk_at dksX16_branch_7 6 rfl rfl)
theorem dX16_branch_173 : decode cX16_branch 173 = .ok (.aload_n 0, 1) := dk_42 (dk_at dksX16_branch_7 8 rfl rfl)
theorem dX16_branch_174 : decode cX16_branch 174 = .ok (.getfield 52, 3) := dk_180 0 52 (dk_at dksX16_branch_7 9 rfl rfl)
theorem dX16_branch_177 : decode cX16_branch 177 = .ok (.ifCond .lt 5, 3) := dk_155 0 5 (dk_at dksX16_branch_7 12 rfl rfl)
theorem dX16_branch_180 : decode cX16_branch 180 = .ok (.iconst 0, 1) := dk_3 (dk_at dksX16_branch_7 15 rfl rfl)
theorem dX16_branch_181 : decode cX16_branch 181 = .ok (.ireturn, 1) := dk_172 (dk_at dksX16_branch_7 16 rfl rfl)
theorem dX16_branch_182 : decode cX16_branch 182 = .ok (.aload_n 0, 1) := dk_42 (dk_at dksX16_branch_7 17 rfl rfl)
theorem dX16_branch_183 : decode cX16_branch 183 = .ok (.getfield 199, 3) := dk_180 0 199 (dk_at dksX16_branch_7 18 rfl rfl)
theorem dX16_branch_186 : decode cX16_branch 186 = .ok (.istore 9, 2) := dk_54 9 (dk_at dksX16_branch_7 21 rfl rfl)
theorem dX16_branch_188 : decode cX16_branch 188 = .ok (.aload_n 0, 1) := dk_42 (dk_at dksX16_branch_7 23 rfl rfl)
theorem dX16_branch_189 : decode cX16_branch 189 = .ok (.invokevirtual 330, 3) := dk_182 1 74 (dk_at dksX16_branch_8 0 rfl rfl)
theorem dX16_branch_192 : decode cX16_branch 192 = .ok (.aload_n 0, 1) := dk_42 (dk_at dksX16_branch_8 3 rfl rfl)
theorem dX16_branch_193 : decode cX16_branch 193 = .ok (.getfield 59, 3) := dk_180 0 59 (dk_at dksX16_branch_8 4 rfl rfl)
theorem dX16_branch_196 : decode cX16_branch 196 = .ok (.istore 10, 2) := dk_54 10 (dk_at dksX16_branch_8 7 rfl rfl)
theorem dX16_branch_198 : decode cX16_branch 198 = .ok (.aload_n 0, 1) := dk_42 (dk_at dksX16_branch_8 9 rfl rfl)
theorem dX16_branch_199 : decode cX16_branch 199 = .ok (.iload 6, 2) := dk_21 6 (dk_at dksX16_branch_8 10 rfl rfl)
theorem dX16_branch_201 : decode cX16_branch 201 = .ok (.invokevirtual 333, 3) := dk_182 1 77 (dk_at dksX16_branch_8 12 rfl rfl)
theorem dX16_branch_204 : decode cX16_branch 204 = .ok (.iload_n 2, 1) := dk_28 (dk_at dksX16_branch_8 15 rfl rfl)
theorem dX16_branch_205 : decode cX16_branch 205 = .ok (.bipush 53, 2) := dk_16 53 (dk_at dksX16_branch_8 16 rfl rfl)
theorem dX16_branch_207 : decode cX16_branch 207 = .ok (.if_icmp .ne 22, 3) := dk_160 0 22 (dk_at dksX16_branch_8 18 rfl rfl)
theorem dX16_branch_210 : decode cX16_branch 210 = .ok (.aload_n 0, 1) := dk_42 (dk_at dksX16_branch_8 21 rfl rfl)
theorem dX16_branch_211 : decode cX16_branch 211 = .ok (.iconst 0, 1) := dk_3 (dk_at dksX16_branch_8 22 rfl rfl)
theorem dX16_branch_212 : decode cX16_branch 212 = .ok (.aload_n 0, 1) := dk_42 (dk_at dksX16_branch_8 23 rfl rfl)
theorem dX16_branch_213 : decode cX16_branch 213 = .ok (.getfield 32, 3) := dk_180 0 32 (dk_at dksX16_branch_9 0 rfl rfl)
theorem dX16_branch_216 : decode cX16_branch 216 = .ok (.getfield 166, 3) := dk_180 0 166 (dk_at dksX16_branch_9 3 rfl rfl)
theorem dX16_branch_219 : decode cX16_branch 219 = .ok (.iload 4, 2) := dk_21 4 (dk_at dksX16_branch_9 6 rfl rfl)
theorem dX16_branch_221 : decode cX16_branch 221 = .ok (.iaload, 1) := dk_46 (dk_at dksX16_branch_9 8 rfl rfl)
theorem dX16_branch_222 : decode cX16_branch 222 = .ok (.invokevirtual 278, 3) := dk_182 1 22 (dk_at dksX16_branch_9 9 rfl rfl)
theorem dX16_branch_225 : decode cX16_branch 225 = .ok (.pop, 1) := dk_87 (dk_at dksX16_branch_9 12 rfl rfl)
theorem dX16_branch_226 : decode cX16_branch 226 = .ok (.goto 25, 3) := dk_167 0 25 (dk_at dksX16_branch_9 13 rfl rfl)
theorem dX16_branch_229 : decode cX16_branch 229 = .ok (.iload_n 2, 1) := dk_28 (dk_at dksX16_branch_9 16 rfl rfl)
theorem dX16_branch_230 : decode cX16_branch 230 = .ok (.bipush 54, 2) := dk_16 54 (dk_at dksX16_branch_9 17 rfl rfl)
theorem dX16_branch_232 : decode cX16_branch 232 = .ok (.if_icmp .ne 19, 3) := dk_160 0 19 (dk_at dksX16_branch_9 19 rfl rfl)
theorem dX16_branch_235 : decode cX16_branch 235 = .ok (.aload_n 0, 1) := dk_42 (dk_at dksX16_branch_9 22 rfl rfl)
theorem dX16_branch_236 : decode cX16_branch 236 = .ok (.iconst 0, 1) := dk_3 (dk_at dksX16_branch_9 23 rfl rfl)
theorem dX16_branch_237 : decode cX16_branch 237 = .ok (.aload_n 0, 1) := dk_42 (dk_at dksX16_branch_10 0 rfl rfl)
theorem dX16_branch_238 : decode cX16_branch 238 = .ok (.getfield 32, 3) := dk_180 0 32 (dk_at dksX16_branch_10 1 rfl rfl)
theorem dX16_branch_241 : decode cX16_branch 241 = .ok (.getfield 169, 3) := dk_180 0 169 (dk_at dksX16_branch_10 4 rfl rfl)
theorem dX16_branch_244 : decode cX16_branch 244 = .ok (.iload 4, 2) := dk_21 4 (dk_at dksX16_branch_10 7 rfl rfl)
theorem dX16_branch_246 : decode cX16_branch 246 = .ok (.iaload, 1) := dk_46 (dk_at dksX16_branch_10 9 rfl rfl)
theorem dX16_branch_247 : decode cX16_branch 247 = .ok (.invokevirtual 278, 3) := dk_182 1 22 (dk_at dksX16_branch_10 10 rfl rfl)
theorem dX16_branch_250 : decode cX16_branch 250 = .ok (.pop, 1) := dk_87 (dk_at dksX16_branch_10 13 rfl rfl)
theorem dX16_branch_251 : decode cX16_branch 251 = .ok (.aload_n 0, 1) := dk_42 (dk_at dksX16_branch_10 14 rfl rfl)
theorem dX16_branch_252 : decode cX16_branch 252 = .ok (.aload_n 0, 1) := dk_42 (dk_at dksX16_branch_10 15 rfl rfl)
theorem dX16_branch_253 : decode cX16_branch 253 = .ok (.iload_n 1, 1) := dk_27 (dk_at dksX16_branch_10 16 rfl rfl)
theorem dX16_branch_254 : decode cX16_branch 254 = .ok (.iconst 1, 1) := dk_4 (dk_at dksX16_branch_10 17 rfl rfl)
theorem dX16_branch_255 : decode cX16_branch 255 = .ok (.invokevirtual 226, 3) := dk_182 0 226 (dk_at dksX16_branch_10 18 rfl rfl)
theorem dX16_branch_258 : decode cX16_branch 258 = .ok (.invokevirtual 206, 3) := dk_182 0 206 (dk_at dksX16_branch_10 21 rfl rfl)
theorem dX16_branch_261 : decode cX16_branch 261 = .ok (.istore 11, 2) := dk_54 11 (dk_at dksX16_branch_11 0 rfl rfl)
theorem dX16_branch_263 : decode cX16_branch 263 = .ok (.aload_n 0, 1) := dk_42 (dk_at dksX16_branch_11 2 rfl rfl)
theorem dX16_branch_264 : decode cX16_branch 264 = .ok (.getfield 52, 3) := dk_180 0 52 (dk_at dksX16_branch_11 3 rfl rfl)
theorem dX16_branch_267 : decode cX16_branch 267 = .ok (.ifCond .lt 5, 3) := dk_155 0 5 (dk_at dksX16_branch_11 6 rfl rfl)
theorem dX16_branch_270 : decode cX16_branch 270 = .ok (.iconst 0, 1) := dk_3 (dk_at dksX16_branch_11 9 rfl rfl)
theorem dX16_branch_271 : decode cX16_branch 271 = .ok (.ireturn, 1) := dk_172 (dk_at dksX16_branch_11 10 rfl rfl)
theorem dX16_branch_272 : decode cX16_branch 272 = .ok (.aload_n 0, 1) := dk_42 (dk_at dksX16_branch_11 11 rfl rfl)
theorem dX16_branch_273 : decode cX16_branch 273 = .ok (.getfield 199, 3) := dk_180 0 199 (dk_at dksX16_branch_11 12 rfl rfl)
theorem dX16_branch_276 : decode cX16_branch 276 = .ok (.istore 12, 2) := dk_54 12 (dk_at dksX16_branch_11 15 rfl rfl)
theorem dX16_branch_278 : decode cX16_branch 278 = .ok (.iload 12, 2) := dk_21 12 (dk_at dksX16_branch_11 17 rfl rfl)
theorem dX16_branch_280 : decode cX16_branch 280 = .ok (.ifCond .eq 14, 3) := dk_153 0 14 (dk_at dksX16_branch_11 19 rfl rfl)
theorem dX16_branch_283 : decode cX16_branch 283 = .ok (.iload 9, 2) := dk_21 9 (dk_at dksX16_branch_11 22 rfl rfl)
theorem dX16_branch_285 : decode cX16_branch 285 = .ok (.ifCond .ne 9, 3) := dk_154 0 9 (dk_at dksX16_branch_12 0 rfl rfl)
theorem dX16_branch_288 : decode cX16_branch 288 = .ok (.aload_n 0, 1) := dk_42 (dk_at dksX16_branch_12 3 rfl rfl)
theorem dX16_branch_289 : decode cX16_branch 289 = .ok (.iload 10, 2) := dk_21 10 (dk_at dksX16_branch_12 4 rfl rfl)
theorem dX16_branch_291 : decode cX16_branch 291 = .ok (.invokevirtual 333, 3) := dk_182 1 77 (dk_at dksX16_branch_12 6 rfl rfl)
theorem dX16_branch_294 : decode cX16_branch 294 = .ok (.iload 9, 2) := dk_21 9 (dk_at dksX16_branch_12 9 rfl rfl)
theorem dX16_branch_296 : decode cX16_branch 296 = .ok (.ifCond .ne 17, 3) := dk_154 0 17 (dk_at dksX16_branch_12 11 rfl rfl)
theorem dX16_branch_299 : decode cX16_branch 299 = .ok (.iload 12, 2) := dk_21 12 (dk_at dksX16_branch_12 14 rfl rfl)
theorem dX16_branch_301 : decode cX16_branch 301 = .ok (.ifCond .ne 12, 3) := dk_154 0 12 (dk_at dksX16_branch_12 16 rfl rfl)
theorem dX16_branch_304 : decode cX16_branch 304 = .ok (.aload_n 0, 1) := dk_42 (dk_at dksX16_branch_12 19 rfl rfl)
theorem dX16_branch_305 : decode cX16_branch 305 = .ok (.iload 10, 2) := dk_21 10 (dk_at dksX16_branch_12 20 rfl rfl)
theorem dX16_branch_307 : decode cX16_branch 307 = .ok (.invokevirtual 336, 3) := dk_182 1 80 (dk_at dksX16_branch_13 0 rfl rfl)
theorem dX16_branch_310 : decode cX16_branch 310 = .ok (.ifCond .eq 7, 3) := dk_153 0 7 (dk_at dksX16_branch_13 3 rfl rfl)
theorem dX16_branch_313 : decode cX16_branch 313 = .ok (.iconst 1, 1) := dk_4 (dk_at dksX16_branch_13 6 rfl rfl)
theorem dX16_branch_314 : decode cX16_branch 314 = .ok (.goto 4, 3) := dk_167 0 4 (dk_at dksX16_branch_13 7 rfl rfl)
theorem dX16_branch_317 : decode cX16_branch 317 = .ok (.iconst 0, 1) := dk_3 (dk_at dksX16_branch_13 10 rfl rfl)
theorem dX16_branch_318 : decode cX16_branch 318 = .ok (.istore 13, 2) := dk_54 13 (dk_at dksX16_branch_13 11 rfl rfl)
theorem dX16_branch_320 : decode cX16_branch 320 = .ok (.aload_n 0, 1) := dk_42 (dk_at dksX16_branch_13 13 rfl rfl)
theorem dX16_branch_321 : decode cX16_branch 321 = .ok (.iload 9, 2) := dk_21 9 (dk_at dksX16_branch_13 14 rfl rfl)
theorem dX16_branch_323 : decode cX16_branch 323 = .ok (.ifCond .eq 12, 3) := dk_153 0 12 (dk_at dksX16_branch_13 16 rfl rfl)
theorem dX16_branch_326 : decode cX16_branch 326 = .ok (.iload 12, 2) := dk_21 12 (dk_at dksX16_branch_13 19 rfl rfl)
theorem dX16_branch_328 : decode cX16_branch 328 = .ok (.ifCond .eq 7, 3) := dk_153 0 7 (dk_at dksX16_branch_13 21 rfl rfl)
theorem dX16_branch_331 : decode cX16_branch 331 = .ok (.iconst 1, 1) := dk_4 (dk_at dksX16_branch_14 0 rfl rfl)
theorem dX16_branch_332 : decode cX16_branch 332 = .ok (.goto 4, 3) := dk_167 0 4 (dk_at dksX16_branch_14 1 rfl rfl)
theorem dX16_branch_335 : decode cX16_branch 335 = .ok (.iconst 0, 1) := dk_3 (dk_at dksX16_branch_14 4 rfl rfl)
theorem dX16_branch_336 : decode cX16_branch 336 = .ok (.putfield 199, 3) := dk_181 0 199 (dk_at dksX16_branch_14 5 rfl rfl)
theorem dX16_branch_339 : decode cX16_branch 339 = .ok (.aload_n 0, 1) := dk_42 (dk_at dksX16_branch_14 8 rfl rfl)
theorem dX16_branch_340 : decode cX16_branch 340 = .ok (.iload 5, 2) := dk_21 5 (dk_at dksX16_branch_14 9 rfl rfl)
theorem dX16_branch_342 : decode cX16_branch 342 = .ok (.putfield 59, 3) := dk_181 0 59 (dk_at dksX16_branch_14 11 rfl rfl)
theorem dX16_branch_345 : decode cX16_branch 345 = .ok (.aload_n 0, 1) := dk_42 (dk_at dksX16_branch_14 14 rfl rfl)
theorem dX16_branch_346 : decode cX16_branch 346 = .ok (.iload 13, 2) := dk_21 13 (dk_at dksX16_branch_14 15 rfl rfl)
theorem dX16_branch_348 : decode cX16_branch 348 = .ok (.iload_n 2, 1) := dk_28 (dk_at dksX16_branch_14 17 rfl rfl)
theorem dX16_branch_349 : decode cX16_branch 349 = .ok (.iload 8, 2) := dk_21 8 (dk_at dksX16_branch_14 18 rfl rfl)
theorem dX16_branch_351 : decode cX16_branch 351 = .ok (.iload 11, 2) := dk_21 11 (dk_at dksX16_branch_14 20 rfl rfl)
theorem dX16_branch_353 : decode cX16_branch 353 = .ok (.iconst 0, 1) := dk_3 (dk_at dksX16_branch_14 22 rfl rfl)
theorem dX16_branch_354 : decode cX16_branch 354 = .ok (.invokevirtual 274, 3) := dk_182 1 18 (dk_at dksX16_branch_15 0 rfl rfl)
theorem dX16_branch_357 : decode cX16_branch 357 = .ok (.ireturn, 1) := dk_172 (dk_at dksX16_branch_15 3 rfl rfl)
abbrev cX16_save : ByteArray := prog_21_method_14_code
def yX16_save : MethodName := ⟨RX16, "save", "()V"⟩
def dkwX16_save_2 : List UInt8 := [181, 0, 59, 42, 180, 0, 56, 79, 177]
abbrev dktX16_save_2 : List UInt8 := dkwX16_save_2 ++ []
def dkwX16_save_1 : List UInt8 := [180, 0, 59, 42, 180, 0, 56, 96, 181, 0, 59, 42, 180, 0, 25, 42, 89, 180, 0, 59, 90, 4, 96]
abbrev dktX16_save_1 : List UInt8 := dkwX16_save_1 ++ dktX16_save_2
def dkwX16_save_0 : List UInt8 := [42, 180, 0, 20, 3, 42, 180, 0, 25, 42, 180, 0, 59, 42, 180, 0, 56, 184, 0, 212, 42, 89]
abbrev dktX16_save_0 : List UInt8 := dkwX16_save_0 ++ dktX16_save_1
theorem dksX16_save_0 : cX16_save.data.toList.drop 0 = dktX16_save_0 := by decide +kernel
theorem dksX16_save_1 : cX16_save.data.toList.drop 22 = dktX16_save_1 := dk_seg dksX16_save_0 22 rfl rfl
theorem dksX16_save_2 : cX16_save.data.toList.drop 45 = dktX16_save_2 := dk_seg dksX16_save_1 23 rfl rfl
theorem dX16_save_0 : decode cX16_save 0 = .ok (.aload_n 0, 1) := dk_42 (dk_at dksX16_save_0 0 rfl rfl)
theorem dX16_save_1 : decode cX16_save 1 = .ok (.getfield 20, 3) := dk_180 0 20 (dk_at dksX16_save_0 1 rfl rfl)
theorem dX16_save_4 : decode cX16_save 4 = .ok (.iconst 0, 1) := dk_3 (dk_at dksX16_save_0 4 rfl rfl)
theorem dX16_save_5 : decode cX16_save 5 = .ok (.aload_n 0, 1) := dk_42 (dk_at dksX16_save_0 5 rfl rfl)
theorem dX16_save_6 : decode cX16_save 6 = .ok (.getfield 25, 3) := dk_180 0 25 (dk_at dksX16_save_0 6 rfl rfl)
theorem dX16_save_9 : decode cX16_save 9 = .ok (.aload_n 0, 1) := dk_42 (dk_at dksX16_save_0 9 rfl rfl)
theorem dX16_save_10 : decode cX16_save 10 = .ok (.getfield 59, 3) := dk_180 0 59 (dk_at dksX16_save_0 10 rfl rfl)
theorem dX16_save_13 : decode cX16_save 13 = .ok (.aload_n 0, 1) := dk_42 (dk_at dksX16_save_0 13 rfl rfl)
theorem dX16_save_14 : decode cX16_save 14 = .ok (.getfield 56, 3) := dk_180 0 56 (dk_at dksX16_save_0 14 rfl rfl)
theorem dX16_save_17 : decode cX16_save 17 = .ok (.invokestatic 212, 3) := dk_184 0 212 (dk_at dksX16_save_0 17 rfl rfl)
theorem dX16_save_20 : decode cX16_save 20 = .ok (.aload_n 0, 1) := dk_42 (dk_at dksX16_save_0 20 rfl rfl)
theorem dX16_save_21 : decode cX16_save 21 = .ok (.dup, 1) := dk_89 (dk_at dksX16_save_0 21 rfl rfl)
theorem dX16_save_22 : decode cX16_save 22 = .ok (.getfield 59, 3) := dk_180 0 59 (dk_at dksX16_save_1 0 rfl rfl)
theorem dX16_save_25 : decode cX16_save 25 = .ok (.aload_n 0, 1) := dk_42 (dk_at dksX16_save_1 3 rfl rfl)
theorem dX16_save_26 : decode cX16_save 26 = .ok (.getfield 56, 3) := dk_180 0 56 (dk_at dksX16_save_1 4 rfl rfl)
theorem dX16_save_29 : decode cX16_save 29 = .ok (.iadd, 1) := dk_96 (dk_at dksX16_save_1 7 rfl rfl)
theorem dX16_save_30 : decode cX16_save 30 = .ok (.putfield 59, 3) := dk_181 0 59 (dk_at dksX16_save_1 8 rfl rfl)
theorem dX16_save_33 : decode cX16_save 33 = .ok (.aload_n 0, 1) := dk_42 (dk_at dksX16_save_1 11 rfl rfl)
theorem dX16_save_34 : decode cX16_save 34 = .ok (.getfield 25, 3) := dk_180 0 25 (dk_at dksX16_save_1 12 rfl rfl)
theorem dX16_save_37 : decode cX16_save 37 = .ok (.aload_n 0, 1) := dk_42 (dk_at dksX16_save_1 15 rfl rfl)
theorem dX16_save_38 : decode cX16_save 38 = .ok (.dup, 1) := dk_89 (dk_at dksX16_save_1 16 rfl rfl)
theorem dX16_save_39 : decode cX16_save 39 = .ok (.getfield 59, 3) := dk_180 0 59 (dk_at dksX16_save_1 17 rfl rfl)
theorem dX16_save_42 : decode cX16_save 42 = .ok (.dup_x1, 1) := dk_90 (dk_at dksX16_save_1 20 rfl rfl)
theorem dX16_save_43 : decode cX16_save 43 = .ok (.iconst 1, 1) := dk_4 (dk_at dksX16_save_1 21 rfl rfl)
theorem dX16_save_44 : decode cX16_save 44 = .ok (.iadd, 1) := dk_96 (dk_at dksX16_save_1 22 rfl rfl)
theorem dX16_save_45 : decode cX16_save 45 = .ok (.putfield 59, 3) := dk_181 0 59 (dk_at dksX16_save_2 0 rfl rfl)
theorem dX16_save_48 : decode cX16_save 48 = .ok (.aload_n 0, 1) := dk_42 (dk_at dksX16_save_2 3 rfl rfl)
theorem dX16_save_49 : decode cX16_save 49 = .ok (.getfield 56, 3) := dk_180 0 56 (dk_at dksX16_save_2 4 rfl rfl)
theorem dX16_save_52 : decode cX16_save 52 = .ok (.iastore, 1) := dk_79 (dk_at dksX16_save_2 7 rfl rfl)
theorem dX16_save_53 : decode cX16_save 53 = .ok (.return_, 1) := dk_177 (dk_at dksX16_save_2 8 rfl rfl)
abbrev cX16_load : ByteArray := prog_21_method_15_code
def yX16_load : MethodName := ⟨RX16, "load", "(I)V"⟩
def dkwX16_load_1 : List UInt8 := [42, 180, 0, 20, 3, 42, 180, 0, 56, 184, 0, 212, 177]
abbrev dktX16_load_1 : List UInt8 := dkwX16_load_1 ++ []
def dkwX16_load_0 : List UInt8 := [42, 42, 180, 0, 25, 27, 4, 100, 46, 181, 0, 56, 42, 180, 0, 25, 27, 4, 100, 42, 180, 0, 56, 100]
abbrev dktX16_load_0 : List UInt8 := dkwX16_load_0 ++ dktX16_load_1
theorem dksX16_load_0 : cX16_load.data.toList.drop 0 = dktX16_load_0 := by decide +kernel
theorem dksX16_load_1 : cX16_load.data.toList.drop 24 = dktX16_load_1 := dk_seg dksX16_load_0 24 rfl rfl
theorem dX16_load_0 : decode cX16_load 0 = .ok (.aload_n 0, 1) := dk_42 (dk_at dksX16_load_0 0 rfl rfl)
theorem dX16_load_1 : decode cX16_load 1 = .ok (.aload_n 0, 1) := dk_42 (dk_at dksX16_load_0 1 rfl rfl)
theorem dX16_load_2 : decode cX16_load 2 = .ok (.getfield 25, 3) := dk_180 0 25 (dk_at dksX16_load_0 2 rfl rfl)
theorem dX16_load_5 : decode cX16_load 5 = .ok (.iload_n 1, 1) := dk_27 (dk_at dksX16_load_0 5 rfl rfl)
theorem dX16_load_6 : decode cX16_load 6 = .ok (.iconst 1, 1) := dk_4 (dk_at dksX16_load_0 6 rfl rfl)
theorem dX16_load_7 : decode cX16_load 7 = .ok (.isub, 1) := dk_100 (dk_at dksX16_load_0 7 rfl rfl)
theorem dX16_load_8 : decode cX16_load 8 = .ok (.iaload, 1) := dk_46 (dk_at dksX16_load_0 8 rfl rfl)
theorem dX16_load_9 : decode cX16_load 9 = .ok (.putfield 56, 3) := dk_181 0 56 (dk_at dksX16_load_0 9 rfl rfl)
theorem dX16_load_12 : decode cX16_load 12 = .ok (.aload_n 0, 1) := dk_42 (dk_at dksX16_load_0 12 rfl rfl)
theorem dX16_load_13 : decode cX16_load 13 = .ok (.getfield 25, 3) := dk_180 0 25 (dk_at dksX16_load_0 13 rfl rfl)
theorem dX16_load_16 : decode cX16_load 16 = .ok (.iload_n 1, 1) := dk_27 (dk_at dksX16_load_0 16 rfl rfl)
theorem dX16_load_17 : decode cX16_load 17 = .ok (.iconst 1, 1) := dk_4 (dk_at dksX16_load_0 17 rfl rfl)
theorem dX16_load_18 : decode cX16_load 18 = .ok (.isub, 1) := dk_100 (dk_at dksX16_load_0 18 rfl rfl)
theorem dX16_load_19 : decode cX16_load 19 = .ok (.aload_n 0, 1) := dk_42 (dk_at dksX16_load_0 19 rfl rfl)
theorem dX16_load_20 : decode cX16_load 20 = .ok (.getfield 56, 3) := dk_180 0 56 (dk_at dksX16_load_0 20 rfl rfl)
theorem dX16_load_23 : decode cX16_load 23 = .ok (.isub, 1) := dk_100 (dk_at dksX16_load_0 23 rfl rfl)
theorem dX16_load_24 : decode cX16_load 24 = .ok (.aload_n 0, 1) := dk_42 (dk_at dksX16_load_1 0 rfl rfl)
theorem dX16_load_25 : decode cX16_load 25 = .ok (.getfield 20, 3) := dk_180 0 20 (dk_at dksX16_load_1 1 rfl rfl)
theorem dX16_load_28 : decode cX16_load 28 = .ok (.iconst 0, 1) := dk_3 (dk_at dksX16_load_1 4 rfl rfl)
theorem dX16_load_29 : decode cX16_load 29 = .ok (.aload_n 0, 1) := dk_42 (dk_at dksX16_load_1 5 rfl rfl)
theorem dX16_load_30 : decode cX16_load 30 = .ok (.getfield 56, 3) := dk_180 0 56 (dk_at dksX16_load_1 6 rfl rfl)
theorem dX16_load_33 : decode cX16_load 33 = .ok (.invokestatic 212, 3) := dk_184 0 212 (dk_at dksX16_load_1 9 rfl rfl)
theorem dX16_load_36 : decode cX16_load 36 = .ok (.return_, 1) := dk_177 (dk_at dksX16_load_1 12 rfl rfl)
abbrev cX16_isSaved : ByteArray := prog_21_method_16_code
def yX16_isSaved : MethodName := ⟨RX16, "isSaved", "(I)Z"⟩
def dkwX16_isSaved_2 : List UInt8 := [160, 0, 9, 132, 3, 1, 167, 255, 227, 29, 28, 160, 0, 7, 4, 167, 0, 4, 3, 172]
abbrev dktX16_isSaved_2 : List UInt8 := dkwX16_isSaved_2 ++ []
def dkwX16_isSaved_1 : List UInt8 := [62, 29, 28, 162, 0, 30, 42, 180, 0, 20, 29, 46, 42, 180, 0, 25, 27, 4, 100, 28, 100, 29, 96, 46]
abbrev dktX16_isSaved_1 : List UInt8 := dkwX16_isSaved_1 ++ dktX16_isSaved_2
def dkwX16_isSaved_0 : List UInt8 := [42, 180, 0, 25, 27, 4, 100, 46, 61, 28, 42, 180, 0, 56, 160, 0, 7, 3, 167, 0, 6, 28, 4, 96]
abbrev dktX16_isSaved_0 : List UInt8 := dkwX16_isSaved_0 ++ dktX16_isSaved_1
theorem dksX16_isSaved_0 : cX16_isSaved.data.toList.drop 0 = dktX16_isSaved_0 := by decide +kernel
theorem dksX16_isSaved_1 : cX16_isSaved.data.toList.drop 24 = dktX16_isSaved_1 := dk_seg dksX16_isSaved_0 24 rfl rfl
theorem dksX16_isSaved_2 : cX16_isSaved.data.toList.drop 48 = dktX16_isSaved_2 := dk_seg dksX16_isSaved_1 24 rfl rfl
theorem dX16_isSaved_0 : decode cX16_isSaved 0 = .ok (.aload_n 0, 1) := dk_42 (dk_at dksX16_isSaved_0 0 rfl rfl)
theorem dX16_isSaved_1 : decode cX16_isSaved 1 = .ok (.getfield 25, 3) := dk_180 0 25 (dk_at dksX16_isSaved_0 1 rfl rfl)
theorem dX16_isSaved_4 : decode cX16_isSaved 4 = .ok (.iload_n 1, 1) := dk_27 (dk_at dksX16_isSaved_0 4 rfl rfl)
theorem dX16_isSaved_5 : decode cX16_isSaved 5 = .ok (.iconst 1, 1) := dk_4 (dk_at dksX16_isSaved_0 5 rfl rfl)
theorem dX16_isSaved_6 : decode cX16_isSaved 6 = .ok (.isub, 1) := dk_100 (dk_at dksX16_isSaved_0 6 rfl rfl)
theorem dX16_isSaved_7 : decode cX16_isSaved 7 = .ok (.iaload, 1) := dk_46 (dk_at dksX16_isSaved_0 7 rfl rfl)
theorem dX16_isSaved_8 : decode cX16_isSaved 8 = .ok (.istore_n 2, 1) := dk_61 (dk_at dksX16_isSaved_0 8 rfl rfl)
theorem dX16_isSaved_9 : decode cX16_isSaved 9 = .ok (.iload_n 2, 1) := dk_28 (dk_at dksX16_isSaved_0 9 rfl rfl)
theorem dX16_isSaved_10 : decode cX16_isSaved 10 = .ok (.aload_n 0, 1) := dk_42 (dk_at dksX16_isSaved_0 10 rfl rfl)
theorem dX16_isSaved_11 : decode cX16_isSaved 11 = .ok (.getfield 56, 3) := dk_180 0 56 (dk_at dksX16_isSaved_0 11 rfl rfl)
theorem dX16_isSaved_14 : decode cX16_isSaved 14 = .ok (.if_icmp .ne 7, 3) := dk_160 0 7 (dk_at dksX16_isSaved_0 14 rfl rfl)
theorem dX16_isSaved_17 : decode cX16_isSaved 17 = .ok (.iconst 0, 1) := dk_3 (dk_at dksX16_isSaved_0 17 rfl rfl)
theorem dX16_isSaved_18 : decode cX16_isSaved 18 = .ok (.goto 6, 3) := dk_167 0 6 (dk_at dksX16_isSaved_0 18 rfl rfl)
theorem dX16_isSaved_21 : decode cX16_isSaved 21 = .ok (.iload_n 2, 1) := dk_28 (dk_at dksX16_isSaved_0 21 rfl rfl)
theorem dX16_isSaved_22 : decode cX16_isSaved 22 = .ok (.iconst 1, 1) := dk_4 (dk_at dksX16_isSaved_0 22 rfl rfl)
theorem dX16_isSaved_23 : decode cX16_isSaved 23 = .ok (.iadd, 1) := dk_96 (dk_at dksX16_isSaved_0 23 rfl rfl)
theorem dX16_isSaved_24 : decode cX16_isSaved 24 = .ok (.istore_n 3, 1) := dk_62 (dk_at dksX16_isSaved_1 0 rfl rfl)
theorem dX16_isSaved_25 : decode cX16_isSaved 25 = .ok (.iload_n 3, 1) := dk_29 (dk_at dksX16_isSaved_1 1 rfl rfl)
theorem dX16_isSaved_26 : decode cX16_isSaved 26 = .ok (.iload_n 2, 1) := dk_28 (dk_at dksX16_isSaved_1 2 rfl rfl)
theorem dX16_isSaved_27 : decode cX16_isSaved 27 = .ok (.if_icmp .ge 30, 3) := dk_162 0 30 (dk_at dksX16_isSaved_1 3 rfl rfl)
theorem dX16_isSaved_30 : decode cX16_isSaved 30 = .ok (.aload_n 0, 1) := dk_42 (dk_at dksX16_isSaved_1 6 rfl rfl)
theorem dX16_isSaved_31 : decode cX16_isSaved 31 = .ok (.getfield 20, 3) := dk_180 0 20 (dk_at dksX16_isSaved_1 7 rfl rfl)
theorem dX16_isSaved_34 : decode cX16_isSaved 34 = .ok (.iload_n 3, 1) := dk_29 (dk_at dksX16_isSaved_1 10 rfl rfl)
theorem dX16_isSaved_35 : decode cX16_isSaved 35 = .ok (.iaload, 1) := dk_46 (dk_at dksX16_isSaved_1 11 rfl rfl)
theorem dX16_isSaved_36 : decode cX16_isSaved 36 = .ok (.aload_n 0, 1) := dk_42 (dk_at dksX16_isSaved_1 12 rfl rfl)
theorem dX16_isSaved_37 : decode cX16_isSaved 37 = .ok (.getfield 25, 3) := dk_180 0 25 (dk_at dksX16_isSaved_1 13 rfl rfl)
theorem dX16_isSaved_40 : decode cX16_isSaved 40 = .ok (.iload_n 1, 1) := dk_27 (dk_at dksX16_isSaved_1 16 rfl rfl)
theorem dX16_isSaved_41 : decode cX16_isSaved 41 = .ok (.iconst 1, 1) := dk_4 (dk_at dksX16_isSaved_1 17 rfl rfl)
theorem dX16_isSaved_42 : decode cX16_isSaved 42 = .ok (.isub, 1) := dk_100 (dk_at dksX16_isSaved_1 18 rfl rfl)
theorem dX16_isSaved_43 : decode cX16_isSaved 43 = .ok (.iload_n 2, 1) := dk_28 (dk_at dksX16_isSaved_1 19 rfl rfl)
theorem dX16_isSaved_44 : decode cX16_isSaved 44 = .ok (.isub, 1) := dk_100 (dk_at dksX16_isSaved_1 20 rfl rfl)
theorem dX16_isSaved_45 : decode cX16_isSaved 45 = .ok (.iload_n 3, 1) := dk_29 (dk_at dksX16_isSaved_1 21 rfl rfl)
theorem dX16_isSaved_46 : decode cX16_isSaved 46 = .ok (.iadd, 1) := dk_96 (dk_at dksX16_isSaved_1 22 rfl rfl)
theorem dX16_isSaved_47 : decode cX16_isSaved 47 = .ok (.iaload, 1) := dk_46 (dk_at dksX16_isSaved_1 23 rfl rfl)
theorem dX16_isSaved_48 : decode cX16_isSaved 48 = .ok (.if_icmp .ne 9, 3) := dk_160 0 9 (dk_at dksX16_isSaved_2 0 rfl rfl)
theorem dX16_isSaved_51 : decode cX16_isSaved 51 = .ok (.iinc 3 1, 3) := dk_132 3 1 (dk_at dksX16_isSaved_2 3 rfl rfl)
theorem dX16_isSaved_54 : decode cX16_isSaved 54 = .ok (.goto (-29), 3) := dk_167 255 227 (dk_at dksX16_isSaved_2 6 rfl rfl)
theorem dX16_isSaved_57 : decode cX16_isSaved 57 = .ok (.iload_n 3, 1) := dk_29 (dk_at dksX16_isSaved_2 9 rfl rfl)
theorem dX16_isSaved_58 : decode cX16_isSaved 58 = .ok (.iload_n 2, 1) := dk_28 (dk_at dksX16_isSaved_2 10 rfl rfl)
theorem dX16_isSaved_59 : decode cX16_isSaved 59 = .ok (.if_icmp .ne 7, 3) := dk_160 0 7 (dk_at dksX16_isSaved_2 11 rfl rfl)
theorem dX16_isSaved_62 : decode cX16_isSaved 62 = .ok (.iconst 1, 1) := dk_4 (dk_at dksX16_isSaved_2 14 rfl rfl)
theorem dX16_isSaved_63 : decode cX16_isSaved 63 = .ok (.goto 4, 3) := dk_167 0 4 (dk_at dksX16_isSaved_2 15 rfl rfl)
theorem dX16_isSaved_66 : decode cX16_isSaved 66 = .ok (.iconst 0, 1) := dk_3 (dk_at dksX16_isSaved_2 18 rfl rfl)
theorem dX16_isSaved_67 : decode cX16_isSaved 67 = .ok (.ireturn, 1) := dk_172 (dk_at dksX16_isSaved_2 19 rfl rfl)
abbrev cX16_loop : ByteArray := prog_21_method_33_code
def yX16_loop : MethodName := ⟨RX16, "loop", "(II)I"⟩
def dkwX16_loop_7 : List UInt8 := [167, 0, 4, 3, 28, 21, 7, 3, 3, 182, 1, 18, 172]
abbrev dktX16_loop_7 : List UInt8 := dkwX16_loop_7 ++ []
def dkwX16_loop_6 : List UInt8 := [42, 29, 153, 0, 21, 42, 3, 42, 180, 0, 32, 180, 0, 169, 21, 5, 46, 182, 1, 22, 153, 0, 7, 4]
abbrev dktX16_loop_6 : List UInt8 := dkwX16_loop_6 ++ dktX16_loop_7
def dkwX16_loop_5 : List UInt8 := [182, 1, 80, 154, 0, 5, 3, 172, 42, 21, 4, 181, 0, 59, 42, 89, 180, 0, 56, 4, 100, 181, 0, 56]
abbrev dktX16_loop_5 : List UInt8 := dkwX16_loop_5 ++ dktX16_loop_6
def dkwX16_loop_4 : List UInt8 := [182, 0, 206, 54, 7, 42, 180, 0, 52, 155, 0, 5, 3, 172, 42, 180, 0, 199, 154, 0, 12, 42, 21, 6]
abbrev dktX16_loop_4 : List UInt8 := dkwX16_loop_4 ++ dktX16_loop_5
def dkwX16_loop_3 : List UInt8 := [3, 42, 180, 0, 32, 180, 0, 166, 21, 5, 46, 182, 1, 22, 87, 42, 42, 27, 3, 182, 0, 226]
abbrev dktX16_loop_3 : List UInt8 := dkwX16_loop_3 ++ dktX16_loop_4
def dkwX16_loop_2 : List UInt8 := [182, 1, 74, 42, 180, 0, 59, 54, 6, 42, 89, 180, 0, 56, 4, 100, 181, 0, 56, 29, 153, 0, 19, 42]
abbrev dktX16_loop_2 : List UInt8 := dkwX16_loop_2 ++ dktX16_loop_3
def dkwX16_loop_1 : List UInt8 := [167, 0, 4, 4, 159, 0, 5, 3, 172, 42, 180, 0, 59, 54, 4, 42, 3, 182, 0, 209, 54, 5, 42]
abbrev dktX16_loop_1 : List UInt8 := dkwX16_loop_1 ++ dktX16_loop_2
def dkwX16_loop_0 : List UInt8 := [28, 16, 57, 160, 0, 7, 4, 167, 0, 4, 3, 62, 42, 3, 182, 1, 48, 29, 153, 0, 8, 16, 14]
abbrev dktX16_loop_0 : List UInt8 := dkwX16_loop_0 ++ dktX16_loop_1
theorem dksX16_loop_0 : cX16_loop.data.toList.drop 0 = dktX16_loop_0 := by decide +kernel
theorem dksX16_loop_1 : cX16_loop.data.toList.drop 23 = dktX16_loop_1 := dk_seg dksX16_loop_0 23 rfl rfl
theorem dksX16_loop_2 : cX16_loop.data.toList.drop 46 = dktX16_loop_2 := dk_seg dksX16_loop_1 23 rfl rfl
theorem dksX16_loop_3 : cX16_loop.data.toList.drop 70 = dktX16_loop_3 := dk_seg dksX16_loop_2 24 rfl rfl
theorem dksX16_loop_4 : cX16_loop.data.toList.drop 92 = dktX16_loop_4 := dk_seg dksX16_loop_3 22 rfl rfl
theorem dksX16_loop_5 : cX16_loop.data.toList.drop 116 = dktX16_loop_5 := dk_seg dksX16_loop_4 24 rfl rfl
theorem dksX16_loop_6 : cX16_loop.data.toList.drop 140 = dktX16_loop_6 := dk_seg dksX16_loop_5 24 rfl rfl
theorem dksX16_loop_7 : cX16_loop.data.toList.drop 164 = dktX16_loop_7 := dk_seg dksX16_loop_6 24 rfl rfl
theorem dX16_loop_0 : decode cX16_loop 0 = .ok (.iload_n 2, 1) := dk_28 (dk_at dksX16_loop_0 0 rfl rfl)
theorem dX16_loop_1 : decode cX16_loop 1 = .ok (.bipush 57, 2) := dk_16 57 (dk_at dksX16_loop_0 1 rfl rfl)
theorem dX16_loop_3 : decode cX16_loop 3 = .ok (.if_icmp .ne 7, 3) := dk_160 0 7 (dk_at dksX16_loop_0 3 rfl rfl)
theorem dX16_loop_6 : decode cX16_loop 6 = .ok (.iconst 1, 1) := dk_4 (dk_at dksX16_loop_0 6 rfl rfl)
theorem dX16_loop_7 : decode cX16_loop 7 = .ok (.goto 4, 3) := dk_167 0 4 (dk_at dksX16_loop_0 7 rfl rfl)
theorem dX16_loop_10 : decode cX16_loop 10 = .ok (.iconst 0, 1) := dk_3 (dk_at dksX16_loop_0 10 rfl rfl)
theorem dX16_loop_11 : decode cX16_loop 11 = .ok (.istore_n 3, 1) := dk_62 (dk_at dksX16_loop_0 11 rfl rfl)
theorem dX16_loop_12 : decode cX16_loop 12 = .ok (.aload_n 0, 1) := dk_42 (dk_at dksX16_loop_0 12 rfl rfl)
theorem dX16_loop_13 : decode cX16_loop 13 = .ok (.iconst 0, 1) := dk_3 (dk_at dksX16_loop_0 13 rfl rfl)
theorem dX16_loop_14 : decode cX16_loop 14 = .ok (.invokevirtual 304, 3) := dk_182 1 48 (dk_at dksX16_loop_0 14 rfl rfl)
theorem dX16_loop_17 : decode cX16_loop 17 = .ok (.iload_n 3, 1) := dk_29 (dk_at dksX16_loop_0 17 rfl rfl)
theorem dX16_loop_18 : decode cX16_loop 18 = .ok (.ifCond .eq 8, 3) := dk_153 0 8 (dk_at dksX16_loop_0 18 rfl rfl)
theorem dX16_loop_21 : decode cX16_loop 21 = .ok (.bipush 14, 2) := dk_16 14 (dk_at dksX16_loop_0 21 rfl rfl)
theorem dX16_loop_23 : decode cX16_loop 23 = .ok (.goto 4, 3) := dk_167 0 4 (dk_at dksX16_loop_1 0 rfl rfl)
theorem dX16_loop_26 : decode cX16_loop 26 = .ok (.iconst 1, 1) := dk_4 (dk_at dksX16_loop_1 3 rfl rfl)
theorem dX16_loop_27 : decode cX16_loop 27 = .ok (.if_icmp .eq 5, 3) := dk_159 0 5 (dk_at dksX16_loop_1 4 rfl rfl)
theorem dX16_loop_30 : decode cX16_loop 30 = .ok (.iconst 0, 1) := dk_3 (dk_at dksX16_loop_1 7 rfl rfl)
theorem dX16_loop_31 : decode cX16_loop 31 = .ok (.ireturn, 1) := dk_172 (dk_at dksX16_loop_1 8 rfl rfl)
theorem dX16_loop_32 : decode cX16_loop 32 = .ok (.aload_n 0, 1) := dk_42 (dk_at dksX16_loop_1 9 rfl rfl)
theorem dX16_loop_33 : decode cX16_loop 33 = .ok (.getfield 59, 3) := dk_180 0 59 (dk_at dksX16_loop_1 10 rfl rfl)
theorem dX16_loop_36 : decode cX16_loop 36 = .ok (.istore 4, 2) := dk_54 4 (dk_at dksX16_loop_1 13 rfl rfl)
theorem dX16_loop_38 : decode cX16_loop 38 = .ok (.aload_n 0, 1) := dk_42 (dk_at dksX16_loop_1 15 rfl rfl)
theorem dX16_loop_39 : decode cX16_loop 39 = .ok (.iconst 0, 1) := dk_3 (dk_at dksX16_loop_1 16 rfl rfl)
theorem dX16_loop_40 : decode cX16_loop 40 = .ok (.invokevirtual 209, 3) := dk_182 0 209 (dk_at dksX16_loop_1 17 rfl rfl)
theorem dX16_loop_43 : decode cX16_loop 43 = .ok (.istore 5, 2) := dk_54 5 (dk_at dksX16_loop_1 20 rfl rfl)
theorem dX16_loop_45 : decode cX16_loop 45 = .ok (.aload_n 0, 1) := dk_42 (dk_at dksX16_loop_1 22 rfl rfl)
theorem dX16_loop_46 : decode cX16_loop 46 = .ok (.invokevirtual 330, 3) := dk_182 1 74 (dk_at dksX16_loop_2 0 rfl rfl)
theorem dX16_loop_49 : decode cX16_loop 49 = .ok (.aload_n 0, 1) := dk_42 (dk_at dksX16_loop_2 3 rfl rfl)
theorem dX16_loop_50 : decode cX16_loop 50 = .ok (.getfield 59, 3) := dk_180 0 59 (dk_at dksX16_loop_2 4 rfl rfl)
theorem dX16_loop_53 : decode cX16_loop 53 = .ok (.istore 6, 2) := dk_54 6 (dk_at dksX16_loop_2 7 rfl rfl)
theorem dX16_loop_55 : decode cX16_loop 55 = .ok (.aload_n 0, 1) := dk_42 (dk_at dksX16_loop_2 9 rfl rfl)
theorem dX16_loop_56 : decode cX16_loop 56 = .ok (.dup, 1) := dk_89 (dk_at dksX16_loop_2 10 rfl rfl)
theorem dX16_loop_57 : decode cX16_loop 57 = .ok (.getfield 56, 3) := dk_180 0 56 (dk_at dksX16_loop_2 11 rfl rfl)
theorem dX16_loop_60 : decode cX16_loop 60 = .ok (.iconst 1, 1) := dk_4 (dk_at dksX16_loop_2 14 rfl rfl)
theorem dX16_loop_61 : decode cX16_loop 61 = .ok (.isub, 1) := dk_100 (dk_at dksX16_loop_2 15 rfl rfl)
theorem dX16_loop_62 : decode cX16_loop 62 = .ok (.putfield 56, 3) := dk_181 0 56 (dk_at dksX16_loop_2 16 rfl rfl)
theorem dX16_loop_65 : decode cX16_loop 65 = .ok (.iload_n 3, 1) := dk_29 (dk_at dksX16_loop_2 19 rfl rfl)
theorem dX16_loop_66 : decode cX16_loop 66 = .ok (.ifCond .eq 19, 3) := dk_153 0 19 (dk_at dksX16_loop_2 20 rfl rfl)
theorem dX16_loop_69 : decode cX16_loop 69 = .ok (.aload_n 0, 1) := dk_42 (dk_at dksX16_loop_2 23 rfl rfl)
theorem dX16_loop_70 : decode cX16_loop 70 = .ok (.iconst 0, 1) := dk_3 (dk_at dksX16_loop_3 0 rfl rfl)
theorem dX16_loop_71 : decode cX16_loop 71 = .ok (.aload_n 0, 1) := dk_42 (dk_at dksX16_loop_3 1 rfl rfl)
theorem dX16_loop_72 : decode cX16_loop 72 = .ok (.getfield 32, 3) := dk_180 0 32 (dk_at dksX16_loop_3 2 rfl rfl)
theorem dX16_loop_75 : decode cX16_loop 75 = .ok (.getfield 166, 3) := dk_180 0 166 (dk_at dksX16_loop_3 5 rfl rfl)
theorem dX16_loop_78 : decode cX16_loop 78 = .ok (.iload 5, 2) := dk_21 5 (dk_at dksX16_loop_3 8 rfl rfl)
theorem dX16_loop_80 : decode cX16_loop 80 = .ok (.iaload, 1) := dk_46 (dk_at dksX16_loop_3 10 rfl rfl)
theorem dX16_loop_81 : decode cX16_loop 81 = .ok (.invokevirtual 278, 3) := dk_182 1 22 (dk_at dksX16_loop_3 11 rfl rfl)
theorem dX16_loop_84 : decode cX16_loop 84 = .ok (.pop, 1) := dk_87 (dk_at dksX16_loop_3 14 rfl rfl)
theorem dX16_loop_85 : decode cX16_loop 85 = .ok (.aload_n 0, 1) := dk_42 (dk_at dksX16_loop_3 15 rfl rfl)
theorem dX16_loop_86 : decode cX16_loop 86 = .ok (.aload_n 0, 1) := dk_42 (dk_at dksX16_loop_3 16 rfl rfl)
theorem dX16_loop_87 : decode cX16_loop 87 = .ok (.iload_n 1, 1) := dk_27 (dk_at dksX16_loop_3 17 rfl rfl)
theorem dX16_loop_88 : decode cX16_loop 88 = .ok (.iconst 0, 1) := dk_3 (dk_at dksX16_loop_3 18 rfl rfl)
theorem dX16_loop_89 : decode cX16_loop 89 = .ok (.invokevirtual 226, 3) := dk_182 0 226 (dk_at dksX16_loop_3 19 rfl rfl)
theorem dX16_loop_92 : decode cX16_loop 92 = .ok (.invokevirtual 206, 3) := dk_182 0 206 (dk_at dksX16_loop_4 0 rfl rfl)
theorem dX16_loop_95 : decode cX16_loop 95 = .ok (.istore 7, 2) := dk_54 7 (dk_at dksX16_loop_4 3 rfl rfl)
theorem dX16_loop_97 : decode cX16_loop 97 = .ok (.aload_n 0, 1) := dk_42 (dk_at dksX16_loop_4 5 rfl rfl)
theorem dX16_loop_98 : decode cX16_loop 98 = .ok (.getfield 52, 3) := dk_180 0 52 (dk_at dksX16_loop_4 6 rfl rfl)
theorem dX16_loop_101 : decode cX16_loop 101 = .ok (.ifCond .lt 5, 3) := dk_155 0 5 (dk_at dksX16_loop_4 9 rfl rfl)
theorem dX16_loop_104 : decode cX16_loop 104 = .ok (.iconst 0, 1) := dk_3 (dk_at dksX16_loop_4 12 rfl rfl)
theorem dX16_loop_105 : decode cX16_loop 105 = .ok (.ireturn, 1) := dk_172 (dk_at dksX16_loop_4 13 rfl rfl)
theorem dX16_loop_106 : decode cX16_loop 106 = .ok (.aload_n 0, 1) := dk_42 (dk_at dksX16_loop_4 14 rfl rfl)
theorem dX16_loop_107 : decode cX16_loop 107 = .ok (.getfield 199, 3) := dk_180 0 199 (dk_at dksX16_loop_4 15 rfl rfl)
theorem dX16_loop_110 : decode cX16_loop 110 = .ok (.ifCond .ne 12, 3) := dk_154 0 12 (dk_at dksX16_loop_4 18 rfl rfl)
theorem dX16_loop_113 : decode cX16_loop 113 = .ok (.aload_n 0, 1) := dk_42 (dk_at dksX16_loop_4 21 rfl rfl)
theorem dX16_loop_114 : decode cX16_loop 114 = .ok (.iload 6, 2) := dk_21 6 (dk_at dksX16_loop_4 22 rfl rfl)
theorem dX16_loop_116 : decode cX16_loop 116 = .ok (.invokevirtual 336, 3) := dk_182 1 80 (dk_at dksX16_loop_5 0 rfl rfl)
theorem dX16_loop_119 : decode cX16_loop 119 = .ok (.ifCond .ne 5, 3) := dk_154 0 5 (dk_at dksX16_loop_5 3 rfl rfl)
theorem dX16_loop_122 : decode cX16_loop 122 = .ok (.iconst 0, 1) := dk_3 (dk_at dksX16_loop_5 6 rfl rfl)
theorem dX16_loop_123 : decode cX16_loop 123 = .ok (.ireturn, 1) := dk_172 (dk_at dksX16_loop_5 7 rfl rfl)
theorem dX16_loop_124 : decode cX16_loop 124 = .ok (.aload_n 0, 1) := dk_42 (dk_at dksX16_loop_5 8 rfl rfl)
theorem dX16_loop_125 : decode cX16_loop 125 = .ok (.iload 4, 2) := dk_21 4 (dk_at dksX16_loop_5 9 rfl rfl)
theorem dX16_loop_127 : decode cX16_loop 127 = .ok (.putfield 59, 3) := dk_181 0 59 (dk_at dksX16_loop_5 11 rfl rfl)
theorem dX16_loop_130 : decode cX16_loop 130 = .ok (.aload_n 0, 1) := dk_42 (dk_at dksX16_loop_5 14 rfl rfl)
theorem dX16_loop_131 : decode cX16_loop 131 = .ok (.dup, 1) := dk_89 (dk_at dksX16_loop_5 15 rfl rfl)
theorem dX16_loop_132 : decode cX16_loop 132 = .ok (.getfield 56, 3) := dk_180 0 56 (dk_at dksX16_loop_5 16 rfl rfl)
theorem dX16_loop_135 : decode cX16_loop 135 = .ok (.iconst 1, 1) := dk_4 (dk_at dksX16_loop_5 19 rfl rfl)
theorem dX16_loop_136 : decode cX16_loop 136 = .ok (.isub, 1) := dk_100 (dk_at dksX16_loop_5 20 rfl rfl)
theorem dX16_loop_137 : decode cX16_loop 137 = .ok (.putfield 56, 3) := dk_181 0 56 (dk_at dksX16_loop_5 21 rfl rfl)
theorem dX16_loop_140 : decode cX16_loop 140 = .ok (.aload_n 0, 1) := dk_42 (dk_at dksX16_loop_6 0 rfl rfl)
theorem dX16_loop_141 : decode cX16_loop 141 = .ok (.iload_n 3, 1) := dk_29 (dk_at dksX16_loop_6 1 rfl rfl)
theorem dX16_loop_142 : decode cX16_loop 142 = .ok (.ifCond .eq 21, 3) := dk_153 0 21 (dk_at dksX16_loop_6 2 rfl rfl)
theorem dX16_loop_145 : decode cX16_loop 145 = .ok (.aload_n 0, 1) := dk_42 (dk_at dksX16_loop_6 5 rfl rfl)
theorem dX16_loop_146 : decode cX16_loop 146 = .ok (.iconst 0, 1) := dk_3 (dk_at dksX16_loop_6 6 rfl rfl)
theorem dX16_loop_147 : decode cX16_loop 147 = .ok (.aload_n 0, 1) := dk_42 (dk_at dksX16_loop_6 7 rfl rfl)
theorem dX16_loop_148 : decode cX16_loop 148 = .ok (.getfield 32, 3) := dk_180 0 32 (dk_at dksX16_loop_6 8 rfl rfl)
theorem dX16_loop_151 : decode cX16_loop 151 = .ok (.getfield 169, 3) := dk_180 0 169 (dk_at dksX16_loop_6 11 rfl rfl)
theorem dX16_loop_154 : decode cX16_loop 154 = .ok (.iload 5, 2) := dk_21 5 (dk_at dksX16_loop_6 14 rfl rfl)
theorem dX16_loop_156 : decode cX16_loop 156 = .ok (.iaload, 1) := dk_46 (dk_at dksX16_loop_6 16 rfl rfl)
theorem dX16_loop_157 : decode cX16_loop 157 = .ok (.invokevirtual 278, 3) := dk_182 1 22 (dk_at dksX16_loop_6 17 rfl rfl)
theorem dX16_loop_160 : decode cX16_loop 160 = .ok (.ifCond .eq 7, 3) := dk_153 0 7 (dk_at dksX16_loop_6 20 rfl rfl)
theorem dX16_loop_163 : decode cX16_loop 163 = .ok (.iconst 1, 1) := dk_4 (dk_at dksX16_loop_6 23 rfl rfl)
theorem dX16_loop_164 : decode cX16_loop 164 = .ok (.goto 4, 3) := dk_167 0 4 (dk_at dksX16_loop_7 0 rfl rfl)
theorem dX16_loop_167 : decode cX16_loop 167 = .ok (.iconst 0, 1) := dk_3 (dk_at dksX16_loop_7 3 rfl rfl)
theorem dX16_loop_168 : decode cX16_loop 168 = .ok (.iload_n 2, 1) := dk_28 (dk_at dksX16_loop_7 4 rfl rfl)
theorem dX16_loop_169 : decode cX16_loop 169 = .ok (.iload 7, 2) := dk_21 7 (dk_at dksX16_loop_7 5 rfl rfl)
theorem dX16_loop_171 : decode cX16_loop 171 = .ok (.iconst 0, 1) := dk_3 (dk_at dksX16_loop_7 7 rfl rfl)
theorem dX16_loop_172 : decode cX16_loop 172 = .ok (.iconst 0, 1) := dk_3 (dk_at dksX16_loop_7 8 rfl rfl)
theorem dX16_loop_173 : decode cX16_loop 173 = .ok (.invokevirtual 274, 3) := dk_182 1 18 (dk_at dksX16_loop_7 9 rfl rfl)
theorem dX16_loop_176 : decode cX16_loop 176 = .ok (.ireturn, 1) := dk_172 (dk_at dksX16_loop_7 12 rfl rfl)
abbrev cX16_each : ByteArray := prog_21_method_35_code
def yX16_each : MethodName := ⟨RX16, "each", "(II)I"⟩
def dkwX16_each_11 : List UInt8 := [172]
abbrev dktX16_each_11 : List UInt8 := dkwX16_each_11 ++ []
def dkwX16_each_10 : List UInt8 := [21, 9, 182, 0, 195, 54, 10, 42, 42, 3, 21, 10, 182, 1, 22, 28, 21, 8, 21, 5, 3, 182, 1, 18]
abbrev dktX16_each_10 : List UInt8 := dkwX16_each_10 ++ dktX16_each_11
def dkwX16_each_9 : List UInt8 := [21, 9, 182, 1, 57, 167, 0, 23, 42, 180, 0, 32, 16, 15, 42, 180, 0, 32, 180, 0, 166, 29, 46]
abbrev dktX16_each_9 : List UInt8 := dkwX16_each_9 ++ dktX16_each_10
def dkwX16_each_8 : List UInt8 := [180, 0, 32, 16, 11, 21, 9, 2, 182, 0, 195, 167, 0, 41, 21, 5, 6, 160, 0, 15, 42, 180, 0, 32]
abbrev dktX16_each_8 : List UInt8 := dkwX16_each_8 ++ dktX16_each_9
def dkwX16_each_7 : List UInt8 := [16, 58, 160, 0, 15, 42, 4, 28, 21, 8, 21, 5, 3, 182, 1, 18, 172, 21, 5, 154, 0, 18, 42]
abbrev dktX16_each_7 : List UInt8 := dkwX16_each_7 ++ dktX16_each_8
def dkwX16_each_6 : List UInt8 := [181, 0, 56, 46, 54, 9, 42, 21, 7, 182, 1, 80, 154, 0, 5, 3, 172, 42, 21, 6, 181, 0, 59, 28]
abbrev dktX16_each_6 : List UInt8 := dkwX16_each_6 ++ dktX16_each_7
def dkwX16_each_5 : List UInt8 := [160, 0, 30, 42, 180, 0, 56, 154, 0, 5, 3, 172, 42, 180, 0, 20, 42, 89, 180, 0, 56, 4, 100, 90]
abbrev dktX16_each_5 : List UInt8 := dkwX16_each_5 ++ dktX16_each_6
def dkwX16_each_4 : List UInt8 := [180, 0, 52, 155, 0, 5, 3, 172, 42, 180, 0, 199, 153, 0, 5, 3, 172, 2, 54, 9, 28, 16, 59]
abbrev dktX16_each_4 : List UInt8 := dkwX16_each_4 ++ dktX16_each_5
def dkwX16_each_3 : List UInt8 := [54, 7, 42, 3, 21, 4, 182, 1, 22, 87, 42, 42, 27, 3, 182, 0, 226, 182, 0, 206, 54, 8, 42]
abbrev dktX16_each_3 : List UInt8 := dkwX16_each_3 ++ dktX16_each_4
def dkwX16_each_2 : List UInt8 := [42, 180, 0, 59, 54, 6, 42, 89, 180, 0, 56, 4, 100, 181, 0, 56, 42, 182, 1, 74, 42, 180, 0, 59]
abbrev dktX16_each_2 : List UInt8 := dkwX16_each_2 ++ dktX16_each_3
def dkwX16_each_1 : List UInt8 := [167, 0, 9, 42, 29, 28, 182, 1, 86, 54, 4, 21, 4, 156, 0, 5, 3, 172, 42, 180, 1, 83, 54, 5]
abbrev dktX16_each_1 : List UInt8 := dkwX16_each_1 ++ dktX16_each_2
def dkwX16_each_0 : List UInt8 := [42, 180, 0, 56, 158, 0, 11, 42, 3, 182, 0, 209, 167, 0, 4, 2, 62, 29, 156, 0, 7, 2]
abbrev dktX16_each_0 : List UInt8 := dkwX16_each_0 ++ dktX16_each_1
theorem dksX16_each_0 : cX16_each.data.toList.drop 0 = dktX16_each_0 := by decide +kernel
theorem dksX16_each_1 : cX16_each.data.toList.drop 22 = dktX16_each_1 := dk_seg dksX16_each_0 22 rfl rfl
theorem dksX16_each_2 : cX16_each.data.toList.drop 46 = dktX16_each_2 := dk_seg dksX16_each_1 24 rfl rfl
theorem dksX16_each_3 : cX16_each.data.toList.drop 70 = dktX16_each_3 := dk_seg dksX16_each_2 24 rfl rfl
theorem dksX16_each_4 : cX16_each.data.toList.drop 93 = dktX16_each_4 := dk_seg dksX16_each_3 23 rfl rfl
theorem dksX16_each_5 : cX16_each.data.toList.drop 116 = dktX16_each_5 := dk_seg dksX16_each_4 23 rfl rfl
theorem dksX16_each_6 : cX16_each.data.toList.drop 140 = dktX16_each_6 := dk_seg dksX16_each_5 24 rfl rfl
theorem dksX16_each_7 : cX16_each.data.toList.drop 164 = dktX16_each_7 := dk_seg dksX16_each_6 24 rfl rfl
theorem dksX16_each_8 : cX16_each.data.toList.drop 187 = dktX16_each_8 := dk_seg dksX16_each_7 23 rfl rfl
theorem dksX16_each_9 : cX16_each.data.toList.drop 211 = dktX16_each_9 := dk_seg dksX16_each_8 24 rfl rfl
theorem dksX16_each_10 : cX16_each.data.toList.drop 234 = dktX16_each_10 := dk_seg dksX16_each_9 23 rfl rfl
theorem dksX16_each_11 : cX16_each.data.toList.drop 258 = dktX16_each_11 := dk_seg dksX16_each_10 24 rfl rfl
theorem dX16_each_0 : decode cX16_each 0 = .ok (.aload_n 0, 1) := dk_42 (dk_at dksX16_each_0 0 rfl rfl)
theorem dX16_each_1 : decode cX16_each 1 = .ok (.getfield 56, 3) := dk_180 0 56 (dk_at dksX16_each_0 1 rfl rfl)
theorem dX16_each_4 : decode cX16_each 4 = .ok (.ifCond .le 11, 3) := dk_158 0 11 (dk_at dksX16_each_0 4 rfl rfl)
theorem dX16_each_7 : decode cX16_each 7 = .ok (.aload_n 0, 1) := dk_42 (dk_at dksX16_each_0 7 rfl rfl)
theorem dX16_each_8 : decode cX16_each 8 = .ok (.iconst 0, 1) := dk_3 (dk_at dksX16_each_0 8 rfl rfl)
theorem dX16_each_9 : decode cX16_each 9 = .ok (.invokevirtual 209, 3) := dk_182 0 209 (dk_at dksX16_each_0 9 rfl rfl)
theorem dX16_each_12 : decode cX16_each 12 = .ok (.goto 4, 3) := dk_167 0 4 (dk_at dksX16_each_0 12 rfl rfl)
theorem dX16_each_15 : decode cX16_each 15 = .ok (.iconst (-1), 1) := dk_2 (dk_at dksX16_each_0 15 rfl rfl)
theorem dX16_each_16 : decode cX16_each 16 = .ok (.istore_n 3, 1) := dk_62 (dk_at dksX16_each_0 16 rfl rfl)
theorem dX16_each_17 : decode cX16_each 17 = .ok (.iload_n 3, 1) := dk_29 (dk_at dksX16_each_0 17 rfl rfl)
theorem dX16_each_18 : decode cX16_each 18 = .ok (.ifCond .ge 7, 3) := dk_156 0 7 (dk_at dksX16_each_0 18 rfl rfl)
theorem dX16_each_21 : decode cX16_each 21 = .ok (.iconst (-1), 1) := dk_2 (dk_at dksX16_each_0 21 rfl rfl)
theorem dX16_each_22 : decode cX16_each 22 = .ok (.goto 9, 3) := dk_167 0 9 (dk_at dksX16_each_1 0 rfl rfl)
theorem dX16_each_25 : decode cX16_each 25 = .ok (.aload_n 0, 1) := dk_42 (dk_at dksX16_each_1 3 rfl rfl)
theorem dX16_each_26 : decode cX16_each 26 = .ok (.iload_n 3, 1) := dk_29 (dk_at dksX16_each_1 4 rfl rfl)
theorem dX16_each_27 : decode cX16_each 27 = .ok (.iload_n 2, 1) := dk_28 (dk_at dksX16_each_1 5 rfl rfl)
theorem dX16_each_28 : decode cX16_each 28 = .ok (.invokevirtual 342, 3) := dk_182 1 86 (dk_at dksX16_each_1 6 rfl rfl)
theorem dX16_each_31 : decode cX16_each 31 = .ok (.istore 4, 2) := dk_54 4 (dk_at dksX16_each_1 9 rfl rfl)
theorem dX16_each_33 : decode cX16_each 33 = .ok (.iload 4, 2) := dk_21 4 (dk_at dksX16_each_1 11 rfl rfl)
theorem dX16_each_35 : decode cX16_each 35 = .ok (.ifCond .ge 5, 3) := dk_156 0 5 (dk_at dksX16_each_1 13 rfl rfl)
theorem dX16_each_38 : decode cX16_each 38 = .ok (.iconst 0, 1) := dk_3 (dk_at dksX16_each_1 16 rfl rfl)
theorem dX16_each_39 : decode cX16_each 39 = .ok (.ireturn, 1) := dk_172 (dk_at dksX16_each_1 17 rfl rfl)
theorem dX16_each_40 : decode cX16_each 40 = .ok (.aload_n 0, 1) := dk_42 (dk_at dksX16_each_1 18 rfl rfl)
theorem dX16_each_41 : decode cX16_each 41 = .ok (.getfield 339, 3) := dk_180 1 83 (dk_at dksX16_each_1 19 rfl rfl)
theorem dX16_each_44 : decode cX16_each 44 = .ok (.istore 5, 2) := dk_54 5 (dk_at dksX16_each_1 22 rfl rfl)
theorem dX16_each_46 : decode cX16_each 46 = .ok (.aload_n 0, 1) := dk_42 (dk_at dksX16_each_2 0 rfl rfl)
theorem dX16_each_47 : decode cX16_each 47 = .ok (.getfield 59, 3) := dk_180 0 59 (dk_at dksX16_each_2 1 rfl rfl)
theorem dX16_each_50 : decode cX16_each 50 = .ok (.istore 6, 2) := dk_54 6 (dk_at dksX16_each_2 4 rfl rfl)
theorem dX16_each_52 : decode cX16_each 52 = .ok (.aload_n 0, 1) := dk_42 (dk_at dksX16_each_2 6 rfl rfl)
theorem dX16_each_53 : decode cX16_each 53 = .ok (.dup, 1) := dk_89 (dk_at dksX16_each_2 7 rfl rfl)
theorem dX16_each_54 : decode cX16_each 54 = .ok (.getfield 56, 3) := dk_180 0 56 (dk_at dksX16_each_2 8 rfl rfl)
theorem dX16_each_57 : decode cX16_each 57 = .ok (.iconst 1, 1) := dk_4 (dk_at dksX16_each_2 11 rfl rfl)
theorem dX16_each_58 : decode cX16_each 58 = .ok (.isub, 1) := dk_100 (dk_at dksX16_each_2 12 rfl rfl)
theorem dX16_each_59 : decode cX16_each 59 = .ok (.putfield 56, 3) := dk_181 0 56 (dk_at dksX16_each_2 13 rfl rfl)
theorem dX16_each_62 : decode cX16_each 62 = .ok (.aload_n 0, 1) := dk_42 (dk_at dksX16_each_2 16 rfl rfl)
theorem dX16_each_63 : decode cX16_each 63 = .ok (.invokevirtual 330, 3) := dk_182 1 74 (dk_at dksX16_each_2 17 rfl rfl)
theorem dX16_each_66 : decode cX16_each 66 = .ok (.aload_n 0, 1) := dk_42 (dk_at dksX16_each_2 20 rfl rfl)
theorem dX16_each_67 : decode cX16_each 67 = .ok (.getfield 59, 3) := dk_180 0 59 (dk_at dksX16_each_2 21 rfl rfl)
theorem dX16_each_70 : decode cX16_each 70 = .ok (.istore 7, 2) := dk_54 7 (dk_at dksX16_each_3 0 rfl rfl)
theorem dX16_each_72 : decode cX16_each 72 = .ok (.aload_n 0, 1) := dk_42 (dk_at dksX16_each_3 2 rfl rfl)
theorem dX16_each_73 : decode cX16_each 73 = .ok (.iconst 0, 1) := dk_3 (dk_at dksX16_each_3 3 rfl rfl)
theorem dX16_each_74 : decode cX16_each 74 = .ok (.iload 4, 2) := dk_21 4 (dk_at dksX16_each_3 4 rfl rfl)
theorem dX16_each_76 : decode cX16_each 76 = .ok (.invokevirtual 278, 3) := dk_182 1 22 (dk_at dksX16_each_3 6 rfl rfl)
theorem dX16_each_79 : decode cX16_each 79 = .ok (.pop, 1) := dk_87 (dk_at dksX16_each_3 9 rfl rfl)
theorem dX16_each_80 : decode cX16_each 80 = .ok (.aload_n 0, 1) := dk_42 (dk_at dksX16_each_3 10 rfl rfl)
theorem dX16_each_81 : decode cX16_each 81 = .ok (.aload_n 0, 1) := dk_42 (dk_at dksX16_each_3 11 rfl rfl)
theorem dX16_each_82 : decode cX16_each 82 = .ok (.iload_n 1, 1) := dk_27 (dk_at dksX16_each_3 12 rfl rfl)
theorem dX16_each_83 : decode cX16_each 83 = .ok (.iconst 0, 1) := dk_3 (dk_at dksX16_each_3 13 rfl rfl)
theorem dX16_each_84 : decode cX16_each 84 = .ok (.invokevirtual 226, 3) := dk_182 0 226 (dk_at dksX16_each_3 14 rfl rfl)
theorem dX16_each_87 : decode cX16_each 87 = .ok (.invokevirtual 206, 3) := dk_182 0 206 (dk_at dksX16_each_3 17 rfl rfl)
theorem dX16_each_90 : decode cX16_each 90 = .ok (.istore 8, 2) := dk_54 8 (dk_at dksX16_each_3 20 rfl rfl)
theorem dX16_each_92 : decode cX16_each 92 = .ok (.aload_n 0, 1) := dk_42 (dk_at dksX16_each_3 22 rfl rfl)
theorem dX16_each_93 : decode cX16_each 93 = .ok (.getfield 52, 3) := dk_180 0 52 (dk_at dksX16_each_4 0 rfl rfl)
theorem dX16_each_96 : decode cX16_each 96 = .ok (.ifCond .lt 5, 3) := dk_155 0 5 (dk_at dksX16_each_4 3 rfl rfl)
theorem dX16_each_99 : decode cX16_each 99 = .ok (.iconst 0, 1) := dk_3 (dk_at dksX16_each_4 6 rfl rfl)
theorem dX16_each_100 : decode cX16_each 100 = .ok (.ireturn, 1) := dk_172 (dk_at dksX16_each_4 7 rfl rfl)
theorem dX16_each_101 : decode cX16_each 101 = .ok (.aload_n 0, 1) := dk_42 (dk_at dksX16_each_4 8 rfl rfl)
theorem dX16_each_102 : decode cX16_each 102 = .ok (.getfield 199, 3) := dk_180 0 199 (dk_at dksX16_each_4 9 rfl rfl)
theorem dX16_each_105 : decode cX16_each 105 = .ok (.ifCond .eq 5, 3) := dk_153 0 5 (dk_at dksX16_each_4 12 rfl rfl)
theorem dX16_each_108 : decode cX16_each 108 = .ok (.iconst 0, 1) := dk_3 (dk_at dksX16_each_4 15 rfl rfl)
theorem dX16_each_109 : decode cX16_each 109 = .ok (.ireturn, 1) := dk_172 (dk_at dksX16_each_4 16 rfl rfl)
theorem dX16_each_110 : decode cX16_each 110 = .ok (.iconst (-1), 1) := dk_2 (dk_at dksX16_each_4 17 rfl rfl)
theorem dX16_each_111 : decode cX16_each 111 = .ok (.istore 9, 2) := dk_54 9 (dk_at dksX16_each_4 18 rfl rfl)
theorem dX16_each_113 : decode cX16_each 113 = .ok (.iload_n 2, 1) := dk_28 (dk_at dksX16_each_4 20 rfl rfl)
theorem dX16_each_114 : decode cX16_each 114 = .ok (.bipush 59, 2) := dk_16 59 (dk_at dksX16_each_4 21 rfl rfl)
theorem dX16_each_116 : decode cX16_each 116 = .ok (.if_icmp .ne 30, 3) := dk_160 0 30 (dk_at dksX16_each_5 0 rfl rfl)
theorem dX16_each_119 : decode cX16_each 119 = .ok (.aload_n 0, 1) := dk_42 (dk_at dksX16_each_5 3 rfl rfl)
theorem dX16_each_120 : decode cX16_each 120 = .ok (.getfield 56, 3) := dk_180 0 56 (dk_at dksX16_each_5 4 rfl rfl)
theorem dX16_each_123 : decode cX16_each 123 = .ok (.ifCond .ne 5, 3) := dk_154 0 5 (dk_at dksX16_each_5 7 rfl rfl)
theorem dX16_each_126 : decode cX16_each 126 = .ok (.iconst 0, 1) := dk_3 (dk_at dksX16_each_5 10 rfl rfl)
theorem dX16_each_127 : decode cX16_each 127 = .ok (.ireturn, 1) := dk_172 (dk_at dksX16_each_5 11 rfl rfl)
theorem dX16_each_128 : decode cX16_each 128 = .ok (.aload_n 0, 1) := dk_42 (dk_at dksX16_each_5 12 rfl rfl)
theorem dX16_each_129 : decode cX16_each 129 = .ok (.getfield 20, 3) := dk_180 0 20 (dk_at dksX16_each_5 13 rfl rfl)
theorem dX16_each_132 : decode cX16_each 132 = .ok (.aload_n 0, 1) := dk_42 (dk_at dksX16_each_5 16 rfl rfl)
theorem dX16_each_133 : decode cX16_each 133 = .ok (.dup, 1) := dk_89 (dk_at dksX16_each_5 17 rfl rfl)
theorem dX16_each_134 : decode cX16_each 134 = .ok (.getfield 56, 3) := dk_180 0 56 (dk_at dksX16_each_5 18 rfl rfl)
theorem dX16_each_137 : decode cX16_each 137 = .ok (.iconst 1, 1) := dk_4 (dk_at dksX16_each_5 21 rfl rfl)
theorem dX16_each_138 : decode cX16_each 138 = .ok (.isub, 1) := dk_100 (dk_at dksX16_each_5 22 rfl rfl)
theorem dX16_each_139 : decode cX16_each 139 = .ok (.dup_x1, 1) := dk_90 (dk_at dksX16_each_5 23 rfl rfl)
theorem dX16_each_140 : decode cX16_each 140 = .ok (.putfield 56, 3) := dk_181 0 56 (dk_at dksX16_each_6 0 rfl rfl)
theorem dX16_each_143 : decode cX16_each 143 = .ok (.iaload, 1) := dk_46 (dk_at dksX16_each_6 3 rfl rfl)
theorem dX16_each_144 : decode cX16_each 144 = .ok (.istore 9, 2) := dk_54 9 (dk_at dksX16_each_6 4 rfl rfl)
theorem dX16_each_146 : decode cX16_each 146 = .ok (.aload_n 0, 1) := dk_42 (dk_at dksX16_each_6 6 rfl rfl)
theorem dX16_each_147 : decode cX16_each 147 = .ok (.iload 7, 2) := dk_21 7 (dk_at dksX16_each_6 7 rfl rfl)
theorem dX16_each_149 : decode cX16_each 149 = .ok (.invokevirtual 336, 3) := dk_182 1 80 (dk_at dksX16_each_6 9 rfl rfl)
theorem dX16_each_152 : decode cX16_each 152 = .ok (.ifCond .ne 5, 3) := dk_154 0 5 (dk_at dksX16_each_6 12 rfl rfl)
theorem dX16_each_155 : decode cX16_each 155 = .ok (.iconst 0, 1) := dk_3 (dk_at dksX16_each_6 15 rfl rfl)
theorem dX16_each_156 : decode cX16_each 156 = .ok (.ireturn, 1) := dk_172 (dk_at dksX16_each_6 16 rfl rfl)
theorem dX16_each_157 : decode cX16_each 157 = .ok (.aload_n 0, 1) := dk_42 (dk_at dksX16_each_6 17 rfl rfl)
theorem dX16_each_158 : decode cX16_each 158 = .ok (.iload 6, 2) := dk_21 6 (dk_at dksX16_each_6 18 rfl rfl)
theorem dX16_each_160 : decode cX16_each 160 = .ok (.putfield 59, 3) := dk_181 0 59 (dk_at dksX16_each_6 20 rfl rfl)
theorem dX16_each_163 : decode cX16_each 163 = .ok (.iload_n 2, 1) := dk_28 (dk_at dksX16_each_6 23 rfl rfl)
theorem dX16_each_164 : decode cX16_each 164 = .ok (.bipush 58, 2) := dk_16 58 (dk_at dksX16_each_7 0 rfl rfl)
theorem dX16_each_166 : decode cX16_each 166 = .ok (.if_icmp .ne 15, 3) := dk_160 0 15 (dk_at dksX16_each_7 2 rfl rfl)
theorem dX16_each_169 : decode cX16_each 169 = .ok (.aload_n 0, 1) := dk_42 (dk_at dksX16_each_7 5 rfl rfl)
theorem dX16_each_170 : decode cX16_each 170 = .ok (.iconst 1, 1) := dk_4 (dk_at dksX16_each_7 6 rfl rfl)
theorem dX16_each_171 : decode cX16_each 171 = .ok (.iload_n 2, 1) := dk_28 (dk_at dksX16_each_7 7 rfl rfl)
theorem dX16_each_172 : decode cX16_each 172 = .ok (.iload 8, 2) := dk_21 8 (dk_at dksX16_each_7 8 rfl rfl)
theorem dX16_each_174 : decode cX16_each 174 = .ok (.iload 5, 2) := dk_21 5 (dk_at dksX16_each_7 10 rfl rfl)
theorem dX16_each_176 : decode cX16_each 176 = .ok (.iconst 0, 1) := dk_3 (dk_at dksX16_each_7 12 rfl rfl)
theorem dX16_each_177 : decode cX16_each 177 = .ok (.invokevirtual 274, 3) := dk_182 1 18 (dk_at dksX16_each_7 13 rfl rfl)
theorem dX16_each_180 : decode cX16_each 180 = .ok (.ireturn, 1) := dk_172 (dk_at dksX16_each_7 16 rfl rfl)
theorem dX16_each_181 : decode cX16_each 181 = .ok (.iload 5, 2) := dk_21 5 (dk_at dksX16_each_7 17 rfl rfl)
theorem dX16_each_183 : decode cX16_each 183 = .ok (.ifCond .ne 18, 3) := dk_154 0 18 (dk_at dksX16_each_7 19 rfl rfl)
theorem dX16_each_186 : decode cX16_each 186 = .ok (.aload_n 0, 1) := dk_42 (dk_at dksX16_each_7 22 rfl rfl)
theorem dX16_each_187 : decode cX16_each 187 = .ok (.getfield 32, 3) := dk_180 0 32 (dk_at dksX16_each_8 0 rfl rfl)
theorem dX16_each_190 : decode cX16_each 190 = .ok (.bipush 11, 2) := dk_16 11 (dk_at dksX16_each_8 3 rfl rfl)
theorem dX16_each_192 : decode cX16_each 192 = .ok (.iload 9, 2) := dk_21 9 (dk_at dksX16_each_8 5 rfl rfl)
theorem dX16_each_194 : decode cX16_each 194 = .ok (.iconst (-1), 1) := dk_2 (dk_at dksX16_each_8 7 rfl rfl)
theorem dX16_each_195 : decode cX16_each 195 = .ok (.invokevirtual 195, 3) := dk_182 0 195 (dk_at dksX16_each_8 8 rfl rfl)
theorem dX16_each_198 : decode cX16_each 198 = .ok (.goto 41, 3) := dk_167 0 41 (dk_at dksX16_each_8 11 rfl rfl)
theorem dX16_each_201 : decode cX16_each 201 = .ok (.iload 5, 2) := dk_21 5 (dk_at dksX16_each_8 14 rfl rfl)
theorem dX16_each_203 : decode cX16_each 203 = .ok (.iconst 3, 1) := dk_6 (dk_at dksX16_each_8 16 rfl rfl)
theorem dX16_each_204 : decode cX16_each 204 = .ok (.if_icmp .ne 15, 3) := dk_160 0 15 (dk_at dksX16_each_8 17 rfl rfl)
theorem dX16_each_207 : decode cX16_each 207 = .ok (.aload_n 0, 1) := dk_42 (dk_at dksX16_each_8 20 rfl rfl)
theorem dX16_each_208 : decode cX16_each 208 = .ok (.getfield 32, 3) := dk_180 0 32 (dk_at dksX16_each_8 21 rfl rfl)
theorem dX16_each_211 : decode cX16_each 211 = .ok (.iload 9, 2) := dk_21 9 (dk_at dksX16_each_9 0 rfl rfl)
theorem dX16_each_213 : decode cX16_each 213 = .ok (.invokevirtual 313, 3) := dk_182 1 57 (dk_at dksX16_each_9 2 rfl rfl)
theorem dX16_each_216 : decode cX16_each 216 = .ok (.goto 23, 3) := dk_167 0 23 (dk_at dksX16_each_9 5 rfl rfl)
theorem dX16_each_219 : decode cX16_each 219 = .ok (.aload_n 0, 1) := dk_42 (dk_at dksX16_each_9 8 rfl rfl)
theorem dX16_each_220 : decode cX16_each 220 = .ok (.getfield 32, 3) := dk_180 0 32 (dk_at dksX16_each_9 9 rfl rfl)
theorem dX16_each_223 : decode cX16_each 223 = .ok (.bipush 15, 2) := dk_16 15 (dk_at dksX16_each_9 12 rfl rfl)
theorem dX16_each_225 : decode cX16_each 225 = .ok (.aload_n 0, 1) := dk_42 (dk_at dksX16_each_9 14 rfl rfl)
theorem dX16_each_226 : decode cX16_each 226 = .ok (.getfield 32, 3) := dk_180 0 32 (dk_at dksX16_each_9 15 rfl rfl)
theorem dX16_each_229 : decode cX16_each 229 = .ok (.getfield 166, 3) := dk_180 0 166 (dk_at dksX16_each_9 18 rfl rfl)
theorem dX16_each_232 : decode cX16_each 232 = .ok (.iload_n 3, 1) := dk_29 (dk_at dksX16_each_9 21 rfl rfl)
theorem dX16_each_233 : decode cX16_each 233 = .ok (.iaload, 1) := dk_46 (dk_at dksX16_each_9 22 rfl rfl)
theorem dX16_each_234 : decode cX16_each 234 = .ok (.iload 9, 2) := dk_21 9 (dk_at dksX16_each_10 0 rfl rfl)
theorem dX16_each_236 : decode cX16_each 236 = .ok (.invokevirtual 195, 3) := dk_182 0 195 (dk_at dksX16_each_10 2 rfl rfl)
theorem dX16_each_239 : decode cX16_each 239 = .ok (.istore 10, 2) := dk_54 10 (dk_at dksX16_each_10 5 rfl rfl)
theorem dX16_each_241 : decode cX16_each 241 = .ok (.aload_n 0, 1) := dk_42 (dk_at dksX16_each_10 7 rfl rfl)
theorem dX16_each_242 : decode cX16_each 242 = .ok (.aload_n 0, 1) := dk_42 (dk_at dksX16_each_10 8 rfl rfl)
theorem dX16_each_243 : decode cX16_each 243 = .ok (.iconst 0, 1) := dk_3 (dk_at dksX16_each_10 9 rfl rfl)
theorem dX16_each_244 : decode cX16_each 244 = .ok (.iload 10, 2) := dk_21 10 (dk_at dksX16_each_10 10 rfl rfl)
theorem dX16_each_246 : decode cX16_each 246 = .ok (.invokevirtual 278, 3) := dk_182 1 22 (dk_at dksX16_each_10 12 rfl rfl)
theorem dX16_each_249 : decode cX16_each 249 = .ok (.iload_n 2, 1) := dk_28 (dk_at dksX16_each_10 15 rfl rfl)
theorem dX16_each_250 : decode cX16_each 250 = .ok (.iload 8, 2) := dk_21 8 (dk_at dksX16_each_10 16 rfl rfl)
theorem dX16_each_252 : decode cX16_each 252 = .ok (.iload 5, 2) := dk_21 5 (dk_at dksX16_each_10 18 rfl rfl)
theorem dX16_each_254 : decode cX16_each 254 = .ok (.iconst 0, 1) := dk_3 (dk_at dksX16_each_10 20 rfl rfl)
theorem dX16_each_255 : decode cX16_each 255 = .ok (.invokevirtual 274, 3) := dk_182 1 18 (dk_at dksX16_each_10 21 rfl rfl)
theorem dX16_each_258 : decode cX16_each 258 = .ok (.ireturn, 1) := dk_172 (dk_at dksX16_each_11 0 rfl rfl)
abbrev cX16_element : ByteArray := prog_21_method_34_code
def yX16_element : MethodName := ⟨RX16, "element", "(II)I"⟩
def dkwX16_element_6 : List UInt8 := [2, 172, 2, 172]
abbrev dktX16_element_6 : List UInt8 := dkwX16_element_6 ++ []
def dkwX16_element_5 : List UInt8 := [172, 42, 6, 181, 1, 83, 28, 16, 59, 160, 0, 15, 42, 180, 0, 32, 180, 0, 166, 27, 46, 167, 0, 4]
abbrev dktX16_element_5 : List UInt8 := dkwX16_element_5 ++ dktX16_element_6
def dkwX16_element_4 : List UInt8 := [180, 0, 32, 42, 180, 0, 32, 180, 0, 166, 27, 46, 42, 180, 0, 32, 180, 0, 169, 27, 46, 182, 0, 192]
abbrev dktX16_element_4 : List UInt8 := dkwX16_element_4 ++ dktX16_element_5
def dkwX16_element_3 : List UInt8 := [160, 0, 15, 42, 180, 0, 32, 180, 0, 166, 27, 46, 167, 0, 4, 2, 172, 42, 5, 181, 1, 83, 42]
abbrev dktX16_element_3 : List UInt8 := dkwX16_element_3 ++ dktX16_element_4
def dkwX16_element_2 : List UInt8 := [42, 3, 181, 1, 83, 42, 180, 0, 32, 180, 0, 166, 27, 46, 172, 42, 4, 181, 1, 83, 28, 16, 58]
abbrev dktX16_element_2 : List UInt8 := dkwX16_element_2 ++ dktX16_element_3
def dkwX16_element_1 : List UInt8 := [170, 0, 0, 0, 0, 0, 135, 0, 0, 0, 10, 0, 0, 0, 15, 0, 0, 0, 110, 0, 0, 0, 39, 0, 0, 0, 54, 0, 0, 0, 135, 0, 0, 0, 135, 0, 0, 0, 79]
abbrev dktX16_element_1 : List UInt8 := dkwX16_element_1 ++ dktX16_element_2
def dkwX16_element_0 : List UInt8 := [42, 180, 0, 32, 180, 0, 163, 27, 51]
abbrev dktX16_element_0 : List UInt8 := dkwX16_element_0 ++ dktX16_element_1
theorem dksX16_element_0 : cX16_element.data.toList.drop 0 = dktX16_element_0 := by decide +kernel
theorem dksX16_element_1 : cX16_element.data.toList.drop 9 = dktX16_element_1 := dk_seg dksX16_element_0 9 rfl rfl
theorem dksX16_element_2 : cX16_element.data.toList.drop 48 = dktX16_element_2 := dk_seg dksX16_element_1 39 rfl rfl
theorem dksX16_element_3 : cX16_element.data.toList.drop 71 = dktX16_element_3 := dk_seg dksX16_element_2 23 rfl rfl
theorem dksX16_element_4 : cX16_element.data.toList.drop 94 = dktX16_element_4 := dk_seg dksX16_element_3 23 rfl rfl
theorem dksX16_element_5 : cX16_element.data.toList.drop 118 = dktX16_element_5 := dk_seg dksX16_element_4 24 rfl rfl
theorem dksX16_element_6 : cX16_element.data.toList.drop 142 = dktX16_element_6 := dk_seg dksX16_element_5 24 rfl rfl
theorem dX16_element_0 : decode cX16_element 0 = .ok (.aload_n 0, 1) := dk_42 (dk_at dksX16_element_0 0 rfl rfl)
theorem dX16_element_1 : decode cX16_element 1 = .ok (.getfield 32, 3) := dk_180 0 32 (dk_at dksX16_element_0 1 rfl rfl)
theorem dX16_element_4 : decode cX16_element 4 = .ok (.getfield 163, 3) := dk_180 0 163 (dk_at dksX16_element_0 4 rfl rfl)
theorem dX16_element_7 : decode cX16_element 7 = .ok (.iload_n 1, 1) := dk_27 (dk_at dksX16_element_0 7 rfl rfl)
theorem dX16_element_8 : decode cX16_element 8 = .ok (.baload, 1) := dk_51 (dk_at dksX16_element_0 8 rfl rfl)
theorem dX16_element_9 : decode cX16_element 9 = .ok (.tableswitch 135 10 15 #[110, 39, 54, 135, 135, 79], 39) := by decide +kernel
theorem dX16_element_48 : decode cX16_element 48 = .ok (.aload_n 0, 1) := dk_42 (dk_at dksX16_element_2 0 rfl rfl)
theorem dX16_element_49 : decode cX16_element 49 = .ok (.iconst 0, 1) := dk_3 (dk_at dksX16_element_2 1 rfl rfl)
theorem dX16_element_50 : decode cX16_element 50 = .ok (.putfield 339, 3) := dk_181 1 83 (dk_at dksX16_element_2 2 rfl rfl)
theorem dX16_element_53 : decode cX16_element 53 = .ok (.aload_n 0, 1) := dk_42 (dk_at dksX16_element_2 5 rfl rfl)
theorem dX16_element_54 : decode cX16_element 54 = .ok (.getfield 32, 3) := dk_180 0 32 (dk_at dksX16_element_2 6 rfl rfl)
theorem dX16_element_57 : decode cX16_element 57 = .ok (.getfield 166, 3) := dk_180 0 166 (dk_at dksX16_element_2 9 rfl rfl)
theorem dX16_element_60 : decode cX16_element 60 = .ok (.iload_n 1, 1) := dk_27 (dk_at dksX16_element_2 12 rfl rfl)
theorem dX16_element_61 : decode cX16_element 61 = .ok (.iaload, 1) := dk_46 (dk_at dksX16_element_2 13 rfl rfl)
theorem dX16_element_62 : decode cX16_element 62 = .ok (.ireturn, 1) := dk_172 (dk_at dksX16_element_2 14 rfl rfl)
theorem dX16_element_63 : decode cX16_element 63 = .ok (.aload_n 0, 1) := dk_42 (dk_at dksX16_element_2 15 rfl rfl)
theorem dX16_element_64 : decode cX16_element 64 = .ok (.iconst 1, 1) := dk_4 (dk_at dksX16_element_2 16 rfl rfl)
theorem dX16_element_65 : decode cX16_element 65 = .ok (.putfield 339, 3) := dk_181 1 83 (dk_at dksX16_element_2 17 rfl rfl)
theorem dX16_element_68 : decode cX16_element 68 = .ok (.iload_n 2, 1) := dk_28 (dk_at dksX16_element_2 20 rfl rfl)
theorem dX16_element_69 : decode cX16_element 69 = .ok (.bipush 58, 2) := dk_16 58 (dk_at dksX16_element_2 21 rfl rfl)
theorem dX16_element_71 : decode cX16_element 71 = .ok (.if_icmp .ne 15, 3) := dk_160 0 15 (dk_at dksX16_element_3 0 rfl rfl)
theorem dX16_element_74 : decode cX16_element 74 = .ok (.aload_n 0, 1) := dk_42 (dk_at dksX16_element_3 3 rfl rfl)
theorem dX16_element_75 : decode cX16_element 75 = .ok (.getfield 32, 3) := dk_180 0 32 (dk_at dksX16_element_3 4 rfl rfl)
theorem dX16_element_78 : decode cX16_element 78 = .ok (.getfield 166, 3) := dk_180 0 166 (dk_at dksX16_element_3 7 rfl rfl)
theorem dX16_element_81 : decode cX16_element 81 = .ok (.iload_n 1, 1) := dk_27 (dk_at dksX16_element_3 10 rfl rfl)
theorem dX16_element_82 : decode cX16_element 82 = .ok (.iaload, 1) := dk_46 (dk_at dksX16_element_3 11 rfl rfl)
theorem dX16_element_83 : decode cX16_element 83 = .ok (.goto 4, 3) := dk_167 0 4 (dk_at dksX16_element_3 12 rfl rfl)
theorem dX16_element_86 : decode cX16_element 86 = .ok (.iconst (-1), 1) := dk_2 (dk_at dksX16_element_3 15 rfl rfl)
theorem dX16_element_87 : decode cX16_element 87 = .ok (.ireturn, 1) := dk_172 (dk_at dksX16_element_3 16 rfl rfl)
theorem dX16_element_88 : decode cX16_element 88 = .ok (.aload_n 0, 1) := dk_42 (dk_at dksX16_element_3 17 rfl rfl)
theorem dX16_element_89 : decode cX16_element 89 = .ok (.iconst 2, 1) := dk_5 (dk_at dksX16_element_3 18 rfl rfl)
theorem dX16_element_90 : decode cX16_element 90 = .ok (.putfield 339, 3) := dk_181 1 83 (dk_at dksX16_element_3 19 rfl rfl)
theorem dX16_element_93 : decode cX16_element 93 = .ok (.aload_n 0, 1) := dk_42 (dk_at dksX16_element_3 22 rfl rfl)
theorem dX16_element_94 : decode cX16_element 94 = .ok (.getfield 32, 3) := dk_180 0 32 (dk_at dksX16_element_4 0 rfl rfl)
theorem dX16_element_97 : decode cX16_element 97 = .ok (.aload_n 0, 1) := dk_42 (dk_at dksX16_element_4 3 rfl rfl)
theorem dX16_element_98 : decode cX16_element 98 = .ok (.getfield 32, 3) := dk_180 0 32 (dk_at dksX16_element_4 4 rfl rfl)
theorem dX16_element_101 : decode cX16_element 101 = .ok (.getfield 166, 3) := dk_180 0 166 (dk_at dksX16_element_4 7 rfl rfl)
theorem dX16_element_104 : decode cX16_element 104 = .ok (.iload_n 1, 1) := dk_27 (dk_at dksX16_element_4 10 rfl rfl)
theorem dX16_element_105 : decode cX16_element 105 = .ok (.iaload, 1) := dk_46 (dk_at dksX16_element_4 11 rfl rfl)
theorem dX16_element_106 : decode cX16_element 106 = .ok (.aload_n 0, 1) := dk_42 (dk_at dksX16_element_4 12 rfl rfl)
theorem dX16_element_107 : decode cX16_element 107 = .ok (.getfield 32, 3) := dk_180 0 32 (dk_at dksX16_element_4 13 rfl rfl)
theorem dX16_element_110 : decode cX16_element 110 = .ok (.getfield 169, 3) := dk_180 0 169 (dk_at dksX16_element_4 16 rfl rfl)
theorem dX16_element_113 : decode cX16_element 113 = .ok (.iload_n 1, 1) := dk_27 (dk_at dksX16_element_4 19 rfl rfl)
theorem dX16_element_114 : decode cX16_element 114 = .ok (.iaload, 1) := dk_46 (dk_at dksX16_element_4 20 rfl rfl)
theorem dX16_element_115 : decode cX16_element 115 = .ok (.invokevirtual 192, 3) := dk_182 0 192 (dk_at dksX16_element_4 21 rfl rfl)
theorem dX16_element_118 : decode cX16_element 118 = .ok (.ireturn, 1) := dk_172 (dk_at dksX16_element_5 0 rfl rfl)
theorem dX16_element_119 : decode cX16_element 119 = .ok (.aload_n 0, 1) := dk_42 (dk_at dksX16_element_5 1 rfl rfl)
theorem dX16_element_120 : decode cX16_element 120 = .ok (.iconst 3, 1) := dk_6 (dk_at dksX16_element_5 2 rfl rfl)
theorem dX16_element_121 : decode cX16_element 121 = .ok (.putfield 339, 3) := dk_181 1 83 (dk_at dksX16_element_5 3 rfl rfl)
theorem dX16_element_124 : decode cX16_element 124 = .ok (.iload_n 2, 1) := dk_28 (dk_at dksX16_element_5 6 rfl rfl)
theorem dX16_element_125 : decode cX16_element 125 = .ok (.bipush 59, 2) := dk_16 59 (dk_at dksX16_element_5 7 rfl rfl)
theorem dX16_element_127 : decode cX16_element 127 = .ok (.if_icmp .ne 15, 3) := dk_160 0 15 (dk_at dksX16_element_5 9 rfl rfl)
theorem dX16_element_130 : decode cX16_element 130 = .ok (.aload_n 0, 1) := dk_42 (dk_at dksX16_element_5 12 rfl rfl)
theorem dX16_element_131 : decode cX16_element 131 = .ok (.getfield 32, 3) := dk_180 0 32 (dk_at dksX16_element_5 13 rfl rfl)
theorem dX16_element_134 : decode cX16_element 134 = .ok (.getfield 166, 3) := dk_180 0 166 (dk_at dksX16_element_5 16 rfl rfl)
theorem dX16_element_137 : decode cX16_element 137 = .ok (.iload_n 1, 1) := dk_27 (dk_at dksX16_element_5 19 rfl rfl)
theorem dX16_element_138 : decode cX16_element 138 = .ok (.iaload, 1) := dk_46 (dk_at dksX16_element_5 20 rfl rfl)
theorem dX16_element_139 : decode cX16_element 139 = .ok (.goto 4, 3) := dk_167 0 4 (dk_at dksX16_element_5 21 rfl rfl)
theorem dX16_element_142 : decode cX16_element 142 = .ok (.iconst (-1), 1) := dk_2 (dk_at dksX16_element_6 0 rfl rfl)
theorem dX16_element_143 : decode cX16_element 143 = .ok (.ireturn, 1) := dk_172 (dk_at dksX16_element_6 1 rfl rfl)
theorem dX16_element_144 : decode cX16_element 144 = .ok (.iconst (-1), 1) := dk_2 (dk_at dksX16_element_6 2 rfl rfl)
theorem dX16_element_145 : decode cX16_element 145 = .ok (.ireturn, 1) := dk_172 (dk_at dksX16_element_6 3 rfl rfl)
abbrev cX16_lambda : ByteArray := prog_21_method_36_code
def yX16_lambda : MethodName := ⟨RX16, "lambda", "(I)I"⟩
def dkwX16_lambda_7 : List UInt8 := [42, 3, 21, 4, 182, 1, 22, 16, 61, 21, 7, 3, 3, 182, 1, 18, 172]
abbrev dktX16_lambda_7 : List UInt8 := dkwX16_lambda_7 ++ []
def dkwX16_lambda_6 : List UInt8 := [29, 159, 0, 5, 3, 172, 42, 3, 181, 0, 199, 42, 21, 6, 182, 1, 77, 42, 21, 5, 181, 0, 59, 42]
abbrev dktX16_lambda_6 : List UInt8 := dkwX16_lambda_6 ++ dktX16_lambda_7
def dkwX16_lambda_5 : List UInt8 := [156, 0, 28, 42, 180, 0, 199, 154, 0, 23, 42, 180, 0, 56, 4, 160, 0, 13, 42, 180, 0, 20, 3, 46]
abbrev dktX16_lambda_5 : List UInt8 := dkwX16_lambda_5 ++ dktX16_lambda_6
def dkwX16_lambda_4 : List UInt8 := [27, 5, 182, 0, 226, 182, 0, 206, 54, 7, 42, 89, 180, 0, 62, 4, 100, 181, 0, 62, 42, 180, 0, 52]
abbrev dktX16_lambda_4 : List UInt8 := dkwX16_lambda_4 ++ dktX16_lambda_5
def dkwX16_lambda_3 : List UInt8 := [42, 3, 181, 0, 56, 42, 3, 28, 182, 1, 22, 87, 42, 89, 180, 0, 62, 4, 96, 181, 0, 62, 42, 42]
abbrev dktX16_lambda_3 : List UInt8 := dkwX16_lambda_3 ++ dktX16_lambda_4
def dkwX16_lambda_2 : List UInt8 := [17, 1, 44, 160, 0, 5, 3, 172, 42, 180, 0, 59, 54, 5, 42, 182, 1, 74, 42, 180, 0, 59, 54, 6]
abbrev dktX16_lambda_2 : List UInt8 := dkwX16_lambda_2 ++ dktX16_lambda_3
def dkwX16_lambda_1 : List UInt8 := [42, 180, 0, 32, 16, 17, 28, 29, 182, 0, 195, 54, 4, 21, 4, 155, 0, 13, 42, 180, 0, 56]
abbrev dktX16_lambda_1 : List UInt8 := dkwX16_lambda_1 ++ dktX16_lambda_2
def dkwX16_lambda_0 : List UInt8 := [42, 27, 3, 182, 1, 29, 61, 42, 27, 4, 182, 1, 29, 62, 28, 155, 0, 7, 29, 156, 0, 5, 3, 172]
abbrev dktX16_lambda_0 : List UInt8 := dkwX16_lambda_0 ++ dktX16_lambda_1
theorem dksX16_lambda_0 : cX16_lambda.data.toList.drop 0 = dktX16_lambda_0 := by decide +kernel
theorem dksX16_lambda_1 : cX16_lambda.data.toList.drop 24 = dktX16_lambda_1 := dk_seg dksX16_lambda_0 24 rfl rfl
theorem dksX16_lambda_2 : cX16_lambda.data.toList.drop 46 = dktX16_lambda_2 := dk_seg dksX16_lambda_1 22 rfl rfl
theorem dksX16_lambda_3 : cX16_lambda.data.toList.drop 70 = dktX16_lambda_3 := dk_seg dksX16_lambda_2 24 rfl rfl
theorem dksX16_lambda_4 : cX16_lambda.data.toList.drop 94 = dktX16_lambda_4 := dk_seg dksX16_lambda_3 24 rfl rfl
theorem dksX16_lambda_5 : cX16_lambda.data.toList.drop 118 = dktX16_lambda_5 := dk_seg dksX16_lambda_4 24 rfl rfl
theorem dksX16_lambda_6 : cX16_lambda.data.toList.drop 142 = dktX16_lambda_6 := dk_seg dksX16_lambda_5 24 rfl rfl
theorem dksX16_lambda_7 : cX16_lambda.data.toList.drop 166 = dktX16_lambda_7 := dk_seg dksX16_lambda_6 24 rfl rfl
theorem dX16_lambda_0 : decode cX16_lambda 0 = .ok (.aload_n 0, 1) := dk_42 (dk_at dksX16_lambda_0 0 rfl rfl)
theorem dX16_lambda_1 : decode cX16_lambda 1 = .ok (.iload_n 1, 1) := dk_27 (dk_at dksX16_lambda_0 1 rfl rfl)
theorem dX16_lambda_2 : decode cX16_lambda 2 = .ok (.iconst 0, 1) := dk_3 (dk_at dksX16_lambda_0 2 rfl rfl)
theorem dX16_lambda_3 : decode cX16_lambda 3 = .ok (.invokevirtual 285, 3) := dk_182 1 29 (dk_at dksX16_lambda_0 3 rfl rfl)
theorem dX16_lambda_6 : decode cX16_lambda 6 = .ok (.istore_n 2, 1) := dk_61 (dk_at dksX16_lambda_0 6 rfl rfl)
theorem dX16_lambda_7 : decode cX16_lambda 7 = .ok (.aload_n 0, 1) := dk_42 (dk_at dksX16_lambda_0 7 rfl rfl)
theorem dX16_lambda_8 : decode cX16_lambda 8 = .ok (.iload_n 1, 1) := dk_27 (dk_at dksX16_lambda_0 8 rfl rfl)
theorem dX16_lambda_9 : decode cX16_lambda 9 = .ok (.iconst 1, 1) := dk_4 (dk_at dksX16_lambda_0 9 rfl rfl)
theorem dX16_lambda_10 : decode cX16_lambda 10 = .ok (.invokevirtual 285, 3) := dk_182 1 29 (dk_at dksX16_lambda_0 10 rfl rfl)
theorem dX16_lambda_13 : decode cX16_lambda 13 = .ok (.istore_n 3, 1) := dk_62 (dk_at dksX16_lambda_0 13 rfl rfl)
theorem dX16_lambda_14 : decode cX16_lambda 14 = .ok (.iload_n 2, 1) := dk_28 (dk_at dksX16_lambda_0 14 rfl rfl)
theorem dX16_lambda_15 : decode cX16_lambda 15 = .ok (.ifCond .lt 7, 3) := dk_155 0 7 (dk_at dksX16_lambda_0 15 rfl rfl)
theorem dX16_lambda_18 : decode cX16_lambda 18 = .ok (.iload_n 3, 1) := dk_29 (dk_at dksX16_lambda_0 18 rfl rfl)
theorem dX16_lambda_19 : decode cX16_lambda 19 = .ok (.ifCond .ge 5, 3) := dk_156 0 5 (dk_at dksX16_lambda_0 19 rfl rfl)
theorem dX16_lambda_22 : decode cX16_lambda 22 = .ok (.iconst 0, 1) := dk_3 (dk_at dksX16_lambda_0 22 rfl rfl)
theorem dX16_lambda_23 : decode cX16_lambda 23 = .ok (.ireturn, 1) := dk_172 (dk_at dksX16_lambda_0 23 rfl rfl)
theorem dX16_lambda_24 : decode cX16_lambda 24 = .ok (.aload_n 0, 1) := dk_42 (dk_at dksX16_lambda_1 0 rfl rfl)
theorem dX16_lambda_25 : decode cX16_lambda 25 = .ok (.getfield 32, 3) := dk_180 0 32 (dk_at dksX16_lambda_1 1 rfl rfl)
theorem dX16_lambda_28 : decode cX16_lambda 28 = .ok (.bipush 17, 2) := dk_16 17 (dk_at dksX16_lambda_1 4 rfl rfl)
theorem dX16_lambda_30 : decode cX16_lambda 30 = .ok (.iload_n 2, 1) := dk_28 (dk_at dksX16_lambda_1 6 rfl rfl)
theorem dX16_lambda_31 : decode cX16_lambda 31 = .ok (.iload_n 3, 1) := dk_29 (dk_at dksX16_lambda_1 7 rfl rfl)
theorem dX16_lambda_32 : decode cX16_lambda 32 = .ok (.invokevirtual 195, 3) := dk_182 0 195 (dk_at dksX16_lambda_1 8 rfl rfl)
theorem dX16_lambda_35 : decode cX16_lambda 35 = .ok (.istore 4, 2) := dk_54 4 (dk_at dksX16_lambda_1 11 rfl rfl)
theorem dX16_lambda_37 : decode cX16_lambda 37 = .ok (.iload 4, 2) := dk_21 4 (dk_at dksX16_lambda_1 13 rfl rfl)
theorem dX16_lambda_39 : decode cX16_lambda 39 = .ok (.ifCond .lt 13, 3) := dk_155 0 13 (dk_at dksX16_lambda_1 15 rfl rfl)
theorem dX16_lambda_42 : decode cX16_lambda 42 = .ok (.aload_n 0, 1) := dk_42 (dk_at dksX16_lambda_1 18 rfl rfl)
theorem dX16_lambda_43 : decode cX16_lambda 43 = .ok (.getfield 56, 3) := dk_180 0 56 (dk_at dksX16_lambda_1 19 rfl rfl)
theorem dX16_lambda_46 : decode cX16_lambda 46 = .ok (.sipush 300, 3) := dk_17 1 44 (dk_at dksX16_lambda_2 0 rfl rfl)
theorem dX16_lambda_49 : decode cX16_lambda 49 = .ok (.if_icmp .ne 5, 3) := dk_160 0 5 (dk_at dksX16_lambda_2 3 rfl rfl)
theorem dX16_lambda_52 : decode cX16_lambda 52 = .ok (.iconst 0, 1) := dk_3 (dk_at dksX16_lambda_2 6 rfl rfl)
theorem dX16_lambda_53 : decode cX16_lambda 53 = .ok (.ireturn, 1) := dk_172 (dk_at dksX16_lambda_2 7 rfl rfl)
theorem dX16_lambda_54 : decode cX16_lambda 54 = .ok (.aload_n 0, 1) := dk_42 (dk_at dksX16_lambda_2 8 rfl rfl)
theorem dX16_lambda_55 : decode cX16_lambda 55 = .ok (.getfield 59, 3) := dk_180 0 59 (dk_at dksX16_lambda_2 9 rfl rfl)
theorem dX16_lambda_58 : decode cX16_lambda 58 = .ok (.istore 5, 2) := dk_54 5 (dk_at dksX16_lambda_2 12 rfl rfl)
theorem dX16_lambda_60 : decode cX16_lambda 60 = .ok (.aload_n 0, 1) := dk_42 (dk_at dksX16_lambda_2 14 rfl rfl)
theorem dX16_lambda_61 : decode cX16_lambda 61 = .ok (.invokevirtual 330, 3) := dk_182 1 74 (dk_at dksX16_lambda_2 15 rfl rfl)
theorem dX16_lambda_64 : decode cX16_lambda 64 = .ok (.aload_n 0, 1) := dk_42 (dk_at dksX16_lambda_2 18 rfl rfl)
theorem dX16_lambda_65 : decode cX16_lambda 65 = .ok (.getfield 59, 3) := dk_180 0 59 (dk_at dksX16_lambda_2 19 rfl rfl)
theorem dX16_lambda_68 : decode cX16_lambda 68 = .ok (.istore 6, 2) := dk_54 6 (dk_at dksX16_lambda_2 22 rfl rfl)
theorem dX16_lambda_70 : decode cX16_lambda 70 = .ok (.aload_n 0, 1) := dk_42 (dk_at dksX16_lambda_3 0 rfl rfl)
theorem dX16_lambda_71 : decode cX16_lambda 71 = .ok (.iconst 0, 1) := dk_3 (dk_at dksX16_lambda_3 1 rfl rfl)
theorem dX16_lambda_72 : decode cX16_lambda 72 = .ok (.putfield 56, 3) := dk_181 0 56 (dk_at dksX16_lambda_3 2 rfl rfl)
theorem dX16_lambda_75 : decode cX16_lambda 75 = .ok (.aload_n 0, 1) := dk_42 (dk_at dksX16_lambda_3 5 rfl rfl)
theorem dX16_lambda_76 : decode cX16_lambda 76 = .ok (.iconst 0, 1) := dk_3 (dk_at dksX16_lambda_3 6 rfl rfl)
theorem dX16_lambda_77 : decode cX16_lambda 77 = .ok (.iload_n 2, 1) := dk_28 (dk_at dksX16_lambda_3 7 rfl rfl)
theorem dX16_lambda_78 : decode cX16_lambda 78 = .ok (.invokevirtual 278, 3) := dk_182 1 22 (dk_at dksX16_lambda_3 8 rfl rfl)
theorem dX16_lambda_81 : decode cX16_lambda 81 = .ok (.pop, 1) := dk_87 (dk_at dksX16_lambda_3 11 rfl rfl)
theorem dX16_lambda_82 : decode cX16_lambda 82 = .ok (.aload_n 0, 1) := dk_42 (dk_at dksX16_lambda_3 12 rfl rfl)
theorem dX16_lambda_83 : decode cX16_lambda 83 = .ok (.dup, 1) := dk_89 (dk_at dksX16_lambda_3 13 rfl rfl)
theorem dX16_lambda_84 : decode cX16_lambda 84 = .ok (.getfield 62, 3) := dk_180 0 62 (dk_at dksX16_lambda_3 14 rfl rfl)
theorem dX16_lambda_87 : decode cX16_lambda 87 = .ok (.iconst 1, 1) := dk_4 (dk_at dksX16_lambda_3 17 rfl rfl)
theorem dX16_lambda_88 : decode cX16_lambda 88 = .ok (.iadd, 1) := dk_96 (dk_at dksX16_lambda_3 18 rfl rfl)
theorem dX16_lambda_89 : decode cX16_lambda 89 = .ok (.putfield 62, 3) := dk_181 0 62 (dk_at dksX16_lambda_3 19 rfl rfl)
theorem dX16_lambda_92 : decode cX16_lambda 92 = .ok (.aload_n 0, 1) := dk_42 (dk_at dksX16_lambda_3 22 rfl rfl)
theorem dX16_lambda_93 : decode cX16_lambda 93 = .ok (.aload_n 0, 1) := dk_42 (dk_at dksX16_lambda_3 23 rfl rfl)
theorem dX16_lambda_94 : decode cX16_lambda 94 = .ok (.iload_n 1, 1) := dk_27 (dk_at dksX16_lambda_4 0 rfl rfl)
theorem dX16_lambda_95 : decode cX16_lambda 95 = .ok (.iconst 2, 1) := dk_5 (dk_at dksX16_lambda_4 1 rfl rfl)
theorem dX16_lambda_96 : decode cX16_lambda 96 = .ok (.invokevirtual 226, 3) := dk_182 0 226 (dk_at dksX16_lambda_4 2 rfl rfl)
theorem dX16_lambda_99 : decode cX16_lambda 99 = .ok (.invokevirtual 206, 3) := dk_182 0 206 (dk_at dksX16_lambda_4 5 rfl rfl)
theorem dX16_lambda_102 : decode cX16_lambda 102 = .ok (.istore 7, 2) := dk_54 7 (dk_at dksX16_lambda_4 8 rfl rfl)
theorem dX16_lambda_104 : decode cX16_lambda 104 = .ok (.aload_n 0, 1) := dk_42 (dk_at dksX16_lambda_4 10 rfl rfl)
theorem dX16_lambda_105 : decode cX16_lambda 105 = .ok (.dup, 1) := dk_89 (dk_at dksX16_lambda_4 11 rfl rfl)
theorem dX16_lambda_106 : decode cX16_lambda 106 = .ok (.getfield 62, 3) := dk_180 0 62 (dk_at dksX16_lambda_4 12 rfl rfl)
theorem dX16_lambda_109 : decode cX16_lambda 109 = .ok (.iconst 1, 1) := dk_4 (dk_at dksX16_lambda_4 15 rfl rfl)
theorem dX16_lambda_110 : decode cX16_lambda 110 = .ok (.isub, 1) := dk_100 (dk_at dksX16_lambda_4 16 rfl rfl)
theorem dX16_lambda_111 : decode cX16_lambda 111 = .ok (.putfield 62, 3) := dk_181 0 62 (dk_at dksX16_lambda_4 17 rfl rfl)
theorem dX16_lambda_114 : decode cX16_lambda 114 = .ok (.aload_n 0, 1) := dk_42 (dk_at dksX16_lambda_4 20 rfl rfl)
theorem dX16_lambda_115 : decode cX16_lambda 115 = .ok (.getfield 52, 3) := dk_180 0 52 (dk_at dksX16_lambda_4 21 rfl rfl)
theorem dX16_lambda_118 : decode cX16_lambda 118 = .ok (.ifCond .ge 28, 3) := dk_156 0 28 (dk_at dksX16_lambda_5 0 rfl rfl)
theorem dX16_lambda_121 : decode cX16_lambda 121 = .ok (.aload_n 0, 1) := dk_42 (dk_at dksX16_lambda_5 3 rfl rfl)
theorem dX16_lambda_122 : decode cX16_lambda 122 = .ok (.getfield 199, 3) := dk_180 0 199 (dk_at dksX16_lambda_5 4 rfl rfl)
theorem dX16_lambda_125 : decode cX16_lambda 125 = .ok (.ifCond .ne 23, 3) := dk_154 0 23 (dk_at dksX16_lambda_5 7 rfl rfl)
theorem dX16_lambda_128 : decode cX16_lambda 128 = .ok (.aload_n 0, 1) := dk_42 (dk_at dksX16_lambda_5 10 rfl rfl)
theorem dX16_lambda_129 : decode cX16_lambda 129 = .ok (.getfield 56, 3) := dk_180 0 56 (dk_at dksX16_lambda_5 11 rfl rfl)
theorem dX16_lambda_132 : decode cX16_lambda 132 = .ok (.iconst 1, 1) := dk_4 (dk_at dksX16_lambda_5 14 rfl rfl)
theorem dX16_lambda_133 : decode cX16_lambda 133 = .ok (.if_icmp .ne 13, 3) := dk_160 0 13 (dk_at dksX16_lambda_5 15 rfl rfl)
theorem dX16_lambda_136 : decode cX16_lambda 136 = .ok (.aload_n 0, 1) := dk_42 (dk_at dksX16_lambda_5 18 rfl rfl)
theorem dX16_lambda_137 : decode cX16_lambda 137 = .ok (.getfield 20, 3) := dk_180 0 20 (dk_at dksX16_lambda_5 19 rfl rfl)
theorem dX16_lambda_140 : decode cX16_lambda 140 = .ok (.iconst 0, 1) := dk_3 (dk_at dksX16_lambda_5 22 rfl rfl)
theorem dX16_lambda_141 : decode cX16_lambda 141 = .ok (.iaload, 1) := dk_46 (dk_at dksX16_lambda_5 23 rfl rfl)
theorem dX16_lambda_142 : decode cX16_lambda 142 = .ok (.iload_n 3, 1) := dk_29 (dk_at dksX16_lambda_6 0 rfl rfl)
theorem dX16_lambda_143 : decode cX16_lambda 143 = .ok (.if_icmp .eq 5, 3) := dk_159 0 5 (dk_at dksX16_lambda_6 1 rfl rfl)
theorem dX16_lambda_146 : decode cX16_lambda 146 = .ok (.iconst 0, 1) := dk_3 (dk_at dksX16_lambda_6 4 rfl rfl)
theorem dX16_lambda_147 : decode cX16_lambda 147 = .ok (.ireturn, 1) := dk_172 (dk_at dksX16_lambda_6 5 rfl rfl)
theorem dX16_lambda_148 : decode cX16_lambda 148 = .ok (.aload_n 0, 1) := dk_42 (dk_at dksX16_lambda_6 6 rfl rfl)
theorem dX16_lambda_149 : decode cX16_lambda 149 = .ok (.iconst 0, 1) := dk_3 (dk_at dksX16_lambda_6 7 rfl rfl)
theorem dX16_lambda_150 : decode cX16_lambda 150 = .ok (.putfield 199, 3) := dk_181 0 199 (dk_at dksX16_lambda_6 8 rfl rfl)
theorem dX16_lambda_153 : decode cX16_lambda 153 = .ok (.aload_n 0, 1) := dk_42 (dk_at dksX16_lambda_6 11 rfl rfl)
theorem dX16_lambda_154 : decode cX16_lambda 154 = .ok (.iload 6, 2) := dk_21 6 (dk_at dksX16_lambda_6 12 rfl rfl)
theorem dX16_lambda_156 : decode cX16_lambda 156 = .ok (.invokevirtual 333, 3) := dk_182 1 77 (dk_at dksX16_lambda_6 14 rfl rfl)
theorem dX16_lambda_159 : decode cX16_lambda 159 = .ok (.aload_n 0, 1) := dk_42 (dk_at dksX16_lambda_6 17 rfl rfl)
theorem dX16_lambda_160 : decode cX16_lambda 160 = .ok (.iload 5, 2) := dk_21 5 (dk_at dksX16_lambda_6 18 rfl rfl)
theorem dX16_lambda_162 : decode cX16_lambda 162 = .ok (.putfield 59, 3) := dk_181 0 59 (dk_at dksX16_lambda_6 20 rfl rfl)
theorem dX16_lambda_165 : decode cX16_lambda 165 = .ok (.aload_n 0, 1) := dk_42 (dk_at dksX16_lambda_6 23 rfl rfl)
theorem dX16_lambda_166 : decode cX16_lambda 166 = .ok (.aload_n 0, 1) := dk_42 (dk_at dksX16_lambda_7 0 rfl rfl)
theorem dX16_lambda_167 : decode cX16_lambda 167 = .ok (.iconst 0, 1) := dk_3 (dk_at dksX16_lambda_7 1 rfl rfl)
theorem dX16_lambda_168 : decode cX16_lambda 168 = .ok (.iload 4, 2) := dk_21 4 (dk_at dksX16_lambda_7 2 rfl rfl)
theorem dX16_lambda_170 : decode cX16_lambda 170 = .ok (.invokevirtual 278, 3) := dk_182 1 22 (dk_at dksX16_lambda_7 4 rfl rfl)
theorem dX16_lambda_173 : decode cX16_lambda 173 = .ok (.bipush 61, 2) := dk_16 61 (dk_at dksX16_lambda_7 7 rfl rfl)
theorem dX16_lambda_175 : decode cX16_lambda 175 = .ok (.iload 7, 2) := dk_21 7 (dk_at dksX16_lambda_7 9 rfl rfl)
theorem dX16_lambda_177 : decode cX16_lambda 177 = .ok (.iconst 0, 1) := dk_3 (dk_at dksX16_lambda_7 11 rfl rfl)
theorem dX16_lambda_178 : decode cX16_lambda 178 = .ok (.iconst 0, 1) := dk_3 (dk_at dksX16_lambda_7 12 rfl rfl)
theorem dX16_lambda_179 : decode cX16_lambda 179 = .ok (.invokevirtual 274, 3) := dk_182 1 18 (dk_at dksX16_lambda_7 13 rfl rfl)
theorem dX16_lambda_182 : decode cX16_lambda 182 = .ok (.ireturn, 1) := dk_172 (dk_at dksX16_lambda_7 16 rfl rfl)
abbrev cX16_plain : ByteArray := prog_21_method_45_code
def yX16_plain : MethodName := ⟨RX16, "plain", "(II)I"⟩
def dkwX16_plain_6 : List UInt8 := [21, 4, 182, 1, 113, 54, 5, 42, 42, 5, 21, 5, 182, 1, 110, 27, 21, 5, 29, 3, 182, 1, 18, 172]
abbrev dktX16_plain_6 : List UInt8 := dkwX16_plain_6 ++ []
def dkwX16_plain_5 : List UInt8 := [182, 1, 107, 182, 1, 110, 27, 29, 3, 3, 182, 1, 18, 172, 42, 4, 182, 1, 48, 54, 4, 42, 27, 29]
abbrev dktX16_plain_5 : List UInt8 := dkwX16_plain_5 ++ dktX16_plain_6
def dkwX16_plain_4 : List UInt8 := [182, 1, 18, 172, 42, 3, 182, 1, 48, 62, 27, 184, 1, 104, 153, 0, 23, 42, 42, 4, 42, 27, 29]
abbrev dktX16_plain_4 : List UInt8 := dkwX16_plain_4 ++ dktX16_plain_5
def dkwX16_plain_3 : List UInt8 := [42, 29, 153, 0, 16, 42, 5, 5, 182, 1, 22, 153, 0, 7, 4, 167, 0, 4, 3, 27, 21, 4, 3, 3]
abbrev dktX16_plain_3 : List UInt8 := dkwX16_plain_3 ++ dktX16_plain_4
def dkwX16_plain_2 : List UInt8 := [153, 0, 7, 4, 167, 0, 4, 3, 62, 29, 153, 0, 11, 42, 3, 182, 0, 209, 167, 0, 4, 3, 54, 4]
abbrev dktX16_plain_2 : List UInt8 := dkwX16_plain_2 ++ dktX16_plain_3
def dkwX16_plain_1 : List UInt8 := [182, 0, 209, 42, 4, 182, 0, 209, 160, 0, 23, 42, 180, 0, 32, 42, 3, 182, 0, 209, 4, 182, 0, 120]
abbrev dktX16_plain_1 : List UInt8 := dkwX16_plain_1 ++ dktX16_plain_2
def dkwX16_plain_0 : List UInt8 := [28, 153, 0, 5, 3, 172, 27, 16, 79, 160, 0, 89, 42, 180, 0, 56, 4, 164, 0, 36, 42, 3]
abbrev dktX16_plain_0 : List UInt8 := dkwX16_plain_0 ++ dktX16_plain_1
theorem dksX16_plain_0 : cX16_plain.data.toList.drop 0 = dktX16_plain_0 := by decide +kernel
theorem dksX16_plain_1 : cX16_plain.data.toList.drop 22 = dktX16_plain_1 := dk_seg dksX16_plain_0 22 rfl rfl
theorem dksX16_plain_2 : cX16_plain.data.toList.drop 46 = dktX16_plain_2 := dk_seg dksX16_plain_1 24 rfl rfl
theorem dksX16_plain_3 : cX16_plain.data.toList.drop 70 = dktX16_plain_3 := dk_seg dksX16_plain_2 24 rfl rfl
theorem dksX16_plain_4 : cX16_plain.data.toList.drop 94 = dktX16_plain_4 := dk_seg dksX16_plain_3 24 rfl rfl
theorem dksX16_plain_5 : cX16_plain.data.toList.drop 117 = dktX16_plain_5 := dk_seg dksX16_plain_4 23 rfl rfl
theorem dksX16_plain_6 : cX16_plain.data.toList.drop 141 = dktX16_plain_6 := dk_seg dksX16_plain_5 24 rfl rfl
theorem dX16_plain_0 : decode cX16_plain 0 = .ok (.iload_n 2, 1) := dk_28 (dk_at dksX16_plain_0 0 rfl rfl)
theorem dX16_plain_1 : decode cX16_plain 1 = .ok (.ifCond .eq 5, 3) := dk_153 0 5 (dk_at dksX16_plain_0 1 rfl rfl)
theorem dX16_plain_4 : decode cX16_plain 4 = .ok (.iconst 0, 1) := dk_3 (dk_at dksX16_plain_0 4 rfl rfl)
theorem dX16_plain_5 : decode cX16_plain 5 = .ok (.ireturn, 1) := dk_172 (dk_at dksX16_plain_0 5 rfl rfl)
theorem dX16_plain_6 : decode cX16_plain 6 = .ok (.iload_n 1, 1) := dk_27 (dk_at dksX16_plain_0 6 rfl rfl)
theorem dX16_plain_7 : decode cX16_plain 7 = .ok (.bipush 79, 2) := dk_16 79 (dk_at dksX16_plain_0 7 rfl rfl)
theorem dX16_plain_9 : decode cX16_plain 9 = .ok (.if_icmp .ne 89, 3) := dk_160 0 89 (dk_at dksX16_plain_0 9 rfl rfl)
theorem dX16_plain_12 : decode cX16_plain 12 = .ok (.aload_n 0, 1) := dk_42 (dk_at dksX16_plain_0 12 rfl rfl)
theorem dX16_plain_13 : decode cX16_plain 13 = .ok (.getfield 56, 3) := dk_180 0 56 (dk_at dksX16_plain_0 13 rfl rfl)
theorem dX16_plain_16 : decode cX16_plain 16 = .ok (.iconst 1, 1) := dk_4 (dk_at dksX16_plain_0 16 rfl rfl)
theorem dX16_plain_17 : decode cX16_plain 17 = .ok (.if_icmp .le 36, 3) := dk_164 0 36 (dk_at dksX16_plain_0 17 rfl rfl)
theorem dX16_plain_20 : decode cX16_plain 20 = .ok (.aload_n 0, 1) := dk_42 (dk_at dksX16_plain_0 20 rfl rfl)
theorem dX16_plain_21 : decode cX16_plain 21 = .ok (.iconst 0, 1) := dk_3 (dk_at dksX16_plain_0 21 rfl rfl)
theorem dX16_plain_22 : decode cX16_plain 22 = .ok (.invokevirtual 209, 3) := dk_182 0 209 (dk_at dksX16_plain_1 0 rfl rfl)
theorem dX16_plain_25 : decode cX16_plain 25 = .ok (.aload_n 0, 1) := dk_42 (dk_at dksX16_plain_1 3 rfl rfl)
theorem dX16_plain_26 : decode cX16_plain 26 = .ok (.iconst 1, 1) := dk_4 (dk_at dksX16_plain_1 4 rfl rfl)
theorem dX16_plain_27 : decode cX16_plain 27 = .ok (.invokevirtual 209, 3) := dk_182 0 209 (dk_at dksX16_plain_1 5 rfl rfl)
theorem dX16_plain_30 : decode cX16_plain 30 = .ok (.if_icmp .ne 23, 3) := dk_160 0 23 (dk_at dksX16_plain_1 8 rfl rfl)
theorem dX16_plain_33 : decode cX16_plain 33 = .ok (.aload_n 0, 1) := dk_42 (dk_at dksX16_plain_1 11 rfl rfl)
theorem dX16_plain_34 : decode cX16_plain 34 = .ok (.getfield 32, 3) := dk_180 0 32 (dk_at dksX16_plain_1 12 rfl rfl)
theorem dX16_plain_37 : decode cX16_plain 37 = .ok (.aload_n 0, 1) := dk_42 (dk_at dksX16_plain_1 15 rfl rfl)
theorem dX16_plain_38 : decode cX16_plain 38 = .ok (.iconst 0, 1) := dk_3 (dk_at dksX16_plain_1 16 rfl rfl)
theorem dX16_plain_39 : decode cX16_plain 39 = .ok (.invokevirtual 209, 3) := dk_182 0 209 (dk_at dksX16_plain_1 17 rfl rfl)
theorem dX16_plain_42 : decode cX16_plain 42 = .ok (.iconst 1, 1) := dk_4 (dk_at dksX16_plain_1 20 rfl rfl)
theorem dX16_plain_43 : decode cX16_plain 43 = .ok (.invokevirtual 120, 3) := dk_182 0 120 (dk_at dksX16_plain_1 21 rfl rfl)
theorem dX16_plain_46 : decode cX16_plain 46 = .ok (.ifCond .eq 7, 3) := dk_153 0 7 (dk_at dksX16_plain_2 0 rfl rfl)
theorem dX16_plain_49 : decode cX16_plain 49 = .ok (.iconst 1, 1) := dk_4 (dk_at dksX16_plain_2 3 rfl rfl)
theorem dX16_plain_50 : decode cX16_plain 50 = .ok (.goto 4, 3) := dk_167 0 4 (dk_at dksX16_plain_2 4 rfl rfl)
theorem dX16_plain_53 : decode cX16_plain 53 = .ok (.iconst 0, 1) := dk_3 (dk_at dksX16_plain_2 7 rfl rfl)
theorem dX16_plain_54 : decode cX16_plain 54 = .ok (.istore_n 3, 1) := dk_62 (dk_at dksX16_plain_2 8 rfl rfl)
theorem dX16_plain_55 : decode cX16_plain 55 = .ok (.iload_n 3, 1) := dk_29 (dk_at dksX16_plain_2 9 rfl rfl)
theorem dX16_plain_56 : decode cX16_plain 56 = .ok (.ifCond .eq 11, 3) := dk_153 0 11 (dk_at dksX16_plain_2 10 rfl rfl)
theorem dX16_plain_59 : decode cX16_plain 59 = .ok (.aload_n 0, 1) := dk_42 (dk_at dksX16_plain_2 13 rfl rfl)
theorem dX16_plain_60 : decode cX16_plain 60 = .ok (.iconst 0, 1) := dk_3 (dk_at dksX16_plain_2 14 rfl rfl)
theorem dX16_plain_61 : decode cX16_plain 61 = .ok (.invokevirtual 209, 3) := dk_182 0 209 (dk_at dksX16_plain_2 15 rfl rfl)
theorem dX16_plain_64 : decode cX16_plain 64 = .ok (.goto 4, 3) := dk_167 0 4 (dk_at dksX16_plain_2 18 rfl rfl)
theorem dX16_plain_67 : decode cX16_plain 67 = .ok (.iconst 0, 1) := dk_3 (dk_at dksX16_plain_2 21 rfl rfl)
theorem dX16_plain_68 : decode cX16_plain 68 = .ok (.istore 4, 2) := dk_54 4 (dk_at dksX16_plain_2 22 rfl rfl)
theorem dX16_plain_70 : decode cX16_plain 70 = .ok (.aload_n 0, 1) := dk_42 (dk_at dksX16_plain_3 0 rfl rfl)
theorem dX16_plain_71 : decode cX16_plain 71 = .ok (.iload_n 3, 1) := dk_29 (dk_at dksX16_plain_3 1 rfl rfl)
theorem dX16_plain_72 : decode cX16_plain 72 = .ok (.ifCond .eq 16, 3) := dk_153 0 16 (dk_at dksX16_plain_3 2 rfl rfl)
theorem dX16_plain_75 : decode cX16_plain 75 = .ok (.aload_n 0, 1) := dk_42 (dk_at dksX16_plain_3 5 rfl rfl)
theorem dX16_plain_76 : decode cX16_plain 76 = .ok (.iconst 2, 1) := dk_5 (dk_at dksX16_plain_3 6 rfl rfl)
theorem dX16_plain_77 : decode cX16_plain 77 = .ok (.iconst 2, 1) := dk_5 (dk_at dksX16_plain_3 7 rfl rfl)
theorem dX16_plain_78 : decode cX16_plain 78 = .ok (.invokevirtual 278, 3) := dk_182 1 22 (dk_at dksX16_plain_3 8 rfl rfl)
theorem dX16_plain_81 : decode cX16_plain 81 = .ok (.ifCond .eq 7, 3) := dk_153 0 7 (dk_at dksX16_plain_3 11 rfl rfl)
theorem dX16_plain_84 : decode cX16_plain 84 = .ok (.iconst 1, 1) := dk_4 (dk_at dksX16_plain_3 14 rfl rfl)
theorem dX16_plain_85 : decode cX16_plain 85 = .ok (.goto 4, 3) := dk_167 0 4 (dk_at dksX16_plain_3 15 rfl rfl)
theorem dX16_plain_88 : decode cX16_plain 88 = .ok (.iconst 0, 1) := dk_3 (dk_at dksX16_plain_3 18 rfl rfl)
theorem dX16_plain_89 : decode cX16_plain 89 = .ok (.iload_n 1, 1) := dk_27 (dk_at dksX16_plain_3 19 rfl rfl)
theorem dX16_plain_90 : decode cX16_plain 90 = .ok (.iload 4, 2) := dk_21 4 (dk_at dksX16_plain_3 20 rfl rfl)
theorem dX16_plain_92 : decode cX16_plain 92 = .ok (.iconst 0, 1) := dk_3 (dk_at dksX16_plain_3 22 rfl rfl)
theorem dX16_plain_93 : decode cX16_plain 93 = .ok (.iconst 0, 1) := dk_3 (dk_at dksX16_plain_3 23 rfl rfl)
theorem dX16_plain_94 : decode cX16_plain 94 = .ok (.invokevirtual 274, 3) := dk_182 1 18 (dk_at dksX16_plain_4 0 rfl rfl)
theorem dX16_plain_97 : decode cX16_plain 97 = .ok (.ireturn, 1) := dk_172 (dk_at dksX16_plain_4 3 rfl rfl)
theorem dX16_plain_98 : decode cX16_plain 98 = .ok (.aload_n 0, 1) := dk_42 (dk_at dksX16_plain_4 4 rfl rfl)
theorem dX16_plain_99 : decode cX16_plain 99 = .ok (.iconst 0, 1) := dk_3 (dk_at dksX16_plain_4 5 rfl rfl)
theorem dX16_plain_100 : decode cX16_plain 100 = .ok (.invokevirtual 304, 3) := dk_182 1 48 (dk_at dksX16_plain_4 6 rfl rfl)
theorem dX16_plain_103 : decode cX16_plain 103 = .ok (.istore_n 3, 1) := dk_62 (dk_at dksX16_plain_4 9 rfl rfl)
theorem dX16_plain_104 : decode cX16_plain 104 = .ok (.iload_n 1, 1) := dk_27 (dk_at dksX16_plain_4 10 rfl rfl)
theorem dX16_plain_105 : decode cX16_plain 105 = .ok (.invokestatic 360, 3) := dk_184 1 104 (dk_at dksX16_plain_4 11 rfl rfl)
theorem dX16_plain_108 : decode cX16_plain 108 = .ok (.ifCond .eq 23, 3) := dk_153 0 23 (dk_at dksX16_plain_4 14 rfl rfl)
theorem dX16_plain_111 : decode cX16_plain 111 = .ok (.aload_n 0, 1) := dk_42 (dk_at dksX16_plain_4 17 rfl rfl)
theorem dX16_plain_112 : decode cX16_plain 112 = .ok (.aload_n 0, 1) := dk_42 (dk_at dksX16_plain_4 18 rfl rfl)
theorem dX16_plain_113 : decode cX16_plain 113 = .ok (.iconst 1, 1) := dk_4 (dk_at dksX16_plain_4 19 rfl rfl)
theorem dX16_plain_114 : decode cX16_plain 114 = .ok (.aload_n 0, 1) := dk_42 (dk_at dksX16_plain_4 20 rfl rfl)
theorem dX16_plain_115 : decode cX16_plain 115 = .ok (.iload_n 1, 1) := dk_27 (dk_at dksX16_plain_4 21 rfl rfl)
theorem dX16_plain_116 : decode cX16_plain 116 = .ok (.iload_n 3, 1) := dk_29 (dk_at dksX16_plain_4 22 rfl rfl)
theorem dX16_plain_117 : decode cX16_plain 117 = .ok (.invokevirtual 363, 3) := dk_182 1 107 (dk_at dksX16_plain_5 0 rfl rfl)
theorem dX16_plain_120 : decode cX16_plain 120 = .ok (.invokevirtual 366, 3) := dk_182 1 110 (dk_at dksX16_plain_5 3 rfl rfl)
theorem dX16_plain_123 : decode cX16_plain 123 = .ok (.iload_n 1, 1) := dk_27 (dk_at dksX16_plain_5 6 rfl rfl)
theorem dX16_plain_124 : decode cX16_plain 124 = .ok (.iload_n 3, 1) := dk_29 (dk_at dksX16_plain_5 7 rfl rfl)
theorem dX16_plain_125 : decode cX16_plain 125 = .ok (.iconst 0, 1) := dk_3 (dk_at dksX16_plain_5 8 rfl rfl)
theorem dX16_plain_126 : decode cX16_plain 126 = .ok (.iconst 0, 1) := dk_3 (dk_at dksX16_plain_5 9 rfl rfl)
theorem dX16_plain_127 : decode cX16_plain 127 = .ok (.invokevirtual 274, 3) := dk_182 1 18 (dk_at dksX16_plain_5 10 rfl rfl)
theorem dX16_plain_130 : decode cX16_plain 130 = .ok (.ireturn, 1) := dk_172 (dk_at dksX16_plain_5 13 rfl rfl)
theorem dX16_plain_131 : decode cX16_plain 131 = .ok (.aload_n 0, 1) := dk_42 (dk_at dksX16_plain_5 14 rfl rfl)
theorem dX16_plain_132 : decode cX16_plain 132 = .ok (.iconst 1, 1) := dk_4 (dk_at dksX16_plain_5 15 rfl rfl)
theorem dX16_plain_133 : decode cX16_plain 133 = .ok (.invokevirtual 304, 3) := dk_182 1 48 (dk_at dksX16_plain_5 16 rfl rfl)
theorem dX16_plain_136 : decode cX16_plain 136 = .ok (.istore 4, 2) := dk_54 4 (dk_at dksX16_plain_5 19 rfl rfl)
theorem dX16_plain_138 : decode cX16_plain 138 = .ok (.aload_n 0, 1) := dk_42 (dk_at dksX16_plain_5 21 rfl rfl)
theorem dX16_plain_139 : decode cX16_plain 139 = .ok (.iload_n 1, 1) := dk_27 (dk_at dksX16_plain_5 22 rfl rfl)
theorem dX16_plain_140 : decode cX16_plain 140 = .ok (.iload_n 3, 1) := dk_29 (dk_at dksX16_plain_5 23 rfl rfl)
theorem dX16_plain_141 : decode cX16_plain 141 = .ok (.iload 4, 2) := dk_21 4 (dk_at dksX16_plain_6 0 rfl rfl)
theorem dX16_plain_143 : decode cX16_plain 143 = .ok (.invokevirtual 369, 3) := dk_182 1 113 (dk_at dksX16_plain_6 2 rfl rfl)
theorem dX16_plain_146 : decode cX16_plain 146 = .ok (.istore 5, 2) := dk_54 5 (dk_at dksX16_plain_6 5 rfl rfl)
theorem dX16_plain_148 : decode cX16_plain 148 = .ok (.aload_n 0, 1) := dk_42 (dk_at dksX16_plain_6 7 rfl rfl)
theorem dX16_plain_149 : decode cX16_plain 149 = .ok (.aload_n 0, 1) := dk_42 (dk_at dksX16_plain_6 8 rfl rfl)
theorem dX16_plain_150 : decode cX16_plain 150 = .ok (.iconst 2, 1) := dk_5 (dk_at dksX16_plain_6 9 rfl rfl)
theorem dX16_plain_151 : decode cX16_plain 151 = .ok (.iload 5, 2) := dk_21 5 (dk_at dksX16_plain_6 10 rfl rfl)
theorem dX16_plain_153 : decode cX16_plain 153 = .ok (.invokevirtual 366, 3) := dk_182 1 110 (dk_at dksX16_plain_6 12 rfl rfl)
theorem dX16_plain_156 : decode cX16_plain 156 = .ok (.iload_n 1, 1) := dk_27 (dk_at dksX16_plain_6 15 rfl rfl)
theorem dX16_plain_157 : decode cX16_plain 157 = .ok (.iload 5, 2) := dk_21 5 (dk_at dksX16_plain_6 16 rfl rfl)
theorem dX16_plain_159 : decode cX16_plain 159 = .ok (.iload_n 3, 1) := dk_29 (dk_at dksX16_plain_6 18 rfl rfl)
theorem dX16_plain_160 : decode cX16_plain 160 = .ok (.iconst 0, 1) := dk_3 (dk_at dksX16_plain_6 19 rfl rfl)
theorem dX16_plain_161 : decode cX16_plain 161 = .ok (.invokevirtual 274, 3) := dk_182 1 18 (dk_at dksX16_plain_6 20 rfl rfl)
theorem dX16_plain_164 : decode cX16_plain 164 = .ok (.ireturn, 1) := dk_172 (dk_at dksX16_plain_6 23 rfl rfl)
abbrev cX16_isOne : ByteArray := prog_21_method_44_code
def yX16_isOne : MethodName := ⟨RX16, "isOne", "(I)Z"⟩
def dkwX16_isOne_1 : List UInt8 := [26, 16, 85, 163, 0, 7, 4, 167, 0, 4, 3, 172]
abbrev dktX16_isOne_1 : List UInt8 := dkwX16_isOne_1 ++ []
def dkwX16_isOne_0 : List UInt8 := [26, 16, 69, 161, 0, 9, 26, 16, 72, 164, 0, 21, 26, 16, 76, 159, 0, 15, 26, 16, 80, 161, 0, 13]
abbrev dktX16_isOne_0 : List UInt8 := dkwX16_isOne_0 ++ dktX16_isOne_1
theorem dksX16_isOne_0 : cX16_isOne.data.toList.drop 0 = dktX16_isOne_0 := by decide +kernel
theorem dksX16_isOne_1 : cX16_isOne.data.toList.drop 24 = dktX16_isOne_1 := dk_seg dksX16_isOne_0 24 rfl rfl
theorem dX16_isOne_0 : decode cX16_isOne 0 = .ok (.iload_n 0, 1) := dk_26 (dk_at dksX16_isOne_0 0 rfl rfl)
theorem dX16_isOne_1 : decode cX16_isOne 1 = .ok (.bipush 69, 2) := dk_16 69 (dk_at dksX16_isOne_0 1 rfl rfl)
theorem dX16_isOne_3 : decode cX16_isOne 3 = .ok (.if_icmp .lt 9, 3) := dk_161 0 9 (dk_at dksX16_isOne_0 3 rfl rfl)
theorem dX16_isOne_6 : decode cX16_isOne 6 = .ok (.iload_n 0, 1) := dk_26 (dk_at dksX16_isOne_0 6 rfl rfl)
theorem dX16_isOne_7 : decode cX16_isOne 7 = .ok (.bipush 72, 2) := dk_16 72 (dk_at dksX16_isOne_0 7 rfl rfl)
theorem dX16_isOne_9 : decode cX16_isOne 9 = .ok (.if_icmp .le 21, 3) := dk_164 0 21 (dk_at dksX16_isOne_0 9 rfl rfl)
theorem dX16_isOne_12 : decode cX16_isOne 12 = .ok (.iload_n 0, 1) := dk_26 (dk_at dksX16_isOne_0 12 rfl rfl)
theorem dX16_isOne_13 : decode cX16_isOne 13 = .ok (.bipush 76, 2) := dk_16 76 (dk_at dksX16_isOne_0 13 rfl rfl)
theorem dX16_isOne_15 : decode cX16_isOne 15 = .ok (.if_icmp .eq 15, 3) := dk_159 0 15 (dk_at dksX16_isOne_0 15 rfl rfl)
theorem dX16_isOne_18 : decode cX16_isOne 18 = .ok (.iload_n 0, 1) := dk_26 (dk_at dksX16_isOne_0 18 rfl rfl)
theorem dX16_isOne_19 : decode cX16_isOne 19 = .ok (.bipush 80, 2) := dk_16 80 (dk_at dksX16_isOne_0 19 rfl rfl)
theorem dX16_isOne_21 : decode cX16_isOne 21 = .ok (.if_icmp .lt 13, 3) := dk_161 0 13 (dk_at dksX16_isOne_0 21 rfl rfl)
theorem dX16_isOne_24 : decode cX16_isOne 24 = .ok (.iload_n 0, 1) := dk_26 (dk_at dksX16_isOne_1 0 rfl rfl)
theorem dX16_isOne_25 : decode cX16_isOne 25 = .ok (.bipush 85, 2) := dk_16 85 (dk_at dksX16_isOne_1 1 rfl rfl)
theorem dX16_isOne_27 : decode cX16_isOne 27 = .ok (.if_icmp .gt 7, 3) := dk_163 0 7 (dk_at dksX16_isOne_1 3 rfl rfl)
theorem dX16_isOne_30 : decode cX16_isOne 30 = .ok (.iconst 1, 1) := dk_4 (dk_at dksX16_isOne_1 6 rfl rfl)
theorem dX16_isOne_31 : decode cX16_isOne 31 = .ok (.goto 4, 3) := dk_167 0 4 (dk_at dksX16_isOne_1 7 rfl rfl)
theorem dX16_isOne_34 : decode cX16_isOne 34 = .ok (.iconst 0, 1) := dk_3 (dk_at dksX16_isOne_1 10 rfl rfl)
theorem dX16_isOne_35 : decode cX16_isOne 35 = .ok (.ireturn, 1) := dk_172 (dk_at dksX16_isOne_1 11 rfl rfl)
abbrev cX16_one : ByteArray := prog_21_method_42_code
def yX16_one : MethodName := ⟨RX16, "one", "(II)I"⟩
def dkwX16_one_5 : List UInt8 := [167, 0, 4, 2, 172, 28, 5, 160, 0, 7, 4, 167, 0, 4, 2, 172]
abbrev dktX16_one_5 : List UInt8 := dkwX16_one_5 ++ []
def dkwX16_one_4 : List UInt8 := [167, 0, 4, 2, 172, 28, 4, 160, 0, 7, 4, 167, 0, 15, 28, 184, 1, 89, 153, 0, 7, 5]
abbrev dktX16_one_4 : List UInt8 := dkwX16_one_4 ++ dktX16_one_5
def dkwX16_one_3 : List UInt8 := [28, 6, 160, 0, 7, 5, 167, 0, 4, 2, 172, 28, 5, 160, 0, 14, 42, 180, 0, 32, 6, 182, 1, 57]
abbrev dktX16_one_3 : List UInt8 := dkwX16_one_3 ++ dktX16_one_4
def dkwX16_one_2 : List UInt8 := [28, 184, 1, 89, 153, 0, 7, 5, 167, 0, 4, 2, 172, 28, 5, 160, 0, 7, 6, 167, 0, 4, 2, 172]
abbrev dktX16_one_2 : List UInt8 := dkwX16_one_2 ++ dktX16_one_3
def dkwX16_one_1 : List UInt8 := [170, 0, 0, 0, 0, 0, 122, 0, 0, 0, 69, 0, 0, 0, 76, 0, 0, 0, 47, 0, 0, 0, 60, 0, 0, 0, 71, 0, 0, 0, 82, 0, 0, 0, 122, 0, 0, 0, 122, 0, 0, 0, 122, 0, 0, 0, 100]
abbrev dktX16_one_1 : List UInt8 := dkwX16_one_1 ++ dktX16_one_2
def dkwX16_one_0 : List UInt8 := [27]
abbrev dktX16_one_0 : List UInt8 := dkwX16_one_0 ++ dktX16_one_1
theorem dksX16_one_0 : cX16_one.data.toList.drop 0 = dktX16_one_0 := by decide +kernel
theorem dksX16_one_1 : cX16_one.data.toList.drop 1 = dktX16_one_1 := dk_seg dksX16_one_0 1 rfl rfl
theorem dksX16_one_2 : cX16_one.data.toList.drop 48 = dktX16_one_2 := dk_seg dksX16_one_1 47 rfl rfl
theorem dksX16_one_3 : cX16_one.data.toList.drop 72 = dktX16_one_3 := dk_seg dksX16_one_2 24 rfl rfl
theorem dksX16_one_4 : cX16_one.data.toList.drop 96 = dktX16_one_4 := dk_seg dksX16_one_3 24 rfl rfl
theorem dksX16_one_5 : cX16_one.data.toList.drop 118 = dktX16_one_5 := dk_seg dksX16_one_4 22 rfl rfl
theorem dX16_one_0 : decode cX16_one 0 = .ok (.iload_n 1, 1) := dk_27 (dk_at dksX16_one_0 0 rfl rfl)
theorem dX16_one_1 : decode cX16_one 1 = .ok (.tableswitch 122 69 76 #[47, 60, 71, 82, 122, 122, 122, 100], 47) := by decide +kernel
theorem dX16_one_48 : decode cX16_one 48 = .ok (.iload_n 2, 1) := dk_28 (dk_at dksX16_one_2 0 rfl rfl)
theorem dX16_one_49 : decode cX16_one 49 = .ok (.invokestatic 345, 3) := dk_184 1 89 (dk_at dksX16_one_2 1 rfl rfl)
theorem dX16_one_52 : decode cX16_one 52 = .ok (.ifCond .eq 7, 3) := dk_153 0 7 (dk_at dksX16_one_2 4 rfl rfl)
theorem dX16_one_55 : decode cX16_one 55 = .ok (.iconst 2, 1) := dk_5 (dk_at dksX16_one_2 7 rfl rfl)
theorem dX16_one_56 : decode cX16_one 56 = .ok (.goto 4, 3) := dk_167 0 4 (dk_at dksX16_one_2 8 rfl rfl)
theorem dX16_one_59 : decode cX16_one 59 = .ok (.iconst (-1), 1) := dk_2 (dk_at dksX16_one_2 11 rfl rfl)
theorem dX16_one_60 : decode cX16_one 60 = .ok (.ireturn, 1) := dk_172 (dk_at dksX16_one_2 12 rfl rfl)
theorem dX16_one_61 : decode cX16_one 61 = .ok (.iload_n 2, 1) := dk_28 (dk_at dksX16_one_2 13 rfl rfl)
theorem dX16_one_62 : decode cX16_one 62 = .ok (.iconst 2, 1) := dk_5 (dk_at dksX16_one_2 14 rfl rfl)
theorem dX16_one_63 : decode cX16_one 63 = .ok (.if_icmp .ne 7, 3) := dk_160 0 7 (dk_at dksX16_one_2 15 rfl rfl)
theorem dX16_one_66 : decode cX16_one 66 = .ok (.iconst 3, 1) := dk_6 (dk_at dksX16_one_2 18 rfl rfl)
theorem dX16_one_67 : decode cX16_one 67 = .ok (.goto 4, 3) := dk_167 0 4 (dk_at dksX16_one_2 19 rfl rfl)
theorem dX16_one_70 : decode cX16_one 70 = .ok (.iconst (-1), 1) := dk_2 (dk_at dksX16_one_2 22 rfl rfl)
theorem dX16_one_71 : decode cX16_one 71 = .ok (.ireturn, 1) := dk_172 (dk_at dksX16_one_2 23 rfl rfl)
theorem dX16_one_72 : decode cX16_one 72 = .ok (.iload_n 2, 1) := dk_28 (dk_at dksX16_one_3 0 rfl rfl)
theorem dX16_one_73 : decode cX16_one 73 = .ok (.iconst 3, 1) := dk_6 (dk_at dksX16_one_3 1 rfl rfl)
theorem dX16_one_74 : decode cX16_one 74 = .ok (.if_icmp .ne 7, 3) := dk_160 0 7 (dk_at dksX16_one_3 2 rfl rfl)
theorem dX16_one_77 : decode cX16_one 77 = .ok (.iconst 2, 1) := dk_5 (dk_at dksX16_one_3 5 rfl rfl)
theorem dX16_one_78 : decode cX16_one 78 = .ok (.goto 4, 3) := dk_167 0 4 (dk_at dksX16_one_3 6 rfl rfl)
theorem dX16_one_81 : decode cX16_one 81 = .ok (.iconst (-1), 1) := dk_2 (dk_at dksX16_one_3 9 rfl rfl)
theorem dX16_one_82 : decode cX16_one 82 = .ok (.ireturn, 1) := dk_172 (dk_at dksX16_one_3 10 rfl rfl)
theorem dX16_one_83 : decode cX16_one 83 = .ok (.iload_n 2, 1) := dk_28 (dk_at dksX16_one_3 11 rfl rfl)
theorem dX16_one_84 : decode cX16_one 84 = .ok (.iconst 2, 1) := dk_5 (dk_at dksX16_one_3 12 rfl rfl)
theorem dX16_one_85 : decode cX16_one 85 = .ok (.if_icmp .ne 14, 3) := dk_160 0 14 (dk_at dksX16_one_3 13 rfl rfl)
theorem dX16_one_88 : decode cX16_one 88 = .ok (.aload_n 0, 1) := dk_42 (dk_at dksX16_one_3 16 rfl rfl)
theorem dX16_one_89 : decode cX16_one 89 = .ok (.getfield 32, 3) := dk_180 0 32 (dk_at dksX16_one_3 17 rfl rfl)
theorem dX16_one_92 : decode cX16_one 92 = .ok (.iconst 3, 1) := dk_6 (dk_at dksX16_one_3 20 rfl rfl)
theorem dX16_one_93 : decode cX16_one 93 = .ok (.invokevirtual 313, 3) := dk_182 1 57 (dk_at dksX16_one_3 21 rfl rfl)
theorem dX16_one_96 : decode cX16_one 96 = .ok (.goto 4, 3) := dk_167 0 4 (dk_at dksX16_one_4 0 rfl rfl)
theorem dX16_one_99 : decode cX16_one 99 = .ok (.iconst (-1), 1) := dk_2 (dk_at dksX16_one_4 3 rfl rfl)
theorem dX16_one_100 : decode cX16_one 100 = .ok (.ireturn, 1) := dk_172 (dk_at dksX16_one_4 4 rfl rfl)
theorem dX16_one_101 : decode cX16_one 101 = .ok (.iload_n 2, 1) := dk_28 (dk_at dksX16_one_4 5 rfl rfl)
theorem dX16_one_102 : decode cX16_one 102 = .ok (.iconst 1, 1) := dk_4 (dk_at dksX16_one_4 6 rfl rfl)
theorem dX16_one_103 : decode cX16_one 103 = .ok (.if_icmp .ne 7, 3) := dk_160 0 7 (dk_at dksX16_one_4 7 rfl rfl)
theorem dX16_one_106 : decode cX16_one 106 = .ok (.iconst 1, 1) := dk_4 (dk_at dksX16_one_4 10 rfl rfl)
theorem dX16_one_107 : decode cX16_one 107 = .ok (.goto 15, 3) := dk_167 0 15 (dk_at dksX16_one_4 11 rfl rfl)
theorem dX16_one_110 : decode cX16_one 110 = .ok (.iload_n 2, 1) := dk_28 (dk_at dksX16_one_4 14 rfl rfl)
theorem dX16_one_111 : decode cX16_one 111 = .ok (.invokestatic 345, 3) := dk_184 1 89 (dk_at dksX16_one_4 15 rfl rfl)
theorem dX16_one_114 : decode cX16_one 114 = .ok (.ifCond .eq 7, 3) := dk_153 0 7 (dk_at dksX16_one_4 18 rfl rfl)
theorem dX16_one_117 : decode cX16_one 117 = .ok (.iconst 2, 1) := dk_5 (dk_at dksX16_one_4 21 rfl rfl)
theorem dX16_one_118 : decode cX16_one 118 = .ok (.goto 4, 3) := dk_167 0 4 (dk_at dksX16_one_5 0 rfl rfl)
theorem dX16_one_121 : decode cX16_one 121 = .ok (.iconst (-1), 1) := dk_2 (dk_at dksX16_one_5 3 rfl rfl)
theorem dX16_one_122 : decode cX16_one 122 = .ok (.ireturn, 1) := dk_172 (dk_at dksX16_one_5 4 rfl rfl)
theorem dX16_one_123 : decode cX16_one 123 = .ok (.iload_n 2, 1) := dk_28 (dk_at dksX16_one_5 5 rfl rfl)
theorem dX16_one_124 : decode cX16_one 124 = .ok (.iconst 2, 1) := dk_5 (dk_at dksX16_one_5 6 rfl rfl)
theorem dX16_one_125 : decode cX16_one 125 = .ok (.if_icmp .ne 7, 3) := dk_160 0 7 (dk_at dksX16_one_5 7 rfl rfl)
theorem dX16_one_128 : decode cX16_one 128 = .ok (.iconst 1, 1) := dk_4 (dk_at dksX16_one_5 10 rfl rfl)
theorem dX16_one_129 : decode cX16_one 129 = .ok (.goto 4, 3) := dk_167 0 4 (dk_at dksX16_one_5 11 rfl rfl)
theorem dX16_one_132 : decode cX16_one 132 = .ok (.iconst (-1), 1) := dk_2 (dk_at dksX16_one_5 14 rfl rfl)
theorem dX16_one_133 : decode cX16_one 133 = .ok (.ireturn, 1) := dk_172 (dk_at dksX16_one_5 15 rfl rfl)
abbrev cX16_isWhole : ByteArray := prog_21_method_37_code
def yX16_isWhole : MethodName := ⟨RX16, "isWhole", "(I)Z"⟩
def dkwX16_isWhole_0 : List UInt8 := [26, 5, 159, 0, 8, 26, 6, 160, 0, 7, 4, 167, 0, 4, 3, 172]
abbrev dktX16_isWhole_0 : List UInt8 := dkwX16_isWhole_0 ++ []
theorem dksX16_isWhole_0 : cX16_isWhole.data.toList.drop 0 = dktX16_isWhole_0 := by decide +kernel
theorem dX16_isWhole_0 : decode cX16_isWhole 0 = .ok (.iload_n 0, 1) := dk_26 (dk_at dksX16_isWhole_0 0 rfl rfl)
theorem dX16_isWhole_1 : decode cX16_isWhole 1 = .ok (.iconst 2, 1) := dk_5 (dk_at dksX16_isWhole_0 1 rfl rfl)
theorem dX16_isWhole_2 : decode cX16_isWhole 2 = .ok (.if_icmp .eq 8, 3) := dk_159 0 8 (dk_at dksX16_isWhole_0 2 rfl rfl)
theorem dX16_isWhole_5 : decode cX16_isWhole 5 = .ok (.iload_n 0, 1) := dk_26 (dk_at dksX16_isWhole_0 5 rfl rfl)
theorem dX16_isWhole_6 : decode cX16_isWhole 6 = .ok (.iconst 3, 1) := dk_6 (dk_at dksX16_isWhole_0 6 rfl rfl)
theorem dX16_isWhole_7 : decode cX16_isWhole 7 = .ok (.if_icmp .ne 7, 3) := dk_160 0 7 (dk_at dksX16_isWhole_0 7 rfl rfl)
theorem dX16_isWhole_10 : decode cX16_isWhole 10 = .ok (.iconst 1, 1) := dk_4 (dk_at dksX16_isWhole_0 10 rfl rfl)
theorem dX16_isWhole_11 : decode cX16_isWhole 11 = .ok (.goto 4, 3) := dk_167 0 4 (dk_at dksX16_isWhole_0 11 rfl rfl)
theorem dX16_isWhole_14 : decode cX16_isWhole 14 = .ok (.iconst 0, 1) := dk_3 (dk_at dksX16_isWhole_0 14 rfl rfl)
theorem dX16_isWhole_15 : decode cX16_isWhole 15 = .ok (.ireturn, 1) := dk_172 (dk_at dksX16_isWhole_0 15 rfl rfl)
abbrev cX16_become2 : ByteArray := prog_21_method_46_code
def yX16_become2 : MethodName := ⟨RX16, "become2", "(II)Z"⟩
def dkwX16_become2_0 : List UInt8 := [28, 155, 0, 16, 42, 27, 28, 182, 1, 22, 153, 0, 7, 4, 167, 0, 4, 3, 172]
abbrev dktX16_become2_0 : List UInt8 := dkwX16_become2_0 ++ []
theorem dksX16_become2_0 : cX16_become2.data.toList.drop 0 = dktX16_become2_0 := by decide +kernel
theorem dX16_become2_0 : decode cX16_become2 0 = .ok (.iload_n 2, 1) := dk_28 (dk_at dksX16_become2_0 0 rfl rfl)
theorem dX16_become2_1 : decode cX16_become2 1 = .ok (.ifCond .lt 16, 3) := dk_155 0 16 (dk_at dksX16_become2_0 1 rfl rfl)
theorem dX16_become2_4 : decode cX16_become2 4 = .ok (.aload_n 0, 1) := dk_42 (dk_at dksX16_become2_0 4 rfl rfl)
theorem dX16_become2_5 : decode cX16_become2 5 = .ok (.iload_n 1, 1) := dk_27 (dk_at dksX16_become2_0 5 rfl rfl)
theorem dX16_become2_6 : decode cX16_become2 6 = .ok (.iload_n 2, 1) := dk_28 (dk_at dksX16_become2_0 6 rfl rfl)
theorem dX16_become2_7 : decode cX16_become2 7 = .ok (.invokevirtual 278, 3) := dk_182 1 22 (dk_at dksX16_become2_0 7 rfl rfl)
theorem dX16_become2_10 : decode cX16_become2 10 = .ok (.ifCond .eq 7, 3) := dk_153 0 7 (dk_at dksX16_become2_0 10 rfl rfl)
theorem dX16_become2_13 : decode cX16_become2 13 = .ok (.iconst 1, 1) := dk_4 (dk_at dksX16_become2_0 13 rfl rfl)
theorem dX16_become2_14 : decode cX16_become2 14 = .ok (.goto 4, 3) := dk_167 0 4 (dk_at dksX16_become2_0 14 rfl rfl)
theorem dX16_become2_17 : decode cX16_become2 17 = .ok (.iconst 0, 1) := dk_3 (dk_at dksX16_become2_0 17 rfl rfl)
theorem dX16_become2_18 : decode cX16_become2 18 = .ok (.ireturn, 1) := dk_172 (dk_at dksX16_become2_0 18 rfl rfl)
abbrev cX16_two : ByteArray := prog_21_method_43_code
def yX16_two : MethodName := ⟨RX16, "two", "(III)I"⟩
def dkwX16_two_5 : List UInt8 := [167, 0, 4, 2, 172]
abbrev dktX16_two_5 : List UInt8 := dkwX16_two_5 ++ []
def dkwX16_two_4 : List UInt8 := [182, 1, 99, 172, 27, 28, 29, 184, 1, 102, 172, 28, 6, 160, 0, 12, 29, 6, 160, 0, 7, 6]
abbrev dktX16_two_4 : List UInt8 := dkwX16_two_4 ++ dktX16_two_5
def dkwX16_two_3 : List UInt8 := [180, 0, 32, 7, 182, 1, 57, 167, 0, 4, 2, 172, 28, 29, 4, 184, 1, 92, 172, 42, 28, 29]
abbrev dktX16_two_3 : List UInt8 := dkwX16_two_3 ++ dktX16_two_4
def dkwX16_two_2 : List UInt8 := [28, 29, 3, 184, 1, 92, 172, 28, 29, 184, 1, 96, 172, 28, 7, 160, 0, 19, 29, 7, 160, 0, 14, 42]
abbrev dktX16_two_2 : List UInt8 := dkwX16_two_2 ++ dktX16_two_3
def dkwX16_two_1 : List UInt8 := [170, 0, 0, 0, 0, 0, 120, 0, 0, 0, 64, 0, 0, 0, 75, 0, 0, 0, 63, 0, 0, 0, 70, 0, 0, 0, 76, 0, 0, 0, 99, 0, 0, 0, 106, 0, 0, 0, 120, 0, 0, 0, 120, 0, 0, 0, 120, 0, 0, 0, 120, 0, 0, 0, 113, 0, 0, 0, 113, 0, 0, 0, 113]
abbrev dktX16_two_1 : List UInt8 := dkwX16_two_1 ++ dktX16_two_2
def dkwX16_two_0 : List UInt8 := [27]
abbrev dktX16_two_0 : List UInt8 := dkwX16_two_0 ++ dktX16_two_1
theorem dksX16_two_0 : cX16_two.data.toList.drop 0 = dktX16_two_0 := by decide +kernel
theorem dksX16_two_1 : cX16_two.data.toList.drop 1 = dktX16_two_1 := dk_seg dksX16_two_0 1 rfl rfl
theorem dksX16_two_2 : cX16_two.data.toList.drop 64 = dktX16_two_2 := dk_seg dksX16_two_1 63 rfl rfl
theorem dksX16_two_3 : cX16_two.data.toList.drop 88 = dktX16_two_3 := dk_seg dksX16_two_2 24 rfl rfl
theorem dksX16_two_4 : cX16_two.data.toList.drop 110 = dktX16_two_4 := dk_seg dksX16_two_3 22 rfl rfl
theorem dksX16_two_5 : cX16_two.data.toList.drop 132 = dktX16_two_5 := dk_seg dksX16_two_4 22 rfl rfl
theorem dX16_two_0 : decode cX16_two 0 = .ok (.iload_n 1, 1) := dk_27 (dk_at dksX16_two_0 0 rfl rfl)
theorem dX16_two_1 : decode cX16_two 1 = .ok (.tableswitch 120 64 75 #[63, 70, 76, 99, 106, 120, 120, 120, 120, 113, 113, 113], 63) := by decide +kernel
theorem dX16_two_64 : decode cX16_two 64 = .ok (.iload_n 2, 1) := dk_28 (dk_at dksX16_two_2 0 rfl rfl)
theorem dX16_two_65 : decode cX16_two 65 = .ok (.iload_n 3, 1) := dk_29 (dk_at dksX16_two_2 1 rfl rfl)
theorem dX16_two_66 : decode cX16_two 66 = .ok (.iconst 0, 1) := dk_3 (dk_at dksX16_two_2 2 rfl rfl)
theorem dX16_two_67 : decode cX16_two 67 = .ok (.invokestatic 348, 3) := dk_184 1 92 (dk_at dksX16_two_2 3 rfl rfl)
theorem dX16_two_70 : decode cX16_two 70 = .ok (.ireturn, 1) := dk_172 (dk_at dksX16_two_2 6 rfl rfl)
theorem dX16_two_71 : decode cX16_two 71 = .ok (.iload_n 2, 1) := dk_28 (dk_at dksX16_two_2 7 rfl rfl)
theorem dX16_two_72 : decode cX16_two 72 = .ok (.iload_n 3, 1) := dk_29 (dk_at dksX16_two_2 8 rfl rfl)
theorem dX16_two_73 : decode cX16_two 73 = .ok (.invokestatic 352, 3) := dk_184 1 96 (dk_at dksX16_two_2 9 rfl rfl)
theorem dX16_two_76 : decode cX16_two 76 = .ok (.ireturn, 1) := dk_172 (dk_at dksX16_two_2 12 rfl rfl)
theorem dX16_two_77 : decode cX16_two 77 = .ok (.iload_n 2, 1) := dk_28 (dk_at dksX16_two_2 13 rfl rfl)
theorem dX16_two_78 : decode cX16_two 78 = .ok (.iconst 4, 1) := dk_7 (dk_at dksX16_two_2 14 rfl rfl)
theorem dX16_two_79 : decode cX16_two 79 = .ok (.if_icmp .ne 19, 3) := dk_160 0 19 (dk_at dksX16_two_2 15 rfl rfl)
theorem dX16_two_82 : decode cX16_two 82 = .ok (.iload_n 3, 1) := dk_29 (dk_at dksX16_two_2 18 rfl rfl)
theorem dX16_two_83 : decode cX16_two 83 = .ok (.iconst 4, 1) := dk_7 (dk_at dksX16_two_2 19 rfl rfl)
theorem dX16_two_84 : decode cX16_two 84 = .ok (.if_icmp .ne 14, 3) := dk_160 0 14 (dk_at dksX16_two_2 20 rfl rfl)
theorem dX16_two_87 : decode cX16_two 87 = .ok (.aload_n 0, 1) := dk_42 (dk_at dksX16_two_2 23 rfl rfl)
theorem dX16_two_88 : decode cX16_two 88 = .ok (.getfield 32, 3) := dk_180 0 32 (dk_at dksX16_two_3 0 rfl rfl)
theorem dX16_two_91 : decode cX16_two 91 = .ok (.iconst 4, 1) := dk_7 (dk_at dksX16_two_3 3 rfl rfl)
theorem dX16_two_92 : decode cX16_two 92 = .ok (.invokevirtual 313, 3) := dk_182 1 57 (dk_at dksX16_two_3 4 rfl rfl)
theorem dX16_two_95 : decode cX16_two 95 = .ok (.goto 4, 3) := dk_167 0 4 (dk_at dksX16_two_3 7 rfl rfl)
theorem dX16_two_98 : decode cX16_two 98 = .ok (.iconst (-1), 1) := dk_2 (dk_at dksX16_two_3 10 rfl rfl)
theorem dX16_two_99 : decode cX16_two 99 = .ok (.ireturn, 1) := dk_172 (dk_at dksX16_two_3 11 rfl rfl)
theorem dX16_two_100 : decode cX16_two 100 = .ok (.iload_n 2, 1) := dk_28 (dk_at dksX16_two_3 12 rfl rfl)
theorem dX16_two_101 : decode cX16_two 101 = .ok (.iload_n 3, 1) := dk_29 (dk_at dksX16_two_3 13 rfl rfl)
theorem dX16_two_102 : decode cX16_two 102 = .ok (.iconst 1, 1) := dk_4 (dk_at dksX16_two_3 14 rfl rfl)
theorem dX16_two_103 : decode cX16_two 103 = .ok (.invokestatic 348, 3) := dk_184 1 92 (dk_at dksX16_two_3 15 rfl rfl)
theorem dX16_two_106 : decode cX16_two 106 = .ok (.ireturn, 1) := dk_172 (dk_at dksX16_two_3 18 rfl rfl)
theorem dX16_two_107 : decode cX16_two 107 = .ok (.aload_n 0, 1) := dk_42 (dk_at dksX16_two_3 19 rfl rfl)
theorem dX16_two_108 : decode cX16_two 108 = .ok (.iload_n 2, 1) := dk_28 (dk_at dksX16_two_3 20 rfl rfl)
theorem dX16_two_109 : decode cX16_two 109 = .ok (.iload_n 3, 1) := dk_29 (dk_at dksX16_two_3 21 rfl rfl)
theorem dX16_two_110 : decode cX16_two 110 = .ok (.invokevirtual 355, 3) := dk_182 1 99 (dk_at dksX16_two_4 0 rfl rfl)
theorem dX16_two_113 : decode cX16_two 113 = .ok (.ireturn, 1) := dk_172 (dk_at dksX16_two_4 3 rfl rfl)
theorem dX16_two_114 : decode cX16_two 114 = .ok (.iload_n 1, 1) := dk_27 (dk_at dksX16_two_4 4 rfl rfl)
theorem dX16_two_115 : decode cX16_two 115 = .ok (.iload_n 2, 1) := dk_28 (dk_at dksX16_two_4 5 rfl rfl)
theorem dX16_two_116 : decode cX16_two 116 = .ok (.iload_n 3, 1) := dk_29 (dk_at dksX16_two_4 6 rfl rfl)
theorem dX16_two_117 : decode cX16_two 117 = .ok (.invokestatic 358, 3) := dk_184 1 102 (dk_at dksX16_two_4 7 rfl rfl)
theorem dX16_two_120 : decode cX16_two 120 = .ok (.ireturn, 1) := dk_172 (dk_at dksX16_two_4 10 rfl rfl)
theorem dX16_two_121 : decode cX16_two 121 = .ok (.iload_n 2, 1) := dk_28 (dk_at dksX16_two_4 11 rfl rfl)
theorem dX16_two_122 : decode cX16_two 122 = .ok (.iconst 3, 1) := dk_6 (dk_at dksX16_two_4 12 rfl rfl)
theorem dX16_two_123 : decode cX16_two 123 = .ok (.if_icmp .ne 12, 3) := dk_160 0 12 (dk_at dksX16_two_4 13 rfl rfl)
theorem dX16_two_126 : decode cX16_two 126 = .ok (.iload_n 3, 1) := dk_29 (dk_at dksX16_two_4 16 rfl rfl)
theorem dX16_two_127 : decode cX16_two 127 = .ok (.iconst 3, 1) := dk_6 (dk_at dksX16_two_4 17 rfl rfl)
theorem dX16_two_128 : decode cX16_two 128 = .ok (.if_icmp .ne 7, 3) := dk_160 0 7 (dk_at dksX16_two_4 18 rfl rfl)
theorem dX16_two_131 : decode cX16_two 131 = .ok (.iconst 3, 1) := dk_6 (dk_at dksX16_two_4 21 rfl rfl)
theorem dX16_two_132 : decode cX16_two 132 = .ok (.goto 4, 3) := dk_167 0 4 (dk_at dksX16_two_5 0 rfl rfl)
theorem dX16_two_135 : decode cX16_two 135 = .ok (.iconst (-1), 1) := dk_2 (dk_at dksX16_two_5 3 rfl rfl)
theorem dX16_two_136 : decode cX16_two 136 = .ok (.ireturn, 1) := dk_172 (dk_at dksX16_two_5 4 rfl rfl)
abbrev cX16_sum : ByteArray := prog_21_method_38_code
def yX16_sum : MethodName := ⟨RX16, "sum", "(IIZ)I"⟩
def dkwX16_sum_4 : List UInt8 := [16, 8, 167, 0, 4, 2, 172]
abbrev dktX16_sum_4 : List UInt8 := dkwX16_sum_4 ++ []
def dkwX16_sum_3 : List UInt8 := [7, 172, 26, 16, 8, 160, 0, 8, 27, 5, 159, 0, 14, 26, 5, 160, 0, 14, 27, 16, 8, 160, 0, 8]
abbrev dktX16_sum_3 : List UInt8 := dkwX16_sum_3 ++ dktX16_sum_4
def dkwX16_sum_2 : List UInt8 := [160, 0, 12, 27, 7, 160, 0, 7, 7, 167, 0, 4, 2, 172, 26, 7, 160, 0, 10, 27, 7, 160, 0, 5]
abbrev dktX16_sum_2 : List UInt8 := dkwX16_sum_2 ++ dktX16_sum_3
def dkwX16_sum_1 : List UInt8 := [6, 167, 0, 4, 5, 172, 28, 153, 0, 29, 26, 7, 160, 0, 8, 27, 6, 159, 0, 13, 26, 6]
abbrev dktX16_sum_1 : List UInt8 := dkwX16_sum_1 ++ dktX16_sum_2
def dkwX16_sum_0 : List UInt8 := [26, 184, 1, 89, 153, 0, 26, 27, 184, 1, 89, 153, 0, 19, 26, 6, 160, 0, 12, 27, 6, 160, 0, 7]
abbrev dktX16_sum_0 : List UInt8 := dkwX16_sum_0 ++ dktX16_sum_1
theorem dksX16_sum_0 : cX16_sum.data.toList.drop 0 = dktX16_sum_0 := by decide +kernel
theorem dksX16_sum_1 : cX16_sum.data.toList.drop 24 = dktX16_sum_1 := dk_seg dksX16_sum_0 24 rfl rfl
theorem dksX16_sum_2 : cX16_sum.data.toList.drop 46 = dktX16_sum_2 := dk_seg dksX16_sum_1 22 rfl rfl
theorem dksX16_sum_3 : cX16_sum.data.toList.drop 70 = dktX16_sum_3 := dk_seg dksX16_sum_2 24 rfl rfl
theorem dksX16_sum_4 : cX16_sum.data.toList.drop 94 = dktX16_sum_4 := dk_seg dksX16_sum_3 24 rfl rfl
theorem dX16_sum_0 : decode cX16_sum 0 = .ok (.iload_n 0, 1) := dk_26 (dk_at dksX16_sum_0 0 rfl rfl)
theorem dX16_sum_1 : decode cX16_sum 1 = .ok (.invokestatic 345, 3) := dk_184 1 89 (dk_at dksX16_sum_0 1 rfl rfl)
theorem dX16_sum_4 : decode cX16_sum 4 = .ok (.ifCond .eq 26, 3) := dk_153 0 26 (dk_at dksX16_sum_0 4 rfl rfl)
theorem dX16_sum_7 : decode cX16_sum 7 = .ok (.iload_n 1, 1) := dk_27 (dk_at dksX16_sum_0 7 rfl rfl)
theorem dX16_sum_8 : decode cX16_sum 8 = .ok (.invokestatic 345, 3) := dk_184 1 89 (dk_at dksX16_sum_0 8 rfl rfl)
theorem dX16_sum_11 : decode cX16_sum 11 = .ok (.ifCond .eq 19, 3) := dk_153 0 19 (dk_at dksX16_sum_0 11 rfl rfl)
theorem dX16_sum_14 : decode cX16_sum 14 = .ok (.iload_n 0, 1) := dk_26 (dk_at dksX16_sum_0 14 rfl rfl)
theorem dX16_sum_15 : decode cX16_sum 15 = .ok (.iconst 3, 1) := dk_6 (dk_at dksX16_sum_0 15 rfl rfl)
theorem dX16_sum_16 : decode cX16_sum 16 = .ok (.if_icmp .ne 12, 3) := dk_160 0 12 (dk_at dksX16_sum_0 16 rfl rfl)
theorem dX16_sum_19 : decode cX16_sum 19 = .ok (.iload_n 1, 1) := dk_27 (dk_at dksX16_sum_0 19 rfl rfl)
theorem dX16_sum_20 : decode cX16_sum 20 = .ok (.iconst 3, 1) := dk_6 (dk_at dksX16_sum_0 20 rfl rfl)
theorem dX16_sum_21 : decode cX16_sum 21 = .ok (.if_icmp .ne 7, 3) := dk_160 0 7 (dk_at dksX16_sum_0 21 rfl rfl)
theorem dX16_sum_24 : decode cX16_sum 24 = .ok (.iconst 3, 1) := dk_6 (dk_at dksX16_sum_1 0 rfl rfl)
theorem dX16_sum_25 : decode cX16_sum 25 = .ok (.goto 4, 3) := dk_167 0 4 (dk_at dksX16_sum_1 1 rfl rfl)
theorem dX16_sum_28 : decode cX16_sum 28 = .ok (.iconst 2, 1) := dk_5 (dk_at dksX16_sum_1 4 rfl rfl)
theorem dX16_sum_29 : decode cX16_sum 29 = .ok (.ireturn, 1) := dk_172 (dk_at dksX16_sum_1 5 rfl rfl)
theorem dX16_sum_30 : decode cX16_sum 30 = .ok (.iload_n 2, 1) := dk_28 (dk_at dksX16_sum_1 6 rfl rfl)
theorem dX16_sum_31 : decode cX16_sum 31 = .ok (.ifCond .eq 29, 3) := dk_153 0 29 (dk_at dksX16_sum_1 7 rfl rfl)
theorem dX16_sum_34 : decode cX16_sum 34 = .ok (.iload_n 0, 1) := dk_26 (dk_at dksX16_sum_1 10 rfl rfl)
theorem dX16_sum_35 : decode cX16_sum 35 = .ok (.iconst 4, 1) := dk_7 (dk_at dksX16_sum_1 11 rfl rfl)
theorem dX16_sum_36 : decode cX16_sum 36 = .ok (.if_icmp .ne 8, 3) := dk_160 0 8 (dk_at dksX16_sum_1 12 rfl rfl)
theorem dX16_sum_39 : decode cX16_sum 39 = .ok (.iload_n 1, 1) := dk_27 (dk_at dksX16_sum_1 15 rfl rfl)
theorem dX16_sum_40 : decode cX16_sum 40 = .ok (.iconst 3, 1) := dk_6 (dk_at dksX16_sum_1 16 rfl rfl)
theorem dX16_sum_41 : decode cX16_sum 41 = .ok (.if_icmp .eq 13, 3) := dk_159 0 13 (dk_at dksX16_sum_1 17 rfl rfl)
theorem dX16_sum_44 : decode cX16_sum 44 = .ok (.iload_n 0, 1) := dk_26 (dk_at dksX16_sum_1 20 rfl rfl)
theorem dX16_sum_45 : decode cX16_sum 45 = .ok (.iconst 3, 1) := dk_6 (dk_at dksX16_sum_1 21 rfl rfl)
theorem dX16_sum_46 : decode cX16_sum 46 = .ok (.if_icmp .ne 12, 3) := dk_160 0 12 (dk_at dksX16_sum_2 0 rfl rfl)
theorem dX16_sum_49 : decode cX16_sum 49 = .ok (.iload_n 1, 1) := dk_27 (dk_at dksX16_sum_2 3 rfl rfl)
theorem dX16_sum_50 : decode cX16_sum 50 = .ok (.iconst 4, 1) := dk_7 (dk_at dksX16_sum_2 4 rfl rfl)
theorem dX16_sum_51 : decode cX16_sum 51 = .ok (.if_icmp .ne 7, 3) := dk_160 0 7 (dk_at dksX16_sum_2 5 rfl rfl)
theorem dX16_sum_54 : decode cX16_sum 54 = .ok (.iconst 4, 1) := dk_7 (dk_at dksX16_sum_2 8 rfl rfl)
theorem dX16_sum_55 : decode cX16_sum 55 = .ok (.goto 4, 3) := dk_167 0 4 (dk_at dksX16_sum_2 9 rfl rfl)
theorem dX16_sum_58 : decode cX16_sum 58 = .ok (.iconst (-1), 1) := dk_2 (dk_at dksX16_sum_2 12 rfl rfl)
theorem dX16_sum_59 : decode cX16_sum 59 = .ok (.ireturn, 1) := dk_172 (dk_at dksX16_sum_2 13 rfl rfl)
theorem dX16_sum_60 : decode cX16_sum 60 = .ok (.iload_n 0, 1) := dk_26 (dk_at dksX16_sum_2 14 rfl rfl)
theorem dX16_sum_61 : decode cX16_sum 61 = .ok (.iconst 4, 1) := dk_7 (dk_at dksX16_sum_2 15 rfl rfl)
theorem dX16_sum_62 : decode cX16_sum 62 = .ok (.if_icmp .ne 10, 3) := dk_160 0 10 (dk_at dksX16_sum_2 16 rfl rfl)
theorem dX16_sum_65 : decode cX16_sum 65 = .ok (.iload_n 1, 1) := dk_27 (dk_at dksX16_sum_2 19 rfl rfl)
theorem dX16_sum_66 : decode cX16_sum 66 = .ok (.iconst 4, 1) := dk_7 (dk_at dksX16_sum_2 20 rfl rfl)
theorem dX16_sum_67 : decode cX16_sum 67 = .ok (.if_icmp .ne 5, 3) := dk_160 0 5 (dk_at dksX16_sum_2 21 rfl rfl)
theorem dX16_sum_70 : decode cX16_sum 70 = .ok (.iconst 4, 1) := dk_7 (dk_at dksX16_sum_3 0 rfl rfl)
theorem dX16_sum_71 : decode cX16_sum 71 = .ok (.ireturn, 1) := dk_172 (dk_at dksX16_sum_3 1 rfl rfl)
theorem dX16_sum_72 : decode cX16_sum 72 = .ok (.iload_n 0, 1) := dk_26 (dk_at dksX16_sum_3 2 rfl rfl)
theorem dX16_sum_73 : decode cX16_sum 73 = .ok (.bipush 8, 2) := dk_16 8 (dk_at dksX16_sum_3 3 rfl rfl)
theorem dX16_sum_75 : decode cX16_sum 75 = .ok (.if_icmp .ne 8, 3) := dk_160 0 8 (dk_at dksX16_sum_3 5 rfl rfl)
theorem dX16_sum_78 : decode cX16_sum 78 = .ok (.iload_n 1, 1) := dk_27 (dk_at dksX16_sum_3 8 rfl rfl)
theorem dX16_sum_79 : decode cX16_sum 79 = .ok (.iconst 2, 1) := dk_5 (dk_at dksX16_sum_3 9 rfl rfl)
theorem dX16_sum_80 : decode cX16_sum 80 = .ok (.if_icmp .eq 14, 3) := dk_159 0 14 (dk_at dksX16_sum_3 10 rfl rfl)
theorem dX16_sum_83 : decode cX16_sum 83 = .ok (.iload_n 0, 1) := dk_26 (dk_at dksX16_sum_3 13 rfl rfl)
theorem dX16_sum_84 : decode cX16_sum 84 = .ok (.iconst 2, 1) := dk_5 (dk_at dksX16_sum_3 14 rfl rfl)
theorem dX16_sum_85 : decode cX16_sum 85 = .ok (.if_icmp .ne 14, 3) := dk_160 0 14 (dk_at dksX16_sum_3 15 rfl rfl)
theorem dX16_sum_88 : decode cX16_sum 88 = .ok (.iload_n 1, 1) := dk_27 (dk_at dksX16_sum_3 18 rfl rfl)
theorem dX16_sum_89 : decode cX16_sum 89 = .ok (.bipush 8, 2) := dk_16 8 (dk_at dksX16_sum_3 19 rfl rfl)
theorem dX16_sum_91 : decode cX16_sum 91 = .ok (.if_icmp .ne 8, 3) := dk_160 0 8 (dk_at dksX16_sum_3 21 rfl rfl)
theorem dX16_sum_94 : decode cX16_sum 94 = .ok (.bipush 8, 2) := dk_16 8 (dk_at dksX16_sum_4 0 rfl rfl)
theorem dX16_sum_96 : decode cX16_sum 96 = .ok (.goto 4, 3) := dk_167 0 4 (dk_at dksX16_sum_4 2 rfl rfl)
theorem dX16_sum_99 : decode cX16_sum 99 = .ok (.iconst (-1), 1) := dk_2 (dk_at dksX16_sum_4 5 rfl rfl)
theorem dX16_sum_100 : decode cX16_sum 100 = .ok (.ireturn, 1) := dk_172 (dk_at dksX16_sum_4 6 rfl rfl)
abbrev cX16_difference : ByteArray := prog_21_method_39_code
def yX16_difference : MethodName := ⟨RX16, "difference", "(II)I"⟩
def dkwX16_difference_1 : List UInt8 := [160, 0, 5, 5, 172, 26, 16, 8, 160, 0, 13, 27, 5, 160, 0, 8, 16, 8, 167, 0, 4, 2, 172]
abbrev dktX16_difference_1 : List UInt8 := dkwX16_difference_1 ++ []
def dkwX16_difference_0 : List UInt8 := [26, 184, 1, 89, 153, 0, 10, 27, 184, 1, 89, 154, 0, 15, 26, 16, 8, 160, 0, 11, 27, 16, 8]
abbrev dktX16_difference_0 : List UInt8 := dkwX16_difference_0 ++ dktX16_difference_1
theorem dksX16_difference_0 : cX16_difference.data.toList.drop 0 = dktX16_difference_0 := by decide +kernel
theorem dksX16_difference_1 : cX16_difference.data.toList.drop 23 = dktX16_difference_1 := dk_seg dksX16_difference_0 23 rfl rfl
theorem dX16_difference_0 : decode cX16_difference 0 = .ok (.iload_n 0, 1) := dk_26 (dk_at dksX16_difference_0 0 rfl rfl)
theorem dX16_difference_1 : decode cX16_difference 1 = .ok (.invokestatic 345, 3) := dk_184 1 89 (dk_at dksX16_difference_0 1 rfl rfl)
theorem dX16_difference_4 : decode cX16_difference 4 = .ok (.ifCond .eq 10, 3) := dk_153 0 10 (dk_at dksX16_difference_0 4 rfl rfl)
theorem dX16_difference_7 : decode cX16_difference 7 = .ok (.iload_n 1, 1) := dk_27 (dk_at dksX16_difference_0 7 rfl rfl)
theorem dX16_difference_8 : decode cX16_difference 8 = .ok (.invokestatic 345, 3) := dk_184 1 89 (dk_at dksX16_difference_0 8 rfl rfl)
theorem dX16_difference_11 : decode cX16_difference 11 = .ok (.ifCond .ne 15, 3) := dk_154 0 15 (dk_at dksX16_difference_0 11 rfl rfl)
theorem dX16_difference_14 : decode cX16_difference 14 = .ok (.iload_n 0, 1) := dk_26 (dk_at dksX16_difference_0 14 rfl rfl)
theorem dX16_difference_15 : decode cX16_difference 15 = .ok (.bipush 8, 2) := dk_16 8 (dk_at dksX16_difference_0 15 rfl rfl)
theorem dX16_difference_17 : decode cX16_difference 17 = .ok (.if_icmp .ne 11, 3) := dk_160 0 11 (dk_at dksX16_difference_0 17 rfl rfl)
theorem dX16_difference_20 : decode cX16_difference 20 = .ok (.iload_n 1, 1) := dk_27 (dk_at dksX16_difference_0 20 rfl rfl)
theorem dX16_difference_21 : decode cX16_difference 21 = .ok (.bipush 8, 2) := dk_16 8 (dk_at dksX16_difference_0 21 rfl rfl)
theorem dX16_difference_23 : decode cX16_difference 23 = .ok (.if_icmp .ne 5, 3) := dk_160 0 5 (dk_at dksX16_difference_1 0 rfl rfl)
theorem dX16_difference_26 : decode cX16_difference 26 = .ok (.iconst 2, 1) := dk_5 (dk_at dksX16_difference_1 3 rfl rfl)
theorem dX16_difference_27 : decode cX16_difference 27 = .ok (.ireturn, 1) := dk_172 (dk_at dksX16_difference_1 4 rfl rfl)
theorem dX16_difference_28 : decode cX16_difference 28 = .ok (.iload_n 0, 1) := dk_26 (dk_at dksX16_difference_1 5 rfl rfl)
theorem dX16_difference_29 : decode cX16_difference 29 = .ok (.bipush 8, 2) := dk_16 8 (dk_at dksX16_difference_1 6 rfl rfl)
theorem dX16_difference_31 : decode cX16_difference 31 = .ok (.if_icmp .ne 13, 3) := dk_160 0 13 (dk_at dksX16_difference_1 8 rfl rfl)
theorem dX16_difference_34 : decode cX16_difference 34 = .ok (.iload_n 1, 1) := dk_27 (dk_at dksX16_difference_1 11 rfl rfl)
theorem dX16_difference_35 : decode cX16_difference 35 = .ok (.iconst 2, 1) := dk_5 (dk_at dksX16_difference_1 12 rfl rfl)
theorem dX16_difference_36 : decode cX16_difference 36 = .ok (.if_icmp .ne 8, 3) := dk_160 0 8 (dk_at dksX16_difference_1 13 rfl rfl)
theorem dX16_difference_39 : decode cX16_difference 39 = .ok (.bipush 8, 2) := dk_16 8 (dk_at dksX16_difference_1 16 rfl rfl)
theorem dX16_difference_41 : decode cX16_difference 41 = .ok (.goto 4, 3) := dk_167 0 4 (dk_at dksX16_difference_1 18 rfl rfl)
theorem dX16_difference_44 : decode cX16_difference 44 = .ok (.iconst (-1), 1) := dk_2 (dk_at dksX16_difference_1 21 rfl rfl)
theorem dX16_difference_45 : decode cX16_difference 45 = .ok (.ireturn, 1) := dk_172 (dk_at dksX16_difference_1 22 rfl rfl)
abbrev cX16_quotient : ByteArray := prog_21_method_40_code
def yX16_quotient : MethodName := ⟨RX16, "quotient", "(II)I"⟩
def dkwX16_quotient_3 : List UInt8 := [6, 160, 0, 7, 7, 167, 0, 4, 6, 7, 182, 0, 192, 182, 1, 57, 172]
abbrev dktX16_quotient_3 : List UInt8 := dkwX16_quotient_3 ++ []
def dkwX16_quotient_2 : List UInt8 := [160, 0, 13, 28, 6, 159, 0, 10, 28, 7, 159, 0, 5, 2, 172, 42, 180, 0, 32, 42, 180, 0, 32, 28]
abbrev dktX16_quotient_2 : List UInt8 := dkwX16_quotient_2 ++ dktX16_quotient_3
def dkwX16_quotient_1 : List UInt8 := [160, 0, 12, 28, 6, 160, 0, 7, 6, 167, 0, 4, 5, 6, 182, 0, 192, 182, 1, 57, 172, 27, 7]
abbrev dktX16_quotient_1 : List UInt8 := dkwX16_quotient_1 ++ dktX16_quotient_2
def dkwX16_quotient_0 : List UInt8 := [27, 184, 1, 89, 153, 0, 41, 28, 184, 1, 89, 153, 0, 34, 42, 180, 0, 32, 42, 180, 0, 32, 27, 6]
abbrev dktX16_quotient_0 : List UInt8 := dkwX16_quotient_0 ++ dktX16_quotient_1
theorem dksX16_quotient_0 : cX16_quotient.data.toList.drop 0 = dktX16_quotient_0 := by decide +kernel
theorem dksX16_quotient_1 : cX16_quotient.data.toList.drop 24 = dktX16_quotient_1 := dk_seg dksX16_quotient_0 24 rfl rfl
theorem dksX16_quotient_2 : cX16_quotient.data.toList.drop 47 = dktX16_quotient_2 := dk_seg dksX16_quotient_1 23 rfl rfl
theorem dksX16_quotient_3 : cX16_quotient.data.toList.drop 71 = dktX16_quotient_3 := dk_seg dksX16_quotient_2 24 rfl rfl
theorem dX16_quotient_0 : decode cX16_quotient 0 = .ok (.iload_n 1, 1) := dk_27 (dk_at dksX16_quotient_0 0 rfl rfl)
theorem dX16_quotient_1 : decode cX16_quotient 1 = .ok (.invokestatic 345, 3) := dk_184 1 89 (dk_at dksX16_quotient_0 1 rfl rfl)
theorem dX16_quotient_4 : decode cX16_quotient 4 = .ok (.ifCond .eq 41, 3) := dk_153 0 41 (dk_at dksX16_quotient_0 4 rfl rfl)
theorem dX16_quotient_7 : decode cX16_quotient 7 = .ok (.iload_n 2, 1) := dk_28 (dk_at dksX16_quotient_0 7 rfl rfl)
theorem dX16_quotient_8 : decode cX16_quotient 8 = .ok (.invokestatic 345, 3) := dk_184 1 89 (dk_at dksX16_quotient_0 8 rfl rfl)
theorem dX16_quotient_11 : decode cX16_quotient 11 = .ok (.ifCond .eq 34, 3) := dk_153 0 34 (dk_at dksX16_quotient_0 11 rfl rfl)
theorem dX16_quotient_14 : decode cX16_quotient 14 = .ok (.aload_n 0, 1) := dk_42 (dk_at dksX16_quotient_0 14 rfl rfl)
theorem dX16_quotient_15 : decode cX16_quotient 15 = .ok (.getfield 32, 3) := dk_180 0 32 (dk_at dksX16_quotient_0 15 rfl rfl)
theorem dX16_quotient_18 : decode cX16_quotient 18 = .ok (.aload_n 0, 1) := dk_42 (dk_at dksX16_quotient_0 18 rfl rfl)
theorem dX16_quotient_19 : decode cX16_quotient 19 = .ok (.getfield 32, 3) := dk_180 0 32 (dk_at dksX16_quotient_0 19 rfl rfl)
theorem dX16_quotient_22 : decode cX16_quotient 22 = .ok (.iload_n 1, 1) := dk_27 (dk_at dksX16_quotient_0 22 rfl rfl)
theorem dX16_quotient_23 : decode cX16_quotient 23 = .ok (.iconst 3, 1) := dk_6 (dk_at dksX16_quotient_0 23 rfl rfl)
theorem dX16_quotient_24 : decode cX16_quotient 24 = .ok (.if_icmp .ne 12, 3) := dk_160 0 12 (dk_at dksX16_quotient_1 0 rfl rfl)
theorem dX16_quotient_27 : decode cX16_quotient 27 = .ok (.iload_n 2, 1) := dk_28 (dk_at dksX16_quotient_1 3 rfl rfl)
theorem dX16_quotient_28 : decode cX16_quotient 28 = .ok (.iconst 3, 1) := dk_6 (dk_at dksX16_quotient_1 4 rfl rfl)
theorem dX16_quotient_29 : decode cX16_quotient 29 = .ok (.if_icmp .ne 7, 3) := dk_160 0 7 (dk_at dksX16_quotient_1 5 rfl rfl)
theorem dX16_quotient_32 : decode cX16_quotient 32 = .ok (.iconst 3, 1) := dk_6 (dk_at dksX16_quotient_1 8 rfl rfl)
theorem dX16_quotient_33 : decode cX16_quotient 33 = .ok (.goto 4, 3) := dk_167 0 4 (dk_at dksX16_quotient_1 9 rfl rfl)
theorem dX16_quotient_36 : decode cX16_quotient 36 = .ok (.iconst 2, 1) := dk_5 (dk_at dksX16_quotient_1 12 rfl rfl)
theorem dX16_quotient_37 : decode cX16_quotient 37 = .ok (.iconst 3, 1) := dk_6 (dk_at dksX16_quotient_1 13 rfl rfl)
theorem dX16_quotient_38 : decode cX16_quotient 38 = .ok (.invokevirtual 192, 3) := dk_182 0 192 (dk_at dksX16_quotient_1 14 rfl rfl)
theorem dX16_quotient_41 : decode cX16_quotient 41 = .ok (.invokevirtual 313, 3) := dk_182 1 57 (dk_at dksX16_quotient_1 17 rfl rfl)
theorem dX16_quotient_44 : decode cX16_quotient 44 = .ok (.ireturn, 1) := dk_172 (dk_at dksX16_quotient_1 20 rfl rfl)
theorem dX16_quotient_45 : decode cX16_quotient 45 = .ok (.iload_n 1, 1) := dk_27 (dk_at dksX16_quotient_1 21 rfl rfl)
theorem dX16_quotient_46 : decode cX16_quotient 46 = .ok (.iconst 4, 1) := dk_7 (dk_at dksX16_quotient_1 22 rfl rfl)
theorem dX16_quotient_47 : decode cX16_quotient 47 = .ok (.if_icmp .ne 13, 3) := dk_160 0 13 (dk_at dksX16_quotient_2 0 rfl rfl)
theorem dX16_quotient_50 : decode cX16_quotient 50 = .ok (.iload_n 2, 1) := dk_28 (dk_at dksX16_quotient_2 3 rfl rfl)
theorem dX16_quotient_51 : decode cX16_quotient 51 = .ok (.iconst 3, 1) := dk_6 (dk_at dksX16_quotient_2 4 rfl rfl)
theorem dX16_quotient_52 : decode cX16_quotient 52 = .ok (.if_icmp .eq 10, 3) := dk_159 0 10 (dk_at dksX16_quotient_2 5 rfl rfl)
theorem dX16_quotient_55 : decode cX16_quotient 55 = .ok (.iload_n 2, 1) := dk_28 (dk_at dksX16_quotient_2 8 rfl rfl)
theorem dX16_quotient_56 : decode cX16_quotient 56 = .ok (.iconst 4, 1) := dk_7 (dk_at dksX16_quotient_2 9 rfl rfl)
theorem dX16_quotient_57 : decode cX16_quotient 57 = .ok (.if_icmp .eq 5, 3) := dk_159 0 5 (dk_at dksX16_quotient_2 10 rfl rfl)
theorem dX16_quotient_60 : decode cX16_quotient 60 = .ok (.iconst (-1), 1) := dk_2 (dk_at dksX16_quotient_2 13 rfl rfl)
theorem dX16_quotient_61 : decode cX16_quotient 61 = .ok (.ireturn, 1) := dk_172 (dk_at dksX16_quotient_2 14 rfl rfl)
theorem dX16_quotient_62 : decode cX16_quotient 62 = .ok (.aload_n 0, 1) := dk_42 (dk_at dksX16_quotient_2 15 rfl rfl)
theorem dX16_quotient_63 : decode cX16_quotient 63 = .ok (.getfield 32, 3) := dk_180 0 32 (dk_at dksX16_quotient_2 16 rfl rfl)
theorem dX16_quotient_66 : decode cX16_quotient 66 = .ok (.aload_n 0, 1) := dk_42 (dk_at dksX16_quotient_2 19 rfl rfl)
theorem dX16_quotient_67 : decode cX16_quotient 67 = .ok (.getfield 32, 3) := dk_180 0 32 (dk_at dksX16_quotient_2 20 rfl rfl)
theorem dX16_quotient_70 : decode cX16_quotient 70 = .ok (.iload_n 2, 1) := dk_28 (dk_at dksX16_quotient_2 23 rfl rfl)
theorem dX16_quotient_71 : decode cX16_quotient 71 = .ok (.iconst 3, 1) := dk_6 (dk_at dksX16_quotient_3 0 rfl rfl)
theorem dX16_quotient_72 : decode cX16_quotient 72 = .ok (.if_icmp .ne 7, 3) := dk_160 0 7 (dk_at dksX16_quotient_3 1 rfl rfl)
theorem dX16_quotient_75 : decode cX16_quotient 75 = .ok (.iconst 4, 1) := dk_7 (dk_at dksX16_quotient_3 4 rfl rfl)
theorem dX16_quotient_76 : decode cX16_quotient 76 = .ok (.goto 4, 3) := dk_167 0 4 (dk_at dksX16_quotient_3 5 rfl rfl)
theorem dX16_quotient_79 : decode cX16_quotient 79 = .ok (.iconst 3, 1) := dk_6 (dk_at dksX16_quotient_3 8 rfl rfl)
theorem dX16_quotient_80 : decode cX16_quotient 80 = .ok (.iconst 4, 1) := dk_7 (dk_at dksX16_quotient_3 9 rfl rfl)
theorem dX16_quotient_81 : decode cX16_quotient 81 = .ok (.invokevirtual 192, 3) := dk_182 0 192 (dk_at dksX16_quotient_3 10 rfl rfl)
theorem dX16_quotient_84 : decode cX16_quotient 84 = .ok (.invokevirtual 313, 3) := dk_182 1 57 (dk_at dksX16_quotient_3 13 rfl rfl)
theorem dX16_quotient_87 : decode cX16_quotient 87 = .ok (.ireturn, 1) := dk_172 (dk_at dksX16_quotient_3 16 rfl rfl)
abbrev cX16_bits : ByteArray := prog_21_method_41_code
def yX16_bits : MethodName := ⟨RX16, "bits", "(III)I"⟩
def dkwX16_bits_2 : List UInt8 := [2, 172]
abbrev dktX16_bits_2 : List UInt8 := dkwX16_bits_2 ++ []
def dkwX16_bits_1 : List UInt8 := [16, 73, 160, 0, 12, 27, 5, 160, 0, 7, 4, 167, 0, 4, 3, 62, 29, 153, 0, 7, 6, 167, 0, 4]
abbrev dktX16_bits_1 : List UInt8 := dkwX16_bits_1 ++ dktX16_bits_2
def dkwX16_bits_0 : List UInt8 := [27, 4, 160, 0, 10, 28, 4, 160, 0, 5, 4, 172, 28, 6, 160, 0, 23, 27, 6, 159, 0, 14, 26]
abbrev dktX16_bits_0 : List UInt8 := dkwX16_bits_0 ++ dktX16_bits_1
theorem dksX16_bits_0 : cX16_bits.data.toList.drop 0 = dktX16_bits_0 := by decide +kernel
theorem dksX16_bits_1 : cX16_bits.data.toList.drop 23 = dktX16_bits_1 := dk_seg dksX16_bits_0 23 rfl rfl
theorem dksX16_bits_2 : cX16_bits.data.toList.drop 47 = dktX16_bits_2 := dk_seg dksX16_bits_1 24 rfl rfl
theorem dX16_bits_0 : decode cX16_bits 0 = .ok (.iload_n 1, 1) := dk_27 (dk_at dksX16_bits_0 0 rfl rfl)
theorem dX16_bits_1 : decode cX16_bits 1 = .ok (.iconst 1, 1) := dk_4 (dk_at dksX16_bits_0 1 rfl rfl)
theorem dX16_bits_2 : decode cX16_bits 2 = .ok (.if_icmp .ne 10, 3) := dk_160 0 10 (dk_at dksX16_bits_0 2 rfl rfl)
theorem dX16_bits_5 : decode cX16_bits 5 = .ok (.iload_n 2, 1) := dk_28 (dk_at dksX16_bits_0 5 rfl rfl)
theorem dX16_bits_6 : decode cX16_bits 6 = .ok (.iconst 1, 1) := dk_4 (dk_at dksX16_bits_0 6 rfl rfl)
theorem dX16_bits_7 : decode cX16_bits 7 = .ok (.if_icmp .ne 5, 3) := dk_160 0 5 (dk_at dksX16_bits_0 7 rfl rfl)
theorem dX16_bits_10 : decode cX16_bits 10 = .ok (.iconst 1, 1) := dk_4 (dk_at dksX16_bits_0 10 rfl rfl)
theorem dX16_bits_11 : decode cX16_bits 11 = .ok (.ireturn, 1) := dk_172 (dk_at dksX16_bits_0 11 rfl rfl)
theorem dX16_bits_12 : decode cX16_bits 12 = .ok (.iload_n 2, 1) := dk_28 (dk_at dksX16_bits_0 12 rfl rfl)
theorem dX16_bits_13 : decode cX16_bits 13 = .ok (.iconst 3, 1) := dk_6 (dk_at dksX16_bits_0 13 rfl rfl)
theorem dX16_bits_14 : decode cX16_bits 14 = .ok (.if_icmp .ne 23, 3) := dk_160 0 23 (dk_at dksX16_bits_0 14 rfl rfl)
theorem dX16_bits_17 : decode cX16_bits 17 = .ok (.iload_n 1, 1) := dk_27 (dk_at dksX16_bits_0 17 rfl rfl)
theorem dX16_bits_18 : decode cX16_bits 18 = .ok (.iconst 3, 1) := dk_6 (dk_at dksX16_bits_0 18 rfl rfl)
theorem dX16_bits_19 : decode cX16_bits 19 = .ok (.if_icmp .eq 14, 3) := dk_159 0 14 (dk_at dksX16_bits_0 19 rfl rfl)
theorem dX16_bits_22 : decode cX16_bits 22 = .ok (.iload_n 0, 1) := dk_26 (dk_at dksX16_bits_0 22 rfl rfl)
theorem dX16_bits_23 : decode cX16_bits 23 = .ok (.bipush 73, 2) := dk_16 73 (dk_at dksX16_bits_1 0 rfl rfl)
theorem dX16_bits_25 : decode cX16_bits 25 = .ok (.if_icmp .ne 12, 3) := dk_160 0 12 (dk_at dksX16_bits_1 2 rfl rfl)
theorem dX16_bits_28 : decode cX16_bits 28 = .ok (.iload_n 1, 1) := dk_27 (dk_at dksX16_bits_1 5 rfl rfl)
theorem dX16_bits_29 : decode cX16_bits 29 = .ok (.iconst 2, 1) := dk_5 (dk_at dksX16_bits_1 6 rfl rfl)
theorem dX16_bits_30 : decode cX16_bits 30 = .ok (.if_icmp .ne 7, 3) := dk_160 0 7 (dk_at dksX16_bits_1 7 rfl rfl)
theorem dX16_bits_33 : decode cX16_bits 33 = .ok (.iconst 1, 1) := dk_4 (dk_at dksX16_bits_1 10 rfl rfl)
theorem dX16_bits_34 : decode cX16_bits 34 = .ok (.goto 4, 3) := dk_167 0 4 (dk_at dksX16_bits_1 11 rfl rfl)
theorem dX16_bits_37 : decode cX16_bits 37 = .ok (.iconst 0, 1) := dk_3 (dk_at dksX16_bits_1 14 rfl rfl)
theorem dX16_bits_38 : decode cX16_bits 38 = .ok (.istore_n 3, 1) := dk_62 (dk_at dksX16_bits_1 15 rfl rfl)
theorem dX16_bits_39 : decode cX16_bits 39 = .ok (.iload_n 3, 1) := dk_29 (dk_at dksX16_bits_1 16 rfl rfl)
theorem dX16_bits_40 : decode cX16_bits 40 = .ok (.ifCond .eq 7, 3) := dk_153 0 7 (dk_at dksX16_bits_1 17 rfl rfl)
theorem dX16_bits_43 : decode cX16_bits 43 = .ok (.iconst 3, 1) := dk_6 (dk_at dksX16_bits_1 20 rfl rfl)
theorem dX16_bits_44 : decode cX16_bits 44 = .ok (.goto 4, 3) := dk_167 0 4 (dk_at dksX16_bits_1 21 rfl rfl)
theorem dX16_bits_47 : decode cX16_bits 47 = .ok (.iconst (-1), 1) := dk_2 (dk_at dksX16_bits_2 0 rfl rfl)
theorem dX16_bits_48 : decode cX16_bits 48 = .ok (.ireturn, 1) := dk_172 (dk_at dksX16_bits_2 1 rfl rfl)
abbrev cX16_other : ByteArray := prog_21_method_47_code
def yX16_other : MethodName := ⟨RX16, "other", "(III)I"⟩
def dkwX16_other_17 : List UInt8 := [27, 28, 29, 182, 1, 125, 172]
abbrev dktX16_other_17 : List UInt8 := dkwX16_other_17 ++ []
def dkwX16_other_16 : List UInt8 := [182, 1, 57, 182, 1, 22, 153, 0, 7, 4, 167, 0, 4, 3, 28, 21, 4, 3, 3, 182, 1, 18, 172, 42]
abbrev dktX16_other_16 : List UInt8 := dkwX16_other_16 ++ dktX16_other_17
def dkwX16_other_15 : List UInt8 := [160, 0, 7, 4, 167, 0, 4, 3, 54, 5, 42, 21, 5, 153, 0, 24, 42, 4, 42, 180, 0, 32, 21, 4]
abbrev dktX16_other_15 : List UInt8 := dkwX16_other_15 ++ dktX16_other_16
def dkwX16_other_14 : List UInt8 := [155, 0, 30, 42, 180, 0, 32, 21, 4, 5, 182, 0, 120, 153, 0, 17, 42, 3, 182, 1, 48, 16, 6]
abbrev dktX16_other_14 : List UInt8 := dkwX16_other_14 ++ dktX16_other_15
def dkwX16_other_13 : List UInt8 := [3, 182, 1, 18, 172, 29, 4, 160, 0, 12, 42, 27, 3, 182, 1, 29, 167, 0, 4, 2, 54, 4, 21, 4]
abbrev dktX16_other_13 : List UInt8 := dkwX16_other_13 ++ dktX16_other_14
def dkwX16_other_12 : List UInt8 := [21, 4, 153, 0, 17, 42, 4, 16, 6, 182, 1, 22, 153, 0, 7, 4, 167, 0, 4, 3, 28, 21, 5, 3]
abbrev dktX16_other_12 : List UInt8 := dkwX16_other_12 ++ dktX16_other_13
def dkwX16_other_11 : List UInt8 := [167, 0, 4, 3, 54, 4, 21, 4, 153, 0, 11, 42, 3, 182, 0, 209, 167, 0, 4, 3, 54, 5, 42]
abbrev dktX16_other_11 : List UInt8 := dkwX16_other_11 ++ dktX16_other_12
def dkwX16_other_10 : List UInt8 := [180, 0, 56, 158, 0, 23, 42, 180, 0, 32, 42, 3, 182, 0, 209, 5, 182, 0, 120, 153, 0, 7, 4]
abbrev dktX16_other_10 : List UInt8 := dkwX16_other_10 ++ dktX16_other_11
def dkwX16_other_9 : List UInt8 := [182, 1, 18, 172, 29, 154, 0, 11, 42, 28, 182, 1, 122, 167, 0, 4, 3, 172, 29, 154, 0, 30, 42]
abbrev dktX16_other_9 : List UInt8 := dkwX16_other_9 ++ dktX16_other_10
def dkwX16_other_8 : List UInt8 := [153, 0, 16, 42, 4, 6, 182, 1, 22, 153, 0, 7, 4, 167, 0, 4, 3, 28, 21, 4, 3, 3]
abbrev dktX16_other_8 : List UInt8 := dkwX16_other_8 ++ dktX16_other_9
def dkwX16_other_7 : List UInt8 := [21, 4, 16, 12, 159, 0, 10, 21, 4, 16, 15, 160, 0, 7, 4, 167, 0, 4, 3, 54, 5, 42, 21, 5]
abbrev dktX16_other_7 : List UInt8 := dkwX16_other_7 ++ dktX16_other_8
def dkwX16_other_6 : List UInt8 := [182, 1, 48, 54, 4, 29, 154, 0, 36, 21, 4, 184, 1, 119, 154, 0, 24, 21, 4, 16, 11, 159, 0, 17]
abbrev dktX16_other_6 : List UInt8 := dkwX16_other_6 ++ dktX16_other_7
def dkwX16_other_5 : List UInt8 := [182, 1, 57, 182, 1, 22, 153, 0, 7, 4, 167, 0, 4, 3, 28, 3, 3, 3, 182, 1, 18, 172, 42, 3]
abbrev dktX16_other_5 : List UInt8 := dkwX16_other_5 ++ dktX16_other_6
def dkwX16_other_4 : List UInt8 := [167, 0, 4, 3, 54, 4, 42, 21, 4, 153, 0, 27, 42, 6, 42, 180, 0, 32, 42, 5, 182, 0, 209]
abbrev dktX16_other_4 : List UInt8 := dkwX16_other_4 ++ dktX16_other_5
def dkwX16_other_3 : List UInt8 := [160, 0, 27, 42, 4, 182, 1, 48, 6, 160, 0, 18, 42, 5, 182, 1, 48, 184, 1, 119, 153, 0, 7, 4]
abbrev dktX16_other_3 : List UInt8 := dkwX16_other_3 ++ dktX16_other_4
def dkwX16_other_2 : List UInt8 := [29, 154, 0, 10, 42, 182, 1, 116, 167, 0, 4, 3, 172, 29, 154, 0, 36, 42, 3, 182, 1, 48, 6]
abbrev dktX16_other_2 : List UInt8 := dkwX16_other_2 ++ dktX16_other_3
def dkwX16_other_1 : List UInt8 := [170, 0, 0, 0, 0, 1, 146, 0, 0, 0, 86, 0, 0, 0, 94, 0, 0, 0, 51, 0, 0, 0, 64, 0, 0, 0, 143, 0, 0, 0, 219, 0, 0, 0, 219, 0, 0, 0, 219, 0, 0, 0, 219, 0, 0, 0, 233, 0, 0, 1, 57]
abbrev dktX16_other_1 : List UInt8 := dkwX16_other_1 ++ dktX16_other_2
def dkwX16_other_0 : List UInt8 := [28]
abbrev dktX16_other_0 : List UInt8 := dkwX16_other_0 ++ dktX16_other_1
theorem dksX16_other_0 : cX16_other.data.toList.drop 0 = dktX16_other_0 := by decide +kernel
theorem dksX16_other_1 : cX16_other.data.toList.drop 1 = dktX16_other_1 := dk_seg dksX16_other_0 1 rfl rfl
theorem dksX16_other_2 : cX16_other.data.toList.drop 52 = dktX16_other_2 := dk_seg dksX16_other_1 51 rfl rfl
theorem dksX16_other_3 : cX16_other.data.toList.drop 75 = dktX16_other_3 := dk_seg dksX16_other_2 23 rfl rfl
theorem dksX16_other_4 : cX16_other.data.toList.drop 99 = dktX16_other_4 := dk_seg dksX16_other_3 24 rfl rfl
theorem dksX16_other_5 : cX16_other.data.toList.drop 122 = dktX16_other_5 := dk_seg dksX16_other_4 23 rfl rfl
theorem dksX16_other_6 : cX16_other.data.toList.drop 146 = dktX16_other_6 := dk_seg dksX16_other_5 24 rfl rfl
theorem dksX16_other_7 : cX16_other.data.toList.drop 170 = dktX16_other_7 := dk_seg dksX16_other_6 24 rfl rfl
theorem dksX16_other_8 : cX16_other.data.toList.drop 194 = dktX16_other_8 := dk_seg dksX16_other_7 24 rfl rfl
theorem dksX16_other_9 : cX16_other.data.toList.drop 216 = dktX16_other_9 := dk_seg dksX16_other_8 22 rfl rfl
theorem dksX16_other_10 : cX16_other.data.toList.drop 239 = dktX16_other_10 := dk_seg dksX16_other_9 23 rfl rfl
theorem dksX16_other_11 : cX16_other.data.toList.drop 262 = dktX16_other_11 := dk_seg dksX16_other_10 23 rfl rfl
theorem dksX16_other_12 : cX16_other.data.toList.drop 285 = dktX16_other_12 := dk_seg dksX16_other_11 23 rfl rfl
theorem dksX16_other_13 : cX16_other.data.toList.drop 309 = dktX16_other_13 := dk_seg dksX16_other_12 24 rfl rfl
theorem dksX16_other_14 : cX16_other.data.toList.drop 333 = dktX16_other_14 := dk_seg dksX16_other_13 24 rfl rfl
theorem dksX16_other_15 : cX16_other.data.toList.drop 356 = dktX16_other_15 := dk_seg dksX16_other_14 23 rfl rfl
theorem dksX16_other_16 : cX16_other.data.toList.drop 380 = dktX16_other_16 := dk_seg dksX16_other_15 24 rfl rfl
theorem dksX16_other_17 : cX16_other.data.toList.drop 404 = dktX16_other_17 := dk_seg dksX16_other_16 24 rfl rfl
theorem dX16_other_0 : decode cX16_other 0 = .ok (.iload_n 2, 1) := dk_28 (dk_at dksX16_other_0 0 rfl rfl)
theorem dX16_other_1 : decode cX16_other 1 = .ok (.tableswitch 402 86 94 #[51, 64, 143, 219, 219, 219, 219, 233, 313], 51) := by decide +kernel
theorem dX16_other_52 : decode cX16_other 52 = .ok (.iload_n 3, 1) := dk_29 (dk_at dksX16_other_2 0 rfl rfl)
theorem dX16_other_53 : decode cX16_other 53 = .ok (.ifCond .ne 10, 3) := dk_154 0 10 (dk_at dksX16_other_2 1 rfl rfl)
theorem dX16_other_56 : decode cX16_other 56 = .ok (.aload_n 0, 1) := dk_42 (dk_at dksX16_other_2 4 rfl rfl)
theorem dX16_other_57 : decode cX16_other 57 = .ok (.invokevirtual 372, 3) := dk_182 1 116 (dk_at dksX16_other_2 5 rfl rfl)
theorem dX16_other_60 : decode cX16_other 60 = .ok (.goto 4, 3) := dk_167 0 4 (dk_at dksX16_other_2 8 rfl rfl)
theorem dX16_other_63 : decode cX16_other 63 = .ok (.iconst 0, 1) := dk_3 (dk_at dksX16_other_2 11 rfl rfl)
theorem dX16_other_64 : decode cX16_other 64 = .ok (.ireturn, 1) := dk_172 (dk_at dksX16_other_2 12 rfl rfl)
theorem dX16_other_65 : decode cX16_other 65 = .ok (.iload_n 3, 1) := dk_29 (dk_at dksX16_other_2 13 rfl rfl)
theorem dX16_other_66 : decode cX16_other 66 = .ok (.ifCond .ne 36, 3) := dk_154 0 36 (dk_at dksX16_other_2 14 rfl rfl)
theorem dX16_other_69 : decode cX16_other 69 = .ok (.aload_n 0, 1) := dk_42 (dk_at dksX16_other_2 17 rfl rfl)
theorem dX16_other_70 : decode cX16_other 70 = .ok (.iconst 0, 1) := dk_3 (dk_at dksX16_other_2 18 rfl rfl)
theorem dX16_other_71 : decode cX16_other 71 = .ok (.invokevirtual 304, 3) := dk_182 1 48 (dk_at dksX16_other_2 19 rfl rfl)
theorem dX16_other_74 : decode cX16_other 74 = .ok (.iconst 3, 1) := dk_6 (dk_at dksX16_other_2 22 rfl rfl)
theorem dX16_other_75 : decode cX16_other 75 = .ok (.if_icmp .ne 27, 3) := dk_160 0 27 (dk_at dksX16_other_3 0 rfl rfl)
theorem dX16_other_78 : decode cX16_other 78 = .ok (.aload_n 0, 1) := dk_42 (dk_at dksX16_other_3 3 rfl rfl)
theorem dX16_other_79 : decode cX16_other 79 = .ok (.iconst 1, 1) := dk_4 (dk_at dksX16_other_3 4 rfl rfl)
theorem dX16_other_80 : decode cX16_other 80 = .ok (.invokevirtual 304, 3) := dk_182 1 48 (dk_at dksX16_other_3 5 rfl rfl)
theorem dX16_other_83 : decode cX16_other 83 = .ok (.iconst 3, 1) := dk_6 (dk_at dksX16_other_3 8 rfl rfl)
theorem dX16_other_84 : decode cX16_other 84 = .ok (.if_icmp .ne 18, 3) := dk_160 0 18 (dk_at dksX16_other_3 9 rfl rfl)
theorem dX16_other_87 : decode cX16_other 87 = .ok (.aload_n 0, 1) := dk_42 (dk_at dksX16_other_3 12 rfl rfl)
theorem dX16_other_88 : decode cX16_other 88 = .ok (.iconst 2, 1) := dk_5 (dk_at dksX16_other_3 13 rfl rfl)
theorem dX16_other_89 : decode cX16_other 89 = .ok (.invokevirtual 304, 3) := dk_182 1 48 (dk_at dksX16_other_3 14 rfl rfl)
theorem dX16_other_92 : decode cX16_other 92 = .ok (.invokestatic 375, 3) := dk_184 1 119 (dk_at dksX16_other_3 17 rfl rfl)
theorem dX16_other_95 : decode cX16_other 95 = .ok (.ifCond .eq 7, 3) := dk_153 0 7 (dk_at dksX16_other_3 20 rfl rfl)
theorem dX16_other_98 : decode cX16_other 98 = .ok (.iconst 1, 1) := dk_4 (dk_at dksX16_other_3 23 rfl rfl)
theorem dX16_other_99 : decode cX16_other 99 = .ok (.goto 4, 3) := dk_167 0 4 (dk_at dksX16_other_4 0 rfl rfl)
theorem dX16_other_102 : decode cX16_other 102 = .ok (.iconst 0, 1) := dk_3 (dk_at dksX16_other_4 3 rfl rfl)
theorem dX16_other_103 : decode cX16_other 103 = .ok (.istore 4, 2) := dk_54 4 (dk_at dksX16_other_4 4 rfl rfl)
theorem dX16_other_105 : decode cX16_other 105 = .ok (.aload_n 0, 1) := dk_42 (dk_at dksX16_other_4 6 rfl rfl)
theorem dX16_other_106 : decode cX16_other 106 = .ok (.iload 4, 2) := dk_21 4 (dk_at dksX16_other_4 7 rfl rfl)
theorem dX16_other_108 : decode cX16_other 108 = .ok (.ifCond .eq 27, 3) := dk_153 0 27 (dk_at dksX16_other_4 9 rfl rfl)
theorem dX16_other_111 : decode cX16_other 111 = .ok (.aload_n 0, 1) := dk_42 (dk_at dksX16_other_4 12 rfl rfl)
theorem dX16_other_112 : decode cX16_other 112 = .ok (.iconst 3, 1) := dk_6 (dk_at dksX16_other_4 13 rfl rfl)
theorem dX16_other_113 : decode cX16_other 113 = .ok (.aload_n 0, 1) := dk_42 (dk_at dksX16_other_4 14 rfl rfl)
theorem dX16_other_114 : decode cX16_other 114 = .ok (.getfield 32, 3) := dk_180 0 32 (dk_at dksX16_other_4 15 rfl rfl)
theorem dX16_other_117 : decode cX16_other 117 = .ok (.aload_n 0, 1) := dk_42 (dk_at dksX16_other_4 18 rfl rfl)
theorem dX16_other_118 : decode cX16_other 118 = .ok (.iconst 2, 1) := dk_5 (dk_at dksX16_other_4 19 rfl rfl)
theorem dX16_other_119 : decode cX16_other 119 = .ok (.invokevirtual 209, 3) := dk_182 0 209 (dk_at dksX16_other_4 20 rfl rfl)
theorem dX16_other_122 : decode cX16_other 122 = .ok (.invokevirtual 313, 3) := dk_182 1 57 (dk_at dksX16_other_5 0 rfl rfl)
theorem dX16_other_125 : decode cX16_other 125 = .ok (.invokevirtual 278, 3) := dk_182 1 22 (dk_at dksX16_other_5 3 rfl rfl)
theorem dX16_other_128 : decode cX16_other 128 = .ok (.ifCond .eq 7, 3) := dk_153 0 7 (dk_at dksX16_other_5 6 rfl rfl)
theorem dX16_other_131 : decode cX16_other 131 = .ok (.iconst 1, 1) := dk_4 (dk_at dksX16_other_5 9 rfl rfl)
theorem dX16_other_132 : decode cX16_other 132 = .ok (.goto 4, 3) := dk_167 0 4 (dk_at dksX16_other_5 10 rfl rfl)
theorem dX16_other_135 : decode cX16_other 135 = .ok (.iconst 0, 1) := dk_3 (dk_at dksX16_other_5 13 rfl rfl)
theorem dX16_other_136 : decode cX16_other 136 = .ok (.iload_n 2, 1) := dk_28 (dk_at dksX16_other_5 14 rfl rfl)
theorem dX16_other_137 : decode cX16_other 137 = .ok (.iconst 0, 1) := dk_3 (dk_at dksX16_other_5 15 rfl rfl)
theorem dX16_other_138 : decode cX16_other 138 = .ok (.iconst 0, 1) := dk_3 (dk_at dksX16_other_5 16 rfl rfl)
theorem dX16_other_139 : decode cX16_other 139 = .ok (.iconst 0, 1) := dk_3 (dk_at dksX16_other_5 17 rfl rfl)
theorem dX16_other_140 : decode cX16_other 140 = .ok (.invokevirtual 274, 3) := dk_182 1 18 (dk_at dksX16_other_5 18 rfl rfl)
theorem dX16_other_143 : decode cX16_other 143 = .ok (.ireturn, 1) := dk_172 (dk_at dksX16_other_5 21 rfl rfl)
theorem dX16_other_144 : decode cX16_other 144 = .ok (.aload_n 0, 1) := dk_42 (dk_at dksX16_other_5 22 rfl rfl)
theorem dX16_other_145 : decode cX16_other 145 = .ok (.iconst 0, 1) := dk_3 (dk_at dksX16_other_5 23 rfl rfl)
theorem dX16_other_146 : decode cX16_other 146 = .ok (.invokevirtual 304, 3) := dk_182 1 48 (dk_at dksX16_other_6 0 rfl rfl)
theorem dX16_other_149 : decode cX16_other 149 = .ok (.istore 4, 2) := dk_54 4 (dk_at dksX16_other_6 3 rfl rfl)
theorem dX16_other_151 : decode cX16_other 151 = .ok (.iload_n 3, 1) := dk_29 (dk_at dksX16_other_6 5 rfl rfl)
theorem dX16_other_152 : decode cX16_other 152 = .ok (.ifCond .ne 36, 3) := dk_154 0 36 (dk_at dksX16_other_6 6 rfl rfl)
theorem dX16_other_155 : decode cX16_other 155 = .ok (.iload 4, 2) := dk_21 4 (dk_at dksX16_other_6 9 rfl rfl)
theorem dX16_other_157 : decode cX16_other 157 = .ok (.invokestatic 375, 3) := dk_184 1 119 (dk_at dksX16_other_6 11 rfl rfl)
theorem dX16_other_160 : decode cX16_other 160 = .ok (.ifCond .ne 24, 3) := dk_154 0 24 (dk_at dksX16_other_6 14 rfl rfl)
theorem dX16_other_163 : decode cX16_other 163 = .ok (.iload 4, 2) := dk_21 4 (dk_at dksX16_other_6 17 rfl rfl)
theorem dX16_other_165 : decode cX16_other 165 = .ok (.bipush 11, 2) := dk_16 11 (dk_at dksX16_other_6 19 rfl rfl)
theorem dX16_other_167 : decode cX16_other 167 = .ok (.if_icmp .eq 17, 3) := dk_159 0 17 (dk_at dksX16_other_6 21 rfl rfl)
theorem dX16_other_170 : decode cX16_other 170 = .ok (.iload 4, 2) := dk_21 4 (dk_at dksX16_other_7 0 rfl rfl)
theorem dX16_other_172 : decode cX16_other 172 = .ok (.bipush 12, 2) := dk_16 12 (dk_at dksX16_other_7 2 rfl rfl)
theorem dX16_other_174 : decode cX16_other 174 = .ok (.if_icmp .eq 10, 3) := dk_159 0 10 (dk_at dksX16_other_7 4 rfl rfl)
theorem dX16_other_177 : decode cX16_other 177 = .ok (.iload 4, 2) := dk_21 4 (dk_at dksX16_other_7 7 rfl rfl)
theorem dX16_other_179 : decode cX16_other 179 = .ok (.bipush 15, 2) := dk_16 15 (dk_at dksX16_other_7 9 rfl rfl)
theorem dX16_other_181 : decode cX16_other 181 = .ok (.if_icmp .ne 7, 3) := dk_160 0 7 (dk_at dksX16_other_7 11 rfl rfl)
theorem dX16_other_184 : decode cX16_other 184 = .ok (.iconst 1, 1) := dk_4 (dk_at dksX16_other_7 14 rfl rfl)
theorem dX16_other_185 : decode cX16_other 185 = .ok (.goto 4, 3) := dk_167 0 4 (dk_at dksX16_other_7 15 rfl rfl)
theorem dX16_other_188 : decode cX16_other 188 = .ok (.iconst 0, 1) := dk_3 (dk_at dksX16_other_7 18 rfl rfl)
theorem dX16_other_189 : decode cX16_other 189 = .ok (.istore 5, 2) := dk_54 5 (dk_at dksX16_other_7 19 rfl rfl)
theorem dX16_other_191 : decode cX16_other 191 = .ok (.aload_n 0, 1) := dk_42 (dk_at dksX16_other_7 21 rfl rfl)
theorem dX16_other_192 : decode cX16_other 192 = .ok (.iload 5, 2) := dk_21 5 (dk_at dksX16_other_7 22 rfl rfl)
theorem dX16_other_194 : decode cX16_other 194 = .ok (.ifCond .eq 16, 3) := dk_153 0 16 (dk_at dksX16_other_8 0 rfl rfl)
theorem dX16_other_197 : decode cX16_other 197 = .ok (.aload_n 0, 1) := dk_42 (dk_at dksX16_other_8 3 rfl rfl)
theorem dX16_other_198 : decode cX16_other 198 = .ok (.iconst 1, 1) := dk_4 (dk_at dksX16_other_8 4 rfl rfl)
theorem dX16_other_199 : decode cX16_other 199 = .ok (.iconst 3, 1) := dk_6 (dk_at dksX16_other_8 5 rfl rfl)
theorem dX16_other_200 : decode cX16_other 200 = .ok (.invokevirtual 278, 3) := dk_182 1 22 (dk_at dksX16_other_8 6 rfl rfl)
theorem dX16_other_203 : decode cX16_other 203 = .ok (.ifCond .eq 7, 3) := dk_153 0 7 (dk_at dksX16_other_8 9 rfl rfl)
theorem dX16_other_206 : decode cX16_other 206 = .ok (.iconst 1, 1) := dk_4 (dk_at dksX16_other_8 12 rfl rfl)
theorem dX16_other_207 : decode cX16_other 207 = .ok (.goto 4, 3) := dk_167 0 4 (dk_at dksX16_other_8 13 rfl rfl)
theorem dX16_other_210 : decode cX16_other 210 = .ok (.iconst 0, 1) := dk_3 (dk_at dksX16_other_8 16 rfl rfl)
theorem dX16_other_211 : decode cX16_other 211 = .ok (.iload_n 2, 1) := dk_28 (dk_at dksX16_other_8 17 rfl rfl)
theorem dX16_other_212 : decode cX16_other 212 = .ok (.iload 4, 2) := dk_21 4 (dk_at dksX16_other_8 18 rfl rfl)
theorem dX16_other_214 : decode cX16_other 214 = .ok (.iconst 0, 1) := dk_3 (dk_at dksX16_other_8 20 rfl rfl)
theorem dX16_other_215 : decode cX16_other 215 = .ok (.iconst 0, 1) := dk_3 (dk_at dksX16_other_8 21 rfl rfl)
theorem dX16_other_216 : decode cX16_other 216 = .ok (.invokevirtual 274, 3) := dk_182 1 18 (dk_at dksX16_other_9 0 rfl rfl)
theorem dX16_other_219 : decode cX16_other 219 = .ok (.ireturn, 1) := dk_172 (dk_at dksX16_other_9 3 rfl rfl)
theorem dX16_other_220 : decode cX16_other 220 = .ok (.iload_n 3, 1) := dk_29 (dk_at dksX16_other_9 4 rfl rfl)
theorem dX16_other_221 : decode cX16_other 221 = .ok (.ifCond .ne 11, 3) := dk_154 0 11 (dk_at dksX16_other_9 5 rfl rfl)
theorem dX16_other_224 : decode cX16_other 224 = .ok (.aload_n 0, 1) := dk_42 (dk_at dksX16_other_9 8 rfl rfl)
theorem dX16_other_225 : decode cX16_other 225 = .ok (.iload_n 2, 1) := dk_28 (dk_at dksX16_other_9 9 rfl rfl)
theorem dX16_other_226 : decode cX16_other 226 = .ok (.invokevirtual 378, 3) := dk_182 1 122 (dk_at dksX16_other_9 10 rfl rfl)
theorem dX16_other_229 : decode cX16_other 229 = .ok (.goto 4, 3) := dk_167 0 4 (dk_at dksX16_other_9 13 rfl rfl)
theorem dX16_other_232 : decode cX16_other 232 = .ok (.iconst 0, 1) := dk_3 (dk_at dksX16_other_9 16 rfl rfl)
theorem dX16_other_233 : decode cX16_other 233 = .ok (.ireturn, 1) := dk_172 (dk_at dksX16_other_9 17 rfl rfl)
theorem dX16_other_234 : decode cX16_other 234 = .ok (.iload_n 3, 1) := dk_29 (dk_at dksX16_other_9 18 rfl rfl)
theorem dX16_other_235 : decode cX16_other 235 = .ok (.ifCond .ne 30, 3) := dk_154 0 30 (dk_at dksX16_other_9 19 rfl rfl)
theorem dX16_other_238 : decode cX16_other 238 = .ok (.aload_n 0, 1) := dk_42 (dk_at dksX16_other_9 22 rfl rfl)
theorem dX16_other_239 : decode cX16_other 239 = .ok (.getfield 56, 3) := dk_180 0 56 (dk_at dksX16_other_10 0 rfl rfl)
theorem dX16_other_242 : decode cX16_other 242 = .ok (.ifCond .le 23, 3) := dk_158 0 23 (dk_at dksX16_other_10 3 rfl rfl)
theorem dX16_other_245 : decode cX16_other 245 = .ok (.aload_n 0, 1) := dk_42 (dk_at dksX16_other_10 6 rfl rfl)
theorem dX16_other_246 : decode cX16_other 246 = .ok (.getfield 32, 3) := dk_180 0 32 (dk_at dksX16_other_10 7 rfl rfl)
theorem dX16_other_249 : decode cX16_other 249 = .ok (.aload_n 0, 1) := dk_42 (dk_at dksX16_other_10 10 rfl rfl)
theorem dX16_other_250 : decode cX16_other 250 = .ok (.iconst 0, 1) := dk_3 (dk_at dksX16_other_10 11 rfl rfl)
theorem dX16_other_251 : decode cX16_other 251 = .ok (.invokevirtual 209, 3) := dk_182 0 209 (dk_at dksX16_other_10 12 rfl rfl)
theorem dX16_other_254 : decode cX16_other 254 = .ok (.iconst 2, 1) := dk_5 (dk_at dksX16_other_10 15 rfl rfl)
theorem dX16_other_255 : decode cX16_other 255 = .ok (.invokevirtual 120, 3) := dk_182 0 120 (dk_at dksX16_other_10 16 rfl rfl)
theorem dX16_other_258 : decode cX16_other 258 = .ok (.ifCond .eq 7, 3) := dk_153 0 7 (dk_at dksX16_other_10 19 rfl rfl)
theorem dX16_other_261 : decode cX16_other 261 = .ok (.iconst 1, 1) := dk_4 (dk_at dksX16_other_10 22 rfl rfl)
theorem dX16_other_262 : decode cX16_other 262 = .ok (.goto 4, 3) := dk_167 0 4 (dk_at dksX16_other_11 0 rfl rfl)
theorem dX16_other_265 : decode cX16_other 265 = .ok (.iconst 0, 1) := dk_3 (dk_at dksX16_other_11 3 rfl rfl)
theorem dX16_other_266 : decode cX16_other 266 = .ok (.istore 4, 2) := dk_54 4 (dk_at dksX16_other_11 4 rfl rfl)
theorem dX16_other_268 : decode cX16_other 268 = .ok (.iload 4, 2) := dk_21 4 (dk_at dksX16_other_11 6 rfl rfl)
theorem dX16_other_270 : decode cX16_other 270 = .ok (.ifCond .eq 11, 3) := dk_153 0 11 (dk_at dksX16_other_11 8 rfl rfl)
theorem dX16_other_273 : decode cX16_other 273 = .ok (.aload_n 0, 1) := dk_42 (dk_at dksX16_other_11 11 rfl rfl)
theorem dX16_other_274 : decode cX16_other 274 = .ok (.iconst 0, 1) := dk_3 (dk_at dksX16_other_11 12 rfl rfl)
theorem dX16_other_275 : decode cX16_other 275 = .ok (.invokevirtual 209, 3) := dk_182 0 209 (dk_at dksX16_other_11 13 rfl rfl)
theorem dX16_other_278 : decode cX16_other 278 = .ok (.goto 4, 3) := dk_167 0 4 (dk_at dksX16_other_11 16 rfl rfl)
theorem dX16_other_281 : decode cX16_other 281 = .ok (.iconst 0, 1) := dk_3 (dk_at dksX16_other_11 19 rfl rfl)
theorem dX16_other_282 : decode cX16_other 282 = .ok (.istore 5, 2) := dk_54 5 (dk_at dksX16_other_11 20 rfl rfl)
theorem dX16_other_284 : decode cX16_other 284 = .ok (.aload_n 0, 1) := dk_42 (dk_at dksX16_other_11 22 rfl rfl)
theorem dX16_other_285 : decode cX16_other 285 = .ok (.iload 4, 2) := dk_21 4 (dk_at dksX16_other_12 0 rfl rfl)
theorem dX16_other_287 : decode cX16_other 287 = .ok (.ifCond .eq 17, 3) := dk_153 0 17 (dk_at dksX16_other_12 2 rfl rfl)
theorem dX16_other_290 : decode cX16_other 290 = .ok (.aload_n 0, 1) := dk_42 (dk_at dksX16_other_12 5 rfl rfl)
theorem dX16_other_291 : decode cX16_other 291 = .ok (.iconst 1, 1) := dk_4 (dk_at dksX16_other_12 6 rfl rfl)
theorem dX16_other_292 : decode cX16_other 292 = .ok (.bipush 6, 2) := dk_16 6 (dk_at dksX16_other_12 7 rfl rfl)
theorem dX16_other_294 : decode cX16_other 294 = .ok (.invokevirtual 278, 3) := dk_182 1 22 (dk_at dksX16_other_12 9 rfl rfl)
theorem dX16_other_297 : decode cX16_other 297 = .ok (.ifCond .eq 7, 3) := dk_153 0 7 (dk_at dksX16_other_12 12 rfl rfl)
theorem dX16_other_300 : decode cX16_other 300 = .ok (.iconst 1, 1) := dk_4 (dk_at dksX16_other_12 15 rfl rfl)
theorem dX16_other_301 : decode cX16_other 301 = .ok (.goto 4, 3) := dk_167 0 4 (dk_at dksX16_other_12 16 rfl rfl)
theorem dX16_other_304 : decode cX16_other 304 = .ok (.iconst 0, 1) := dk_3 (dk_at dksX16_other_12 19 rfl rfl)
theorem dX16_other_305 : decode cX16_other 305 = .ok (.iload_n 2, 1) := dk_28 (dk_at dksX16_other_12 20 rfl rfl)
theorem dX16_other_306 : decode cX16_other 306 = .ok (.iload 5, 2) := dk_21 5 (dk_at dksX16_other_12 21 rfl rfl)
theorem dX16_other_308 : decode cX16_other 308 = .ok (.iconst 0, 1) := dk_3 (dk_at dksX16_other_12 23 rfl rfl)
theorem dX16_other_309 : decode cX16_other 309 = .ok (.iconst 0, 1) := dk_3 (dk_at dksX16_other_13 0 rfl rfl)
theorem dX16_other_310 : decode cX16_other 310 = .ok (.invokevirtual 274, 3) := dk_182 1 18 (dk_at dksX16_other_13 1 rfl rfl)
theorem dX16_other_313 : decode cX16_other 313 = .ok (.ireturn, 1) := dk_172 (dk_at dksX16_other_13 4 rfl rfl)
theorem dX16_other_314 : decode cX16_other 314 = .ok (.iload_n 3, 1) := dk_29 (dk_at dksX16_other_13 5 rfl rfl)
theorem dX16_other_315 : decode cX16_other 315 = .ok (.iconst 1, 1) := dk_4 (dk_at dksX16_other_13 6 rfl rfl)
theorem dX16_other_316 : decode cX16_other 316 = .ok (.if_icmp .ne 12, 3) := dk_160 0 12 (dk_at dksX16_other_13 7 rfl rfl)
theorem dX16_other_319 : decode cX16_other 319 = .ok (.aload_n 0, 1) := dk_42 (dk_at dksX16_other_13 10 rfl rfl)
theorem dX16_other_320 : decode cX16_other 320 = .ok (.iload_n 1, 1) := dk_27 (dk_at dksX16_other_13 11 rfl rfl)
theorem dX16_other_321 : decode cX16_other 321 = .ok (.iconst 0, 1) := dk_3 (dk_at dksX16_other_13 12 rfl rfl)
theorem dX16_other_322 : decode cX16_other 322 = .ok (.invokevirtual 285, 3) := dk_182 1 29 (dk_at dksX16_other_13 13 rfl rfl)
theorem dX16_other_325 : decode cX16_other 325 = .ok (.goto 4, 3) := dk_167 0 4 (dk_at dksX16_other_13 16 rfl rfl)
theorem dX16_other_328 : decode cX16_other 328 = .ok (.iconst (-1), 1) := dk_2 (dk_at dksX16_other_13 19 rfl rfl)
theorem dX16_other_329 : decode cX16_other 329 = .ok (.istore 4, 2) := dk_54 4 (dk_at dksX16_other_13 20 rfl rfl)
theorem dX16_other_331 : decode cX16_other 331 = .ok (.iload 4, 2) := dk_21 4 (dk_at dksX16_other_13 22 rfl rfl)
theorem dX16_other_333 : decode cX16_other 333 = .ok (.ifCond .lt 30, 3) := dk_155 0 30 (dk_at dksX16_other_14 0 rfl rfl)
theorem dX16_other_336 : decode cX16_other 336 = .ok (.aload_n 0, 1) := dk_42 (dk_at dksX16_other_14 3 rfl rfl)
theorem dX16_other_337 : decode cX16_other 337 = .ok (.getfield 32, 3) := dk_180 0 32 (dk_at dksX16_other_14 4 rfl rfl)
theorem dX16_other_340 : decode cX16_other 340 = .ok (.iload 4, 2) := dk_21 4 (dk_at dksX16_other_14 7 rfl rfl)
theorem dX16_other_342 : decode cX16_other 342 = .ok (.iconst 2, 1) := dk_5 (dk_at dksX16_other_14 9 rfl rfl)
theorem dX16_other_343 : decode cX16_other 343 = .ok (.invokevirtual 120, 3) := dk_182 0 120 (dk_at dksX16_other_14 10 rfl rfl)
theorem dX16_other_346 : decode cX16_other 346 = .ok (.ifCond .eq 17, 3) := dk_153 0 17 (dk_at dksX16_other_14 13 rfl rfl)
theorem dX16_other_349 : decode cX16_other 349 = .ok (.aload_n 0, 1) := dk_42 (dk_at dksX16_other_14 16 rfl rfl)
theorem dX16_other_350 : decode cX16_other 350 = .ok (.iconst 0, 1) := dk_3 (dk_at dksX16_other_14 17 rfl rfl)
theorem dX16_other_351 : decode cX16_other 351 = .ok (.invokevirtual 304, 3) := dk_182 1 48 (dk_at dksX16_other_14 18 rfl rfl)
theorem dX16_other_354 : decode cX16_other 354 = .ok (.bipush 6, 2) := dk_16 6 (dk_at dksX16_other_14 21 rfl rfl)
theorem dX16_other_356 : decode cX16_other 356 = .ok (.if_icmp .ne 7, 3) := dk_160 0 7 (dk_at dksX16_other_15 0 rfl rfl)
theorem dX16_other_359 : decode cX16_other 359 = .ok (.iconst 1, 1) := dk_4 (dk_at dksX16_other_15 3 rfl rfl)
theorem dX16_other_360 : decode cX16_other 360 = .ok (.goto 4, 3) := dk_167 0 4 (dk_at dksX16_other_15 4 rfl rfl)
theorem dX16_other_363 : decode cX16_other 363 = .ok (.iconst 0, 1) := dk_3 (dk_at dksX16_other_15 7 rfl rfl)
theorem dX16_other_364 : decode cX16_other 364 = .ok (.istore 5, 2) := dk_54 5 (dk_at dksX16_other_15 8 rfl rfl)
theorem dX16_other_366 : decode cX16_other 366 = .ok (.aload_n 0, 1) := dk_42 (dk_at dksX16_other_15 10 rfl rfl)
theorem dX16_other_367 : decode cX16_other 367 = .ok (.iload 5, 2) := dk_21 5 (dk_at dksX16_other_15 11 rfl rfl)
theorem dX16_other_369 : decode cX16_other 369 = .ok (.ifCond .eq 24, 3) := dk_153 0 24 (dk_at dksX16_other_15 13 rfl rfl)
theorem dX16_other_372 : decode cX16_other 372 = .ok (.aload_n 0, 1) := dk_42 (dk_at dksX16_other_15 16 rfl rfl)
theorem dX16_other_373 : decode cX16_other 373 = .ok (.iconst 1, 1) := dk_4 (dk_at dksX16_other_15 17 rfl rfl)
theorem dX16_other_374 : decode cX16_other 374 = .ok (.aload_n 0, 1) := dk_42 (dk_at dksX16_other_15 18 rfl rfl)
theorem dX16_other_375 : decode cX16_other 375 = .ok (.getfield 32, 3) := dk_180 0 32 (dk_at dksX16_other_15 19 rfl rfl)
theorem dX16_other_378 : decode cX16_other 378 = .ok (.iload 4, 2) := dk_21 4 (dk_at dksX16_other_15 22 rfl rfl)
theorem dX16_other_380 : decode cX16_other 380 = .ok (.invokevirtual 313, 3) := dk_182 1 57 (dk_at dksX16_other_16 0 rfl rfl)
theorem dX16_other_383 : decode cX16_other 383 = .ok (.invokevirtual 278, 3) := dk_182 1 22 (dk_at dksX16_other_16 3 rfl rfl)
theorem dX16_other_386 : decode cX16_other 386 = .ok (.ifCond .eq 7, 3) := dk_153 0 7 (dk_at dksX16_other_16 6 rfl rfl)
theorem dX16_other_389 : decode cX16_other 389 = .ok (.iconst 1, 1) := dk_4 (dk_at dksX16_other_16 9 rfl rfl)
theorem dX16_other_390 : decode cX16_other 390 = .ok (.goto 4, 3) := dk_167 0 4 (dk_at dksX16_other_16 10 rfl rfl)
theorem dX16_other_393 : decode cX16_other 393 = .ok (.iconst 0, 1) := dk_3 (dk_at dksX16_other_16 13 rfl rfl)
theorem dX16_other_394 : decode cX16_other 394 = .ok (.iload_n 2, 1) := dk_28 (dk_at dksX16_other_16 14 rfl rfl)
theorem dX16_other_395 : decode cX16_other 395 = .ok (.iload 4, 2) := dk_21 4 (dk_at dksX16_other_16 15 rfl rfl)
theorem dX16_other_397 : decode cX16_other 397 = .ok (.iconst 0, 1) := dk_3 (dk_at dksX16_other_16 17 rfl rfl)
theorem dX16_other_398 : decode cX16_other 398 = .ok (.iconst 0, 1) := dk_3 (dk_at dksX16_other_16 18 rfl rfl)
theorem dX16_other_399 : decode cX16_other 399 = .ok (.invokevirtual 274, 3) := dk_182 1 18 (dk_at dksX16_other_16 19 rfl rfl)
theorem dX16_other_402 : decode cX16_other 402 = .ok (.ireturn, 1) := dk_172 (dk_at dksX16_other_16 22 rfl rfl)
theorem dX16_other_403 : decode cX16_other 403 = .ok (.aload_n 0, 1) := dk_42 (dk_at dksX16_other_16 23 rfl rfl)
theorem dX16_other_404 : decode cX16_other 404 = .ok (.iload_n 1, 1) := dk_27 (dk_at dksX16_other_17 0 rfl rfl)
theorem dX16_other_405 : decode cX16_other 405 = .ok (.iload_n 2, 1) := dk_28 (dk_at dksX16_other_17 1 rfl rfl)
theorem dX16_other_406 : decode cX16_other 406 = .ok (.iload_n 3, 1) := dk_29 (dk_at dksX16_other_17 2 rfl rfl)
theorem dX16_other_407 : decode cX16_other 407 = .ok (.invokevirtual 381, 3) := dk_182 1 125 (dk_at dksX16_other_17 3 rfl rfl)
theorem dX16_other_410 : decode cX16_other 410 = .ok (.ireturn, 1) := dk_172 (dk_at dksX16_other_17 6 rfl rfl)
abbrev cX16_concat : ByteArray := prog_21_method_49_code
def yX16_concat : MethodName := ⟨RX16, "concat", "()I"⟩
def dkwX16_concat_4 : List UInt8 := [182, 1, 18, 172]
abbrev dktX16_concat_4 : List UInt8 := dkwX16_concat_4 ++ []
def dkwX16_concat_3 : List UInt8 := [160, 0, 16, 42, 5, 27, 182, 1, 22, 153, 0, 7, 4, 167, 0, 4, 3, 16, 86, 2, 3, 3]
abbrev dktX16_concat_3 : List UInt8 := dkwX16_concat_3 ++ dktX16_concat_4
def dkwX16_concat_2 : List UInt8 := [3, 16, 86, 3, 3, 3, 182, 1, 18, 172, 42, 27, 184, 1, 119, 153, 0, 25, 42, 4, 182, 1, 48, 27]
abbrev dktX16_concat_2 : List UInt8 := dkwX16_concat_2 ++ dktX16_concat_3
def dkwX16_concat_1 : List UInt8 := [180, 0, 163, 28, 51, 184, 1, 119, 153, 0, 16, 42, 4, 28, 182, 1, 22, 153, 0, 7, 4, 167, 0, 4]
abbrev dktX16_concat_1 : List UInt8 := dkwX16_concat_1 ++ dktX16_concat_2
def dkwX16_concat_0 : List UInt8 := [42, 3, 182, 1, 48, 60, 27, 16, 11, 160, 0, 48, 42, 3, 182, 1, 51, 61, 42, 42, 180, 0, 32]
abbrev dktX16_concat_0 : List UInt8 := dkwX16_concat_0 ++ dktX16_concat_1
theorem dksX16_concat_0 : cX16_concat.data.toList.drop 0 = dktX16_concat_0 := by decide +kernel
theorem dksX16_concat_1 : cX16_concat.data.toList.drop 23 = dktX16_concat_1 := dk_seg dksX16_concat_0 23 rfl rfl
theorem dksX16_concat_2 : cX16_concat.data.toList.drop 47 = dktX16_concat_2 := dk_seg dksX16_concat_1 24 rfl rfl
theorem dksX16_concat_3 : cX16_concat.data.toList.drop 71 = dktX16_concat_3 := dk_seg dksX16_concat_2 24 rfl rfl
theorem dksX16_concat_4 : cX16_concat.data.toList.drop 93 = dktX16_concat_4 := dk_seg dksX16_concat_3 22 rfl rfl
theorem dX16_concat_0 : decode cX16_concat 0 = .ok (.aload_n 0, 1) := dk_42 (dk_at dksX16_concat_0 0 rfl rfl)
theorem dX16_concat_1 : decode cX16_concat 1 = .ok (.iconst 0, 1) := dk_3 (dk_at dksX16_concat_0 1 rfl rfl)
theorem dX16_concat_2 : decode cX16_concat 2 = .ok (.invokevirtual 304, 3) := dk_182 1 48 (dk_at dksX16_concat_0 2 rfl rfl)
theorem dX16_concat_5 : decode cX16_concat 5 = .ok (.istore_n 1, 1) := dk_60 (dk_at dksX16_concat_0 5 rfl rfl)
theorem dX16_concat_6 : decode cX16_concat 6 = .ok (.iload_n 1, 1) := dk_27 (dk_at dksX16_concat_0 6 rfl rfl)
theorem dX16_concat_7 : decode cX16_concat 7 = .ok (.bipush 11, 2) := dk_16 11 (dk_at dksX16_concat_0 7 rfl rfl)
theorem dX16_concat_9 : decode cX16_concat 9 = .ok (.if_icmp .ne 48, 3) := dk_160 0 48 (dk_at dksX16_concat_0 9 rfl rfl)
theorem dX16_concat_12 : decode cX16_concat 12 = .ok (.aload_n 0, 1) := dk_42 (dk_at dksX16_concat_0 12 rfl rfl)
theorem dX16_concat_13 : decode cX16_concat 13 = .ok (.iconst 0, 1) := dk_3 (dk_at dksX16_concat_0 13 rfl rfl)
theorem dX16_concat_14 : decode cX16_concat 14 = .ok (.invokevirtual 307, 3) := dk_182 1 51 (dk_at dksX16_concat_0 14 rfl rfl)
theorem dX16_concat_17 : decode cX16_concat 17 = .ok (.istore_n 2, 1) := dk_61 (dk_at dksX16_concat_0 17 rfl rfl)
theorem dX16_concat_18 : decode cX16_concat 18 = .ok (.aload_n 0, 1) := dk_42 (dk_at dksX16_concat_0 18 rfl rfl)
theorem dX16_concat_19 : decode cX16_concat 19 = .ok (.aload_n 0, 1) := dk_42 (dk_at dksX16_concat_0 19 rfl rfl)
theorem dX16_concat_20 : decode cX16_concat 20 = .ok (.getfield 32, 3) := dk_180 0 32 (dk_at dksX16_concat_0 20 rfl rfl)
theorem dX16_concat_23 : decode cX16_concat 23 = .ok (.getfield 163, 3) := dk_180 0 163 (dk_at dksX16_concat_1 0 rfl rfl)
theorem dX16_concat_26 : decode cX16_concat 26 = .ok (.iload_n 2, 1) := dk_28 (dk_at dksX16_concat_1 3 rfl rfl)
theorem dX16_concat_27 : decode cX16_concat 27 = .ok (.baload, 1) := dk_51 (dk_at dksX16_concat_1 4 rfl rfl)
theorem dX16_concat_28 : decode cX16_concat 28 = .ok (.invokestatic 375, 3) := dk_184 1 119 (dk_at dksX16_concat_1 5 rfl rfl)
theorem dX16_concat_31 : decode cX16_concat 31 = .ok (.ifCond .eq 16, 3) := dk_153 0 16 (dk_at dksX16_concat_1 8 rfl rfl)
theorem dX16_concat_34 : decode cX16_concat 34 = .ok (.aload_n 0, 1) := dk_42 (dk_at dksX16_concat_1 11 rfl rfl)
theorem dX16_concat_35 : decode cX16_concat 35 = .ok (.iconst 1, 1) := dk_4 (dk_at dksX16_concat_1 12 rfl rfl)
theorem dX16_concat_36 : decode cX16_concat 36 = .ok (.iload_n 2, 1) := dk_28 (dk_at dksX16_concat_1 13 rfl rfl)
theorem dX16_concat_37 : decode cX16_concat 37 = .ok (.invokevirtual 278, 3) := dk_182 1 22 (dk_at dksX16_concat_1 14 rfl rfl)
theorem dX16_concat_40 : decode cX16_concat 40 = .ok (.ifCond .eq 7, 3) := dk_153 0 7 (dk_at dksX16_concat_1 17 rfl rfl)
theorem dX16_concat_43 : decode cX16_concat 43 = .ok (.iconst 1, 1) := dk_4 (dk_at dksX16_concat_1 20 rfl rfl)
theorem dX16_concat_44 : decode cX16_concat 44 = .ok (.goto 4, 3) := dk_167 0 4 (dk_at dksX16_concat_1 21 rfl rfl)
theorem dX16_concat_47 : decode cX16_concat 47 = .ok (.iconst 0, 1) := dk_3 (dk_at dksX16_concat_2 0 rfl rfl)
theorem dX16_concat_48 : decode cX16_concat 48 = .ok (.bipush 86, 2) := dk_16 86 (dk_at dksX16_concat_2 1 rfl rfl)
theorem dX16_concat_50 : decode cX16_concat 50 = .ok (.iconst 0, 1) := dk_3 (dk_at dksX16_concat_2 3 rfl rfl)
theorem dX16_concat_51 : decode cX16_concat 51 = .ok (.iconst 0, 1) := dk_3 (dk_at dksX16_concat_2 4 rfl rfl)
theorem dX16_concat_52 : decode cX16_concat 52 = .ok (.iconst 0, 1) := dk_3 (dk_at dksX16_concat_2 5 rfl rfl)
theorem dX16_concat_53 : decode cX16_concat 53 = .ok (.invokevirtual 274, 3) := dk_182 1 18 (dk_at dksX16_concat_2 6 rfl rfl)
theorem dX16_concat_56 : decode cX16_concat 56 = .ok (.ireturn, 1) := dk_172 (dk_at dksX16_concat_2 9 rfl rfl)
theorem dX16_concat_57 : decode cX16_concat 57 = .ok (.aload_n 0, 1) := dk_42 (dk_at dksX16_concat_2 10 rfl rfl)
theorem dX16_concat_58 : decode cX16_concat 58 = .ok (.iload_n 1, 1) := dk_27 (dk_at dksX16_concat_2 11 rfl rfl)
theorem dX16_concat_59 : decode cX16_concat 59 = .ok (.invokestatic 375, 3) := dk_184 1 119 (dk_at dksX16_concat_2 12 rfl rfl)
theorem dX16_concat_62 : decode cX16_concat 62 = .ok (.ifCond .eq 25, 3) := dk_153 0 25 (dk_at dksX16_concat_2 15 rfl rfl)
theorem dX16_concat_65 : decode cX16_concat 65 = .ok (.aload_n 0, 1) := dk_42 (dk_at dksX16_concat_2 18 rfl rfl)
theorem dX16_concat_66 : decode cX16_concat 66 = .ok (.iconst 1, 1) := dk_4 (dk_at dksX16_concat_2 19 rfl rfl)
theorem dX16_concat_67 : decode cX16_concat 67 = .ok (.invokevirtual 304, 3) := dk_182 1 48 (dk_at dksX16_concat_2 20 rfl rfl)
theorem dX16_concat_70 : decode cX16_concat 70 = .ok (.iload_n 1, 1) := dk_27 (dk_at dksX16_concat_2 23 rfl rfl)
theorem dX16_concat_71 : decode cX16_concat 71 = .ok (.if_icmp .ne 16, 3) := dk_160 0 16 (dk_at dksX16_concat_3 0 rfl rfl)
theorem dX16_concat_74 : decode cX16_concat 74 = .ok (.aload_n 0, 1) := dk_42 (dk_at dksX16_concat_3 3 rfl rfl)
theorem dX16_concat_75 : decode cX16_concat 75 = .ok (.iconst 2, 1) := dk_5 (dk_at dksX16_concat_3 4 rfl rfl)
theorem dX16_concat_76 : decode cX16_concat 76 = .ok (.iload_n 1, 1) := dk_27 (dk_at dksX16_concat_3 5 rfl rfl)
theorem dX16_concat_77 : decode cX16_concat 77 = .ok (.invokevirtual 278, 3) := dk_182 1 22 (dk_at dksX16_concat_3 6 rfl rfl)
theorem dX16_concat_80 : decode cX16_concat 80 = .ok (.ifCond .eq 7, 3) := dk_153 0 7 (dk_at dksX16_concat_3 9 rfl rfl)
theorem dX16_concat_83 : decode cX16_concat 83 = .ok (.iconst 1, 1) := dk_4 (dk_at dksX16_concat_3 12 rfl rfl)
theorem dX16_concat_84 : decode cX16_concat 84 = .ok (.goto 4, 3) := dk_167 0 4 (dk_at dksX16_concat_3 13 rfl rfl)
theorem dX16_concat_87 : decode cX16_concat 87 = .ok (.iconst 0, 1) := dk_3 (dk_at dksX16_concat_3 16 rfl rfl)
theorem dX16_concat_88 : decode cX16_concat 88 = .ok (.bipush 86, 2) := dk_16 86 (dk_at dksX16_concat_3 17 rfl rfl)
theorem dX16_concat_90 : decode cX16_concat 90 = .ok (.iconst (-1), 1) := dk_2 (dk_at dksX16_concat_3 19 rfl rfl)
theorem dX16_concat_91 : decode cX16_concat 91 = .ok (.iconst 0, 1) := dk_3 (dk_at dksX16_concat_3 20 rfl rfl)
theorem dX16_concat_92 : decode cX16_concat 92 = .ok (.iconst 0, 1) := dk_3 (dk_at dksX16_concat_3 21 rfl rfl)
theorem dX16_concat_93 : decode cX16_concat 93 = .ok (.invokevirtual 274, 3) := dk_182 1 18 (dk_at dksX16_concat_4 0 rfl rfl)
theorem dX16_concat_96 : decode cX16_concat 96 = .ok (.ireturn, 1) := dk_172 (dk_at dksX16_concat_4 3 rfl rfl)
abbrev cX16_isText : ByteArray := prog_21_method_48_code
def yX16_isText : MethodName := ⟨RX16, "isText", "(I)Z"⟩
def dkwX16_isText_0 : List UInt8 := [26, 8, 159, 0, 9, 26, 16, 6, 160, 0, 7, 4, 167, 0, 4, 3, 172]
abbrev dktX16_isText_0 : List UInt8 := dkwX16_isText_0 ++ []
theorem dksX16_isText_0 : cX16_isText.data.toList.drop 0 = dktX16_isText_0 := by decide +kernel
theorem dX16_isText_0 : decode cX16_isText 0 = .ok (.iload_n 0, 1) := dk_26 (dk_at dksX16_isText_0 0 rfl rfl)
theorem dX16_isText_1 : decode cX16_isText 1 = .ok (.iconst 5, 1) := dk_8 (dk_at dksX16_isText_0 1 rfl rfl)
theorem dX16_isText_2 : decode cX16_isText 2 = .ok (.if_icmp .eq 9, 3) := dk_159 0 9 (dk_at dksX16_isText_0 2 rfl rfl)
theorem dX16_isText_5 : decode cX16_isText 5 = .ok (.iload_n 0, 1) := dk_26 (dk_at dksX16_isText_0 5 rfl rfl)
theorem dX16_isText_6 : decode cX16_isText 6 = .ok (.bipush 6, 2) := dk_16 6 (dk_at dksX16_isText_0 6 rfl rfl)
theorem dX16_isText_8 : decode cX16_isText 8 = .ok (.if_icmp .ne 7, 3) := dk_160 0 7 (dk_at dksX16_isText_0 8 rfl rfl)
theorem dX16_isText_11 : decode cX16_isText 11 = .ok (.iconst 1, 1) := dk_4 (dk_at dksX16_isText_0 11 rfl rfl)
theorem dX16_isText_12 : decode cX16_isText 12 = .ok (.goto 4, 3) := dk_167 0 4 (dk_at dksX16_isText_0 12 rfl rfl)
theorem dX16_isText_15 : decode cX16_isText 15 = .ok (.iconst 0, 1) := dk_3 (dk_at dksX16_isText_0 15 rfl rfl)
theorem dX16_isText_16 : decode cX16_isText 16 = .ok (.ireturn, 1) := dk_172 (dk_at dksX16_isText_0 16 rfl rfl)
abbrev cX16_keyed : ByteArray := prog_21_method_50_code
def yX16_keyed : MethodName := ⟨RX16, "keyed", "(I)I"⟩
def dkwX16_keyed_13 : List UInt8 := [21, 9, 3, 182, 1, 18, 172]
abbrev dktX16_keyed_13 : List UInt8 := dkwX16_keyed_13 ++ []
def dkwX16_keyed_12 : List UInt8 := [182, 1, 22, 153, 0, 17, 42, 3, 21, 8, 182, 1, 22, 153, 0, 7, 4, 167, 0, 4, 3, 27, 21, 7]
abbrev dktX16_keyed_12 : List UInt8 := dkwX16_keyed_12 ++ dktX16_keyed_13
def dkwX16_keyed_11 : List UInt8 := [21, 9, 3, 182, 1, 18, 172, 42, 89, 180, 0, 56, 6, 100, 181, 0, 56, 42, 42, 3, 21, 6]
abbrev dktX16_keyed_11 : List UInt8 := dkwX16_keyed_11 ++ dktX16_keyed_12
def dkwX16_keyed_10 : List UInt8 := [182, 1, 22, 27, 21, 7, 21, 9, 3, 182, 1, 18, 172, 42, 42, 6, 21, 6, 182, 1, 22, 27, 21, 7]
abbrev dktX16_keyed_10 : List UInt8 := dkwX16_keyed_10 ++ dktX16_keyed_11
def dkwX16_keyed_9 : List UInt8 := [42, 42, 5, 4, 182, 1, 22, 27, 21, 7, 21, 9, 3, 182, 1, 18, 172, 42, 42, 5, 21, 8]
abbrev dktX16_keyed_9 : List UInt8 := dkwX16_keyed_9 ++ dktX16_keyed_10
def dkwX16_keyed_8 : List UInt8 := [170, 0, 0, 0, 0, 0, 0, 81, 0, 0, 0, 89, 0, 0, 0, 91, 0, 0, 0, 28, 0, 0, 0, 45, 0, 0, 0, 63]
abbrev dktX16_keyed_8 : List UInt8 := dkwX16_keyed_8 ++ dktX16_keyed_9
def dkwX16_keyed_7 : List UInt8 := [182, 0, 209, 21, 5, 153, 0, 8, 21, 8, 167, 0, 4, 4, 159, 0, 5, 3, 172, 27]
abbrev dktX16_keyed_7 : List UInt8 := dkwX16_keyed_7 ++ dktX16_keyed_8
def dkwX16_keyed_6 : List UInt8 := [167, 0, 4, 4, 54, 9, 21, 5, 153, 0, 8, 21, 8, 155, 0, 26, 28, 153, 0, 24, 42, 4]
abbrev dktX16_keyed_6 : List UInt8 := dkwX16_keyed_6 ++ dktX16_keyed_7
def dkwX16_keyed_5 : List UInt8 := [180, 0, 32, 42, 29, 182, 1, 54, 182, 1, 57, 167, 0, 4, 2, 54, 8, 21, 5, 153, 0, 7, 5]
abbrev dktX16_keyed_5 : List UInt8 := dkwX16_keyed_5 ++ dktX16_keyed_6
def dkwX16_keyed_4 : List UInt8 := [3, 172, 42, 29, 182, 0, 209, 54, 6, 42, 3, 182, 0, 209, 54, 7, 21, 5, 153, 0, 18, 42]
abbrev dktX16_keyed_4 : List UInt8 := dkwX16_keyed_4 ++ dktX16_keyed_5
def dkwX16_keyed_3 : List UInt8 := [16, 90, 159, 0, 22, 27, 16, 92, 159, 0, 16, 42, 29, 182, 1, 51, 42, 3, 182, 0, 209, 159, 0, 5]
abbrev dktX16_keyed_3 : List UInt8 := dkwX16_keyed_3 ++ dktX16_keyed_4
def dkwX16_keyed_2 : List UInt8 := [160, 0, 7, 4, 167, 0, 4, 3, 54, 5, 21, 5, 154, 0, 22, 21, 4, 16, 12, 160, 0, 28, 27]
abbrev dktX16_keyed_2 : List UInt8 := dkwX16_keyed_2 ++ dktX16_keyed_3
def dkwX16_keyed_1 : List UInt8 := [167, 0, 4, 4, 62, 42, 29, 182, 1, 48, 54, 4, 21, 4, 16, 15, 159, 0, 10, 21, 4, 16, 16]
abbrev dktX16_keyed_1 : List UInt8 := dkwX16_keyed_1 ++ dktX16_keyed_2
def dkwX16_keyed_0 : List UInt8 := [27, 16, 91, 159, 0, 9, 27, 16, 92, 160, 0, 7, 4, 167, 0, 4, 3, 61, 28, 153, 0, 7, 5]
abbrev dktX16_keyed_0 : List UInt8 := dkwX16_keyed_0 ++ dktX16_keyed_1
theorem dksX16_keyed_0 : cX16_keyed.data.toList.drop 0 = dktX16_keyed_0 := by decide +kernel
theorem dksX16_keyed_1 : cX16_keyed.data.toList.drop 23 = dktX16_keyed_1 := dk_seg dksX16_keyed_0 23 rfl rfl
theorem dksX16_keyed_2 : cX16_keyed.data.toList.drop 46 = dktX16_keyed_2 := dk_seg dksX16_keyed_1 23 rfl rfl
theorem dksX16_keyed_3 : cX16_keyed.data.toList.drop 69 = dktX16_keyed_3 := dk_seg dksX16_keyed_2 23 rfl rfl
theorem dksX16_keyed_4 : cX16_keyed.data.toList.drop 93 = dktX16_keyed_4 := dk_seg dksX16_keyed_3 24 rfl rfl
theorem dksX16_keyed_5 : cX16_keyed.data.toList.drop 115 = dktX16_keyed_5 := dk_seg dksX16_keyed_4 22 rfl rfl
theorem dksX16_keyed_6 : cX16_keyed.data.toList.drop 138 = dktX16_keyed_6 := dk_seg dksX16_keyed_5 23 rfl rfl
theorem dksX16_keyed_7 : cX16_keyed.data.toList.drop 160 = dktX16_keyed_7 := dk_seg dksX16_keyed_6 22 rfl rfl
theorem dksX16_keyed_8 : cX16_keyed.data.toList.drop 180 = dktX16_keyed_8 := dk_seg dksX16_keyed_7 20 rfl rfl
theorem dksX16_keyed_9 : cX16_keyed.data.toList.drop 208 = dktX16_keyed_9 := dk_seg dksX16_keyed_8 28 rfl rfl
theorem dksX16_keyed_10 : cX16_keyed.data.toList.drop 230 = dktX16_keyed_10 := dk_seg dksX16_keyed_9 22 rfl rfl
theorem dksX16_keyed_11 : cX16_keyed.data.toList.drop 254 = dktX16_keyed_11 := dk_seg dksX16_keyed_10 24 rfl rfl
theorem dksX16_keyed_12 : cX16_keyed.data.toList.drop 276 = dktX16_keyed_12 := dk_seg dksX16_keyed_11 22 rfl rfl
theorem dksX16_keyed_13 : cX16_keyed.data.toList.drop 300 = dktX16_keyed_13 := dk_seg dksX16_keyed_12 24 rfl rfl
theorem dX16_keyed_0 : decode cX16_keyed 0 = .ok (.iload_n 1, 1) := dk_27 (dk_at dksX16_keyed_0 0 rfl rfl)
theorem dX16_keyed_1 : decode cX16_keyed 1 = .ok (.bipush 91, 2) := dk_16 91 (dk_at dksX16_keyed_0 1 rfl rfl)
theorem dX16_keyed_3 : decode cX16_keyed 3 = .ok (.if_icmp .eq 9, 3) := dk_159 0 9 (dk_at dksX16_keyed_0 3 rfl rfl)
theorem dX16_keyed_6 : decode cX16_keyed 6 = .ok (.iload_n 1, 1) := dk_27 (dk_at dksX16_keyed_0 6 rfl rfl)
theorem dX16_keyed_7 : decode cX16_keyed 7 = .ok (.bipush 92, 2) := dk_16 92 (dk_at dksX16_keyed_0 7 rfl rfl)
theorem dX16_keyed_9 : decode cX16_keyed 9 = .ok (.if_icmp .ne 7, 3) := dk_160 0 7 (dk_at dksX16_keyed_0 9 rfl rfl)
theorem dX16_keyed_12 : decode cX16_keyed 12 = .ok (.iconst 1, 1) := dk_4 (dk_at dksX16_keyed_0 12 rfl rfl)
theorem dX16_keyed_13 : decode cX16_keyed 13 = .ok (.goto 4, 3) := dk_167 0 4 (dk_at dksX16_keyed_0 13 rfl rfl)
theorem dX16_keyed_16 : decode cX16_keyed 16 = .ok (.iconst 0, 1) := dk_3 (dk_at dksX16_keyed_0 16 rfl rfl)
theorem dX16_keyed_17 : decode cX16_keyed 17 = .ok (.istore_n 2, 1) := dk_61 (dk_at dksX16_keyed_0 17 rfl rfl)
theorem dX16_keyed_18 : decode cX16_keyed 18 = .ok (.iload_n 2, 1) := dk_28 (dk_at dksX16_keyed_0 18 rfl rfl)
theorem dX16_keyed_19 : decode cX16_keyed 19 = .ok (.ifCond .eq 7, 3) := dk_153 0 7 (dk_at dksX16_keyed_0 19 rfl rfl)
theorem dX16_keyed_22 : decode cX16_keyed 22 = .ok (.iconst 2, 1) := dk_5 (dk_at dksX16_keyed_0 22 rfl rfl)
theorem dX16_keyed_23 : decode cX16_keyed 23 = .ok (.goto 4, 3) := dk_167 0 4 (dk_at dksX16_keyed_1 0 rfl rfl)
theorem dX16_keyed_26 : decode cX16_keyed 26 = .ok (.iconst 1, 1) := dk_4 (dk_at dksX16_keyed_1 3 rfl rfl)
theorem dX16_keyed_27 : decode cX16_keyed 27 = .ok (.istore_n 3, 1) := dk_62 (dk_at dksX16_keyed_1 4 rfl rfl)
theorem dX16_keyed_28 : decode cX16_keyed 28 = .ok (.aload_n 0, 1) := dk_42 (dk_at dksX16_keyed_1 5 rfl rfl)
theorem dX16_keyed_29 : decode cX16_keyed 29 = .ok (.iload_n 3, 1) := dk_29 (dk_at dksX16_keyed_1 6 rfl rfl)
theorem dX16_keyed_30 : decode cX16_keyed 30 = .ok (.invokevirtual 304, 3) := dk_182 1 48 (dk_at dksX16_keyed_1 7 rfl rfl)
theorem dX16_keyed_33 : decode cX16_keyed 33 = .ok (.istore 4, 2) := dk_54 4 (dk_at dksX16_keyed_1 10 rfl rfl)
theorem dX16_keyed_35 : decode cX16_keyed 35 = .ok (.iload 4, 2) := dk_21 4 (dk_at dksX16_keyed_1 12 rfl rfl)
theorem dX16_keyed_37 : decode cX16_keyed 37 = .ok (.bipush 15, 2) := dk_16 15 (dk_at dksX16_keyed_1 14 rfl rfl)
theorem dX16_keyed_39 : decode cX16_keyed 39 = .ok (.if_icmp .eq 10, 3) := dk_159 0 10 (dk_at dksX16_keyed_1 16 rfl rfl)
theorem dX16_keyed_42 : decode cX16_keyed 42 = .ok (.iload 4, 2) := dk_21 4 (dk_at dksX16_keyed_1 19 rfl rfl)
theorem dX16_keyed_44 : decode cX16_keyed 44 = .ok (.bipush 16, 2) := dk_16 16 (dk_at dksX16_keyed_1 21 rfl rfl)
theorem dX16_keyed_46 : decode cX16_keyed 46 = .ok (.if_icmp .ne 7, 3) := dk_160 0 7 (dk_at dksX16_keyed_2 0 rfl rfl)
theorem dX16_keyed_49 : decode cX16_keyed 49 = .ok (.iconst 1, 1) := dk_4 (dk_at dksX16_keyed_2 3 rfl rfl)
theorem dX16_keyed_50 : decode cX16_keyed 50 = .ok (.goto 4, 3) := dk_167 0 4 (dk_at dksX16_keyed_2 4 rfl rfl)
theorem dX16_keyed_53 : decode cX16_keyed 53 = .ok (.iconst 0, 1) := dk_3 (dk_at dksX16_keyed_2 7 rfl rfl)
theorem dX16_keyed_54 : decode cX16_keyed 54 = .ok (.istore 5, 2) := dk_54 5 (dk_at dksX16_keyed_2 8 rfl rfl)
theorem dX16_keyed_56 : decode cX16_keyed 56 = .ok (.iload 5, 2) := dk_21 5 (dk_at dksX16_keyed_2 10 rfl rfl)
theorem dX16_keyed_58 : decode cX16_keyed 58 = .ok (.ifCond .ne 22, 3) := dk_154 0 22 (dk_at dksX16_keyed_2 12 rfl rfl)
theorem dX16_keyed_61 : decode cX16_keyed 61 = .ok (.iload 4, 2) := dk_21 4 (dk_at dksX16_keyed_2 15 rfl rfl)
theorem dX16_keyed_63 : decode cX16_keyed 63 = .ok (.bipush 12, 2) := dk_16 12 (dk_at dksX16_keyed_2 17 rfl rfl)
theorem dX16_keyed_65 : decode cX16_keyed 65 = .ok (.if_icmp .ne 28, 3) := dk_160 0 28 (dk_at dksX16_keyed_2 19 rfl rfl)
theorem dX16_keyed_68 : decode cX16_keyed 68 = .ok (.iload_n 1, 1) := dk_27 (dk_at dksX16_keyed_2 22 rfl rfl)
theorem dX16_keyed_69 : decode cX16_keyed 69 = .ok (.bipush 90, 2) := dk_16 90 (dk_at dksX16_keyed_3 0 rfl rfl)
theorem dX16_keyed_71 : decode cX16_keyed 71 = .ok (.if_icmp .eq 22, 3) := dk_159 0 22 (dk_at dksX16_keyed_3 2 rfl rfl)
theorem dX16_keyed_74 : decode cX16_keyed 74 = .ok (.iload_n 1, 1) := dk_27 (dk_at dksX16_keyed_3 5 rfl rfl)
theorem dX16_keyed_75 : decode cX16_keyed 75 = .ok (.bipush 92, 2) := dk_16 92 (dk_at dksX16_keyed_3 6 rfl rfl)
theorem dX16_keyed_77 : decode cX16_keyed 77 = .ok (.if_icmp .eq 16, 3) := dk_159 0 16 (dk_at dksX16_keyed_3 8 rfl rfl)
theorem dX16_keyed_80 : decode cX16_keyed 80 = .ok (.aload_n 0, 1) := dk_42 (dk_at dksX16_keyed_3 11 rfl rfl)
theorem dX16_keyed_81 : decode cX16_keyed 81 = .ok (.iload_n 3, 1) := dk_29 (dk_at dksX16_keyed_3 12 rfl rfl)
theorem dX16_keyed_82 : decode cX16_keyed 82 = .ok (.invokevirtual 307, 3) := dk_182 1 51 (dk_at dksX16_keyed_3 13 rfl rfl)
theorem dX16_keyed_85 : decode cX16_keyed 85 = .ok (.aload_n 0, 1) := dk_42 (dk_at dksX16_keyed_3 16 rfl rfl)
theorem dX16_keyed_86 : decode cX16_keyed 86 = .ok (.iconst 0, 1) := dk_3 (dk_at dksX16_keyed_3 17 rfl rfl)
theorem dX16_keyed_87 : decode cX16_keyed 87 = .ok (.invokevirtual 209, 3) := dk_182 0 209 (dk_at dksX16_keyed_3 18 rfl rfl)
theorem dX16_keyed_90 : decode cX16_keyed 90 = .ok (.if_icmp .eq 5, 3) := dk_159 0 5 (dk_at dksX16_keyed_3 21 rfl rfl)
theorem dX16_keyed_93 : decode cX16_keyed 93 = .ok (.iconst 0, 1) := dk_3 (dk_at dksX16_keyed_4 0 rfl rfl)
theorem dX16_keyed_94 : decode cX16_keyed 94 = .ok (.ireturn, 1) := dk_172 (dk_at dksX16_keyed_4 1 rfl rfl)
theorem dX16_keyed_95 : decode cX16_keyed 95 = .ok (.aload_n 0, 1) := dk_42 (dk_at dksX16_keyed_4 2 rfl rfl)
theorem dX16_keyed_96 : decode cX16_keyed 96 = .ok (.iload_n 3, 1) := dk_29 (dk_at dksX16_keyed_4 3 rfl rfl)
theorem dX16_keyed_97 : decode cX16_keyed 97 = .ok (.invokevirtual 209, 3) := dk_182 0 209 (dk_at dksX16_keyed_4 4 rfl rfl)
theorem dX16_keyed_100 : decode cX16_keyed 100 = .ok (.istore 6, 2) := dk_54 6 (dk_at dksX16_keyed_4 7 rfl rfl)
theorem dX16_keyed_102 : decode cX16_keyed 102 = .ok (.aload_n 0, 1) := dk_42 (dk_at dksX16_keyed_4 9 rfl rfl)
theorem dX16_keyed_103 : decode cX16_keyed 103 = .ok (.iconst 0, 1) := dk_3 (dk_at dksX16_keyed_4 10 rfl rfl)
theorem dX16_keyed_104 : decode cX16_keyed 104 = .ok (.invokevirtual 209, 3) := dk_182 0 209 (dk_at dksX16_keyed_4 11 rfl rfl)
theorem dX16_keyed_107 : decode cX16_keyed 107 = .ok (.istore 7, 2) := dk_54 7 (dk_at dksX16_keyed_4 14 rfl rfl)
theorem dX16_keyed_109 : decode cX16_keyed 109 = .ok (.iload 5, 2) := dk_21 5 (dk_at dksX16_keyed_4 16 rfl rfl)
theorem dX16_keyed_111 : decode cX16_keyed 111 = .ok (.ifCond .eq 18, 3) := dk_153 0 18 (dk_at dksX16_keyed_4 18 rfl rfl)
theorem dX16_keyed_114 : decode cX16_keyed 114 = .ok (.aload_n 0, 1) := dk_42 (dk_at dksX16_keyed_4 21 rfl rfl)
theorem dX16_keyed_115 : decode cX16_keyed 115 = .ok (.getfield 32, 3) := dk_180 0 32 (dk_at dksX16_keyed_5 0 rfl rfl)
theorem dX16_keyed_118 : decode cX16_keyed 118 = .ok (.aload_n 0, 1) := dk_42 (dk_at dksX16_keyed_5 3 rfl rfl)
theorem dX16_keyed_119 : decode cX16_keyed 119 = .ok (.iload_n 3, 1) := dk_29 (dk_at dksX16_keyed_5 4 rfl rfl)
theorem dX16_keyed_120 : decode cX16_keyed 120 = .ok (.invokevirtual 310, 3) := dk_182 1 54 (dk_at dksX16_keyed_5 5 rfl rfl)
theorem dX16_keyed_123 : decode cX16_keyed 123 = .ok (.invokevirtual 313, 3) := dk_182 1 57 (dk_at dksX16_keyed_5 8 rfl rfl)
theorem dX16_keyed_126 : decode cX16_keyed 126 = .ok (.goto 4, 3) := dk_167 0 4 (dk_at dksX16_keyed_5 11 rfl rfl)
theorem dX16_keyed_129 : decode cX16_keyed 129 = .ok (.iconst (-1), 1) := dk_2 (dk_at dksX16_keyed_5 14 rfl rfl)
theorem dX16_keyed_130 : decode cX16_keyed 130 = .ok (.istore 8, 2) := dk_54 8 (dk_at dksX16_keyed_5 15 rfl rfl)
theorem dX16_keyed_132 : decode cX16_keyed 132 = .ok (.iload 5, 2) := dk_21 5 (dk_at dksX16_keyed_5 17 rfl rfl)
theorem dX16_keyed_134 : decode cX16_keyed 134 = .ok (.ifCond .eq 7, 3) := dk_153 0 7 (dk_at dksX16_keyed_5 19 rfl rfl)
theorem dX16_keyed_137 : decode cX16_keyed 137 = .ok (.iconst 2, 1) := dk_5 (dk_at dksX16_keyed_5 22 rfl rfl)
theorem dX16_keyed_138 : decode cX16_keyed 138 = .ok (.goto 4, 3) := dk_167 0 4 (dk_at dksX16_keyed_6 0 rfl rfl)
theorem dX16_keyed_141 : decode cX16_keyed 141 = .ok (.iconst 1, 1) := dk_4 (dk_at dksX16_keyed_6 3 rfl rfl)
theorem dX16_keyed_142 : decode cX16_keyed 142 = .ok (.istore 9, 2) := dk_54 9 (dk_at dksX16_keyed_6 4 rfl rfl)
theorem dX16_keyed_144 : decode cX16_keyed 144 = .ok (.iload 5, 2) := dk_21 5 (dk_at dksX16_keyed_6 6 rfl rfl)
theorem dX16_keyed_146 : decode cX16_keyed 146 = .ok (.ifCond .eq 8, 3) := dk_153 0 8 (dk_at dksX16_keyed_6 8 rfl rfl)
theorem dX16_keyed_149 : decode cX16_keyed 149 = .ok (.iload 8, 2) := dk_21 8 (dk_at dksX16_keyed_6 11 rfl rfl)
theorem dX16_keyed_151 : decode cX16_keyed 151 = .ok (.ifCond .lt 26, 3) := dk_155 0 26 (dk_at dksX16_keyed_6 13 rfl rfl)
theorem dX16_keyed_154 : decode cX16_keyed 154 = .ok (.iload_n 2, 1) := dk_28 (dk_at dksX16_keyed_6 16 rfl rfl)
theorem dX16_keyed_155 : decode cX16_keyed 155 = .ok (.ifCond .eq 24, 3) := dk_153 0 24 (dk_at dksX16_keyed_6 17 rfl rfl)
theorem dX16_keyed_158 : decode cX16_keyed 158 = .ok (.aload_n 0, 1) := dk_42 (dk_at dksX16_keyed_6 20 rfl rfl)
theorem dX16_keyed_159 : decode cX16_keyed 159 = .ok (.iconst 1, 1) := dk_4 (dk_at dksX16_keyed_6 21 rfl rfl)
theorem dX16_keyed_160 : decode cX16_keyed 160 = .ok (.invokevirtual 209, 3) := dk_182 0 209 (dk_at dksX16_keyed_7 0 rfl rfl)
theorem dX16_keyed_163 : decode cX16_keyed 163 = .ok (.iload 5, 2) := dk_21 5 (dk_at dksX16_keyed_7 3 rfl rfl)
theorem dX16_keyed_165 : decode cX16_keyed 165 = .ok (.ifCond .eq 8, 3) := dk_153 0 8 (dk_at dksX16_keyed_7 5 rfl rfl)
theorem dX16_keyed_168 : decode cX16_keyed 168 = .ok (.iload 8, 2) := dk_21 8 (dk_at dksX16_keyed_7 8 rfl rfl)
theorem dX16_keyed_170 : decode cX16_keyed 170 = .ok (.goto 4, 3) := dk_167 0 4 (dk_at dksX16_keyed_7 10 rfl rfl)
theorem dX16_keyed_173 : decode cX16_keyed 173 = .ok (.iconst 1, 1) := dk_4 (dk_at dksX16_keyed_7 13 rfl rfl)
theorem dX16_keyed_174 : decode cX16_keyed 174 = .ok (.if_icmp .eq 5, 3) := dk_159 0 5 (dk_at dksX16_keyed_7 14 rfl rfl)
theorem dX16_keyed_177 : decode cX16_keyed 177 = .ok (.iconst 0, 1) := dk_3 (dk_at dksX16_keyed_7 17 rfl rfl)
theorem dX16_keyed_178 : decode cX16_keyed 178 = .ok (.ireturn, 1) := dk_172 (dk_at dksX16_keyed_7 18 rfl rfl)
theorem dX16_keyed_179 : decode cX16_keyed 179 = .ok (.iload_n 1, 1) := dk_27 (dk_at dksX16_keyed_7 19 rfl rfl)
theorem dX16_keyed_180 : decode cX16_keyed 180 = .ok (.tableswitch 81 89 91 #[28, 45, 63], 28) := by decide +kernel
theorem dX16_keyed_208 : decode cX16_keyed 208 = .ok (.aload_n 0, 1) := dk_42 (dk_at dksX16_keyed_9 0 rfl rfl)
theorem dX16_keyed_209 : decode cX16_keyed 209 = .ok (.aload_n 0, 1) := dk_42 (dk_at dksX16_keyed_9 1 rfl rfl)
theorem dX16_keyed_210 : decode cX16_keyed 210 = .ok (.iconst 2, 1) := dk_5 (dk_at dksX16_keyed_9 2 rfl rfl)
theorem dX16_keyed_211 : decode cX16_keyed 211 = .ok (.iconst 1, 1) := dk_4 (dk_at dksX16_keyed_9 3 rfl rfl)
theorem dX16_keyed_212 : decode cX16_keyed 212 = .ok (.invokevirtual 278, 3) := dk_182 1 22 (dk_at dksX16_keyed_9 4 rfl rfl)
theorem dX16_keyed_215 : decode cX16_keyed 215 = .ok (.iload_n 1, 1) := dk_27 (dk_at dksX16_keyed_9 7 rfl rfl)
theorem dX16_keyed_216 : decode cX16_keyed 216 = .ok (.iload 7, 2) := dk_21 7 (dk_at dksX16_keyed_9 8 rfl rfl)
theorem dX16_keyed_218 : decode cX16_keyed 218 = .ok (.iload 9, 2) := dk_21 9 (dk_at dksX16_keyed_9 10 rfl rfl)
theorem dX16_keyed_220 : decode cX16_keyed 220 = .ok (.iconst 0, 1) := dk_3 (dk_at dksX16_keyed_9 12 rfl rfl)
theorem dX16_keyed_221 : decode cX16_keyed 221 = .ok (.invokevirtual 274, 3) := dk_182 1 18 (dk_at dksX16_keyed_9 13 rfl rfl)
theorem dX16_keyed_224 : decode cX16_keyed 224 = .ok (.ireturn, 1) := dk_172 (dk_at dksX16_keyed_9 16 rfl rfl)
theorem dX16_keyed_225 : decode cX16_keyed 225 = .ok (.aload_n 0, 1) := dk_42 (dk_at dksX16_keyed_9 17 rfl rfl)
theorem dX16_keyed_226 : decode cX16_keyed 226 = .ok (.aload_n 0, 1) := dk_42 (dk_at dksX16_keyed_9 18 rfl rfl)
theorem dX16_keyed_227 : decode cX16_keyed 227 = .ok (.iconst 2, 1) := dk_5 (dk_at dksX16_keyed_9 19 rfl rfl)
theorem dX16_keyed_228 : decode cX16_keyed 228 = .ok (.iload 8, 2) := dk_21 8 (dk_at dksX16_keyed_9 20 rfl rfl)
theorem dX16_keyed_230 : decode cX16_keyed 230 = .ok (.invokevirtual 278, 3) := dk_182 1 22 (dk_at dksX16_keyed_10 0 rfl rfl)
theorem dX16_keyed_233 : decode cX16_keyed 233 = .ok (.iload_n 1, 1) := dk_27 (dk_at dksX16_keyed_10 3 rfl rfl)
theorem dX16_keyed_234 : decode cX16_keyed 234 = .ok (.iload 7, 2) := dk_21 7 (dk_at dksX16_keyed_10 4 rfl rfl)
theorem dX16_keyed_236 : decode cX16_keyed 236 = .ok (.iload 9, 2) := dk_21 9 (dk_at dksX16_keyed_10 6 rfl rfl)
theorem dX16_keyed_238 : decode cX16_keyed 238 = .ok (.iconst 0, 1) := dk_3 (dk_at dksX16_keyed_10 8 rfl rfl)
theorem dX16_keyed_239 : decode cX16_keyed 239 = .ok (.invokevirtual 274, 3) := dk_182 1 18 (dk_at dksX16_keyed_10 9 rfl rfl)
theorem dX16_keyed_242 : decode cX16_keyed 242 = .ok (.ireturn, 1) := dk_172 (dk_at dksX16_keyed_10 12 rfl rfl)
theorem dX16_keyed_243 : decode cX16_keyed 243 = .ok (.aload_n 0, 1) := dk_42 (dk_at dksX16_keyed_10 13 rfl rfl)
theorem dX16_keyed_244 : decode cX16_keyed 244 = .ok (.aload_n 0, 1) := dk_42 (dk_at dksX16_keyed_10 14 rfl rfl)
theorem dX16_keyed_245 : decode cX16_keyed 245 = .ok (.iconst 3, 1) := dk_6 (dk_at dksX16_keyed_10 15 rfl rfl)
theorem dX16_keyed_246 : decode cX16_keyed 246 = .ok (.iload 6, 2) := dk_21 6 (dk_at dksX16_keyed_10 16 rfl rfl)
theorem dX16_keyed_248 : decode cX16_keyed 248 = .ok (.invokevirtual 278, 3) := dk_182 1 22 (dk_at dksX16_keyed_10 18 rfl rfl)
theorem dX16_keyed_251 : decode cX16_keyed 251 = .ok (.iload_n 1, 1) := dk_27 (dk_at dksX16_keyed_10 21 rfl rfl)
theorem dX16_keyed_252 : decode cX16_keyed 252 = .ok (.iload 7, 2) := dk_21 7 (dk_at dksX16_keyed_10 22 rfl rfl)
theorem dX16_keyed_254 : decode cX16_keyed 254 = .ok (.iload 9, 2) := dk_21 9 (dk_at dksX16_keyed_11 0 rfl rfl)
theorem dX16_keyed_256 : decode cX16_keyed 256 = .ok (.iconst 0, 1) := dk_3 (dk_at dksX16_keyed_11 2 rfl rfl)
theorem dX16_keyed_257 : decode cX16_keyed 257 = .ok (.invokevirtual 274, 3) := dk_182 1 18 (dk_at dksX16_keyed_11 3 rfl rfl)
theorem dX16_keyed_260 : decode cX16_keyed 260 = .ok (.ireturn, 1) := dk_172 (dk_at dksX16_keyed_11 6 rfl rfl)
theorem dX16_keyed_261 : decode cX16_keyed 261 = .ok (.aload_n 0, 1) := dk_42 (dk_at dksX16_keyed_11 7 rfl rfl)
theorem dX16_keyed_262 : decode cX16_keyed 262 = .ok (.dup, 1) := dk_89 (dk_at dksX16_keyed_11 8 rfl rfl)
theorem dX16_keyed_263 : decode cX16_keyed 263 = .ok (.getfield 56, 3) := dk_180 0 56 (dk_at dksX16_keyed_11 9 rfl rfl)
theorem dX16_keyed_266 : decode cX16_keyed 266 = .ok (.iconst 3, 1) := dk_6 (dk_at dksX16_keyed_11 12 rfl rfl)
theorem dX16_keyed_267 : decode cX16_keyed 267 = .ok (.isub, 1) := dk_100 (dk_at dksX16_keyed_11 13 rfl rfl)
theorem dX16_keyed_268 : decode cX16_keyed 268 = .ok (.putfield 56, 3) := dk_181 0 56 (dk_at dksX16_keyed_11 14 rfl rfl)
theorem dX16_keyed_271 : decode cX16_keyed 271 = .ok (.aload_n 0, 1) := dk_42 (dk_at dksX16_keyed_11 17 rfl rfl)
theorem dX16_keyed_272 : decode cX16_keyed 272 = .ok (.aload_n 0, 1) := dk_42 (dk_at dksX16_keyed_11 18 rfl rfl)
theorem dX16_keyed_273 : decode cX16_keyed 273 = .ok (.iconst 0, 1) := dk_3 (dk_at dksX16_keyed_11 19 rfl rfl)
theorem dX16_keyed_274 : decode cX16_keyed 274 = .ok (.iload 6, 2) := dk_21 6 (dk_at dksX16_keyed_11 20 rfl rfl)
theorem dX16_keyed_276 : decode cX16_keyed 276 = .ok (.invokevirtual 278, 3) := dk_182 1 22 (dk_at dksX16_keyed_12 0 rfl rfl)
theorem dX16_keyed_279 : decode cX16_keyed 279 = .ok (.ifCond .eq 17, 3) := dk_153 0 17 (dk_at dksX16_keyed_12 3 rfl rfl)
theorem dX16_keyed_282 : decode cX16_keyed 282 = .ok (.aload_n 0, 1) := dk_42 (dk_at dksX16_keyed_12 6 rfl rfl)
theorem dX16_keyed_283 : decode cX16_keyed 283 = .ok (.iconst 0, 1) := dk_3 (dk_at dksX16_keyed_12 7 rfl rfl)
theorem dX16_keyed_284 : decode cX16_keyed 284 = .ok (.iload 8, 2) := dk_21 8 (dk_at dksX16_keyed_12 8 rfl rfl)
theorem dX16_keyed_286 : decode cX16_keyed 286 = .ok (.invokevirtual 278, 3) := dk_182 1 22 (dk_at dksX16_keyed_12 10 rfl rfl)
theorem dX16_keyed_289 : decode cX16_keyed 289 = .ok (.ifCond .eq 7, 3) := dk_153 0 7 (dk_at dksX16_keyed_12 13 rfl rfl)
theorem dX16_keyed_292 : decode cX16_keyed 292 = .ok (.iconst 1, 1) := dk_4 (dk_at dksX16_keyed_12 16 rfl rfl)
theorem dX16_keyed_293 : decode cX16_keyed 293 = .ok (.goto 4, 3) := dk_167 0 4 (dk_at dksX16_keyed_12 17 rfl rfl)
theorem dX16_keyed_296 : decode cX16_keyed 296 = .ok (.iconst 0, 1) := dk_3 (dk_at dksX16_keyed_12 20 rfl rfl)
theorem dX16_keyed_297 : decode cX16_keyed 297 = .ok (.iload_n 1, 1) := dk_27 (dk_at dksX16_keyed_12 21 rfl rfl)
theorem dX16_keyed_298 : decode cX16_keyed 298 = .ok (.iload 7, 2) := dk_21 7 (dk_at dksX16_keyed_12 22 rfl rfl)
theorem dX16_keyed_300 : decode cX16_keyed 300 = .ok (.iload 9, 2) := dk_21 9 (dk_at dksX16_keyed_13 0 rfl rfl)
theorem dX16_keyed_302 : decode cX16_keyed 302 = .ok (.iconst 0, 1) := dk_3 (dk_at dksX16_keyed_13 2 rfl rfl)
theorem dX16_keyed_303 : decode cX16_keyed 303 = .ok (.invokevirtual 274, 3) := dk_182 1 18 (dk_at dksX16_keyed_13 3 rfl rfl)
theorem dX16_keyed_306 : decode cX16_keyed 306 = .ok (.ireturn, 1) := dk_172 (dk_at dksX16_keyed_13 6 rfl rfl)
abbrev cX16_ledger : ByteArray := prog_21_method_51_code
def yX16_ledger : MethodName := ⟨RX16, "ledger", "(III)I"⟩
def dkwX16_ledger_14 : List UInt8 := [167, 0, 4, 3, 172]
abbrev dktX16_ledger_14 : List UInt8 := dkwX16_ledger_14 ++ []
def dkwX16_ledger_13 : List UInt8 := [167, 0, 4, 3, 28, 3, 3, 3, 182, 1, 18, 172, 29, 4, 160, 0, 11, 42, 27, 182, 1, 134]
abbrev dktX16_ledger_13 : List UInt8 := dkwX16_ledger_13 ++ dktX16_ledger_14
def dkwX16_ledger_12 : List UInt8 := [167, 0, 4, 3, 54, 4, 42, 21, 4, 153, 0, 17, 42, 6, 16, 9, 182, 1, 22, 153, 0, 7, 4]
abbrev dktX16_ledger_12 : List UInt8 := dkwX16_ledger_12 ++ dktX16_ledger_13
def dkwX16_ledger_11 : List UInt8 := [3, 182, 0, 209, 160, 0, 23, 42, 180, 0, 32, 42, 3, 182, 0, 209, 5, 182, 0, 120, 153, 0, 7, 4]
abbrev dktX16_ledger_11 : List UInt8 := dkwX16_ledger_11 ++ dktX16_ledger_12
def dkwX16_ledger_10 : List UInt8 := [4, 182, 1, 48, 7, 160, 0, 46, 42, 5, 182, 1, 48, 16, 13, 160, 0, 36, 42, 5, 182, 1, 51, 42]
abbrev dktX16_ledger_10 : List UInt8 := dkwX16_ledger_10 ++ dktX16_ledger_11
def dkwX16_ledger_9 : List UInt8 := [182, 1, 18, 172, 29, 4, 160, 0, 11, 42, 27, 182, 1, 131, 167, 0, 4, 3, 172, 29, 154, 0, 55, 42]
abbrev dktX16_ledger_9 : List UInt8 := dkwX16_ledger_9 ++ dktX16_ledger_10
def dkwX16_ledger_8 : List UInt8 := [16, 13, 160, 0, 17, 42, 4, 16, 7, 182, 1, 22, 153, 0, 7, 4, 167, 0, 4, 3, 28, 3, 3, 3]
abbrev dktX16_ledger_8 : List UInt8 := dkwX16_ledger_8 ++ dktX16_ledger_9
def dkwX16_ledger_7 : List UInt8 := [154, 0, 11, 42, 27, 182, 1, 128, 167, 0, 4, 3, 172, 42, 29, 154, 0, 27, 42, 3, 182, 1, 48]
abbrev dktX16_ledger_7 : List UInt8 := dkwX16_ledger_7 ++ dktX16_ledger_8
def dkwX16_ledger_6 : List UInt8 := [153, 0, 7, 4, 167, 0, 4, 3, 28, 3, 3, 3, 182, 1, 18, 172, 29, 154, 0, 18, 42, 180, 0, 62]
abbrev dktX16_ledger_6 : List UInt8 := dkwX16_ledger_6 ++ dktX16_ledger_7
def dkwX16_ledger_5 : List UInt8 := [167, 0, 4, 3, 28, 3, 3, 3, 182, 1, 18, 172, 42, 29, 154, 0, 16, 42, 3, 6, 182, 1, 22]
abbrev dktX16_ledger_5 : List UInt8 := dkwX16_ledger_5 ++ dktX16_ledger_6
def dkwX16_ledger_4 : List UInt8 := [28, 3, 3, 3, 182, 1, 18, 172, 42, 29, 154, 0, 17, 42, 3, 16, 8, 182, 1, 22, 153, 0, 7, 4]
abbrev dktX16_ledger_4 : List UInt8 := dkwX16_ledger_4 ++ dktX16_ledger_5
def dkwX16_ledger_3 : List UInt8 := [182, 1, 18, 172, 42, 29, 154, 0, 17, 42, 3, 16, 7, 182, 1, 22, 153, 0, 7, 4, 167, 0, 4, 3]
abbrev dktX16_ledger_3 : List UInt8 := dkwX16_ledger_3 ++ dktX16_ledger_4
def dkwX16_ledger_2 : List UInt8 := [42, 29, 154, 0, 16, 42, 3, 7, 182, 1, 22, 153, 0, 7, 4, 167, 0, 4, 3, 28, 3, 3, 3]
abbrev dktX16_ledger_2 : List UInt8 := dkwX16_ledger_2 ++ dktX16_ledger_3
def dkwX16_ledger_1 : List UInt8 := [170, 0, 0, 0, 0, 1, 75, 0, 0, 0, 95, 0, 0, 0, 105, 0, 0, 0, 59, 0, 0, 0, 59, 0, 0, 0, 86, 0, 0, 0, 86, 0, 0, 0, 86, 0, 0, 0, 114, 0, 0, 0, 142, 0, 0, 0, 169, 0, 0, 0, 190, 0, 0, 0, 228, 0, 0, 0, 243]
abbrev dktX16_ledger_1 : List UInt8 := dkwX16_ledger_1 ++ dktX16_ledger_2
def dkwX16_ledger_0 : List UInt8 := [28]
abbrev dktX16_ledger_0 : List UInt8 := dkwX16_ledger_0 ++ dktX16_ledger_1
theorem dksX16_ledger_0 : cX16_ledger.data.toList.drop 0 = dktX16_ledger_0 := by decide +kernel
theorem dksX16_ledger_1 : cX16_ledger.data.toList.drop 1 = dktX16_ledger_1 := dk_seg dksX16_ledger_0 1 rfl rfl
theorem dksX16_ledger_2 : cX16_ledger.data.toList.drop 60 = dktX16_ledger_2 := dk_seg dksX16_ledger_1 59 rfl rfl
theorem dksX16_ledger_3 : cX16_ledger.data.toList.drop 83 = dktX16_ledger_3 := dk_seg dksX16_ledger_2 23 rfl rfl
theorem dksX16_ledger_4 : cX16_ledger.data.toList.drop 107 = dktX16_ledger_4 := dk_seg dksX16_ledger_3 24 rfl rfl
theorem dksX16_ledger_5 : cX16_ledger.data.toList.drop 131 = dktX16_ledger_5 := dk_seg dksX16_ledger_4 24 rfl rfl
theorem dksX16_ledger_6 : cX16_ledger.data.toList.drop 154 = dktX16_ledger_6 := dk_seg dksX16_ledger_5 23 rfl rfl
theorem dksX16_ledger_7 : cX16_ledger.data.toList.drop 178 = dktX16_ledger_7 := dk_seg dksX16_ledger_6 24 rfl rfl
theorem dksX16_ledger_8 : cX16_ledger.data.toList.drop 201 = dktX16_ledger_8 := dk_seg dksX16_ledger_7 23 rfl rfl
theorem dksX16_ledger_9 : cX16_ledger.data.toList.drop 225 = dktX16_ledger_9 := dk_seg dksX16_ledger_8 24 rfl rfl
theorem dksX16_ledger_10 : cX16_ledger.data.toList.drop 249 = dktX16_ledger_10 := dk_seg dksX16_ledger_9 24 rfl rfl
theorem dksX16_ledger_11 : cX16_ledger.data.toList.drop 273 = dktX16_ledger_11 := dk_seg dksX16_ledger_10 24 rfl rfl
theorem dksX16_ledger_12 : cX16_ledger.data.toList.drop 297 = dktX16_ledger_12 := dk_seg dksX16_ledger_11 24 rfl rfl
theorem dksX16_ledger_13 : cX16_ledger.data.toList.drop 320 = dktX16_ledger_13 := dk_seg dksX16_ledger_12 23 rfl rfl
theorem dksX16_ledger_14 : cX16_ledger.data.toList.drop 342 = dktX16_ledger_14 := dk_seg dksX16_ledger_13 22 rfl rfl
theorem dX16_ledger_0 : decode cX16_ledger 0 = .ok (.iload_n 2, 1) := dk_28 (dk_at dksX16_ledger_0 0 rfl rfl)
theorem dX16_ledger_1 : decode cX16_ledger 1 = .ok (.tableswitch 331 95 105 #[59, 59, 86, 86, 86, 114, 142, 169, 190, 228, 243], 59) := by decide +kernel
theorem dX16_ledger_60 : decode cX16_ledger 60 = .ok (.aload_n 0, 1) := dk_42 (dk_at dksX16_ledger_2 0 rfl rfl)
theorem dX16_ledger_61 : decode cX16_ledger 61 = .ok (.iload_n 3, 1) := dk_29 (dk_at dksX16_ledger_2 1 rfl rfl)
theorem dX16_ledger_62 : decode cX16_ledger 62 = .ok (.ifCond .ne 16, 3) := dk_154 0 16 (dk_at dksX16_ledger_2 2 rfl rfl)
theorem dX16_ledger_65 : decode cX16_ledger 65 = .ok (.aload_n 0, 1) := dk_42 (dk_at dksX16_ledger_2 5 rfl rfl)
theorem dX16_ledger_66 : decode cX16_ledger 66 = .ok (.iconst 0, 1) := dk_3 (dk_at dksX16_ledger_2 6 rfl rfl)
theorem dX16_ledger_67 : decode cX16_ledger 67 = .ok (.iconst 4, 1) := dk_7 (dk_at dksX16_ledger_2 7 rfl rfl)
theorem dX16_ledger_68 : decode cX16_ledger 68 = .ok (.invokevirtual 278, 3) := dk_182 1 22 (dk_at dksX16_ledger_2 8 rfl rfl)
theorem dX16_ledger_71 : decode cX16_ledger 71 = .ok (.ifCond .eq 7, 3) := dk_153 0 7 (dk_at dksX16_ledger_2 11 rfl rfl)
theorem dX16_ledger_74 : decode cX16_ledger 74 = .ok (.iconst 1, 1) := dk_4 (dk_at dksX16_ledger_2 14 rfl rfl)
theorem dX16_ledger_75 : decode cX16_ledger 75 = .ok (.goto 4, 3) := dk_167 0 4 (dk_at dksX16_ledger_2 15 rfl rfl)
theorem dX16_ledger_78 : decode cX16_ledger 78 = .ok (.iconst 0, 1) := dk_3 (dk_at dksX16_ledger_2 18 rfl rfl)
theorem dX16_ledger_79 : decode cX16_ledger 79 = .ok (.iload_n 2, 1) := dk_28 (dk_at dksX16_ledger_2 19 rfl rfl)
theorem dX16_ledger_80 : decode cX16_ledger 80 = .ok (.iconst 0, 1) := dk_3 (dk_at dksX16_ledger_2 20 rfl rfl)
theorem dX16_ledger_81 : decode cX16_ledger 81 = .ok (.iconst 0, 1) := dk_3 (dk_at dksX16_ledger_2 21 rfl rfl)
theorem dX16_ledger_82 : decode cX16_ledger 82 = .ok (.iconst 0, 1) := dk_3 (dk_at dksX16_ledger_2 22 rfl rfl)
theorem dX16_ledger_83 : decode cX16_ledger 83 = .ok (.invokevirtual 274, 3) := dk_182 1 18 (dk_at dksX16_ledger_3 0 rfl rfl)
theorem dX16_ledger_86 : decode cX16_ledger 86 = .ok (.ireturn, 1) := dk_172 (dk_at dksX16_ledger_3 3 rfl rfl)
theorem dX16_ledger_87 : decode cX16_ledger 87 = .ok (.aload_n 0, 1) := dk_42 (dk_at dksX16_ledger_3 4 rfl rfl)
theorem dX16_ledger_88 : decode cX16_ledger 88 = .ok (.iload_n 3, 1) := dk_29 (dk_at dksX16_ledger_3 5 rfl rfl)
theorem dX16_ledger_89 : decode cX16_ledger 89 = .ok (.ifCond .ne 17, 3) := dk_154 0 17 (dk_at dksX16_ledger_3 6 rfl rfl)
theorem dX16_ledger_92 : decode cX16_ledger 92 = .ok (.aload_n 0, 1) := dk_42 (dk_at dksX16_ledger_3 9 rfl rfl)
theorem dX16_ledger_93 : decode cX16_ledger 93 = .ok (.iconst 0, 1) := dk_3 (dk_at dksX16_ledger_3 10 rfl rfl)
theorem dX16_ledger_94 : decode cX16_ledger 94 = .ok (.bipush 7, 2) := dk_16 7 (dk_at dksX16_ledger_3 11 rfl rfl)
theorem dX16_ledger_96 : decode cX16_ledger 96 = .ok (.invokevirtual 278, 3) := dk_182 1 22 (dk_at dksX16_ledger_3 13 rfl rfl)
theorem dX16_ledger_99 : decode cX16_ledger 99 = .ok (.ifCond .eq 7, 3) := dk_153 0 7 (dk_at dksX16_ledger_3 16 rfl rfl)
theorem dX16_ledger_102 : decode cX16_ledger 102 = .ok (.iconst 1, 1) := dk_4 (dk_at dksX16_ledger_3 19 rfl rfl)
theorem dX16_ledger_103 : decode cX16_ledger 103 = .ok (.goto 4, 3) := dk_167 0 4 (dk_at dksX16_ledger_3 20 rfl rfl)
theorem dX16_ledger_106 : decode cX16_ledger 106 = .ok (.iconst 0, 1) := dk_3 (dk_at dksX16_ledger_3 23 rfl rfl)
theorem dX16_ledger_107 : decode cX16_ledger 107 = .ok (.iload_n 2, 1) := dk_28 (dk_at dksX16_ledger_4 0 rfl rfl)
theorem dX16_ledger_108 : decode cX16_ledger 108 = .ok (.iconst 0, 1) := dk_3 (dk_at dksX16_ledger_4 1 rfl rfl)
theorem dX16_ledger_109 : decode cX16_ledger 109 = .ok (.iconst 0, 1) := dk_3 (dk_at dksX16_ledger_4 2 rfl rfl)
theorem dX16_ledger_110 : decode cX16_ledger 110 = .ok (.iconst 0, 1) := dk_3 (dk_at dksX16_ledger_4 3 rfl rfl)
theorem dX16_ledger_111 : decode cX16_ledger 111 = .ok (.invokevirtual 274, 3) := dk_182 1 18 (dk_at dksX16_ledger_4 4 rfl rfl)
theorem dX16_ledger_114 : decode cX16_ledger 114 = .ok (.ireturn, 1) := dk_172 (dk_at dksX16_ledger_4 7 rfl rfl)
theorem dX16_ledger_115 : decode cX16_ledger 115 = .ok (.aload_n 0, 1) := dk_42 (dk_at dksX16_ledger_4 8 rfl rfl)
theorem dX16_ledger_116 : decode cX16_ledger 116 = .ok (.iload_n 3, 1) := dk_29 (dk_at dksX16_ledger_4 9 rfl rfl)
theorem dX16_ledger_117 : decode cX16_ledger 117 = .ok (.ifCond .ne 17, 3) := dk_154 0 17 (dk_at dksX16_ledger_4 10 rfl rfl)
theorem dX16_ledger_120 : decode cX16_ledger 120 = .ok (.aload_n 0, 1) := dk_42 (dk_at dksX16_ledger_4 13 rfl rfl)
theorem dX16_ledger_121 : decode cX16_ledger 121 = .ok (.iconst 0, 1) := dk_3 (dk_at dksX16_ledger_4 14 rfl rfl)
theorem dX16_ledger_122 : decode cX16_ledger 122 = .ok (.bipush 8, 2) := dk_16 8 (dk_at dksX16_ledger_4 15 rfl rfl)
theorem dX16_ledger_124 : decode cX16_ledger 124 = .ok (.invokevirtual 278, 3) := dk_182 1 22 (dk_at dksX16_ledger_4 17 rfl rfl)
theorem dX16_ledger_127 : decode cX16_ledger 127 = .ok (.ifCond .eq 7, 3) := dk_153 0 7 (dk_at dksX16_ledger_4 20 rfl rfl)
theorem dX16_ledger_130 : decode cX16_ledger 130 = .ok (.iconst 1, 1) := dk_4 (dk_at dksX16_ledger_4 23 rfl rfl)
theorem dX16_ledger_131 : decode cX16_ledger 131 = .ok (.goto 4, 3) := dk_167 0 4 (dk_at dksX16_ledger_5 0 rfl rfl)
theorem dX16_ledger_134 : decode cX16_ledger 134 = .ok (.iconst 0, 1) := dk_3 (dk_at dksX16_ledger_5 3 rfl rfl)
theorem dX16_ledger_135 : decode cX16_ledger 135 = .ok (.iload_n 2, 1) := dk_28 (dk_at dksX16_ledger_5 4 rfl rfl)
theorem dX16_ledger_136 : decode cX16_ledger 136 = .ok (.iconst 0, 1) := dk_3 (dk_at dksX16_ledger_5 5 rfl rfl)
theorem dX16_ledger_137 : decode cX16_ledger 137 = .ok (.iconst 0, 1) := dk_3 (dk_at dksX16_ledger_5 6 rfl rfl)
theorem dX16_ledger_138 : decode cX16_ledger 138 = .ok (.iconst 0, 1) := dk_3 (dk_at dksX16_ledger_5 7 rfl rfl)
theorem dX16_ledger_139 : decode cX16_ledger 139 = .ok (.invokevirtual 274, 3) := dk_182 1 18 (dk_at dksX16_ledger_5 8 rfl rfl)
theorem dX16_ledger_142 : decode cX16_ledger 142 = .ok (.ireturn, 1) := dk_172 (dk_at dksX16_ledger_5 11 rfl rfl)
theorem dX16_ledger_143 : decode cX16_ledger 143 = .ok (.aload_n 0, 1) := dk_42 (dk_at dksX16_ledger_5 12 rfl rfl)
theorem dX16_ledger_144 : decode cX16_ledger 144 = .ok (.iload_n 3, 1) := dk_29 (dk_at dksX16_ledger_5 13 rfl rfl)
theorem dX16_ledger_145 : decode cX16_ledger 145 = .ok (.ifCond .ne 16, 3) := dk_154 0 16 (dk_at dksX16_ledger_5 14 rfl rfl)
theorem dX16_ledger_148 : decode cX16_ledger 148 = .ok (.aload_n 0, 1) := dk_42 (dk_at dksX16_ledger_5 17 rfl rfl)
theorem dX16_ledger_149 : decode cX16_ledger 149 = .ok (.iconst 0, 1) := dk_3 (dk_at dksX16_ledger_5 18 rfl rfl)
theorem dX16_ledger_150 : decode cX16_ledger 150 = .ok (.iconst 3, 1) := dk_6 (dk_at dksX16_ledger_5 19 rfl rfl)
theorem dX16_ledger_151 : decode cX16_ledger 151 = .ok (.invokevirtual 278, 3) := dk_182 1 22 (dk_at dksX16_ledger_5 20 rfl rfl)
theorem dX16_ledger_154 : decode cX16_ledger 154 = .ok (.ifCond .eq 7, 3) := dk_153 0 7 (dk_at dksX16_ledger_6 0 rfl rfl)
theorem dX16_ledger_157 : decode cX16_ledger 157 = .ok (.iconst 1, 1) := dk_4 (dk_at dksX16_ledger_6 3 rfl rfl)
theorem dX16_ledger_158 : decode cX16_ledger 158 = .ok (.goto 4, 3) := dk_167 0 4 (dk_at dksX16_ledger_6 4 rfl rfl)
theorem dX16_ledger_161 : decode cX16_ledger 161 = .ok (.iconst 0, 1) := dk_3 (dk_at dksX16_ledger_6 7 rfl rfl)
theorem dX16_ledger_162 : decode cX16_ledger 162 = .ok (.iload_n 2, 1) := dk_28 (dk_at dksX16_ledger_6 8 rfl rfl)
theorem dX16_ledger_163 : decode cX16_ledger 163 = .ok (.iconst 0, 1) := dk_3 (dk_at dksX16_ledger_6 9 rfl rfl)
theorem dX16_ledger_164 : decode cX16_ledger 164 = .ok (.iconst 0, 1) := dk_3 (dk_at dksX16_ledger_6 10 rfl rfl)
theorem dX16_ledger_165 : decode cX16_ledger 165 = .ok (.iconst 0, 1) := dk_3 (dk_at dksX16_ledger_6 11 rfl rfl)
theorem dX16_ledger_166 : decode cX16_ledger 166 = .ok (.invokevirtual 274, 3) := dk_182 1 18 (dk_at dksX16_ledger_6 12 rfl rfl)
theorem dX16_ledger_169 : decode cX16_ledger 169 = .ok (.ireturn, 1) := dk_172 (dk_at dksX16_ledger_6 15 rfl rfl)
theorem dX16_ledger_170 : decode cX16_ledger 170 = .ok (.iload_n 3, 1) := dk_29 (dk_at dksX16_ledger_6 16 rfl rfl)
theorem dX16_ledger_171 : decode cX16_ledger 171 = .ok (.ifCond .ne 18, 3) := dk_154 0 18 (dk_at dksX16_ledger_6 17 rfl rfl)
theorem dX16_ledger_174 : decode cX16_ledger 174 = .ok (.aload_n 0, 1) := dk_42 (dk_at dksX16_ledger_6 20 rfl rfl)
theorem dX16_ledger_175 : decode cX16_ledger 175 = .ok (.getfield 62, 3) := dk_180 0 62 (dk_at dksX16_ledger_6 21 rfl rfl)
theorem dX16_ledger_178 : decode cX16_ledger 178 = .ok (.ifCond .ne 11, 3) := dk_154 0 11 (dk_at dksX16_ledger_7 0 rfl rfl)
theorem dX16_ledger_181 : decode cX16_ledger 181 = .ok (.aload_n 0, 1) := dk_42 (dk_at dksX16_ledger_7 3 rfl rfl)
theorem dX16_ledger_182 : decode cX16_ledger 182 = .ok (.iload_n 1, 1) := dk_27 (dk_at dksX16_ledger_7 4 rfl rfl)
theorem dX16_ledger_183 : decode cX16_ledger 183 = .ok (.invokevirtual 384, 3) := dk_182 1 128 (dk_at dksX16_ledger_7 5 rfl rfl)
theorem dX16_ledger_186 : decode cX16_ledger 186 = .ok (.goto 4, 3) := dk_167 0 4 (dk_at dksX16_ledger_7 8 rfl rfl)
theorem dX16_ledger_189 : decode cX16_ledger 189 = .ok (.iconst 0, 1) := dk_3 (dk_at dksX16_ledger_7 11 rfl rfl)
theorem dX16_ledger_190 : decode cX16_ledger 190 = .ok (.ireturn, 1) := dk_172 (dk_at dksX16_ledger_7 12 rfl rfl)
theorem dX16_ledger_191 : decode cX16_ledger 191 = .ok (.aload_n 0, 1) := dk_42 (dk_at dksX16_ledger_7 13 rfl rfl)
theorem dX16_ledger_192 : decode cX16_ledger 192 = .ok (.iload_n 3, 1) := dk_29 (dk_at dksX16_ledger_7 14 rfl rfl)
theorem dX16_ledger_193 : decode cX16_ledger 193 = .ok (.ifCond .ne 27, 3) := dk_154 0 27 (dk_at dksX16_ledger_7 15 rfl rfl)
theorem dX16_ledger_196 : decode cX16_ledger 196 = .ok (.aload_n 0, 1) := dk_42 (dk_at dksX16_ledger_7 18 rfl rfl)
theorem dX16_ledger_197 : decode cX16_ledger 197 = .ok (.iconst 0, 1) := dk_3 (dk_at dksX16_ledger_7 19 rfl rfl)
theorem dX16_ledger_198 : decode cX16_ledger 198 = .ok (.invokevirtual 304, 3) := dk_182 1 48 (dk_at dksX16_ledger_7 20 rfl rfl)
theorem dX16_ledger_201 : decode cX16_ledger 201 = .ok (.bipush 13, 2) := dk_16 13 (dk_at dksX16_ledger_8 0 rfl rfl)
theorem dX16_ledger_203 : decode cX16_ledger 203 = .ok (.if_icmp .ne 17, 3) := dk_160 0 17 (dk_at dksX16_ledger_8 2 rfl rfl)
theorem dX16_ledger_206 : decode cX16_ledger 206 = .ok (.aload_n 0, 1) := dk_42 (dk_at dksX16_ledger_8 5 rfl rfl)
theorem dX16_ledger_207 : decode cX16_ledger 207 = .ok (.iconst 1, 1) := dk_4 (dk_at dksX16_ledger_8 6 rfl rfl)
theorem dX16_ledger_208 : decode cX16_ledger 208 = .ok (.bipush 7, 2) := dk_16 7 (dk_at dksX16_ledger_8 7 rfl rfl)
theorem dX16_ledger_210 : decode cX16_ledger 210 = .ok (.invokevirtual 278, 3) := dk_182 1 22 (dk_at dksX16_ledger_8 9 rfl rfl)
theorem dX16_ledger_213 : decode cX16_ledger 213 = .ok (.ifCond .eq 7, 3) := dk_153 0 7 (dk_at dksX16_ledger_8 12 rfl rfl)
theorem dX16_ledger_216 : decode cX16_ledger 216 = .ok (.iconst 1, 1) := dk_4 (dk_at dksX16_ledger_8 15 rfl rfl)
theorem dX16_ledger_217 : decode cX16_ledger 217 = .ok (.goto 4, 3) := dk_167 0 4 (dk_at dksX16_ledger_8 16 rfl rfl)
theorem dX16_ledger_220 : decode cX16_ledger 220 = .ok (.iconst 0, 1) := dk_3 (dk_at dksX16_ledger_8 19 rfl rfl)
theorem dX16_ledger_221 : decode cX16_ledger 221 = .ok (.iload_n 2, 1) := dk_28 (dk_at dksX16_ledger_8 20 rfl rfl)
theorem dX16_ledger_222 : decode cX16_ledger 222 = .ok (.iconst 0, 1) := dk_3 (dk_at dksX16_ledger_8 21 rfl rfl)
theorem dX16_ledger_223 : decode cX16_ledger 223 = .ok (.iconst 0, 1) := dk_3 (dk_at dksX16_ledger_8 22 rfl rfl)
theorem dX16_ledger_224 : decode cX16_ledger 224 = .ok (.iconst 0, 1) := dk_3 (dk_at dksX16_ledger_8 23 rfl rfl)
theorem dX16_ledger_225 : decode cX16_ledger 225 = .ok (.invokevirtual 274, 3) := dk_182 1 18 (dk_at dksX16_ledger_9 0 rfl rfl)
theorem dX16_ledger_228 : decode cX16_ledger 228 = .ok (.ireturn, 1) := dk_172 (dk_at dksX16_ledger_9 3 rfl rfl)
theorem dX16_ledger_229 : decode cX16_ledger 229 = .ok (.iload_n 3, 1) := dk_29 (dk_at dksX16_ledger_9 4 rfl rfl)
theorem dX16_ledger_230 : decode cX16_ledger 230 = .ok (.iconst 1, 1) := dk_4 (dk_at dksX16_ledger_9 5 rfl rfl)
theorem dX16_ledger_231 : decode cX16_ledger 231 = .ok (.if_icmp .ne 11, 3) := dk_160 0 11 (dk_at dksX16_ledger_9 6 rfl rfl)
theorem dX16_ledger_234 : decode cX16_ledger 234 = .ok (.aload_n 0, 1) := dk_42 (dk_at dksX16_ledger_9 9 rfl rfl)
theorem dX16_ledger_235 : decode cX16_ledger 235 = .ok (.iload_n 1, 1) := dk_27 (dk_at dksX16_ledger_9 10 rfl rfl)
theorem dX16_ledger_236 : decode cX16_ledger 236 = .ok (.invokevirtual 387, 3) := dk_182 1 131 (dk_at dksX16_ledger_9 11 rfl rfl)
theorem dX16_ledger_239 : decode cX16_ledger 239 = .ok (.goto 4, 3) := dk_167 0 4 (dk_at dksX16_ledger_9 14 rfl rfl)
theorem dX16_ledger_242 : decode cX16_ledger 242 = .ok (.iconst 0, 1) := dk_3 (dk_at dksX16_ledger_9 17 rfl rfl)
theorem dX16_ledger_243 : decode cX16_ledger 243 = .ok (.ireturn, 1) := dk_172 (dk_at dksX16_ledger_9 18 rfl rfl)
theorem dX16_ledger_244 : decode cX16_ledger 244 = .ok (.iload_n 3, 1) := dk_29 (dk_at dksX16_ledger_9 19 rfl rfl)
theorem dX16_ledger_245 : decode cX16_ledger 245 = .ok (.ifCond .ne 55, 3) := dk_154 0 55 (dk_at dksX16_ledger_9 20 rfl rfl)
theorem dX16_ledger_248 : decode cX16_ledger 248 = .ok (.aload_n 0, 1) := dk_42 (dk_at dksX16_ledger_9 23 rfl rfl)
theorem dX16_ledger_249 : decode cX16_ledger 249 = .ok (.iconst 1, 1) := dk_4 (dk_at dksX16_ledger_10 0 rfl rfl)
theorem dX16_ledger_250 : decode cX16_ledger 250 = .ok (.invokevirtual 304, 3) := dk_182 1 48 (dk_at dksX16_ledger_10 1 rfl rfl)
theorem dX16_ledger_253 : decode cX16_ledger 253 = .ok (.iconst 4, 1) := dk_7 (dk_at dksX16_ledger_10 4 rfl rfl)
theorem dX16_ledger_254 : decode cX16_ledger 254 = .ok (.if_icmp .ne 46, 3) := dk_160 0 46 (dk_at dksX16_ledger_10 5 rfl rfl)
theorem dX16_ledger_257 : decode cX16_ledger 257 = .ok (.aload_n 0, 1) := dk_42 (dk_at dksX16_ledger_10 8 rfl rfl)
theorem dX16_ledger_258 : decode cX16_ledger 258 = .ok (.iconst 2, 1) := dk_5 (dk_at dksX16_ledger_10 9 rfl rfl)
theorem dX16_ledger_259 : decode cX16_ledger 259 = .ok (.invokevirtual 304, 3) := dk_182 1 48 (dk_at dksX16_ledger_10 10 rfl rfl)
theorem dX16_ledger_262 : decode cX16_ledger 262 = .ok (.bipush 13, 2) := dk_16 13 (dk_at dksX16_ledger_10 13 rfl rfl)
theorem dX16_ledger_264 : decode cX16_ledger 264 = .ok (.if_icmp .ne 36, 3) := dk_160 0 36 (dk_at dksX16_ledger_10 15 rfl rfl)
theorem dX16_ledger_267 : decode cX16_ledger 267 = .ok (.aload_n 0, 1) := dk_42 (dk_at dksX16_ledger_10 18 rfl rfl)
theorem dX16_ledger_268 : decode cX16_ledger 268 = .ok (.iconst 2, 1) := dk_5 (dk_at dksX16_ledger_10 19 rfl rfl)
theorem dX16_ledger_269 : decode cX16_ledger 269 = .ok (.invokevirtual 307, 3) := dk_182 1 51 (dk_at dksX16_ledger_10 20 rfl rfl)
theorem dX16_ledger_272 : decode cX16_ledger 272 = .ok (.aload_n 0, 1) := dk_42 (dk_at dksX16_ledger_10 23 rfl rfl)
theorem dX16_ledger_273 : decode cX16_ledger 273 = .ok (.iconst 0, 1) := dk_3 (dk_at dksX16_ledger_11 0 rfl rfl)
theorem dX16_ledger_274 : decode cX16_ledger 274 = .ok (.invokevirtual 209, 3) := dk_182 0 209 (dk_at dksX16_ledger_11 1 rfl rfl)
theorem dX16_ledger_277 : decode cX16_ledger 277 = .ok (.if_icmp .ne 23, 3) := dk_160 0 23 (dk_at dksX16_ledger_11 4 rfl rfl)
theorem dX16_ledger_280 : decode cX16_ledger 280 = .ok (.aload_n 0, 1) := dk_42 (dk_at dksX16_ledger_11 7 rfl rfl)
theorem dX16_ledger_281 : decode cX16_ledger 281 = .ok (.getfield 32, 3) := dk_180 0 32 (dk_at dksX16_ledger_11 8 rfl rfl)
theorem dX16_ledger_284 : decode cX16_ledger 284 = .ok (.aload_n 0, 1) := dk_42 (dk_at dksX16_ledger_11 11 rfl rfl)
theorem dX16_ledger_285 : decode cX16_ledger 285 = .ok (.iconst 0, 1) := dk_3 (dk_at dksX16_ledger_11 12 rfl rfl)
theorem dX16_ledger_286 : decode cX16_ledger 286 = .ok (.invokevirtual 209, 3) := dk_182 0 209 (dk_at dksX16_ledger_11 13 rfl rfl)
theorem dX16_ledger_289 : decode cX16_ledger 289 = .ok (.iconst 2, 1) := dk_5 (dk_at dksX16_ledger_11 16 rfl rfl)
theorem dX16_ledger_290 : decode cX16_ledger 290 = .ok (.invokevirtual 120, 3) := dk_182 0 120 (dk_at dksX16_ledger_11 17 rfl rfl)
theorem dX16_ledger_293 : decode cX16_ledger 293 = .ok (.ifCond .eq 7, 3) := dk_153 0 7 (dk_at dksX16_ledger_11 20 rfl rfl)
theorem dX16_ledger_296 : decode cX16_ledger 296 = .ok (.iconst 1, 1) := dk_4 (dk_at dksX16_ledger_11 23 rfl rfl)
theorem dX16_ledger_297 : decode cX16_ledger 297 = .ok (.goto 4, 3) := dk_167 0 4 (dk_at dksX16_ledger_12 0 rfl rfl)
theorem dX16_ledger_300 : decode cX16_ledger 300 = .ok (.iconst 0, 1) := dk_3 (dk_at dksX16_ledger_12 3 rfl rfl)
theorem dX16_ledger_301 : decode cX16_ledger 301 = .ok (.istore 4, 2) := dk_54 4 (dk_at dksX16_ledger_12 4 rfl rfl)
theorem dX16_ledger_303 : decode cX16_ledger 303 = .ok (.aload_n 0, 1) := dk_42 (dk_at dksX16_ledger_12 6 rfl rfl)
theorem dX16_ledger_304 : decode cX16_ledger 304 = .ok (.iload 4, 2) := dk_21 4 (dk_at dksX16_ledger_12 7 rfl rfl)
theorem dX16_ledger_306 : decode cX16_ledger 306 = .ok (.ifCond .eq 17, 3) := dk_153 0 17 (dk_at dksX16_ledger_12 9 rfl rfl)
theorem dX16_ledger_309 : decode cX16_ledger 309 = .ok (.aload_n 0, 1) := dk_42 (dk_at dksX16_ledger_12 12 rfl rfl)
theorem dX16_ledger_310 : decode cX16_ledger 310 = .ok (.iconst 3, 1) := dk_6 (dk_at dksX16_ledger_12 13 rfl rfl)
theorem dX16_ledger_311 : decode cX16_ledger 311 = .ok (.bipush 9, 2) := dk_16 9 (dk_at dksX16_ledger_12 14 rfl rfl)
theorem dX16_ledger_313 : decode cX16_ledger 313 = .ok (.invokevirtual 278, 3) := dk_182 1 22 (dk_at dksX16_ledger_12 16 rfl rfl)
theorem dX16_ledger_316 : decode cX16_ledger 316 = .ok (.ifCond .eq 7, 3) := dk_153 0 7 (dk_at dksX16_ledger_12 19 rfl rfl)
theorem dX16_ledger_319 : decode cX16_ledger 319 = .ok (.iconst 1, 1) := dk_4 (dk_at dksX16_ledger_12 22 rfl rfl)
theorem dX16_ledger_320 : decode cX16_ledger 320 = .ok (.goto 4, 3) := dk_167 0 4 (dk_at dksX16_ledger_13 0 rfl rfl)
theorem dX16_ledger_323 : decode cX16_ledger 323 = .ok (.iconst 0, 1) := dk_3 (dk_at dksX16_ledger_13 3 rfl rfl)
theorem dX16_ledger_324 : decode cX16_ledger 324 = .ok (.iload_n 2, 1) := dk_28 (dk_at dksX16_ledger_13 4 rfl rfl)
theorem dX16_ledger_325 : decode cX16_ledger 325 = .ok (.iconst 0, 1) := dk_3 (dk_at dksX16_ledger_13 5 rfl rfl)
theorem dX16_ledger_326 : decode cX16_ledger 326 = .ok (.iconst 0, 1) := dk_3 (dk_at dksX16_ledger_13 6 rfl rfl)
theorem dX16_ledger_327 : decode cX16_ledger 327 = .ok (.iconst 0, 1) := dk_3 (dk_at dksX16_ledger_13 7 rfl rfl)
theorem dX16_ledger_328 : decode cX16_ledger 328 = .ok (.invokevirtual 274, 3) := dk_182 1 18 (dk_at dksX16_ledger_13 8 rfl rfl)
theorem dX16_ledger_331 : decode cX16_ledger 331 = .ok (.ireturn, 1) := dk_172 (dk_at dksX16_ledger_13 11 rfl rfl)
theorem dX16_ledger_332 : decode cX16_ledger 332 = .ok (.iload_n 3, 1) := dk_29 (dk_at dksX16_ledger_13 12 rfl rfl)
theorem dX16_ledger_333 : decode cX16_ledger 333 = .ok (.iconst 1, 1) := dk_4 (dk_at dksX16_ledger_13 13 rfl rfl)
theorem dX16_ledger_334 : decode cX16_ledger 334 = .ok (.if_icmp .ne 11, 3) := dk_160 0 11 (dk_at dksX16_ledger_13 14 rfl rfl)
theorem dX16_ledger_337 : decode cX16_ledger 337 = .ok (.aload_n 0, 1) := dk_42 (dk_at dksX16_ledger_13 17 rfl rfl)
theorem dX16_ledger_338 : decode cX16_ledger 338 = .ok (.iload_n 1, 1) := dk_27 (dk_at dksX16_ledger_13 18 rfl rfl)
theorem dX16_ledger_339 : decode cX16_ledger 339 = .ok (.invokevirtual 390, 3) := dk_182 1 134 (dk_at dksX16_ledger_13 19 rfl rfl)
theorem dX16_ledger_342 : decode cX16_ledger 342 = .ok (.goto 4, 3) := dk_167 0 4 (dk_at dksX16_ledger_14 0 rfl rfl)
theorem dX16_ledger_345 : decode cX16_ledger 345 = .ok (.iconst 0, 1) := dk_3 (dk_at dksX16_ledger_14 3 rfl rfl)
theorem dX16_ledger_346 : decode cX16_ledger 346 = .ok (.ireturn, 1) := dk_172 (dk_at dksX16_ledger_14 4 rfl rfl)
abbrev cX16_self : ByteArray := prog_21_method_52_code
def yX16_self : MethodName := ⟨RX16, "self", "(I)I"⟩
def dkwX16_self_4 : List UInt8 := [46, 2, 182, 0, 195, 182, 1, 22, 16, 102, 28, 3, 3, 182, 1, 18, 172]
abbrev dktX16_self_4 : List UInt8 := dkwX16_self_4 ++ []
def dkwX16_self_3 : List UInt8 := [156, 0, 7, 3, 167, 0, 36, 42, 42, 3, 42, 180, 0, 32, 16, 13, 42, 180, 0, 40, 180, 0, 153, 29]
abbrev dktX16_self_3 : List UInt8 := dkwX16_self_3 ++ dktX16_self_4
def dkwX16_self_2 : List UInt8 := [61, 28, 156, 0, 7, 2, 167, 0, 15, 42, 180, 0, 40, 42, 180, 0, 189, 28, 182, 0, 128, 62, 29]
abbrev dktX16_self_2 : List UInt8 := dkwX16_self_2 ++ dktX16_self_3
def dkwX16_self_1 : List UInt8 := [182, 0, 175, 42, 180, 0, 28, 180, 0, 172, 27, 46, 42, 180, 0, 28, 180, 0, 179, 27, 46, 182, 1, 137]
abbrev dktX16_self_1 : List UInt8 := dkwX16_self_1 ++ dktX16_self_2
def dkwX16_self_0 : List UInt8 := [42, 180, 0, 28, 180, 0, 172, 27, 46, 154, 0, 7, 3, 167, 0, 35, 42, 180, 0, 36, 42, 180, 0, 28]
abbrev dktX16_self_0 : List UInt8 := dkwX16_self_0 ++ dktX16_self_1
theorem dksX16_self_0 : cX16_self.data.toList.drop 0 = dktX16_self_0 := by decide +kernel
theorem dksX16_self_1 : cX16_self.data.toList.drop 24 = dktX16_self_1 := dk_seg dksX16_self_0 24 rfl rfl
theorem dksX16_self_2 : cX16_self.data.toList.drop 48 = dktX16_self_2 := dk_seg dksX16_self_1 24 rfl rfl
theorem dksX16_self_3 : cX16_self.data.toList.drop 71 = dktX16_self_3 := dk_seg dksX16_self_2 23 rfl rfl
theorem dksX16_self_4 : cX16_self.data.toList.drop 95 = dktX16_self_4 := dk_seg dksX16_self_3 24 rfl rfl
theorem dX16_self_0 : decode cX16_self 0 = .ok (.aload_n 0, 1) := dk_42 (dk_at dksX16_self_0 0 rfl rfl)
theorem dX16_self_1 : decode cX16_self 1 = .ok (.getfield 28, 3) := dk_180 0 28 (dk_at dksX16_self_0 1 rfl rfl)
theorem dX16_self_4 : decode cX16_self 4 = .ok (.getfield 172, 3) := dk_180 0 172 (dk_at dksX16_self_0 4 rfl rfl)
theorem dX16_self_7 : decode cX16_self 7 = .ok (.iload_n 1, 1) := dk_27 (dk_at dksX16_self_0 7 rfl rfl)
theorem dX16_self_8 : decode cX16_self 8 = .ok (.iaload, 1) := dk_46 (dk_at dksX16_self_0 8 rfl rfl)
theorem dX16_self_9 : decode cX16_self 9 = .ok (.ifCond .ne 7, 3) := dk_154 0 7 (dk_at dksX16_self_0 9 rfl rfl)
theorem dX16_self_12 : decode cX16_self 12 = .ok (.iconst 0, 1) := dk_3 (dk_at dksX16_self_0 12 rfl rfl)
theorem dX16_self_13 : decode cX16_self 13 = .ok (.goto 35, 3) := dk_167 0 35 (dk_at dksX16_self_0 13 rfl rfl)
theorem dX16_self_16 : decode cX16_self 16 = .ok (.aload_n 0, 1) := dk_42 (dk_at dksX16_self_0 16 rfl rfl)
theorem dX16_self_17 : decode cX16_self 17 = .ok (.getfield 36, 3) := dk_180 0 36 (dk_at dksX16_self_0 17 rfl rfl)
theorem dX16_self_20 : decode cX16_self 20 = .ok (.aload_n 0, 1) := dk_42 (dk_at dksX16_self_0 20 rfl rfl)
theorem dX16_self_21 : decode cX16_self 21 = .ok (.getfield 28, 3) := dk_180 0 28 (dk_at dksX16_self_0 21 rfl rfl)
theorem dX16_self_24 : decode cX16_self 24 = .ok (.invokevirtual 175, 3) := dk_182 0 175 (dk_at dksX16_self_1 0 rfl rfl)
theorem dX16_self_27 : decode cX16_self 27 = .ok (.aload_n 0, 1) := dk_42 (dk_at dksX16_self_1 3 rfl rfl)
theorem dX16_self_28 : decode cX16_self 28 = .ok (.getfield 28, 3) := dk_180 0 28 (dk_at dksX16_self_1 4 rfl rfl)
theorem dX16_self_31 : decode cX16_self 31 = .ok (.getfield 172, 3) := dk_180 0 172 (dk_at dksX16_self_1 7 rfl rfl)
theorem dX16_self_34 : decode cX16_self 34 = .ok (.iload_n 1, 1) := dk_27 (dk_at dksX16_self_1 10 rfl rfl)
theorem dX16_self_35 : decode cX16_self 35 = .ok (.iaload, 1) := dk_46 (dk_at dksX16_self_1 11 rfl rfl)
theorem dX16_self_36 : decode cX16_self 36 = .ok (.aload_n 0, 1) := dk_42 (dk_at dksX16_self_1 12 rfl rfl)
theorem dX16_self_37 : decode cX16_self 37 = .ok (.getfield 28, 3) := dk_180 0 28 (dk_at dksX16_self_1 13 rfl rfl)
theorem dX16_self_40 : decode cX16_self 40 = .ok (.getfield 179, 3) := dk_180 0 179 (dk_at dksX16_self_1 16 rfl rfl)
theorem dX16_self_43 : decode cX16_self 43 = .ok (.iload_n 1, 1) := dk_27 (dk_at dksX16_self_1 19 rfl rfl)
theorem dX16_self_44 : decode cX16_self 44 = .ok (.iaload, 1) := dk_46 (dk_at dksX16_self_1 20 rfl rfl)
theorem dX16_self_45 : decode cX16_self 45 = .ok (.invokevirtual 393, 3) := dk_182 1 137 (dk_at dksX16_self_1 21 rfl rfl)
theorem dX16_self_48 : decode cX16_self 48 = .ok (.istore_n 2, 1) := dk_61 (dk_at dksX16_self_2 0 rfl rfl)
theorem dX16_self_49 : decode cX16_self 49 = .ok (.iload_n 2, 1) := dk_28 (dk_at dksX16_self_2 1 rfl rfl)
theorem dX16_self_50 : decode cX16_self 50 = .ok (.ifCond .ge 7, 3) := dk_156 0 7 (dk_at dksX16_self_2 2 rfl rfl)
theorem dX16_self_53 : decode cX16_self 53 = .ok (.iconst (-1), 1) := dk_2 (dk_at dksX16_self_2 5 rfl rfl)
theorem dX16_self_54 : decode cX16_self 54 = .ok (.goto 15, 3) := dk_167 0 15 (dk_at dksX16_self_2 6 rfl rfl)
theorem dX16_self_57 : decode cX16_self 57 = .ok (.aload_n 0, 1) := dk_42 (dk_at dksX16_self_2 9 rfl rfl)
theorem dX16_self_58 : decode cX16_self 58 = .ok (.getfield 40, 3) := dk_180 0 40 (dk_at dksX16_self_2 10 rfl rfl)
theorem dX16_self_61 : decode cX16_self 61 = .ok (.aload_n 0, 1) := dk_42 (dk_at dksX16_self_2 13 rfl rfl)
theorem dX16_self_62 : decode cX16_self 62 = .ok (.getfield 189, 3) := dk_180 0 189 (dk_at dksX16_self_2 14 rfl rfl)
theorem dX16_self_65 : decode cX16_self 65 = .ok (.iload_n 2, 1) := dk_28 (dk_at dksX16_self_2 17 rfl rfl)
theorem dX16_self_66 : decode cX16_self 66 = .ok (.invokevirtual 128, 3) := dk_182 0 128 (dk_at dksX16_self_2 18 rfl rfl)
theorem dX16_self_69 : decode cX16_self 69 = .ok (.istore_n 3, 1) := dk_62 (dk_at dksX16_self_2 21 rfl rfl)
theorem dX16_self_70 : decode cX16_self 70 = .ok (.iload_n 3, 1) := dk_29 (dk_at dksX16_self_2 22 rfl rfl)
theorem dX16_self_71 : decode cX16_self 71 = .ok (.ifCond .ge 7, 3) := dk_156 0 7 (dk_at dksX16_self_3 0 rfl rfl)
theorem dX16_self_74 : decode cX16_self 74 = .ok (.iconst 0, 1) := dk_3 (dk_at dksX16_self_3 3 rfl rfl)
theorem dX16_self_75 : decode cX16_self 75 = .ok (.goto 36, 3) := dk_167 0 36 (dk_at dksX16_self_3 4 rfl rfl)
theorem dX16_self_78 : decode cX16_self 78 = .ok (.aload_n 0, 1) := dk_42 (dk_at dksX16_self_3 7 rfl rfl)
theorem dX16_self_79 : decode cX16_self 79 = .ok (.aload_n 0, 1) := dk_42 (dk_at dksX16_self_3 8 rfl rfl)
theorem dX16_self_80 : decode cX16_self 80 = .ok (.iconst 0, 1) := dk_3 (dk_at dksX16_self_3 9 rfl rfl)
theorem dX16_self_81 : decode cX16_self 81 = .ok (.aload_n 0, 1) := dk_42 (dk_at dksX16_self_3 10 rfl rfl)
theorem dX16_self_82 : decode cX16_self 82 = .ok (.getfield 32, 3) := dk_180 0 32 (dk_at dksX16_self_3 11 rfl rfl)
theorem dX16_self_85 : decode cX16_self 85 = .ok (.bipush 13, 2) := dk_16 13 (dk_at dksX16_self_3 14 rfl rfl)
theorem dX16_self_87 : decode cX16_self 87 = .ok (.aload_n 0, 1) := dk_42 (dk_at dksX16_self_3 16 rfl rfl)
theorem dX16_self_88 : decode cX16_self 88 = .ok (.getfield 40, 3) := dk_180 0 40 (dk_at dksX16_self_3 17 rfl rfl)
theorem dX16_self_91 : decode cX16_self 91 = .ok (.getfield 153, 3) := dk_180 0 153 (dk_at dksX16_self_3 20 rfl rfl)
theorem dX16_self_94 : decode cX16_self 94 = .ok (.iload_n 3, 1) := dk_29 (dk_at dksX16_self_3 23 rfl rfl)
theorem dX16_self_95 : decode cX16_self 95 = .ok (.iaload, 1) := dk_46 (dk_at dksX16_self_4 0 rfl rfl)
theorem dX16_self_96 : decode cX16_self 96 = .ok (.iconst (-1), 1) := dk_2 (dk_at dksX16_self_4 1 rfl rfl)
theorem dX16_self_97 : decode cX16_self 97 = .ok (.invokevirtual 195, 3) := dk_182 0 195 (dk_at dksX16_self_4 2 rfl rfl)
theorem dX16_self_100 : decode cX16_self 100 = .ok (.invokevirtual 278, 3) := dk_182 1 22 (dk_at dksX16_self_4 5 rfl rfl)
theorem dX16_self_103 : decode cX16_self 103 = .ok (.bipush 102, 2) := dk_16 102 (dk_at dksX16_self_4 8 rfl rfl)
theorem dX16_self_105 : decode cX16_self 105 = .ok (.iload_n 2, 1) := dk_28 (dk_at dksX16_self_4 10 rfl rfl)
theorem dX16_self_106 : decode cX16_self 106 = .ok (.iconst 0, 1) := dk_3 (dk_at dksX16_self_4 11 rfl rfl)
theorem dX16_self_107 : decode cX16_self 107 = .ok (.iconst 0, 1) := dk_3 (dk_at dksX16_self_4 12 rfl rfl)
theorem dX16_self_108 : decode cX16_self 108 = .ok (.invokevirtual 274, 3) := dk_182 1 18 (dk_at dksX16_self_4 13 rfl rfl)
theorem dX16_self_111 : decode cX16_self 111 = .ok (.ireturn, 1) := dk_172 (dk_at dksX16_self_4 16 rfl rfl)
abbrev cX16_contract : ByteArray := prog_21_method_53_code
def yX16_contract : MethodName := ⟨RX16, "contract", "(I)I"⟩
def dkwX16_contract_5 : List UInt8 := [54, 5, 42, 42, 4, 21, 4, 182, 1, 22, 16, 104, 28, 21, 5, 3, 182, 1, 18, 172]
abbrev dktX16_contract_5 : List UInt8 := dkwX16_contract_5 ++ []
def dkwX16_contract_4 : List UInt8 := [182, 0, 175, 42, 180, 0, 28, 180, 0, 172, 27, 46, 42, 180, 0, 28, 180, 0, 179, 27, 46, 182, 0, 182]
abbrev dktX16_contract_4 : List UInt8 := dkwX16_contract_4 ++ dktX16_contract_5
def dkwX16_contract_3 : List UInt8 := [42, 180, 0, 28, 180, 0, 172, 27, 46, 154, 0, 7, 2, 167, 0, 35, 42, 180, 0, 36, 42, 180, 0, 28]
abbrev dktX16_contract_3 : List UInt8 := dkwX16_contract_3 ++ dktX16_contract_4
def dkwX16_contract_2 : List UInt8 := [156, 0, 7, 2, 167, 0, 11, 42, 180, 0, 32, 29, 182, 1, 57, 54, 4, 21, 4, 156, 0, 5, 3, 172]
abbrev dktX16_contract_2 : List UInt8 := dkwX16_contract_2 ++ dktX16_contract_3
def dkwX16_contract_1 : List UInt8 := [3, 182, 1, 48, 16, 7, 159, 0, 5, 3, 172, 42, 180, 0, 32, 16, 13, 28, 2, 182, 0, 195, 62, 29]
abbrev dktX16_contract_1 : List UInt8 := dkwX16_contract_1 ++ dktX16_contract_2
def dkwX16_contract_0 : List UInt8 := [42, 27, 3, 182, 1, 29, 61, 28, 155, 0, 25, 42, 180, 0, 32, 28, 5, 182, 0, 120, 153, 0, 13, 42]
abbrev dktX16_contract_0 : List UInt8 := dkwX16_contract_0 ++ dktX16_contract_1
theorem dksX16_contract_0 : cX16_contract.data.toList.drop 0 = dktX16_contract_0 := by decide +kernel
theorem dksX16_contract_1 : cX16_contract.data.toList.drop 24 = dktX16_contract_1 := dk_seg dksX16_contract_0 24 rfl rfl
theorem dksX16_contract_2 : cX16_contract.data.toList.drop 48 = dktX16_contract_2 := dk_seg dksX16_contract_1 24 rfl rfl
theorem dksX16_contract_3 : cX16_contract.data.toList.drop 72 = dktX16_contract_3 := dk_seg dksX16_contract_2 24 rfl rfl
theorem dksX16_contract_4 : cX16_contract.data.toList.drop 96 = dktX16_contract_4 := dk_seg dksX16_contract_3 24 rfl rfl
theorem dksX16_contract_5 : cX16_contract.data.toList.drop 120 = dktX16_contract_5 := dk_seg dksX16_contract_4 24 rfl rfl
theorem dX16_contract_0 : decode cX16_contract 0 = .ok (.aload_n 0, 1) := dk_42 (dk_at dksX16_contract_0 0 rfl rfl)
theorem dX16_contract_1 : decode cX16_contract 1 = .ok (.iload_n 1, 1) := dk_27 (dk_at dksX16_contract_0 1 rfl rfl)
theorem dX16_contract_2 : decode cX16_contract 2 = .ok (.iconst 0, 1) := dk_3 (dk_at dksX16_contract_0 2 rfl rfl)
theorem dX16_contract_3 : decode cX16_contract 3 = .ok (.invokevirtual 285, 3) := dk_182 1 29 (dk_at dksX16_contract_0 3 rfl rfl)
theorem dX16_contract_6 : decode cX16_contract 6 = .ok (.istore_n 2, 1) := dk_61 (dk_at dksX16_contract_0 6 rfl rfl)
theorem dX16_contract_7 : decode cX16_contract 7 = .ok (.iload_n 2, 1) := dk_28 (dk_at dksX16_contract_0 7 rfl rfl)
theorem dX16_contract_8 : decode cX16_contract 8 = .ok (.ifCond .lt 25, 3) := dk_155 0 25 (dk_at dksX16_contract_0 8 rfl rfl)
theorem dX16_contract_11 : decode cX16_contract 11 = .ok (.aload_n 0, 1) := dk_42 (dk_at dksX16_contract_0 11 rfl rfl)
theorem dX16_contract_12 : decode cX16_contract 12 = .ok (.getfield 32, 3) := dk_180 0 32 (dk_at dksX16_contract_0 12 rfl rfl)
theorem dX16_contract_15 : decode cX16_contract 15 = .ok (.iload_n 2, 1) := dk_28 (dk_at dksX16_contract_0 15 rfl rfl)
theorem dX16_contract_16 : decode cX16_contract 16 = .ok (.iconst 2, 1) := dk_5 (dk_at dksX16_contract_0 16 rfl rfl)
theorem dX16_contract_17 : decode cX16_contract 17 = .ok (.invokevirtual 120, 3) := dk_182 0 120 (dk_at dksX16_contract_0 17 rfl rfl)
theorem dX16_contract_20 : decode cX16_contract 20 = .ok (.ifCond .eq 13, 3) := dk_153 0 13 (dk_at dksX16_contract_0 20 rfl rfl)
theorem dX16_contract_23 : decode cX16_contract 23 = .ok (.aload_n 0, 1) := dk_42 (dk_at dksX16_contract_0 23 rfl rfl)
theorem dX16_contract_24 : decode cX16_contract 24 = .ok (.iconst 0, 1) := dk_3 (dk_at dksX16_contract_1 0 rfl rfl)
theorem dX16_contract_25 : decode cX16_contract 25 = .ok (.invokevirtual 304, 3) := dk_182 1 48 (dk_at dksX16_contract_1 1 rfl rfl)
theorem dX16_contract_28 : decode cX16_contract 28 = .ok (.bipush 7, 2) := dk_16 7 (dk_at dksX16_contract_1 4 rfl rfl)
theorem dX16_contract_30 : decode cX16_contract 30 = .ok (.if_icmp .eq 5, 3) := dk_159 0 5 (dk_at dksX16_contract_1 6 rfl rfl)
theorem dX16_contract_33 : decode cX16_contract 33 = .ok (.iconst 0, 1) := dk_3 (dk_at dksX16_contract_1 9 rfl rfl)
theorem dX16_contract_34 : decode cX16_contract 34 = .ok (.ireturn, 1) := dk_172 (dk_at dksX16_contract_1 10 rfl rfl)
theorem dX16_contract_35 : decode cX16_contract 35 = .ok (.aload_n 0, 1) := dk_42 (dk_at dksX16_contract_1 11 rfl rfl)
theorem dX16_contract_36 : decode cX16_contract 36 = .ok (.getfield 32, 3) := dk_180 0 32 (dk_at dksX16_contract_1 12 rfl rfl)
theorem dX16_contract_39 : decode cX16_contract 39 = .ok (.bipush 13, 2) := dk_16 13 (dk_at dksX16_contract_1 15 rfl rfl)
theorem dX16_contract_41 : decode cX16_contract 41 = .ok (.iload_n 2, 1) := dk_28 (dk_at dksX16_contract_1 17 rfl rfl)
theorem dX16_contract_42 : decode cX16_contract 42 = .ok (.iconst (-1), 1) := dk_2 (dk_at dksX16_contract_1 18 rfl rfl)
theorem dX16_contract_43 : decode cX16_contract 43 = .ok (.invokevirtual 195, 3) := dk_182 0 195 (dk_at dksX16_contract_1 19 rfl rfl)
theorem dX16_contract_46 : decode cX16_contract 46 = .ok (.istore_n 3, 1) := dk_62 (dk_at dksX16_contract_1 22 rfl rfl)
theorem dX16_contract_47 : decode cX16_contract 47 = .ok (.iload_n 3, 1) := dk_29 (dk_at dksX16_contract_1 23 rfl rfl)
theorem dX16_contract_48 : decode cX16_contract 48 = .ok (.ifCond .ge 7, 3) := dk_156 0 7 (dk_at dksX16_contract_2 0 rfl rfl)
theorem dX16_contract_51 : decode cX16_contract 51 = .ok (.iconst (-1), 1) := dk_2 (dk_at dksX16_contract_2 3 rfl rfl)
theorem dX16_contract_52 : decode cX16_contract 52 = .ok (.goto 11, 3) := dk_167 0 11 (dk_at dksX16_contract_2 4 rfl rfl)
theorem dX16_contract_55 : decode cX16_contract 55 = .ok (.aload_n 0, 1) := dk_42 (dk_at dksX16_contract_2 7 rfl rfl)
theorem dX16_contract_56 : decode cX16_contract 56 = .ok (.getfield 32, 3) := dk_180 0 32 (dk_at dksX16_contract_2 8 rfl rfl)
theorem dX16_contract_59 : decode cX16_contract 59 = .ok (.iload_n 3, 1) := dk_29 (dk_at dksX16_contract_2 11 rfl rfl)
theorem dX16_contract_60 : decode cX16_contract 60 = .ok (.invokevirtual 313, 3) := dk_182 1 57 (dk_at dksX16_contract_2 12 rfl rfl)
theorem dX16_contract_63 : decode cX16_contract 63 = .ok (.istore 4, 2) := dk_54 4 (dk_at dksX16_contract_2 15 rfl rfl)
theorem dX16_contract_65 : decode cX16_contract 65 = .ok (.iload 4, 2) := dk_21 4 (dk_at dksX16_contract_2 17 rfl rfl)
theorem dX16_contract_67 : decode cX16_contract 67 = .ok (.ifCond .ge 5, 3) := dk_156 0 5 (dk_at dksX16_contract_2 19 rfl rfl)
theorem dX16_contract_70 : decode cX16_contract 70 = .ok (.iconst 0, 1) := dk_3 (dk_at dksX16_contract_2 22 rfl rfl)
theorem dX16_contract_71 : decode cX16_contract 71 = .ok (.ireturn, 1) := dk_172 (dk_at dksX16_contract_2 23 rfl rfl)
theorem dX16_contract_72 : decode cX16_contract 72 = .ok (.aload_n 0, 1) := dk_42 (dk_at dksX16_contract_3 0 rfl rfl)
theorem dX16_contract_73 : decode cX16_contract 73 = .ok (.getfield 28, 3) := dk_180 0 28 (dk_at dksX16_contract_3 1 rfl rfl)
theorem dX16_contract_76 : decode cX16_contract 76 = .ok (.getfield 172, 3) := dk_180 0 172 (dk_at dksX16_contract_3 4 rfl rfl)
theorem dX16_contract_79 : decode cX16_contract 79 = .ok (.iload_n 1, 1) := dk_27 (dk_at dksX16_contract_3 7 rfl rfl)
theorem dX16_contract_80 : decode cX16_contract 80 = .ok (.iaload, 1) := dk_46 (dk_at dksX16_contract_3 8 rfl rfl)
theorem dX16_contract_81 : decode cX16_contract 81 = .ok (.ifCond .ne 7, 3) := dk_154 0 7 (dk_at dksX16_contract_3 9 rfl rfl)
theorem dX16_contract_84 : decode cX16_contract 84 = .ok (.iconst (-1), 1) := dk_2 (dk_at dksX16_contract_3 12 rfl rfl)
theorem dX16_contract_85 : decode cX16_contract 85 = .ok (.goto 35, 3) := dk_167 0 35 (dk_at dksX16_contract_3 13 rfl rfl)
theorem dX16_contract_88 : decode cX16_contract 88 = .ok (.aload_n 0, 1) := dk_42 (dk_at dksX16_contract_3 16 rfl rfl)
theorem dX16_contract_89 : decode cX16_contract 89 = .ok (.getfield 36, 3) := dk_180 0 36 (dk_at dksX16_contract_3 17 rfl rfl)
theorem dX16_contract_92 : decode cX16_contract 92 = .ok (.aload_n 0, 1) := dk_42 (dk_at dksX16_contract_3 20 rfl rfl)
theorem dX16_contract_93 : decode cX16_contract 93 = .ok (.getfield 28, 3) := dk_180 0 28 (dk_at dksX16_contract_3 21 rfl rfl)
theorem dX16_contract_96 : decode cX16_contract 96 = .ok (.invokevirtual 175, 3) := dk_182 0 175 (dk_at dksX16_contract_4 0 rfl rfl)
theorem dX16_contract_99 : decode cX16_contract 99 = .ok (.aload_n 0, 1) := dk_42 (dk_at dksX16_contract_4 3 rfl rfl)
theorem dX16_contract_100 : decode cX16_contract 100 = .ok (.getfield 28, 3) := dk_180 0 28 (dk_at dksX16_contract_4 4 rfl rfl)
theorem dX16_contract_103 : decode cX16_contract 103 = .ok (.getfield 172, 3) := dk_180 0 172 (dk_at dksX16_contract_4 7 rfl rfl)
theorem dX16_contract_106 : decode cX16_contract 106 = .ok (.iload_n 1, 1) := dk_27 (dk_at dksX16_contract_4 10 rfl rfl)
theorem dX16_contract_107 : decode cX16_contract 107 = .ok (.iaload, 1) := dk_46 (dk_at dksX16_contract_4 11 rfl rfl)
theorem dX16_contract_108 : decode cX16_contract 108 = .ok (.aload_n 0, 1) := dk_42 (dk_at dksX16_contract_4 12 rfl rfl)
theorem dX16_contract_109 : decode cX16_contract 109 = .ok (.getfield 28, 3) := dk_180 0 28 (dk_at dksX16_contract_4 13 rfl rfl)
theorem dX16_contract_112 : decode cX16_contract 112 = .ok (.getfield 179, 3) := dk_180 0 179 (dk_at dksX16_contract_4 16 rfl rfl)
theorem dX16_contract_115 : decode cX16_contract 115 = .ok (.iload_n 1, 1) := dk_27 (dk_at dksX16_contract_4 19 rfl rfl)
theorem dX16_contract_116 : decode cX16_contract 116 = .ok (.iaload, 1) := dk_46 (dk_at dksX16_contract_4 20 rfl rfl)
theorem dX16_contract_117 : decode cX16_contract 117 = .ok (.invokevirtual 182, 3) := dk_182 0 182 (dk_at dksX16_contract_4 21 rfl rfl)
theorem dX16_contract_120 : decode cX16_contract 120 = .ok (.istore 5, 2) := dk_54 5 (dk_at dksX16_contract_5 0 rfl rfl)
theorem dX16_contract_122 : decode cX16_contract 122 = .ok (.aload_n 0, 1) := dk_42 (dk_at dksX16_contract_5 2 rfl rfl)
theorem dX16_contract_123 : decode cX16_contract 123 = .ok (.aload_n 0, 1) := dk_42 (dk_at dksX16_contract_5 3 rfl rfl)
theorem dX16_contract_124 : decode cX16_contract 124 = .ok (.iconst 1, 1) := dk_4 (dk_at dksX16_contract_5 4 rfl rfl)
theorem dX16_contract_125 : decode cX16_contract 125 = .ok (.iload 4, 2) := dk_21 4 (dk_at dksX16_contract_5 5 rfl rfl)
theorem dX16_contract_127 : decode cX16_contract 127 = .ok (.invokevirtual 278, 3) := dk_182 1 22 (dk_at dksX16_contract_5 7 rfl rfl)
theorem dX16_contract_130 : decode cX16_contract 130 = .ok (.bipush 104, 2) := dk_16 104 (dk_at dksX16_contract_5 10 rfl rfl)
theorem dX16_contract_132 : decode cX16_contract 132 = .ok (.iload_n 2, 1) := dk_28 (dk_at dksX16_contract_5 12 rfl rfl)
theorem dX16_contract_133 : decode cX16_contract 133 = .ok (.iload 5, 2) := dk_21 5 (dk_at dksX16_contract_5 13 rfl rfl)
theorem dX16_contract_135 : decode cX16_contract 135 = .ok (.iconst 0, 1) := dk_3 (dk_at dksX16_contract_5 15 rfl rfl)
theorem dX16_contract_136 : decode cX16_contract 136 = .ok (.invokevirtual 274, 3) := dk_182 1 18 (dk_at dksX16_contract_5 16 rfl rfl)
theorem dX16_contract_139 : decode cX16_contract 139 = .ok (.ireturn, 1) := dk_172 (dk_at dksX16_contract_5 19 rfl rfl)
abbrev cX16_create : ByteArray := prog_21_method_54_code
def yX16_create : MethodName := ⟨RX16, "create", "(I)I"⟩
def dkwX16_create_8 : List UInt8 := [172]
abbrev dktX16_create_8 : List UInt8 := dkwX16_create_8 ++ []
def dkwX16_create_7 : List UInt8 := [42, 3, 16, 9, 182, 1, 22, 153, 0, 7, 4, 167, 0, 4, 3, 16, 106, 21, 4, 3, 3, 182, 1, 18]
abbrev dktX16_create_7 : List UInt8 := dkwX16_create_7 ++ dktX16_create_8
def dkwX16_create_6 : List UInt8 := [181, 0, 59, 42, 89, 180, 0, 56, 5, 100, 181, 0, 56, 42, 42, 3, 16, 7, 182, 1, 22, 153, 0, 17]
abbrev dktX16_create_6 : List UInt8 := dkwX16_create_6 ++ dktX16_create_7
def dkwX16_create_5 : List UInt8 := [42, 180, 0, 52, 155, 0, 5, 3, 172, 42, 3, 181, 0, 199, 42, 21, 7, 182, 1, 77, 42, 21, 6]
abbrev dktX16_create_5 : List UInt8 := dkwX16_create_5 ++ dktX16_create_6
def dkwX16_create_4 : List UInt8 := [42, 180, 0, 59, 54, 6, 42, 182, 1, 74, 42, 180, 0, 59, 54, 7, 42, 21, 4, 28, 27, 182, 0, 75]
abbrev dktX16_create_4 : List UInt8 := dkwX16_create_4 ++ dktX16_create_5
def dkwX16_create_3 : List UInt8 := [182, 0, 209, 5, 182, 0, 120, 153, 0, 7, 4, 167, 0, 4, 3, 54, 5, 21, 5, 154, 0, 5, 3, 172]
abbrev dktX16_create_3 : List UInt8 := dkwX16_create_3 ++ dktX16_create_4
def dkwX16_create_2 : List UInt8 := [42, 4, 182, 0, 209, 42, 180, 0, 40, 180, 0, 134, 21, 4, 46, 160, 0, 23, 42, 180, 0, 32, 42, 4]
abbrev dktX16_create_2 : List UInt8 := dkwX16_create_2 ++ dktX16_create_3
def dkwX16_create_1 : List UInt8 := [42, 29, 181, 0, 52, 3, 172, 42, 3, 182, 1, 48, 7, 160, 0, 49, 42, 180, 0, 56, 4, 164, 0, 41]
abbrev dktX16_create_1 : List UInt8 := dkwX16_create_1 ++ dktX16_create_2
def dkwX16_create_0 : List UInt8 := [42, 27, 3, 182, 0, 226, 61, 42, 180, 0, 52, 62, 42, 28, 182, 0, 65, 54, 4, 21, 4, 156, 0, 10]
abbrev dktX16_create_0 : List UInt8 := dkwX16_create_0 ++ dktX16_create_1
theorem dksX16_create_0 : cX16_create.data.toList.drop 0 = dktX16_create_0 := by decide +kernel
theorem dksX16_create_1 : cX16_create.data.toList.drop 24 = dktX16_create_1 := dk_seg dksX16_create_0 24 rfl rfl
theorem dksX16_create_2 : cX16_create.data.toList.drop 48 = dktX16_create_2 := dk_seg dksX16_create_1 24 rfl rfl
theorem dksX16_create_3 : cX16_create.data.toList.drop 72 = dktX16_create_3 := dk_seg dksX16_create_2 24 rfl rfl
theorem dksX16_create_4 : cX16_create.data.toList.drop 96 = dktX16_create_4 := dk_seg dksX16_create_3 24 rfl rfl
theorem dksX16_create_5 : cX16_create.data.toList.drop 120 = dktX16_create_5 := dk_seg dksX16_create_4 24 rfl rfl
theorem dksX16_create_6 : cX16_create.data.toList.drop 143 = dktX16_create_6 := dk_seg dksX16_create_5 23 rfl rfl
theorem dksX16_create_7 : cX16_create.data.toList.drop 167 = dktX16_create_7 := dk_seg dksX16_create_6 24 rfl rfl
theorem dksX16_create_8 : cX16_create.data.toList.drop 191 = dktX16_create_8 := dk_seg dksX16_create_7 24 rfl rfl
theorem dX16_create_0 : decode cX16_create 0 = .ok (.aload_n 0, 1) := dk_42 (dk_at dksX16_create_0 0 rfl rfl)
theorem dX16_create_1 : decode cX16_create 1 = .ok (.iload_n 1, 1) := dk_27 (dk_at dksX16_create_0 1 rfl rfl)
theorem dX16_create_2 : decode cX16_create 2 = .ok (.iconst 0, 1) := dk_3 (dk_at dksX16_create_0 2 rfl rfl)
theorem dX16_create_3 : decode cX16_create 3 = .ok (.invokevirtual 226, 3) := dk_182 0 226 (dk_at dksX16_create_0 3 rfl rfl)
theorem dX16_create_6 : decode cX16_create 6 = .ok (.istore_n 2, 1) := dk_61 (dk_at dksX16_create_0 6 rfl rfl)
theorem dX16_create_7 : decode cX16_create 7 = .ok (.aload_n 0, 1) := dk_42 (dk_at dksX16_create_0 7 rfl rfl)
theorem dX16_create_8 : decode cX16_create 8 = .ok (.getfield 52, 3) := dk_180 0 52 (dk_at dksX16_create_0 8 rfl rfl)
theorem dX16_create_11 : decode cX16_create 11 = .ok (.istore_n 3, 1) := dk_62 (dk_at dksX16_create_0 11 rfl rfl)
theorem dX16_create_12 : decode cX16_create 12 = .ok (.aload_n 0, 1) := dk_42 (dk_at dksX16_create_0 12 rfl rfl)
theorem dX16_create_13 : decode cX16_create 13 = .ok (.iload_n 2, 1) := dk_28 (dk_at dksX16_create_0 13 rfl rfl)
theorem dX16_create_14 : decode cX16_create 14 = .ok (.invokevirtual 65, 3) := dk_182 0 65 (dk_at dksX16_create_0 14 rfl rfl)
theorem dX16_create_17 : decode cX16_create 17 = .ok (.istore 4, 2) := dk_54 4 (dk_at dksX16_create_0 17 rfl rfl)
theorem dX16_create_19 : decode cX16_create 19 = .ok (.iload 4, 2) := dk_21 4 (dk_at dksX16_create_0 19 rfl rfl)
theorem dX16_create_21 : decode cX16_create 21 = .ok (.ifCond .ge 10, 3) := dk_156 0 10 (dk_at dksX16_create_0 21 rfl rfl)
theorem dX16_create_24 : decode cX16_create 24 = .ok (.aload_n 0, 1) := dk_42 (dk_at dksX16_create_1 0 rfl rfl)
theorem dX16_create_25 : decode cX16_create 25 = .ok (.iload_n 3, 1) := dk_29 (dk_at dksX16_create_1 1 rfl rfl)
theorem dX16_create_26 : decode cX16_create 26 = .ok (.putfield 52, 3) := dk_181 0 52 (dk_at dksX16_create_1 2 rfl rfl)
theorem dX16_create_29 : decode cX16_create 29 = .ok (.iconst 0, 1) := dk_3 (dk_at dksX16_create_1 5 rfl rfl)
theorem dX16_create_30 : decode cX16_create 30 = .ok (.ireturn, 1) := dk_172 (dk_at dksX16_create_1 6 rfl rfl)
theorem dX16_create_31 : decode cX16_create 31 = .ok (.aload_n 0, 1) := dk_42 (dk_at dksX16_create_1 7 rfl rfl)
theorem dX16_create_32 : decode cX16_create 32 = .ok (.iconst 0, 1) := dk_3 (dk_at dksX16_create_1 8 rfl rfl)
theorem dX16_create_33 : decode cX16_create 33 = .ok (.invokevirtual 304, 3) := dk_182 1 48 (dk_at dksX16_create_1 9 rfl rfl)
theorem dX16_create_36 : decode cX16_create 36 = .ok (.iconst 4, 1) := dk_7 (dk_at dksX16_create_1 12 rfl rfl)
theorem dX16_create_37 : decode cX16_create 37 = .ok (.if_icmp .ne 49, 3) := dk_160 0 49 (dk_at dksX16_create_1 13 rfl rfl)
theorem dX16_create_40 : decode cX16_create 40 = .ok (.aload_n 0, 1) := dk_42 (dk_at dksX16_create_1 16 rfl rfl)
theorem dX16_create_41 : decode cX16_create 41 = .ok (.getfield 56, 3) := dk_180 0 56 (dk_at dksX16_create_1 17 rfl rfl)
theorem dX16_create_44 : decode cX16_create 44 = .ok (.iconst 1, 1) := dk_4 (dk_at dksX16_create_1 20 rfl rfl)
theorem dX16_create_45 : decode cX16_create 45 = .ok (.if_icmp .le 41, 3) := dk_164 0 41 (dk_at dksX16_create_1 21 rfl rfl)
theorem dX16_create_48 : decode cX16_create 48 = .ok (.aload_n 0, 1) := dk_42 (dk_at dksX16_create_2 0 rfl rfl)
theorem dX16_create_49 : decode cX16_create 49 = .ok (.iconst 1, 1) := dk_4 (dk_at dksX16_create_2 1 rfl rfl)
theorem dX16_create_50 : decode cX16_create 50 = .ok (.invokevirtual 209, 3) := dk_182 0 209 (dk_at dksX16_create_2 2 rfl rfl)
theorem dX16_create_53 : decode cX16_create 53 = .ok (.aload_n 0, 1) := dk_42 (dk_at dksX16_create_2 5 rfl rfl)
theorem dX16_create_54 : decode cX16_create 54 = .ok (.getfield 40, 3) := dk_180 0 40 (dk_at dksX16_create_2 6 rfl rfl)
theorem dX16_create_57 : decode cX16_create 57 = .ok (.getfield 134, 3) := dk_180 0 134 (dk_at dksX16_create_2 9 rfl rfl)
theorem dX16_create_60 : decode cX16_create 60 = .ok (.iload 4, 2) := dk_21 4 (dk_at dksX16_create_2 12 rfl rfl)
theorem dX16_create_62 : decode cX16_create 62 = .ok (.iaload, 1) := dk_46 (dk_at dksX16_create_2 14 rfl rfl)
theorem dX16_create_63 : decode cX16_create 63 = .ok (.if_icmp .ne 23, 3) := dk_160 0 23 (dk_at dksX16_create_2 15 rfl rfl)
theorem dX16_create_66 : decode cX16_create 66 = .ok (.aload_n 0, 1) := dk_42 (dk_at dksX16_create_2 18 rfl rfl)
theorem dX16_create_67 : decode cX16_create 67 = .ok (.getfield 32, 3) := dk_180 0 32 (dk_at dksX16_create_2 19 rfl rfl)
theorem dX16_create_70 : decode cX16_create 70 = .ok (.aload_n 0, 1) := dk_42 (dk_at dksX16_create_2 22 rfl rfl)
theorem dX16_create_71 : decode cX16_create 71 = .ok (.iconst 1, 1) := dk_4 (dk_at dksX16_create_2 23 rfl rfl)
theorem dX16_create_72 : decode cX16_create 72 = .ok (.invokevirtual 209, 3) := dk_182 0 209 (dk_at dksX16_create_3 0 rfl rfl)
theorem dX16_create_75 : decode cX16_create 75 = .ok (.iconst 2, 1) := dk_5 (dk_at dksX16_create_3 3 rfl rfl)
theorem dX16_create_76 : decode cX16_create 76 = .ok (.invokevirtual 120, 3) := dk_182 0 120 (dk_at dksX16_create_3 4 rfl rfl)
theorem dX16_create_79 : decode cX16_create 79 = .ok (.ifCond .eq 7, 3) := dk_153 0 7 (dk_at dksX16_create_3 7 rfl rfl)
theorem dX16_create_82 : decode cX16_create 82 = .ok (.iconst 1, 1) := dk_4 (dk_at dksX16_create_3 10 rfl rfl)
theorem dX16_create_83 : decode cX16_create 83 = .ok (.goto 4, 3) := dk_167 0 4 (dk_at dksX16_create_3 11 rfl rfl)
theorem dX16_create_86 : decode cX16_create 86 = .ok (.iconst 0, 1) := dk_3 (dk_at dksX16_create_3 14 rfl rfl)
theorem dX16_create_87 : decode cX16_create 87 = .ok (.istore 5, 2) := dk_54 5 (dk_at dksX16_create_3 15 rfl rfl)
theorem dX16_create_89 : decode cX16_create 89 = .ok (.iload 5, 2) := dk_21 5 (dk_at dksX16_create_3 17 rfl rfl)
theorem dX16_create_91 : decode cX16_create 91 = .ok (.ifCond .ne 5, 3) := dk_154 0 5 (dk_at dksX16_create_3 19 rfl rfl)
theorem dX16_create_94 : decode cX16_create 94 = .ok (.iconst 0, 1) := dk_3 (dk_at dksX16_create_3 22 rfl rfl)
theorem dX16_create_95 : decode cX16_create 95 = .ok (.ireturn, 1) := dk_172 (dk_at dksX16_create_3 23 rfl rfl)
theorem dX16_create_96 : decode cX16_create 96 = .ok (.aload_n 0, 1) := dk_42 (dk_at dksX16_create_4 0 rfl rfl)
theorem dX16_create_97 : decode cX16_create 97 = .ok (.getfield 59, 3) := dk_180 0 59 (dk_at dksX16_create_4 1 rfl rfl)
theorem dX16_create_100 : decode cX16_create 100 = .ok (.istore 6, 2) := dk_54 6 (dk_at dksX16_create_4 4 rfl rfl)
theorem dX16_create_102 : decode cX16_create 102 = .ok (.aload_n 0, 1) := dk_42 (dk_at dksX16_create_4 6 rfl rfl)
theorem dX16_create_103 : decode cX16_create 103 = .ok (.invokevirtual 330, 3) := dk_182 1 74 (dk_at dksX16_create_4 7 rfl rfl)
theorem dX16_create_106 : decode cX16_create 106 = .ok (.aload_n 0, 1) := dk_42 (dk_at dksX16_create_4 10 rfl rfl)
theorem dX16_create_107 : decode cX16_create 107 = .ok (.getfield 59, 3) := dk_180 0 59 (dk_at dksX16_create_4 11 rfl rfl)
theorem dX16_create_110 : decode cX16_create 110 = .ok (.istore 7, 2) := dk_54 7 (dk_at dksX16_create_4 14 rfl rfl)
theorem dX16_create_112 : decode cX16_create 112 = .ok (.aload_n 0, 1) := dk_42 (dk_at dksX16_create_4 16 rfl rfl)
theorem dX16_create_113 : decode cX16_create 113 = .ok (.iload 4, 2) := dk_21 4 (dk_at dksX16_create_4 17 rfl rfl)
theorem dX16_create_115 : decode cX16_create 115 = .ok (.iload_n 2, 1) := dk_28 (dk_at dksX16_create_4 19 rfl rfl)
theorem dX16_create_116 : decode cX16_create 116 = .ok (.iload_n 1, 1) := dk_27 (dk_at dksX16_create_4 20 rfl rfl)
theorem dX16_create_117 : decode cX16_create 117 = .ok (.invokevirtual 75, 3) := dk_182 0 75 (dk_at dksX16_create_4 21 rfl rfl)
theorem dX16_create_120 : decode cX16_create 120 = .ok (.aload_n 0, 1) := dk_42 (dk_at dksX16_create_5 0 rfl rfl)
theorem dX16_create_121 : decode cX16_create 121 = .ok (.getfield 52, 3) := dk_180 0 52 (dk_at dksX16_create_5 1 rfl rfl)
theorem dX16_create_124 : decode cX16_create 124 = .ok (.ifCond .lt 5, 3) := dk_155 0 5 (dk_at dksX16_create_5 4 rfl rfl)
theorem dX16_create_127 : decode cX16_create 127 = .ok (.iconst 0, 1) := dk_3 (dk_at dksX16_create_5 7 rfl rfl)
theorem dX16_create_128 : decode cX16_create 128 = .ok (.ireturn, 1) := dk_172 (dk_at dksX16_create_5 8 rfl rfl)
theorem dX16_create_129 : decode cX16_create 129 = .ok (.aload_n 0, 1) := dk_42 (dk_at dksX16_create_5 9 rfl rfl)
theorem dX16_create_130 : decode cX16_create 130 = .ok (.iconst 0, 1) := dk_3 (dk_at dksX16_create_5 10 rfl rfl)
theorem dX16_create_131 : decode cX16_create 131 = .ok (.putfield 199, 3) := dk_181 0 199 (dk_at dksX16_create_5 11 rfl rfl)
theorem dX16_create_134 : decode cX16_create 134 = .ok (.aload_n 0, 1) := dk_42 (dk_at dksX16_create_5 14 rfl rfl)
theorem dX16_create_135 : decode cX16_create 135 = .ok (.iload 7, 2) := dk_21 7 (dk_at dksX16_create_5 15 rfl rfl)
theorem dX16_create_137 : decode cX16_create 137 = .ok (.invokevirtual 333, 3) := dk_182 1 77 (dk_at dksX16_create_5 17 rfl rfl)
theorem dX16_create_140 : decode cX16_create 140 = .ok (.aload_n 0, 1) := dk_42 (dk_at dksX16_create_5 20 rfl rfl)
theorem dX16_create_141 : decode cX16_create 141 = .ok (.iload 6, 2) := dk_21 6 (dk_at dksX16_create_5 21 rfl rfl)
theorem dX16_create_143 : decode cX16_create 143 = .ok (.putfield 59, 3) := dk_181 0 59 (dk_at dksX16_create_6 0 rfl rfl)
theorem dX16_create_146 : decode cX16_create 146 = .ok (.aload_n 0, 1) := dk_42 (dk_at dksX16_create_6 3 rfl rfl)
theorem dX16_create_147 : decode cX16_create 147 = .ok (.dup, 1) := dk_89 (dk_at dksX16_create_6 4 rfl rfl)
theorem dX16_create_148 : decode cX16_create 148 = .ok (.getfield 56, 3) := dk_180 0 56 (dk_at dksX16_create_6 5 rfl rfl)
theorem dX16_create_151 : decode cX16_create 151 = .ok (.iconst 2, 1) := dk_5 (dk_at dksX16_create_6 8 rfl rfl)
theorem dX16_create_152 : decode cX16_create 152 = .ok (.isub, 1) := dk_100 (dk_at dksX16_create_6 9 rfl rfl)
theorem dX16_create_153 : decode cX16_create 153 = .ok (.putfield 56, 3) := dk_181 0 56 (dk_at dksX16_create_6 10 rfl rfl)
theorem dX16_create_156 : decode cX16_create 156 = .ok (.aload_n 0, 1) := dk_42 (dk_at dksX16_create_6 13 rfl rfl)
theorem dX16_create_157 : decode cX16_create 157 = .ok (.aload_n 0, 1) := dk_42 (dk_at dksX16_create_6 14 rfl rfl)
theorem dX16_create_158 : decode cX16_create 158 = .ok (.iconst 0, 1) := dk_3 (dk_at dksX16_create_6 15 rfl rfl)
theorem dX16_create_159 : decode cX16_create 159 = .ok (.bipush 7, 2) := dk_16 7 (dk_at dksX16_create_6 16 rfl rfl)
theorem dX16_create_161 : decode cX16_create 161 = .ok (.invokevirtual 278, 3) := dk_182 1 22 (dk_at dksX16_create_6 18 rfl rfl)
theorem dX16_create_164 : decode cX16_create 164 = .ok (.ifCond .eq 17, 3) := dk_153 0 17 (dk_at dksX16_create_6 21 rfl rfl)
theorem dX16_create_167 : decode cX16_create 167 = .ok (.aload_n 0, 1) := dk_42 (dk_at dksX16_create_7 0 rfl rfl)
theorem dX16_create_168 : decode cX16_create 168 = .ok (.iconst 0, 1) := dk_3 (dk_at dksX16_create_7 1 rfl rfl)
theorem dX16_create_169 : decode cX16_create 169 = .ok (.bipush 9, 2) := dk_16 9 (dk_at dksX16_create_7 2 rfl rfl)
theorem dX16_create_171 : decode cX16_create 171 = .ok (.invokevirtual 278, 3) := dk_182 1 22 (dk_at dksX16_create_7 4 rfl rfl)
theorem dX16_create_174 : decode cX16_create 174 = .ok (.ifCond .eq 7, 3) := dk_153 0 7 (dk_at dksX16_create_7 7 rfl rfl)
theorem dX16_create_177 : decode cX16_create 177 = .ok (.iconst 1, 1) := dk_4 (dk_at dksX16_create_7 10 rfl rfl)
theorem dX16_create_178 : decode cX16_create 178 = .ok (.goto 4, 3) := dk_167 0 4 (dk_at dksX16_create_7 11 rfl rfl)
theorem dX16_create_181 : decode cX16_create 181 = .ok (.iconst 0, 1) := dk_3 (dk_at dksX16_create_7 14 rfl rfl)
theorem dX16_create_182 : decode cX16_create 182 = .ok (.bipush 106, 2) := dk_16 106 (dk_at dksX16_create_7 15 rfl rfl)
theorem dX16_create_184 : decode cX16_create 184 = .ok (.iload 4, 2) := dk_21 4 (dk_at dksX16_create_7 17 rfl rfl)
theorem dX16_create_186 : decode cX16_create 186 = .ok (.iconst 0, 1) := dk_3 (dk_at dksX16_create_7 19 rfl rfl)
theorem dX16_create_187 : decode cX16_create 187 = .ok (.iconst 0, 1) := dk_3 (dk_at dksX16_create_7 20 rfl rfl)
theorem dX16_create_188 : decode cX16_create 188 = .ok (.invokevirtual 274, 3) := dk_182 1 18 (dk_at dksX16_create_7 21 rfl rfl)
theorem dX16_create_191 : decode cX16_create 191 = .ok (.ireturn, 1) := dk_172 (dk_at dksX16_create_8 0 rfl rfl)
theorem q383 : (Jvm.Cond.initialized "ContractLedger$Typer") ∈ lw_all := lw_g (lw_at lw_m1 26 rfl) rfl
theorem q640 : (Jvm.Cond.fieldLink "ContractLedger$Typer" (237 : Nat) "ContractLedger$Whole" "negative" "Z") ∈ lw_all := lw_g (lw_at lw_m2 43 rfl) rfl
theorem q656 : (Jvm.Cond.fieldLink "ContractLedger$Typer" (229 : Nat) "ContractLedger$Terms" "kinds" "[B") ∈ lw_all := lw_g (lw_at lw_m2 59 rfl) rfl
theorem q660 : (Jvm.Cond.fieldLink "ContractLedger$Typer" (245 : Nat) "ContractLedger$Terms" "names" "[B") ∈ lw_all := lw_g (lw_at lw_m2 63 rfl) rfl
theorem q663 : (Jvm.Cond.fieldLink "ContractLedger$Typer" (148 : Nat) "ContractLedger$Terms" "starts" "[I") ∈ lw_all := lw_g (lw_at lw_m2 66 rfl) rfl
theorem q666 : (Jvm.Cond.fieldLink "ContractLedger$Typer" (145 : Nat) "ContractLedger$Terms" "ends" "[I") ∈ lw_all := lw_g (lw_at lw_m2 69 rfl) rfl
theorem q669 : (Jvm.Cond.fieldLink "ContractLedger$Typer" (172 : Nat) "ContractLedger$Terms" "marks" "[I") ∈ lw_all := lw_g (lw_at lw_m2 72 rfl) rfl
theorem q671 : (Jvm.Cond.fieldLink "ContractLedger$Typer" (179 : Nat) "ContractLedger$Terms" "markEnds" "[I") ∈ lw_all := lw_g (lw_at lw_m2 74 rfl) rfl
theorem q674 : (Jvm.Cond.fieldLink "ContractLedger$Typer" (96 : Nat) "ContractLedger$Terms" "firsts" "[I") ∈ lw_all := lw_g (lw_at lw_m2 77 rfl) rfl
theorem q678 : (Jvm.Cond.fieldLink "ContractLedger$Typer" (186 : Nat) "ContractLedger$Terms" "nexts" "[I") ∈ lw_all := lw_g (lw_at lw_m2 81 rfl) rfl
theorem q682 : (Jvm.Cond.fieldLink "ContractLedger$Typer" (87 : Nat) "ContractLedger$Terms" "counts" "[I") ∈ lw_all := lw_g (lw_at lw_m2 85 rfl) rfl
theorem q755 : (Jvm.Cond.fieldLink "ContractLedger$Typer" (163 : Nat) "ContractLedger$Types" "words" "[B") ∈ lw_all := lw_g (lw_at lw_m2 158 rfl) rfl
theorem q761 : (Jvm.Cond.fieldLink "ContractLedger$Typer" (166 : Nat) "ContractLedger$Types" "lefts" "[I") ∈ lw_all := lw_g (lw_at lw_m2 164 rfl) rfl
theorem q767 : (Jvm.Cond.fieldLink "ContractLedger$Typer" (169 : Nat) "ContractLedger$Types" "rights" "[I") ∈ lw_all := lw_g (lw_at lw_m2 170 rfl) rfl
theorem q810 : (Jvm.Cond.fieldLink "ContractLedger$Typer" (288 : Nat) "ContractLedger$Memory" "stays" "Z") ∈ lw_all := lw_g (lw_at lw_m2 213 rfl) rfl
theorem q1021 : (Jvm.Cond.fieldLink "ContractLedger$Typer" (107 : Nat) "ContractLedger$Scripts" "parameters" "[I") ∈ lw_all := lw_g (lw_at lw_m3 184 rfl) rfl
theorem q1023 : (Jvm.Cond.fieldLink "ContractLedger$Typer" (134 : Nat) "ContractLedger$Scripts" "storages" "[I") ∈ lw_all := lw_g (lw_at lw_m3 186 rfl) rfl
theorem q1027 : (Jvm.Cond.fieldLink "ContractLedger$Typer" (203 : Nat) "ContractLedger$Scripts" "codes" "[I") ∈ lw_all := lw_g (lw_at lw_m3 190 rfl) rfl
theorem q1030 : (Jvm.Cond.fieldLink "ContractLedger$Typer" (116 : Nat) "ContractLedger$Scripts" "firsts" "[I") ∈ lw_all := lw_g (lw_at lw_m3 193 rfl) rfl
theorem q1032 : (Jvm.Cond.fieldLink "ContractLedger$Typer" (137 : Nat) "ContractLedger$Scripts" "terms" "[I") ∈ lw_all := lw_g (lw_at lw_m3 195 rfl) rfl
theorem q1035 : (Jvm.Cond.fieldLink "ContractLedger$Typer" (142 : Nat) "ContractLedger$Scripts" "bytes" "[I") ∈ lw_all := lw_g (lw_at lw_m3 198 rfl) rfl
theorem q1039 : (Jvm.Cond.fieldLink "ContractLedger$Typer" (102 : Nat) "ContractLedger$Scripts" "count" "I") ∈ lw_all := lw_g (lw_at lw_m3 202 rfl) rfl
theorem q1041 : (Jvm.Cond.fieldLink "ContractLedger$Typer" (151 : Nat) "ContractLedger$Scripts" "names" "[I") ∈ lw_all := lw_g (lw_at lw_m3 204 rfl) rfl
theorem q1043 : (Jvm.Cond.fieldLink "ContractLedger$Typer" (153 : Nat) "ContractLedger$Scripts" "types" "[I") ∈ lw_all := lw_g (lw_at lw_m3 206 rfl) rfl
theorem q1047 : (Jvm.Cond.fieldLink "ContractLedger$Typer" (155 : Nat) "ContractLedger$Scripts" "ways" "[J") ∈ lw_all := lw_g (lw_at lw_m3 210 rfl) rfl
theorem q1050 : (Jvm.Cond.fieldLink "ContractLedger$Typer" (159 : Nat) "ContractLedger$Scripts" "depths" "[B") ∈ lw_all := lw_g (lw_at lw_m3 213 rfl) rfl
theorem q1054 : (Jvm.Cond.fieldLink "ContractLedger$Typer" (117 : Nat) "ContractLedger$Scripts" "entries" "I") ∈ lw_all := lw_g (lw_at lw_m3 217 rfl) rfl
theorem q1057 : (Jvm.Cond.fieldLink "ContractLedger$Typer" (224 : Nat) "ContractLedger$Scripts" "code" "[I") ∈ lw_all := lw_g (lw_at lw_m3 220 rfl) rfl
theorem q1091 : (Jvm.Cond.instantiable "ContractLedger$Typer" (17 : Nat)) ∈ lw_all := lw_g (lw_at lw_m4 14 rfl) rfl
theorem q1093 : (Jvm.Cond.instanceMethod ({ cls := "ContractLedger$Typer", name := "<init>", desc := "(LContractLedger$Terms;LContractLedger$Types;LContractLedger$Names;LContractLedger$Scripts;LContractLedger$Data;LContractLedger$Memory;)V" } : Jvm.MethodName)) ∈ lw_all := lw_g (lw_at lw_m4 16 rfl) rfl
theorem q1094 : (Jvm.Cond.code ({ cls := "ContractLedger$Typer", name := "<init>", desc := "(LContractLedger$Terms;LContractLedger$Types;LContractLedger$Names;LContractLedger$Scripts;LContractLedger$Data;LContractLedger$Memory;)V" } : Jvm.MethodName) prog_21_method_1_code (7 : Nat) (Option.none : Option Jvm.ClassFile.FieldType)) ∈ lw_all := lw_g (lw_at lw_m4 17 rfl) rfl
theorem q1095 : (Jvm.Cond.methodLink "ContractLedger$Typer" (3 : Nat) ({ cls := "java/lang/Object", name := "<init>", desc := "()V" } : Jvm.MethodName)) ∈ lw_all := lw_g (lw_at lw_m4 18 rfl) rfl
theorem q1096 : (Jvm.Cond.classLink "ContractLedger$Typer" (9 : Nat) "ContractLedger$Whole") ∈ lw_all := lw_g (lw_at lw_m4 19 rfl) rfl
theorem q1097 : (Jvm.Cond.methodLink "ContractLedger$Typer" (11 : Nat) ({ cls := "ContractLedger$Whole", name := "<init>", desc := "(I)V" } : Jvm.MethodName)) ∈ lw_all := lw_g (lw_at lw_m4 20 rfl) rfl
theorem q1098 : (Jvm.Cond.constant "ContractLedger$Typer" (24 : Nat) (48000 : Int32)) ∈ lw_all := lw_g (lw_at lw_m4 21 rfl) rfl
theorem q1099 : (Jvm.Cond.fieldLink "ContractLedger$Typer" (28 : Nat) "ContractLedger$Typer" "terms" "LContractLedger$Terms;") ∈ lw_all := lw_g (lw_at lw_m4 22 rfl) rfl
theorem q1100 : (Jvm.Cond.fieldLink "ContractLedger$Typer" (32 : Nat) "ContractLedger$Typer" "types" "LContractLedger$Types;") ∈ lw_all := lw_g (lw_at lw_m4 23 rfl) rfl
theorem q1101 : (Jvm.Cond.fieldLink "ContractLedger$Typer" (36 : Nat) "ContractLedger$Typer" "names" "LContractLedger$Names;") ∈ lw_all := lw_g (lw_at lw_m4 24 rfl) rfl
theorem q1102 : (Jvm.Cond.fieldLink "ContractLedger$Typer" (40 : Nat) "ContractLedger$Typer" "scripts" "LContractLedger$Scripts;") ∈ lw_all := lw_g (lw_at lw_m4 25 rfl) rfl
theorem q1103 : (Jvm.Cond.fieldLink "ContractLedger$Typer" (44 : Nat) "ContractLedger$Typer" "data" "LContractLedger$Data;") ∈ lw_all := lw_g (lw_at lw_m4 26 rfl) rfl
theorem q1104 : (Jvm.Cond.fieldLink "ContractLedger$Typer" (48 : Nat) "ContractLedger$Typer" "memory" "LContractLedger$Memory;") ∈ lw_all := lw_g (lw_at lw_m4 27 rfl) rfl
theorem q1105 : (Jvm.Cond.fieldLink "ContractLedger$Typer" (14 : Nat) "ContractLedger$Typer" "number" "LContractLedger$Whole;") ∈ lw_all := lw_g (lw_at lw_m4 28 rfl) rfl
theorem q1106 : (Jvm.Cond.fieldLink "ContractLedger$Typer" (20 : Nat) "ContractLedger$Typer" "stack" "[I") ∈ lw_all := lw_g (lw_at lw_m4 29 rfl) rfl
theorem q1107 : (Jvm.Cond.fieldLink "ContractLedger$Typer" (56 : Nat) "ContractLedger$Typer" "height" "I") ∈ lw_all := lw_g (lw_at lw_m4 30 rfl) rfl
theorem q1108 : (Jvm.Cond.fieldLink "ContractLedger$Typer" (25 : Nat) "ContractLedger$Typer" "aside" "[I") ∈ lw_all := lw_g (lw_at lw_m4 31 rfl) rfl
theorem q1109 : (Jvm.Cond.fieldLink "ContractLedger$Typer" (59 : Nat) "ContractLedger$Typer" "asideTop" "I") ∈ lw_all := lw_g (lw_at lw_m4 32 rfl) rfl
theorem q1110 : (Jvm.Cond.fieldLink "ContractLedger$Typer" (199 : Nat) "ContractLedger$Typer" "ended" "Z") ∈ lw_all := lw_g (lw_at lw_m4 33 rfl) rfl
theorem q1111 : (Jvm.Cond.fieldLink "ContractLedger$Typer" (221 : Nat) "ContractLedger$Typer" "last" "I") ∈ lw_all := lw_g (lw_at lw_m4 34 rfl) rfl
theorem q1112 : (Jvm.Cond.fieldLink "ContractLedger$Typer" (189 : Nat) "ContractLedger$Typer" "script" "I") ∈ lw_all := lw_g (lw_at lw_m4 35 rfl) rfl
theorem q1113 : (Jvm.Cond.fieldLink "ContractLedger$Typer" (62 : Nat) "ContractLedger$Typer" "lambdas" "I") ∈ lw_all := lw_g (lw_at lw_m4 36 rfl) rfl
theorem q1114 : (Jvm.Cond.fieldLink "ContractLedger$Typer" (52 : Nat) "ContractLedger$Typer" "place" "I") ∈ lw_all := lw_g (lw_at lw_m4 37 rfl) rfl
theorem q1117 : (Jvm.Cond.fieldLink "ContractLedger$Typer" (339 : Nat) "ContractLedger$Typer" "kind" "I") ∈ lw_all := lw_g (lw_at lw_m4 40 rfl) rfl
theorem q1118 : (Jvm.Cond.laysFinal "ContractLedger$Typer" "ContractLedger$Typer" "terms" "LContractLedger$Terms;") ∈ lw_all := lw_g (lw_at lw_m4 41 rfl) rfl
theorem q1119 : (Jvm.Cond.soleField "ContractLedger$Typer" "terms") ∈ lw_all := lw_g (lw_at lw_m4 42 rfl) rfl
theorem q1120 : (Jvm.Cond.laysFinal "ContractLedger$Typer" "ContractLedger$Typer" "types" "LContractLedger$Types;") ∈ lw_all := lw_g (lw_at lw_m4 43 rfl) rfl
theorem q1121 : (Jvm.Cond.soleField "ContractLedger$Typer" "types") ∈ lw_all := lw_g (lw_at lw_m4 44 rfl) rfl
theorem q1122 : (Jvm.Cond.laysFinal "ContractLedger$Typer" "ContractLedger$Typer" "names" "LContractLedger$Names;") ∈ lw_all := lw_g (lw_at lw_m4 45 rfl) rfl
theorem q1123 : (Jvm.Cond.soleField "ContractLedger$Typer" "names") ∈ lw_all := lw_g (lw_at lw_m4 46 rfl) rfl
theorem q1124 : (Jvm.Cond.laysFinal "ContractLedger$Typer" "ContractLedger$Typer" "scripts" "LContractLedger$Scripts;") ∈ lw_all := lw_g (lw_at lw_m4 47 rfl) rfl
theorem q1125 : (Jvm.Cond.soleField "ContractLedger$Typer" "scripts") ∈ lw_all := lw_g (lw_at lw_m4 48 rfl) rfl
theorem q1126 : (Jvm.Cond.laysFinal "ContractLedger$Typer" "ContractLedger$Typer" "data" "LContractLedger$Data;") ∈ lw_all := lw_g (lw_at lw_m4 49 rfl) rfl
theorem q1127 : (Jvm.Cond.soleField "ContractLedger$Typer" "data") ∈ lw_all := lw_g (lw_at lw_m4 50 rfl) rfl
theorem q1128 : (Jvm.Cond.laysFinal "ContractLedger$Typer" "ContractLedger$Typer" "memory" "LContractLedger$Memory;") ∈ lw_all := lw_g (lw_at lw_m4 51 rfl) rfl
theorem q1129 : (Jvm.Cond.soleField "ContractLedger$Typer" "memory") ∈ lw_all := lw_g (lw_at lw_m4 52 rfl) rfl
theorem q1130 : (Jvm.Cond.laysFinal "ContractLedger$Typer" "ContractLedger$Typer" "number" "LContractLedger$Whole;") ∈ lw_all := lw_g (lw_at lw_m4 53 rfl) rfl
theorem q1131 : (Jvm.Cond.soleField "ContractLedger$Typer" "number") ∈ lw_all := lw_g (lw_at lw_m4 54 rfl) rfl
theorem q1132 : (Jvm.Cond.laysFinal "ContractLedger$Typer" "ContractLedger$Typer" "stack" "[I") ∈ lw_all := lw_g (lw_at lw_m4 55 rfl) rfl
theorem q1133 : (Jvm.Cond.soleField "ContractLedger$Typer" "stack") ∈ lw_all := lw_g (lw_at lw_m4 56 rfl) rfl
theorem q1134 : (Jvm.Cond.lays "ContractLedger$Typer" "ContractLedger$Typer" "height" "I") ∈ lw_all := lw_g (lw_at lw_m4 57 rfl) rfl
theorem q1135 : (Jvm.Cond.soleField "ContractLedger$Typer" "height") ∈ lw_all := lw_g (lw_at lw_m4 58 rfl) rfl
theorem q1136 : (Jvm.Cond.laysFinal "ContractLedger$Typer" "ContractLedger$Typer" "aside" "[I") ∈ lw_all := lw_g (lw_at lw_m4 59 rfl) rfl
theorem q1137 : (Jvm.Cond.soleField "ContractLedger$Typer" "aside") ∈ lw_all := lw_g (lw_at lw_m4 60 rfl) rfl
theorem q1138 : (Jvm.Cond.lays "ContractLedger$Typer" "ContractLedger$Typer" "asideTop" "I") ∈ lw_all := lw_g (lw_at lw_m4 61 rfl) rfl
theorem q1139 : (Jvm.Cond.soleField "ContractLedger$Typer" "asideTop") ∈ lw_all := lw_g (lw_at lw_m4 62 rfl) rfl
theorem q1140 : (Jvm.Cond.lays "ContractLedger$Typer" "ContractLedger$Typer" "ended" "Z") ∈ lw_all := lw_g (lw_at lw_m4 63 rfl) rfl
theorem q1141 : (Jvm.Cond.soleField "ContractLedger$Typer" "ended") ∈ lw_all := lw_g (lw_at lw_m4 64 rfl) rfl
theorem q1142 : (Jvm.Cond.lays "ContractLedger$Typer" "ContractLedger$Typer" "last" "I") ∈ lw_all := lw_g (lw_at lw_m4 65 rfl) rfl
theorem q1143 : (Jvm.Cond.soleField "ContractLedger$Typer" "last") ∈ lw_all := lw_g (lw_at lw_m4 66 rfl) rfl
theorem q1144 : (Jvm.Cond.lays "ContractLedger$Typer" "ContractLedger$Typer" "script" "I") ∈ lw_all := lw_g (lw_at lw_m4 67 rfl) rfl
theorem q1145 : (Jvm.Cond.soleField "ContractLedger$Typer" "script") ∈ lw_all := lw_g (lw_at lw_m4 68 rfl) rfl
theorem q1146 : (Jvm.Cond.lays "ContractLedger$Typer" "ContractLedger$Typer" "lambdas" "I") ∈ lw_all := lw_g (lw_at lw_m4 69 rfl) rfl
theorem q1147 : (Jvm.Cond.soleField "ContractLedger$Typer" "lambdas") ∈ lw_all := lw_g (lw_at lw_m4 70 rfl) rfl
theorem q1148 : (Jvm.Cond.lays "ContractLedger$Typer" "ContractLedger$Typer" "place" "I") ∈ lw_all := lw_g (lw_at lw_m4 71 rfl) rfl
theorem q1149 : (Jvm.Cond.soleField "ContractLedger$Typer" "place") ∈ lw_all := lw_g (lw_at lw_m4 72 rfl) rfl
theorem q1150 : (Jvm.Cond.lays "ContractLedger$Typer" "ContractLedger$Typer" "kind" "I") ∈ lw_all := lw_g (lw_at lw_m4 73 rfl) rfl
theorem q1151 : (Jvm.Cond.soleField "ContractLedger$Typer" "kind") ∈ lw_all := lw_g (lw_at lw_m4 74 rfl) rfl
theorem q1152 : (Jvm.Cond.superclass "ContractLedger$Typer" "java/lang/Object") ∈ lw_all := lw_g (lw_at lw_m4 75 rfl) rfl
theorem q1818 : (Jvm.Cond.instanceMethod ({ cls := "ContractLedger$Typer", name := "type", desc := "(I)I" } : Jvm.MethodName)) ∈ lw_all := lw_g (lw_at lw_m7 21 rfl) rfl
theorem q1819 : (Jvm.Cond.selects "ContractLedger$Typer" ({ cls := "ContractLedger$Typer", name := "type", desc := "(I)I" } : Jvm.MethodName) ({ cls := "ContractLedger$Typer", name := "type", desc := "(I)I" } : Jvm.MethodName)) ∈ lw_all := lw_g (lw_at lw_m7 22 rfl) rfl
theorem q1820 : (Jvm.Cond.code ({ cls := "ContractLedger$Typer", name := "type", desc := "(I)I" } : Jvm.MethodName) prog_21_method_2_code (3 : Nat) (Option.some Jvm.ClassFile.FieldType.int)) ∈ lw_all := lw_g (lw_at lw_m7 23 rfl) rfl
theorem q1821 : (Jvm.Cond.methodLink "ContractLedger$Typer" (65 : Nat) ({ cls := "ContractLedger$Typer", name := "open", desc := "(I)I" } : Jvm.MethodName)) ∈ lw_all := lw_g (lw_at lw_m7 24 rfl) rfl
theorem q1822 : (Jvm.Cond.privateMethod ({ cls := "ContractLedger$Typer", name := "open", desc := "(I)I" } : Jvm.MethodName)) ∈ lw_tbl := lw_at lw_m7 25 rfl
theorem q1823 : (Jvm.Cond.instanceMethod ({ cls := "ContractLedger$Typer", name := "open", desc := "(I)I" } : Jvm.MethodName)) ∈ lw_all := lw_g (lw_at lw_m7 26 rfl) rfl
theorem q1824 : (Jvm.Cond.code ({ cls := "ContractLedger$Typer", name := "open", desc := "(I)I" } : Jvm.MethodName) prog_21_method_5_code (6 : Nat) (Option.some Jvm.ClassFile.FieldType.int)) ∈ lw_all := lw_g (lw_at lw_m7 27 rfl) rfl
theorem q1825 : (Jvm.Cond.methodLink "ContractLedger$Typer" (83 : Nat) ({ cls := "ContractLedger$Terms", name := "isSequence", desc := "(I)Z" } : Jvm.MethodName)) ∈ lw_all := lw_g (lw_at lw_m7 28 rfl) rfl
theorem q1829 : (Jvm.Cond.methodLink "ContractLedger$Typer" (69 : Nat) ({ cls := "ContractLedger$Terms", name := "child", desc := "(II)I" } : Jvm.MethodName)) ∈ lw_all := lw_g (lw_at lw_m7 32 rfl) rfl
theorem q1833 : (Jvm.Cond.methodLink "ContractLedger$Typer" (92 : Nat) ({ cls := "ContractLedger$Typer", name := "isPart", desc := "(II)Z" } : Jvm.MethodName)) ∈ lw_all := lw_g (lw_at lw_m7 36 rfl) rfl
theorem q1834 : (Jvm.Cond.privateMethod ({ cls := "ContractLedger$Typer", name := "isPart", desc := "(II)Z" } : Jvm.MethodName)) ∈ lw_tbl := lw_at lw_m7 37 rfl
theorem q1835 : (Jvm.Cond.instanceMethod ({ cls := "ContractLedger$Typer", name := "isPart", desc := "(II)Z" } : Jvm.MethodName)) ∈ lw_all := lw_g (lw_at lw_m7 38 rfl) rfl
theorem q1836 : (Jvm.Cond.code ({ cls := "ContractLedger$Typer", name := "isPart", desc := "(II)Z" } : Jvm.MethodName) prog_21_method_4_code (3 : Nat) (Option.some Jvm.ClassFile.FieldType.boolean)) ∈ lw_all := lw_g (lw_at lw_m7 39 rfl) rfl
theorem q1837 : (Jvm.Cond.methodLink "ContractLedger$Typer" (79 : Nat) ({ cls := "ContractLedger$Terms", name := "isBare", desc := "(III)Z" } : Jvm.MethodName)) ∈ lw_all := lw_g (lw_at lw_m7 40 rfl) rfl
theorem q1845 : (Jvm.Cond.methodLink "ContractLedger$Typer" (99 : Nat) ({ cls := "ContractLedger$Typer", name := "wrong", desc := "(I)I" } : Jvm.MethodName)) ∈ lw_all := lw_g (lw_at lw_m7 48 rfl) rfl
theorem q1846 : (Jvm.Cond.privateMethod ({ cls := "ContractLedger$Typer", name := "wrong", desc := "(I)I" } : Jvm.MethodName)) ∈ lw_tbl := lw_at lw_m7 49 rfl
theorem q1847 : (Jvm.Cond.instanceMethod ({ cls := "ContractLedger$Typer", name := "wrong", desc := "(I)I" } : Jvm.MethodName)) ∈ lw_all := lw_g (lw_at lw_m7 50 rfl) rfl
theorem q1848 : (Jvm.Cond.code ({ cls := "ContractLedger$Typer", name := "wrong", desc := "(I)I" } : Jvm.MethodName) prog_21_method_3_code (2 : Nat) (Option.some Jvm.ClassFile.FieldType.int)) ∈ lw_all := lw_g (lw_at lw_m7 51 rfl) rfl
theorem q1849 : (Jvm.Cond.methodLink "ContractLedger$Typer" (110 : Nat) ({ cls := "ContractLedger$Types", name := "of", desc := "(LContractLedger$Terms;I)I" } : Jvm.MethodName)) ∈ lw_all := lw_g (lw_at lw_m7 52 rfl) rfl
theorem q1866 : (Jvm.Cond.methodLink "ContractLedger$Typer" (120 : Nat) ({ cls := "ContractLedger$Types", name := "is", desc := "(II)Z" } : Jvm.MethodName)) ∈ lw_all := lw_g (lw_at lw_m7 69 rfl) rfl
theorem q1867 : (Jvm.Cond.methodLink "ContractLedger$Typer" (123 : Nat) ({ cls := "ContractLedger$Typer", name := "entries", desc := "(IIIJI)Z" } : Jvm.MethodName)) ∈ lw_all := lw_g (lw_at lw_m7 70 rfl) rfl
theorem q1868 : (Jvm.Cond.privateMethod ({ cls := "ContractLedger$Typer", name := "entries", desc := "(IIIJI)Z" } : Jvm.MethodName)) ∈ lw_tbl := lw_at lw_m7 71 rfl
theorem q1869 : (Jvm.Cond.instanceMethod ({ cls := "ContractLedger$Typer", name := "entries", desc := "(IIIJI)Z" } : Jvm.MethodName)) ∈ lw_all := lw_g (lw_at lw_m7 72 rfl) rfl
theorem q1870 : (Jvm.Cond.code ({ cls := "ContractLedger$Typer", name := "entries", desc := "(IIIJI)Z" } : Jvm.MethodName) prog_21_method_7_code (14 : Nat) (Option.some Jvm.ClassFile.FieldType.boolean)) ∈ lw_all := lw_g (lw_at lw_m7 73 rfl) rfl
theorem q1871 : (Jvm.Cond.methodLink "ContractLedger$Typer" (175 : Nat) ({ cls := "ContractLedger$Terms", name := "text", desc := "()[B" } : Jvm.MethodName)) ∈ lw_all := lw_g (lw_at lw_m7 74 rfl) rfl
theorem q1875 : (Jvm.Cond.methodLink "ContractLedger$Typer" (182 : Nat) ({ cls := "ContractLedger$Names", name := "keep", desc := "([BII)I" } : Jvm.MethodName)) ∈ lw_all := lw_g (lw_at lw_m7 78 rfl) rfl
theorem q1894 : (Jvm.Cond.methodLink "ContractLedger$Typer" (128 : Nat) ({ cls := "ContractLedger$Scripts", name := "entry", desc := "(II)I" } : Jvm.MethodName)) ∈ lw_all := lw_g (lw_at lw_m7 97 rfl) rfl
theorem q1898 : (Jvm.Cond.methodLink "ContractLedger$Typer" (131 : Nat) ({ cls := "ContractLedger$Typer", name := "entry", desc := "(IIIJI)V" } : Jvm.MethodName)) ∈ lw_all := lw_g (lw_at lw_m7 101 rfl) rfl
theorem q1899 : (Jvm.Cond.privateMethod ({ cls := "ContractLedger$Typer", name := "entry", desc := "(IIIJI)V" } : Jvm.MethodName)) ∈ lw_tbl := lw_at lw_m7 102 rfl
theorem q1900 : (Jvm.Cond.instanceMethod ({ cls := "ContractLedger$Typer", name := "entry", desc := "(IIIJI)V" } : Jvm.MethodName)) ∈ lw_all := lw_g (lw_at lw_m7 103 rfl) rfl
theorem q1901 : (Jvm.Cond.code ({ cls := "ContractLedger$Typer", name := "entry", desc := "(IIIJI)V" } : Jvm.MethodName) prog_21_method_6_code (8 : Nat) (Option.none : Option Jvm.ClassFile.FieldType)) ∈ lw_all := lw_g (lw_at lw_m7 104 rfl) rfl
theorem q1902 : (Jvm.Cond.methodLink "ContractLedger$Typer" (139 : Nat) ({ cls := "ContractLedger$Terms", name := "size", desc := "(I)I" } : Jvm.MethodName)) ∈ lw_all := lw_g (lw_at lw_m7 105 rfl) rfl
theorem q1906 : (Jvm.Cond.methodLink "ContractLedger$Typer" (75 : Nat) ({ cls := "ContractLedger$Typer", name := "body", desc := "(III)V" } : Jvm.MethodName)) ∈ lw_all := lw_g (lw_at lw_m7 109 rfl) rfl
theorem q1907 : (Jvm.Cond.privateMethod ({ cls := "ContractLedger$Typer", name := "body", desc := "(III)V" } : Jvm.MethodName)) ∈ lw_tbl := lw_at lw_m7 110 rfl
theorem q1908 : (Jvm.Cond.instanceMethod ({ cls := "ContractLedger$Typer", name := "body", desc := "(III)V" } : Jvm.MethodName)) ∈ lw_all := lw_g (lw_at lw_m7 111 rfl) rfl
theorem q1909 : (Jvm.Cond.code ({ cls := "ContractLedger$Typer", name := "body", desc := "(III)V" } : Jvm.MethodName) prog_21_method_8_code (9 : Nat) (Option.none : Option Jvm.ClassFile.FieldType)) ∈ lw_all := lw_g (lw_at lw_m7 112 rfl) rfl
theorem q1910 : (Jvm.Cond.methodLink "ContractLedger$Typer" (192 : Nat) ({ cls := "ContractLedger$Types", name := "pair", desc := "(II)I" } : Jvm.MethodName)) ∈ lw_all := lw_g (lw_at lw_m7 113 rfl) rfl
theorem q1911 : (Jvm.Cond.methodLink "ContractLedger$Typer" (195 : Nat) ({ cls := "ContractLedger$Types", name := "make", desc := "(III)I" } : Jvm.MethodName)) ∈ lw_all := lw_g (lw_at lw_m7 114 rfl) rfl
theorem q1912 : (Jvm.Cond.methodLink "ContractLedger$Typer" (206 : Nat) ({ cls := "ContractLedger$Typer", name := "code", desc := "(I)I" } : Jvm.MethodName)) ∈ lw_all := lw_g (lw_at lw_m7 115 rfl) rfl
theorem q1913 : (Jvm.Cond.privateMethod ({ cls := "ContractLedger$Typer", name := "code", desc := "(I)I" } : Jvm.MethodName)) ∈ lw_tbl := lw_at lw_m7 116 rfl
theorem q1914 : (Jvm.Cond.instanceMethod ({ cls := "ContractLedger$Typer", name := "code", desc := "(I)I" } : Jvm.MethodName)) ∈ lw_all := lw_g (lw_at lw_m7 117 rfl) rfl
theorem q1915 : (Jvm.Cond.code ({ cls := "ContractLedger$Typer", name := "code", desc := "(I)I" } : Jvm.MethodName) prog_21_method_17_code (6 : Nat) (Option.some Jvm.ClassFile.FieldType.int)) ∈ lw_all := lw_g (lw_at lw_m7 118 rfl) rfl
theorem q1916 : (Jvm.Cond.methodLink "ContractLedger$Typer" (218 : Nat) ({ cls := "ContractLedger$Typer", name := "instruction", desc := "(I)I" } : Jvm.MethodName)) ∈ lw_all := lw_g (lw_at lw_m7 119 rfl) rfl
theorem q1917 : (Jvm.Cond.privateMethod ({ cls := "ContractLedger$Typer", name := "instruction", desc := "(I)I" } : Jvm.MethodName)) ∈ lw_tbl := lw_at lw_m7 120 rfl
theorem q1918 : (Jvm.Cond.instanceMethod ({ cls := "ContractLedger$Typer", name := "instruction", desc := "(I)I" } : Jvm.MethodName)) ∈ lw_all := lw_g (lw_at lw_m7 121 rfl) rfl
theorem q1919 : (Jvm.Cond.code ({ cls := "ContractLedger$Typer", name := "instruction", desc := "(I)I" } : Jvm.MethodName) prog_21_method_22_code (6 : Nat) (Option.some Jvm.ClassFile.FieldType.int)) ∈ lw_all := lw_g (lw_at lw_m7 122 rfl) rfl
theorem q1920 : (Jvm.Cond.methodLink "ContractLedger$Typer" (247 : Nat) ({ cls := "ContractLedger$Typer", name := "shuffle", desc := "(III)I" } : Jvm.MethodName)) ∈ lw_all := lw_g (lw_at lw_m7 123 rfl) rfl
theorem q1921 : (Jvm.Cond.privateMethod ({ cls := "ContractLedger$Typer", name := "shuffle", desc := "(III)I" } : Jvm.MethodName)) ∈ lw_tbl := lw_at lw_m7 124 rfl
theorem q1922 : (Jvm.Cond.instanceMethod ({ cls := "ContractLedger$Typer", name := "shuffle", desc := "(III)I" } : Jvm.MethodName)) ∈ lw_all := lw_g (lw_at lw_m7 125 rfl) rfl
theorem q1923 : (Jvm.Cond.code ({ cls := "ContractLedger$Typer", name := "shuffle", desc := "(III)I" } : Jvm.MethodName) prog_21_method_24_code (7 : Nat) (Option.some Jvm.ClassFile.FieldType.int)) ∈ lw_all := lw_g (lw_at lw_m7 126 rfl) rfl
theorem q1924 : (Jvm.Cond.methodLink "ContractLedger$Typer" (265 : Nat) ({ cls := "ContractLedger$Typer", name := "push", desc := "(II)I" } : Jvm.MethodName)) ∈ lw_all := lw_g (lw_at lw_m7 127 rfl) rfl
theorem q1925 : (Jvm.Cond.privateMethod ({ cls := "ContractLedger$Typer", name := "push", desc := "(II)I" } : Jvm.MethodName)) ∈ lw_tbl := lw_at lw_m7 128 rfl
theorem q1926 : (Jvm.Cond.instanceMethod ({ cls := "ContractLedger$Typer", name := "push", desc := "(II)I" } : Jvm.MethodName)) ∈ lw_all := lw_g (lw_at lw_m7 129 rfl) rfl
theorem q1927 : (Jvm.Cond.code ({ cls := "ContractLedger$Typer", name := "push", desc := "(II)I" } : Jvm.MethodName) prog_21_method_26_code (5 : Nat) (Option.some Jvm.ClassFile.FieldType.int)) ∈ lw_all := lw_g (lw_at lw_m7 130 rfl) rfl
theorem q1928 : (Jvm.Cond.methodLink "ContractLedger$Typer" (285 : Nat) ({ cls := "ContractLedger$Typer", name := "typeAt", desc := "(II)I" } : Jvm.MethodName)) ∈ lw_all := lw_g (lw_at lw_m7 131 rfl) rfl
theorem q1929 : (Jvm.Cond.privateMethod ({ cls := "ContractLedger$Typer", name := "typeAt", desc := "(II)I" } : Jvm.MethodName)) ∈ lw_tbl := lw_at lw_m7 132 rfl
theorem q1930 : (Jvm.Cond.instanceMethod ({ cls := "ContractLedger$Typer", name := "typeAt", desc := "(II)I" } : Jvm.MethodName)) ∈ lw_all := lw_g (lw_at lw_m7 133 rfl) rfl
theorem q1931 : (Jvm.Cond.code ({ cls := "ContractLedger$Typer", name := "typeAt", desc := "(II)I" } : Jvm.MethodName) prog_21_method_20_code (3 : Nat) (Option.some Jvm.ClassFile.FieldType.int)) ∈ lw_all := lw_g (lw_at lw_m7 134 rfl) rfl
theorem q1932 : (Jvm.Cond.methodLink "ContractLedger$Typer" (226 : Nat) ({ cls := "ContractLedger$Typer", name := "argument", desc := "(II)I" } : Jvm.MethodName)) ∈ lw_all := lw_g (lw_at lw_m7 135 rfl) rfl
theorem q1933 : (Jvm.Cond.privateMethod ({ cls := "ContractLedger$Typer", name := "argument", desc := "(II)I" } : Jvm.MethodName)) ∈ lw_tbl := lw_at lw_m7 136 rfl
theorem q1934 : (Jvm.Cond.instanceMethod ({ cls := "ContractLedger$Typer", name := "argument", desc := "(II)I" } : Jvm.MethodName)) ∈ lw_all := lw_g (lw_at lw_m7 137 rfl) rfl
theorem q1935 : (Jvm.Cond.code ({ cls := "ContractLedger$Typer", name := "argument", desc := "(II)I" } : Jvm.MethodName) prog_21_method_18_code (3 : Nat) (Option.some Jvm.ClassFile.FieldType.int)) ∈ lw_all := lw_g (lw_at lw_m7 138 rfl) rfl
theorem q1936 : (Jvm.Cond.methodLink "ContractLedger$Typer" (293 : Nat) ({ cls := "ContractLedger$Data", name := "read", desc := "(II)I" } : Jvm.MethodName)) ∈ lw_all := lw_g (lw_at lw_m7 139 rfl) rfl
theorem q2143 : (Jvm.Cond.methodLink "ContractLedger$Typer" (278 : Nat) ({ cls := "ContractLedger$Typer", name := "become", desc := "(II)Z" } : Jvm.MethodName)) ∈ lw_all := lw_g (lw_at lw_m8 106 rfl) rfl
theorem q2144 : (Jvm.Cond.privateMethod ({ cls := "ContractLedger$Typer", name := "become", desc := "(II)Z" } : Jvm.MethodName)) ∈ lw_tbl := lw_at lw_m8 107 rfl
theorem q2145 : (Jvm.Cond.instanceMethod ({ cls := "ContractLedger$Typer", name := "become", desc := "(II)Z" } : Jvm.MethodName)) ∈ lw_all := lw_g (lw_at lw_m8 108 rfl) rfl
theorem q2146 : (Jvm.Cond.code ({ cls := "ContractLedger$Typer", name := "become", desc := "(II)Z" } : Jvm.MethodName) prog_21_method_13_code (3 : Nat) (Option.some Jvm.ClassFile.FieldType.boolean)) ∈ lw_all := lw_g (lw_at lw_m8 109 rfl) rfl
theorem q2147 : (Jvm.Cond.methodLink "ContractLedger$Typer" (274 : Nat) ({ cls := "ContractLedger$Typer", name := "done", desc := "(ZIIII)I" } : Jvm.MethodName)) ∈ lw_all := lw_g (lw_at lw_m8 110 rfl) rfl
theorem q2148 : (Jvm.Cond.privateMethod ({ cls := "ContractLedger$Typer", name := "done", desc := "(ZIIII)I" } : Jvm.MethodName)) ∈ lw_tbl := lw_at lw_m8 111 rfl
theorem q2149 : (Jvm.Cond.instanceMethod ({ cls := "ContractLedger$Typer", name := "done", desc := "(ZIIII)I" } : Jvm.MethodName)) ∈ lw_all := lw_g (lw_at lw_m8 112 rfl) rfl
theorem q2150 : (Jvm.Cond.code ({ cls := "ContractLedger$Typer", name := "done", desc := "(ZIIII)I" } : Jvm.MethodName) prog_21_method_23_code (6 : Nat) (Option.some Jvm.ClassFile.FieldType.int)) ∈ lw_all := lw_g (lw_at lw_m8 113 rfl) rfl
theorem q2151 : (Jvm.Cond.methodLink "ContractLedger$Typer" (262 : Nat) ({ cls := "ContractLedger$Scripts", name := "instruction", desc := "(IIII)I" } : Jvm.MethodName)) ∈ lw_all := lw_g (lw_at lw_m8 114 rfl) rfl
theorem q2155 : (Jvm.Cond.methodLink "ContractLedger$Typer" (268 : Nat) ({ cls := "ContractLedger$Typer", name := "dip", desc := "(II)I" } : Jvm.MethodName)) ∈ lw_all := lw_g (lw_at lw_m8 118 rfl) rfl
theorem q2156 : (Jvm.Cond.privateMethod ({ cls := "ContractLedger$Typer", name := "dip", desc := "(II)I" } : Jvm.MethodName)) ∈ lw_tbl := lw_at lw_m8 119 rfl
theorem q2157 : (Jvm.Cond.instanceMethod ({ cls := "ContractLedger$Typer", name := "dip", desc := "(II)I" } : Jvm.MethodName)) ∈ lw_all := lw_g (lw_at lw_m8 120 rfl) rfl
theorem q2158 : (Jvm.Cond.code ({ cls := "ContractLedger$Typer", name := "dip", desc := "(II)I" } : Jvm.MethodName) prog_21_method_27_code (6 : Nat) (Option.some Jvm.ClassFile.FieldType.int)) ∈ lw_all := lw_g (lw_at lw_m8 121 rfl) rfl
theorem q2159 : (Jvm.Cond.methodLink "ContractLedger$Typer" (271 : Nat) ({ cls := "ContractLedger$Typer", name := "told", desc := "(II)I" } : Jvm.MethodName)) ∈ lw_all := lw_g (lw_at lw_m8 122 rfl) rfl
theorem q2160 : (Jvm.Cond.privateMethod ({ cls := "ContractLedger$Typer", name := "told", desc := "(II)I" } : Jvm.MethodName)) ∈ lw_tbl := lw_at lw_m8 123 rfl
theorem q2161 : (Jvm.Cond.instanceMethod ({ cls := "ContractLedger$Typer", name := "told", desc := "(II)I" } : Jvm.MethodName)) ∈ lw_all := lw_g (lw_at lw_m8 124 rfl) rfl
theorem q2162 : (Jvm.Cond.code ({ cls := "ContractLedger$Typer", name := "told", desc := "(II)I" } : Jvm.MethodName) prog_21_method_19_code (4 : Nat) (Option.some Jvm.ClassFile.FieldType.int)) ∈ lw_all := lw_g (lw_at lw_m8 125 rfl) rfl
theorem q2163 : (Jvm.Cond.methodLink "ContractLedger$Typer" (234 : Nat) ({ cls := "ContractLedger$Terms", name := "number", desc := "([BIILContractLedger$Whole;)V" } : Jvm.MethodName)) ∈ lw_all := lw_g (lw_at lw_m8 126 rfl) rfl
theorem q2164 : (Jvm.Cond.methodLink "ContractLedger$Typer" (240 : Nat) ({ cls := "ContractLedger$Whole", name := "bits", desc := "()I" } : Jvm.MethodName)) ∈ lw_all := lw_g (lw_at lw_m8 127 rfl) rfl
theorem q2165 : (Jvm.Cond.methodLink "ContractLedger$Typer" (244 : Nat) ({ cls := "ContractLedger$Whole", name := "at", desc := "(I)I" } : Jvm.MethodName)) ∈ lw_all := lw_g (lw_at lw_m8 128 rfl) rfl
theorem q2166 : (Jvm.Cond.methodLink "ContractLedger$Typer" (298 : Nat) ({ cls := "ContractLedger$Typer", name := "isCode", desc := "(II)Z" } : Jvm.MethodName)) ∈ lw_all := lw_g (lw_at lw_m8 129 rfl) rfl
theorem q2167 : (Jvm.Cond.privateMethod ({ cls := "ContractLedger$Typer", name := "isCode", desc := "(II)Z" } : Jvm.MethodName)) ∈ lw_tbl := lw_at lw_m8 130 rfl
theorem q2168 : (Jvm.Cond.instanceMethod ({ cls := "ContractLedger$Typer", name := "isCode", desc := "(II)Z" } : Jvm.MethodName)) ∈ lw_all := lw_g (lw_at lw_m8 131 rfl) rfl
theorem q2169 : (Jvm.Cond.code ({ cls := "ContractLedger$Typer", name := "isCode", desc := "(II)Z" } : Jvm.MethodName) prog_21_method_21_code (3 : Nat) (Option.some Jvm.ClassFile.FieldType.boolean)) ∈ lw_all := lw_g (lw_at lw_m8 132 rfl) rfl
theorem q2170 : (Jvm.Cond.methodLink "ContractLedger$Typer" (212 : Nat) ({ cls := "java/lang/System", name := "arraycopy", desc := "(Ljava/lang/Object;ILjava/lang/Object;II)V" } : Jvm.MethodName)) ∈ lw_all := lw_g (lw_at lw_m8 133 rfl) rfl
theorem q2171 : (Jvm.Cond.methodLink "ContractLedger$Typer" (209 : Nat) ({ cls := "ContractLedger$Typer", name := "at", desc := "(I)I" } : Jvm.MethodName)) ∈ lw_all := lw_g (lw_at lw_m8 134 rfl) rfl
theorem q2172 : (Jvm.Cond.privateMethod ({ cls := "ContractLedger$Typer", name := "at", desc := "(I)I" } : Jvm.MethodName)) ∈ lw_tbl := lw_at lw_m8 135 rfl
theorem q2173 : (Jvm.Cond.instanceMethod ({ cls := "ContractLedger$Typer", name := "at", desc := "(I)I" } : Jvm.MethodName)) ∈ lw_all := lw_g (lw_at lw_m8 136 rfl) rfl
theorem q2174 : (Jvm.Cond.code ({ cls := "ContractLedger$Typer", name := "at", desc := "(I)I" } : Jvm.MethodName) prog_21_method_9_code (2 : Nat) (Option.some Jvm.ClassFile.FieldType.int)) ∈ lw_all := lw_g (lw_at lw_m8 137 rfl) rfl
theorem q2175 : (Jvm.Cond.methodLink "ContractLedger$Typer" (281 : Nat) ({ cls := "ContractLedger$Typer", name := "turn", desc := "(IZ)Z" } : Jvm.MethodName)) ∈ lw_all := lw_g (lw_at lw_m8 138 rfl) rfl
theorem q2176 : (Jvm.Cond.privateMethod ({ cls := "ContractLedger$Typer", name := "turn", desc := "(IZ)Z" } : Jvm.MethodName)) ∈ lw_tbl := lw_at lw_m8 139 rfl
theorem q2177 : (Jvm.Cond.instanceMethod ({ cls := "ContractLedger$Typer", name := "turn", desc := "(IZ)Z" } : Jvm.MethodName)) ∈ lw_all := lw_g (lw_at lw_m8 140 rfl) rfl
theorem q2178 : (Jvm.Cond.code ({ cls := "ContractLedger$Typer", name := "turn", desc := "(IZ)Z" } : Jvm.MethodName) prog_21_method_25_code (7 : Nat) (Option.some Jvm.ClassFile.FieldType.boolean)) ∈ lw_all := lw_g (lw_at lw_m8 141 rfl) rfl
theorem q2179 : (Jvm.Cond.methodLink "ContractLedger$Typer" (250 : Nat) ({ cls := "ContractLedger$Typer", name := "maker", desc := "(III)I" } : Jvm.MethodName)) ∈ lw_all := lw_g (lw_at lw_m8 142 rfl) rfl
theorem q2180 : (Jvm.Cond.privateMethod ({ cls := "ContractLedger$Typer", name := "maker", desc := "(III)I" } : Jvm.MethodName)) ∈ lw_tbl := lw_at lw_m8 143 rfl
theorem q2181 : (Jvm.Cond.instanceMethod ({ cls := "ContractLedger$Typer", name := "maker", desc := "(III)I" } : Jvm.MethodName)) ∈ lw_all := lw_g (lw_at lw_m8 144 rfl) rfl
theorem q2182 : (Jvm.Cond.code ({ cls := "ContractLedger$Typer", name := "maker", desc := "(III)I" } : Jvm.MethodName) prog_21_method_28_code (4 : Nat) (Option.some Jvm.ClassFile.FieldType.int)) ∈ lw_all := lw_g (lw_at lw_m8 145 rfl) rfl
theorem q2183 : (Jvm.Cond.methodLink "ContractLedger$Typer" (301 : Nat) ({ cls := "ContractLedger$Typer", name := "comb", desc := "(III)I" } : Jvm.MethodName)) ∈ lw_all := lw_g (lw_at lw_m8 146 rfl) rfl
theorem q2184 : (Jvm.Cond.privateMethod ({ cls := "ContractLedger$Typer", name := "comb", desc := "(III)I" } : Jvm.MethodName)) ∈ lw_tbl := lw_at lw_m8 147 rfl
theorem q2185 : (Jvm.Cond.instanceMethod ({ cls := "ContractLedger$Typer", name := "comb", desc := "(III)I" } : Jvm.MethodName)) ∈ lw_all := lw_g (lw_at lw_m8 148 rfl) rfl
theorem q2186 : (Jvm.Cond.code ({ cls := "ContractLedger$Typer", name := "comb", desc := "(III)I" } : Jvm.MethodName) prog_21_method_29_code (9 : Nat) (Option.some Jvm.ClassFile.FieldType.int)) ∈ lw_all := lw_g (lw_at lw_m8 149 rfl) rfl
theorem q2187 : (Jvm.Cond.methodLink "ContractLedger$Typer" (304 : Nat) ({ cls := "ContractLedger$Typer", name := "word", desc := "(I)I" } : Jvm.MethodName)) ∈ lw_all := lw_g (lw_at lw_m8 150 rfl) rfl
theorem q2188 : (Jvm.Cond.privateMethod ({ cls := "ContractLedger$Typer", name := "word", desc := "(I)I" } : Jvm.MethodName)) ∈ lw_tbl := lw_at lw_m8 151 rfl
theorem q2189 : (Jvm.Cond.instanceMethod ({ cls := "ContractLedger$Typer", name := "word", desc := "(I)I" } : Jvm.MethodName)) ∈ lw_all := lw_g (lw_at lw_m8 152 rfl) rfl
theorem q2190 : (Jvm.Cond.code ({ cls := "ContractLedger$Typer", name := "word", desc := "(I)I" } : Jvm.MethodName) prog_21_method_10_code (2 : Nat) (Option.some Jvm.ClassFile.FieldType.int)) ∈ lw_all := lw_g (lw_at lw_m8 153 rfl) rfl
theorem q2191 : (Jvm.Cond.methodLink "ContractLedger$Typer" (307 : Nat) ({ cls := "ContractLedger$Typer", name := "left", desc := "(I)I" } : Jvm.MethodName)) ∈ lw_all := lw_g (lw_at lw_m8 154 rfl) rfl
theorem q2192 : (Jvm.Cond.privateMethod ({ cls := "ContractLedger$Typer", name := "left", desc := "(I)I" } : Jvm.MethodName)) ∈ lw_tbl := lw_at lw_m8 155 rfl
theorem q2193 : (Jvm.Cond.instanceMethod ({ cls := "ContractLedger$Typer", name := "left", desc := "(I)I" } : Jvm.MethodName)) ∈ lw_all := lw_g (lw_at lw_m8 156 rfl) rfl
theorem q2194 : (Jvm.Cond.code ({ cls := "ContractLedger$Typer", name := "left", desc := "(I)I" } : Jvm.MethodName) prog_21_method_11_code (2 : Nat) (Option.some Jvm.ClassFile.FieldType.int)) ∈ lw_all := lw_g (lw_at lw_m8 157 rfl) rfl
theorem q2195 : (Jvm.Cond.methodLink "ContractLedger$Typer" (310 : Nat) ({ cls := "ContractLedger$Typer", name := "right", desc := "(I)I" } : Jvm.MethodName)) ∈ lw_all := lw_g (lw_at lw_m8 158 rfl) rfl
theorem q2196 : (Jvm.Cond.privateMethod ({ cls := "ContractLedger$Typer", name := "right", desc := "(I)I" } : Jvm.MethodName)) ∈ lw_tbl := lw_at lw_m8 159 rfl
theorem q2197 : (Jvm.Cond.instanceMethod ({ cls := "ContractLedger$Typer", name := "right", desc := "(I)I" } : Jvm.MethodName)) ∈ lw_all := lw_g (lw_at lw_m8 160 rfl) rfl
theorem q2198 : (Jvm.Cond.code ({ cls := "ContractLedger$Typer", name := "right", desc := "(I)I" } : Jvm.MethodName) prog_21_method_12_code (2 : Nat) (Option.some Jvm.ClassFile.FieldType.int)) ∈ lw_all := lw_g (lw_at lw_m8 161 rfl) rfl
theorem q2199 : (Jvm.Cond.methodLink "ContractLedger$Typer" (313 : Nat) ({ cls := "ContractLedger$Types", name := "option", desc := "(I)I" } : Jvm.MethodName)) ∈ lw_all := lw_g (lw_at lw_m8 162 rfl) rfl
theorem q2203 : (Jvm.Cond.methodLink "ContractLedger$Typer" (316 : Nat) ({ cls := "ContractLedger$Typer", name := "told", desc := "(III)I" } : Jvm.MethodName)) ∈ lw_all := lw_g (lw_at lw_m8 166 rfl) rfl
theorem q2204 : (Jvm.Cond.privateMethod ({ cls := "ContractLedger$Typer", name := "told", desc := "(III)I" } : Jvm.MethodName)) ∈ lw_tbl := lw_at lw_m8 167 rfl
theorem q2205 : (Jvm.Cond.instanceMethod ({ cls := "ContractLedger$Typer", name := "told", desc := "(III)I" } : Jvm.MethodName)) ∈ lw_all := lw_g (lw_at lw_m8 168 rfl) rfl
theorem q2206 : (Jvm.Cond.code ({ cls := "ContractLedger$Typer", name := "told", desc := "(III)I" } : Jvm.MethodName) prog_21_method_30_code (9 : Nat) (Option.some Jvm.ClassFile.FieldType.int)) ∈ lw_all := lw_g (lw_at lw_m8 169 rfl) rfl
theorem q2207 : (Jvm.Cond.methodLink "ContractLedger$Typer" (253 : Nat) ({ cls := "ContractLedger$Typer", name := "control", desc := "(III)I" } : Jvm.MethodName)) ∈ lw_all := lw_g (lw_at lw_m8 170 rfl) rfl
theorem q2208 : (Jvm.Cond.privateMethod ({ cls := "ContractLedger$Typer", name := "control", desc := "(III)I" } : Jvm.MethodName)) ∈ lw_tbl := lw_at lw_m8 171 rfl
theorem q2209 : (Jvm.Cond.instanceMethod ({ cls := "ContractLedger$Typer", name := "control", desc := "(III)I" } : Jvm.MethodName)) ∈ lw_all := lw_g (lw_at lw_m8 172 rfl) rfl
theorem q2210 : (Jvm.Cond.code ({ cls := "ContractLedger$Typer", name := "control", desc := "(III)I" } : Jvm.MethodName) prog_21_method_31_code (5 : Nat) (Option.some Jvm.ClassFile.FieldType.int)) ∈ lw_all := lw_g (lw_at lw_m8 173 rfl) rfl
theorem q2211 : (Jvm.Cond.methodLink "ContractLedger$Typer" (318 : Nat) ({ cls := "ContractLedger$Typer", name := "branch", desc := "(II)I" } : Jvm.MethodName)) ∈ lw_all := lw_g (lw_at lw_m8 174 rfl) rfl
theorem q2212 : (Jvm.Cond.privateMethod ({ cls := "ContractLedger$Typer", name := "branch", desc := "(II)I" } : Jvm.MethodName)) ∈ lw_tbl := lw_at lw_m8 175 rfl
theorem q2213 : (Jvm.Cond.instanceMethod ({ cls := "ContractLedger$Typer", name := "branch", desc := "(II)I" } : Jvm.MethodName)) ∈ lw_all := lw_g (lw_at lw_m8 176 rfl) rfl
theorem q2214 : (Jvm.Cond.code ({ cls := "ContractLedger$Typer", name := "branch", desc := "(II)I" } : Jvm.MethodName) prog_21_method_32_code (14 : Nat) (Option.some Jvm.ClassFile.FieldType.int)) ∈ lw_all := lw_g (lw_at lw_m8 177 rfl) rfl
theorem q2215 : (Jvm.Cond.methodLink "ContractLedger$Typer" (330 : Nat) ({ cls := "ContractLedger$Typer", name := "save", desc := "()V" } : Jvm.MethodName)) ∈ lw_all := lw_g (lw_at lw_m8 178 rfl) rfl
theorem q2216 : (Jvm.Cond.privateMethod ({ cls := "ContractLedger$Typer", name := "save", desc := "()V" } : Jvm.MethodName)) ∈ lw_tbl := lw_at lw_m8 179 rfl
theorem q2217 : (Jvm.Cond.instanceMethod ({ cls := "ContractLedger$Typer", name := "save", desc := "()V" } : Jvm.MethodName)) ∈ lw_all := lw_g (lw_at lw_m8 180 rfl) rfl
theorem q2218 : (Jvm.Cond.code ({ cls := "ContractLedger$Typer", name := "save", desc := "()V" } : Jvm.MethodName) prog_21_method_14_code (1 : Nat) (Option.none : Option Jvm.ClassFile.FieldType)) ∈ lw_all := lw_g (lw_at lw_m8 181 rfl) rfl
theorem q2219 : (Jvm.Cond.methodLink "ContractLedger$Typer" (333 : Nat) ({ cls := "ContractLedger$Typer", name := "load", desc := "(I)V" } : Jvm.MethodName)) ∈ lw_all := lw_g (lw_at lw_m8 182 rfl) rfl
theorem q2220 : (Jvm.Cond.privateMethod ({ cls := "ContractLedger$Typer", name := "load", desc := "(I)V" } : Jvm.MethodName)) ∈ lw_tbl := lw_at lw_m8 183 rfl
theorem q2221 : (Jvm.Cond.instanceMethod ({ cls := "ContractLedger$Typer", name := "load", desc := "(I)V" } : Jvm.MethodName)) ∈ lw_all := lw_g (lw_at lw_m8 184 rfl) rfl
theorem q2222 : (Jvm.Cond.code ({ cls := "ContractLedger$Typer", name := "load", desc := "(I)V" } : Jvm.MethodName) prog_21_method_15_code (2 : Nat) (Option.none : Option Jvm.ClassFile.FieldType)) ∈ lw_all := lw_g (lw_at lw_m8 185 rfl) rfl
theorem q2223 : (Jvm.Cond.methodLink "ContractLedger$Typer" (336 : Nat) ({ cls := "ContractLedger$Typer", name := "isSaved", desc := "(I)Z" } : Jvm.MethodName)) ∈ lw_all := lw_g (lw_at lw_m8 186 rfl) rfl
theorem q2224 : (Jvm.Cond.privateMethod ({ cls := "ContractLedger$Typer", name := "isSaved", desc := "(I)Z" } : Jvm.MethodName)) ∈ lw_tbl := lw_at lw_m8 187 rfl
theorem q2225 : (Jvm.Cond.instanceMethod ({ cls := "ContractLedger$Typer", name := "isSaved", desc := "(I)Z" } : Jvm.MethodName)) ∈ lw_all := lw_g (lw_at lw_m8 188 rfl) rfl
theorem q2226 : (Jvm.Cond.code ({ cls := "ContractLedger$Typer", name := "isSaved", desc := "(I)Z" } : Jvm.MethodName) prog_21_method_16_code (4 : Nat) (Option.some Jvm.ClassFile.FieldType.boolean)) ∈ lw_all := lw_g (lw_at lw_m8 189 rfl) rfl
theorem q2227 : (Jvm.Cond.methodLink "ContractLedger$Typer" (321 : Nat) ({ cls := "ContractLedger$Typer", name := "loop", desc := "(II)I" } : Jvm.MethodName)) ∈ lw_all := lw_g (lw_at lw_m8 190 rfl) rfl
theorem q2228 : (Jvm.Cond.privateMethod ({ cls := "ContractLedger$Typer", name := "loop", desc := "(II)I" } : Jvm.MethodName)) ∈ lw_tbl := lw_at lw_m8 191 rfl
theorem q2229 : (Jvm.Cond.instanceMethod ({ cls := "ContractLedger$Typer", name := "loop", desc := "(II)I" } : Jvm.MethodName)) ∈ lw_all := lw_g (lw_at lw_m8 192 rfl) rfl
theorem q2230 : (Jvm.Cond.code ({ cls := "ContractLedger$Typer", name := "loop", desc := "(II)I" } : Jvm.MethodName) prog_21_method_33_code (8 : Nat) (Option.some Jvm.ClassFile.FieldType.int)) ∈ lw_all := lw_g (lw_at lw_m8 193 rfl) rfl
theorem q2231 : (Jvm.Cond.methodLink "ContractLedger$Typer" (324 : Nat) ({ cls := "ContractLedger$Typer", name := "each", desc := "(II)I" } : Jvm.MethodName)) ∈ lw_all := lw_g (lw_at lw_m8 194 rfl) rfl
theorem q2232 : (Jvm.Cond.privateMethod ({ cls := "ContractLedger$Typer", name := "each", desc := "(II)I" } : Jvm.MethodName)) ∈ lw_tbl := lw_at lw_m8 195 rfl
theorem q2233 : (Jvm.Cond.instanceMethod ({ cls := "ContractLedger$Typer", name := "each", desc := "(II)I" } : Jvm.MethodName)) ∈ lw_all := lw_g (lw_at lw_m8 196 rfl) rfl
theorem q2234 : (Jvm.Cond.code ({ cls := "ContractLedger$Typer", name := "each", desc := "(II)I" } : Jvm.MethodName) prog_21_method_35_code (11 : Nat) (Option.some Jvm.ClassFile.FieldType.int)) ∈ lw_all := lw_g (lw_at lw_m8 197 rfl) rfl
theorem q2235 : (Jvm.Cond.methodLink "ContractLedger$Typer" (342 : Nat) ({ cls := "ContractLedger$Typer", name := "element", desc := "(II)I" } : Jvm.MethodName)) ∈ lw_all := lw_g (lw_at lw_m8 198 rfl) rfl
theorem q2236 : (Jvm.Cond.privateMethod ({ cls := "ContractLedger$Typer", name := "element", desc := "(II)I" } : Jvm.MethodName)) ∈ lw_tbl := lw_at lw_m8 199 rfl
theorem q2237 : (Jvm.Cond.instanceMethod ({ cls := "ContractLedger$Typer", name := "element", desc := "(II)I" } : Jvm.MethodName)) ∈ lw_all := lw_g (lw_at lw_m8 200 rfl) rfl
theorem q2238 : (Jvm.Cond.code ({ cls := "ContractLedger$Typer", name := "element", desc := "(II)I" } : Jvm.MethodName) prog_21_method_34_code (3 : Nat) (Option.some Jvm.ClassFile.FieldType.int)) ∈ lw_all := lw_g (lw_at lw_m8 201 rfl) rfl
theorem q2239 : (Jvm.Cond.methodLink "ContractLedger$Typer" (327 : Nat) ({ cls := "ContractLedger$Typer", name := "lambda", desc := "(I)I" } : Jvm.MethodName)) ∈ lw_all := lw_g (lw_at lw_m8 202 rfl) rfl
theorem q2240 : (Jvm.Cond.privateMethod ({ cls := "ContractLedger$Typer", name := "lambda", desc := "(I)I" } : Jvm.MethodName)) ∈ lw_tbl := lw_at lw_m8 203 rfl
theorem q2241 : (Jvm.Cond.instanceMethod ({ cls := "ContractLedger$Typer", name := "lambda", desc := "(I)I" } : Jvm.MethodName)) ∈ lw_all := lw_g (lw_at lw_m8 204 rfl) rfl
theorem q2242 : (Jvm.Cond.code ({ cls := "ContractLedger$Typer", name := "lambda", desc := "(I)I" } : Jvm.MethodName) prog_21_method_36_code (8 : Nat) (Option.some Jvm.ClassFile.FieldType.int)) ∈ lw_all := lw_g (lw_at lw_m8 205 rfl) rfl
theorem q2243 : (Jvm.Cond.methodLink "ContractLedger$Typer" (256 : Nat) ({ cls := "ContractLedger$Typer", name := "plain", desc := "(II)I" } : Jvm.MethodName)) ∈ lw_all := lw_g (lw_at lw_m8 206 rfl) rfl
theorem q2244 : (Jvm.Cond.privateMethod ({ cls := "ContractLedger$Typer", name := "plain", desc := "(II)I" } : Jvm.MethodName)) ∈ lw_tbl := lw_at lw_m8 207 rfl
theorem q2245 : (Jvm.Cond.instanceMethod ({ cls := "ContractLedger$Typer", name := "plain", desc := "(II)I" } : Jvm.MethodName)) ∈ lw_all := lw_g (lw_at lw_m8 208 rfl) rfl
theorem q2246 : (Jvm.Cond.code ({ cls := "ContractLedger$Typer", name := "plain", desc := "(II)I" } : Jvm.MethodName) prog_21_method_45_code (6 : Nat) (Option.some Jvm.ClassFile.FieldType.int)) ∈ lw_all := lw_g (lw_at lw_m8 209 rfl) rfl
theorem q2247 : (Jvm.Cond.methodLink "ContractLedger$Typer" (360 : Nat) ({ cls := "ContractLedger$Typer", name := "isOne", desc := "(I)Z" } : Jvm.MethodName)) ∈ lw_all := lw_g (lw_at lw_m8 210 rfl) rfl
theorem q2248 : (Jvm.Cond.static ({ cls := "ContractLedger$Typer", name := "isOne", desc := "(I)Z" } : Jvm.MethodName)) ∈ lw_all := lw_g (lw_at lw_m8 211 rfl) rfl
theorem q2249 : (Jvm.Cond.code ({ cls := "ContractLedger$Typer", name := "isOne", desc := "(I)Z" } : Jvm.MethodName) prog_21_method_44_code (1 : Nat) (Option.some Jvm.ClassFile.FieldType.boolean)) ∈ lw_all := lw_g (lw_at lw_m8 212 rfl) rfl
theorem q2250 : (Jvm.Cond.methodLink "ContractLedger$Typer" (363 : Nat) ({ cls := "ContractLedger$Typer", name := "one", desc := "(II)I" } : Jvm.MethodName)) ∈ lw_all := lw_g (lw_at lw_m8 213 rfl) rfl
theorem q2251 : (Jvm.Cond.privateMethod ({ cls := "ContractLedger$Typer", name := "one", desc := "(II)I" } : Jvm.MethodName)) ∈ lw_tbl := lw_at lw_m8 214 rfl
theorem q2252 : (Jvm.Cond.instanceMethod ({ cls := "ContractLedger$Typer", name := "one", desc := "(II)I" } : Jvm.MethodName)) ∈ lw_all := lw_g (lw_at lw_m8 215 rfl) rfl
theorem q2253 : (Jvm.Cond.code ({ cls := "ContractLedger$Typer", name := "one", desc := "(II)I" } : Jvm.MethodName) prog_21_method_42_code (3 : Nat) (Option.some Jvm.ClassFile.FieldType.int)) ∈ lw_all := lw_g (lw_at lw_m8 216 rfl) rfl
theorem q2254 : (Jvm.Cond.methodLink "ContractLedger$Typer" (345 : Nat) ({ cls := "ContractLedger$Typer", name := "isWhole", desc := "(I)Z" } : Jvm.MethodName)) ∈ lw_all := lw_g (lw_at lw_m8 217 rfl) rfl
theorem q2255 : (Jvm.Cond.static ({ cls := "ContractLedger$Typer", name := "isWhole", desc := "(I)Z" } : Jvm.MethodName)) ∈ lw_all := lw_g (lw_at lw_m8 218 rfl) rfl
theorem q2256 : (Jvm.Cond.code ({ cls := "ContractLedger$Typer", name := "isWhole", desc := "(I)Z" } : Jvm.MethodName) prog_21_method_37_code (1 : Nat) (Option.some Jvm.ClassFile.FieldType.boolean)) ∈ lw_all := lw_g (lw_at lw_m8 219 rfl) rfl
theorem q2257 : (Jvm.Cond.methodLink "ContractLedger$Typer" (366 : Nat) ({ cls := "ContractLedger$Typer", name := "become2", desc := "(II)Z" } : Jvm.MethodName)) ∈ lw_all := lw_g (lw_at lw_m8 220 rfl) rfl
theorem q2258 : (Jvm.Cond.privateMethod ({ cls := "ContractLedger$Typer", name := "become2", desc := "(II)Z" } : Jvm.MethodName)) ∈ lw_tbl := lw_at lw_m8 221 rfl
theorem q2259 : (Jvm.Cond.instanceMethod ({ cls := "ContractLedger$Typer", name := "become2", desc := "(II)Z" } : Jvm.MethodName)) ∈ lw_all := lw_g (lw_at lw_m8 222 rfl) rfl
theorem q2260 : (Jvm.Cond.code ({ cls := "ContractLedger$Typer", name := "become2", desc := "(II)Z" } : Jvm.MethodName) prog_21_method_46_code (3 : Nat) (Option.some Jvm.ClassFile.FieldType.boolean)) ∈ lw_all := lw_g (lw_at lw_m8 223 rfl) rfl
theorem q2261 : (Jvm.Cond.methodLink "ContractLedger$Typer" (369 : Nat) ({ cls := "ContractLedger$Typer", name := "two", desc := "(III)I" } : Jvm.MethodName)) ∈ lw_all := lw_g (lw_at lw_m8 224 rfl) rfl
theorem q2262 : (Jvm.Cond.privateMethod ({ cls := "ContractLedger$Typer", name := "two", desc := "(III)I" } : Jvm.MethodName)) ∈ lw_tbl := lw_at lw_m8 225 rfl
theorem q2263 : (Jvm.Cond.instanceMethod ({ cls := "ContractLedger$Typer", name := "two", desc := "(III)I" } : Jvm.MethodName)) ∈ lw_all := lw_g (lw_at lw_m8 226 rfl) rfl
theorem q2264 : (Jvm.Cond.code ({ cls := "ContractLedger$Typer", name := "two", desc := "(III)I" } : Jvm.MethodName) prog_21_method_43_code (4 : Nat) (Option.some Jvm.ClassFile.FieldType.int)) ∈ lw_all := lw_g (lw_at lw_m8 227 rfl) rfl
theorem q2265 : (Jvm.Cond.methodLink "ContractLedger$Typer" (348 : Nat) ({ cls := "ContractLedger$Typer", name := "sum", desc := "(IIZ)I" } : Jvm.MethodName)) ∈ lw_all := lw_g (lw_at lw_m8 228 rfl) rfl
theorem q2266 : (Jvm.Cond.static ({ cls := "ContractLedger$Typer", name := "sum", desc := "(IIZ)I" } : Jvm.MethodName)) ∈ lw_all := lw_g (lw_at lw_m8 229 rfl) rfl
theorem q2267 : (Jvm.Cond.code ({ cls := "ContractLedger$Typer", name := "sum", desc := "(IIZ)I" } : Jvm.MethodName) prog_21_method_38_code (3 : Nat) (Option.some Jvm.ClassFile.FieldType.int)) ∈ lw_all := lw_g (lw_at lw_m8 230 rfl) rfl
theorem q2268 : (Jvm.Cond.methodLink "ContractLedger$Typer" (352 : Nat) ({ cls := "ContractLedger$Typer", name := "difference", desc := "(II)I" } : Jvm.MethodName)) ∈ lw_all := lw_g (lw_at lw_m8 231 rfl) rfl
theorem q2269 : (Jvm.Cond.static ({ cls := "ContractLedger$Typer", name := "difference", desc := "(II)I" } : Jvm.MethodName)) ∈ lw_all := lw_g (lw_at lw_m8 232 rfl) rfl
theorem q2270 : (Jvm.Cond.code ({ cls := "ContractLedger$Typer", name := "difference", desc := "(II)I" } : Jvm.MethodName) prog_21_method_39_code (2 : Nat) (Option.some Jvm.ClassFile.FieldType.int)) ∈ lw_all := lw_g (lw_at lw_m8 233 rfl) rfl
theorem q2271 : (Jvm.Cond.methodLink "ContractLedger$Typer" (355 : Nat) ({ cls := "ContractLedger$Typer", name := "quotient", desc := "(II)I" } : Jvm.MethodName)) ∈ lw_all := lw_g (lw_at lw_m8 234 rfl) rfl
theorem q2272 : (Jvm.Cond.privateMethod ({ cls := "ContractLedger$Typer", name := "quotient", desc := "(II)I" } : Jvm.MethodName)) ∈ lw_tbl := lw_at lw_m8 235 rfl
theorem q2273 : (Jvm.Cond.instanceMethod ({ cls := "ContractLedger$Typer", name := "quotient", desc := "(II)I" } : Jvm.MethodName)) ∈ lw_all := lw_g (lw_at lw_m8 236 rfl) rfl
theorem q2274 : (Jvm.Cond.code ({ cls := "ContractLedger$Typer", name := "quotient", desc := "(II)I" } : Jvm.MethodName) prog_21_method_40_code (3 : Nat) (Option.some Jvm.ClassFile.FieldType.int)) ∈ lw_all := lw_g (lw_at lw_m8 237 rfl) rfl
theorem q2275 : (Jvm.Cond.methodLink "ContractLedger$Typer" (358 : Nat) ({ cls := "ContractLedger$Typer", name := "bits", desc := "(III)I" } : Jvm.MethodName)) ∈ lw_all := lw_g (lw_at lw_m8 238 rfl) rfl
theorem q2276 : (Jvm.Cond.static ({ cls := "ContractLedger$Typer", name := "bits", desc := "(III)I" } : Jvm.MethodName)) ∈ lw_all := lw_g (lw_at lw_m8 239 rfl) rfl
theorem q2277 : (Jvm.Cond.code ({ cls := "ContractLedger$Typer", name := "bits", desc := "(III)I" } : Jvm.MethodName) prog_21_method_41_code (4 : Nat) (Option.some Jvm.ClassFile.FieldType.int)) ∈ lw_all := lw_g (lw_at lw_m9 0 rfl) rfl
theorem q2278 : (Jvm.Cond.methodLink "ContractLedger$Typer" (259 : Nat) ({ cls := "ContractLedger$Typer", name := "other", desc := "(III)I" } : Jvm.MethodName)) ∈ lw_all := lw_g (lw_at lw_m9 1 rfl) rfl
theorem q2279 : (Jvm.Cond.privateMethod ({ cls := "ContractLedger$Typer", name := "other", desc := "(III)I" } : Jvm.MethodName)) ∈ lw_tbl := lw_at lw_m9 2 rfl
theorem q2280 : (Jvm.Cond.instanceMethod ({ cls := "ContractLedger$Typer", name := "other", desc := "(III)I" } : Jvm.MethodName)) ∈ lw_all := lw_g (lw_at lw_m9 3 rfl) rfl
theorem q2281 : (Jvm.Cond.code ({ cls := "ContractLedger$Typer", name := "other", desc := "(III)I" } : Jvm.MethodName) prog_21_method_47_code (6 : Nat) (Option.some Jvm.ClassFile.FieldType.int)) ∈ lw_all := lw_g (lw_at lw_m9 4 rfl) rfl
theorem q2282 : (Jvm.Cond.methodLink "ContractLedger$Typer" (372 : Nat) ({ cls := "ContractLedger$Typer", name := "concat", desc := "()I" } : Jvm.MethodName)) ∈ lw_all := lw_g (lw_at lw_m9 5 rfl) rfl
theorem q2283 : (Jvm.Cond.privateMethod ({ cls := "ContractLedger$Typer", name := "concat", desc := "()I" } : Jvm.MethodName)) ∈ lw_tbl := lw_at lw_m9 6 rfl
theorem q2284 : (Jvm.Cond.instanceMethod ({ cls := "ContractLedger$Typer", name := "concat", desc := "()I" } : Jvm.MethodName)) ∈ lw_all := lw_g (lw_at lw_m9 7 rfl) rfl
theorem q2285 : (Jvm.Cond.code ({ cls := "ContractLedger$Typer", name := "concat", desc := "()I" } : Jvm.MethodName) prog_21_method_49_code (3 : Nat) (Option.some Jvm.ClassFile.FieldType.int)) ∈ lw_all := lw_g (lw_at lw_m9 8 rfl) rfl
theorem q2286 : (Jvm.Cond.methodLink "ContractLedger$Typer" (375 : Nat) ({ cls := "ContractLedger$Typer", name := "isText", desc := "(I)Z" } : Jvm.MethodName)) ∈ lw_all := lw_g (lw_at lw_m9 9 rfl) rfl
theorem q2287 : (Jvm.Cond.static ({ cls := "ContractLedger$Typer", name := "isText", desc := "(I)Z" } : Jvm.MethodName)) ∈ lw_all := lw_g (lw_at lw_m9 10 rfl) rfl
theorem q2288 : (Jvm.Cond.code ({ cls := "ContractLedger$Typer", name := "isText", desc := "(I)Z" } : Jvm.MethodName) prog_21_method_48_code (1 : Nat) (Option.some Jvm.ClassFile.FieldType.boolean)) ∈ lw_all := lw_g (lw_at lw_m9 11 rfl) rfl
theorem q2289 : (Jvm.Cond.methodLink "ContractLedger$Typer" (378 : Nat) ({ cls := "ContractLedger$Typer", name := "keyed", desc := "(I)I" } : Jvm.MethodName)) ∈ lw_all := lw_g (lw_at lw_m9 12 rfl) rfl
theorem q2290 : (Jvm.Cond.privateMethod ({ cls := "ContractLedger$Typer", name := "keyed", desc := "(I)I" } : Jvm.MethodName)) ∈ lw_tbl := lw_at lw_m9 13 rfl
theorem q2291 : (Jvm.Cond.instanceMethod ({ cls := "ContractLedger$Typer", name := "keyed", desc := "(I)I" } : Jvm.MethodName)) ∈ lw_all := lw_g (lw_at lw_m9 14 rfl) rfl
theorem q2292 : (Jvm.Cond.code ({ cls := "ContractLedger$Typer", name := "keyed", desc := "(I)I" } : Jvm.MethodName) prog_21_method_50_code (10 : Nat) (Option.some Jvm.ClassFile.FieldType.int)) ∈ lw_all := lw_g (lw_at lw_m9 15 rfl) rfl
theorem q2293 : (Jvm.Cond.methodLink "ContractLedger$Typer" (381 : Nat) ({ cls := "ContractLedger$Typer", name := "ledger", desc := "(III)I" } : Jvm.MethodName)) ∈ lw_all := lw_g (lw_at lw_m9 16 rfl) rfl
theorem q2294 : (Jvm.Cond.privateMethod ({ cls := "ContractLedger$Typer", name := "ledger", desc := "(III)I" } : Jvm.MethodName)) ∈ lw_tbl := lw_at lw_m9 17 rfl
theorem q2295 : (Jvm.Cond.instanceMethod ({ cls := "ContractLedger$Typer", name := "ledger", desc := "(III)I" } : Jvm.MethodName)) ∈ lw_all := lw_g (lw_at lw_m9 18 rfl) rfl
theorem q2296 : (Jvm.Cond.code ({ cls := "ContractLedger$Typer", name := "ledger", desc := "(III)I" } : Jvm.MethodName) prog_21_method_51_code (5 : Nat) (Option.some Jvm.ClassFile.FieldType.int)) ∈ lw_all := lw_g (lw_at lw_m9 19 rfl) rfl
theorem q2297 : (Jvm.Cond.methodLink "ContractLedger$Typer" (384 : Nat) ({ cls := "ContractLedger$Typer", name := "self", desc := "(I)I" } : Jvm.MethodName)) ∈ lw_all := lw_g (lw_at lw_m9 20 rfl) rfl
theorem q2298 : (Jvm.Cond.privateMethod ({ cls := "ContractLedger$Typer", name := "self", desc := "(I)I" } : Jvm.MethodName)) ∈ lw_tbl := lw_at lw_m9 21 rfl
theorem q2299 : (Jvm.Cond.instanceMethod ({ cls := "ContractLedger$Typer", name := "self", desc := "(I)I" } : Jvm.MethodName)) ∈ lw_all := lw_g (lw_at lw_m9 22 rfl) rfl
theorem q2300 : (Jvm.Cond.code ({ cls := "ContractLedger$Typer", name := "self", desc := "(I)I" } : Jvm.MethodName) prog_21_method_52_code (4 : Nat) (Option.some Jvm.ClassFile.FieldType.int)) ∈ lw_all := lw_g (lw_at lw_m9 23 rfl) rfl
theorem q2301 : (Jvm.Cond.methodLink "ContractLedger$Typer" (393 : Nat) ({ cls := "ContractLedger$Names", name := "find", desc := "([BII)I" } : Jvm.MethodName)) ∈ lw_all := lw_g (lw_at lw_m9 24 rfl) rfl
theorem q2302 : (Jvm.Cond.methodLink "ContractLedger$Typer" (387 : Nat) ({ cls := "ContractLedger$Typer", name := "contract", desc := "(I)I" } : Jvm.MethodName)) ∈ lw_all := lw_g (lw_at lw_m9 25 rfl) rfl
theorem q2303 : (Jvm.Cond.privateMethod ({ cls := "ContractLedger$Typer", name := "contract", desc := "(I)I" } : Jvm.MethodName)) ∈ lw_tbl := lw_at lw_m9 26 rfl
theorem q2304 : (Jvm.Cond.instanceMethod ({ cls := "ContractLedger$Typer", name := "contract", desc := "(I)I" } : Jvm.MethodName)) ∈ lw_all := lw_g (lw_at lw_m9 27 rfl) rfl
theorem q2305 : (Jvm.Cond.code ({ cls := "ContractLedger$Typer", name := "contract", desc := "(I)I" } : Jvm.MethodName) prog_21_method_53_code (6 : Nat) (Option.some Jvm.ClassFile.FieldType.int)) ∈ lw_all := lw_g (lw_at lw_m9 28 rfl) rfl
theorem q2306 : (Jvm.Cond.methodLink "ContractLedger$Typer" (390 : Nat) ({ cls := "ContractLedger$Typer", name := "create", desc := "(I)I" } : Jvm.MethodName)) ∈ lw_all := lw_g (lw_at lw_m9 29 rfl) rfl
theorem q2307 : (Jvm.Cond.privateMethod ({ cls := "ContractLedger$Typer", name := "create", desc := "(I)I" } : Jvm.MethodName)) ∈ lw_tbl := lw_at lw_m9 30 rfl
theorem q2308 : (Jvm.Cond.instanceMethod ({ cls := "ContractLedger$Typer", name := "create", desc := "(I)I" } : Jvm.MethodName)) ∈ lw_all := lw_g (lw_at lw_m9 31 rfl) rfl
theorem q2309 : (Jvm.Cond.code ({ cls := "ContractLedger$Typer", name := "create", desc := "(I)I" } : Jvm.MethodName) prog_21_method_54_code (8 : Nat) (Option.some Jvm.ClassFile.FieldType.int)) ∈ lw_all := lw_g (lw_at lw_m9 32 rfl) rfl
set_option maxRecDepth 100000
set_option maxRecDepth 100000 in
set_option maxRecDepth 100000 in
abbrev cX17_init : ByteArray := prog_25_method_1_code
def yX17_init : MethodName := ⟨RX17, "<init>", "()V"⟩
def dkwX17_init_4 : List UInt8 := [17, 0, 200, 188, 10, 181, 0, 42, 177]
abbrev dktX17_init_4 : List UInt8 := dkwX17_init_4 ++ []
def dkwX17_init_3 : List UInt8 := [188, 4, 181, 0, 33, 42, 17, 0, 200, 188, 10, 181, 0, 36, 42, 17, 0, 200, 188, 10, 181, 0, 39, 42]
abbrev dktX17_init_3 : List UInt8 := dkwX17_init_3 ++ dktX17_init_4
def dkwX17_init_2 : List UInt8 := [181, 0, 24, 42, 16, 100, 188, 10, 181, 0, 27, 42, 17, 0, 200, 188, 11, 181, 0, 30, 42, 17, 0, 200]
abbrev dktX17_init_2 : List UInt8 := dkwX17_init_2 ++ dktX17_init_3
def dkwX17_init_1 : List UInt8 := [17, 0, 200, 188, 10, 181, 0, 17, 42, 17, 0, 200, 188, 10, 181, 0, 21, 42, 17, 0, 200, 188, 10]
abbrev dktX17_init_1 : List UInt8 := dkwX17_init_1 ++ dktX17_init_2
def dkwX17_init_0 : List UInt8 := [42, 183, 0, 1, 42, 17, 0, 200, 188, 11, 181, 0, 7, 42, 17, 0, 200, 188, 4, 181, 0, 13, 42]
abbrev dktX17_init_0 : List UInt8 := dkwX17_init_0 ++ dktX17_init_1
theorem dksX17_init_0 : cX17_init.data.toList.drop 0 = dktX17_init_0 := by decide +kernel
theorem dksX17_init_1 : cX17_init.data.toList.drop 23 = dktX17_init_1 := dk_seg dksX17_init_0 23 rfl rfl
theorem dksX17_init_2 : cX17_init.data.toList.drop 46 = dktX17_init_2 := dk_seg dksX17_init_1 23 rfl rfl
theorem dksX17_init_3 : cX17_init.data.toList.drop 70 = dktX17_init_3 := dk_seg dksX17_init_2 24 rfl rfl
theorem dksX17_init_4 : cX17_init.data.toList.drop 94 = dktX17_init_4 := dk_seg dksX17_init_3 24 rfl rfl
theorem dX17_init_0 : decode cX17_init 0 = .ok (.aload_n 0, 1) := dk_42 (dk_at dksX17_init_0 0 rfl rfl)
theorem dX17_init_1 : decode cX17_init 1 = .ok (.invokespecial 1, 3) := dk_183 0 1 (dk_at dksX17_init_0 1 rfl rfl)
theorem dX17_init_4 : decode cX17_init 4 = .ok (.aload_n 0, 1) := dk_42 (dk_at dksX17_init_0 4 rfl rfl)
theorem dX17_init_5 : decode cX17_init 5 = .ok (.sipush 200, 3) := dk_17 0 200 (dk_at dksX17_init_0 5 rfl rfl)
theorem dX17_init_8 : decode cX17_init 8 = .ok (.newarray .long, 2) := dk_188_11 (dk_at dksX17_init_0 8 rfl rfl)
theorem dX17_init_10 : decode cX17_init 10 = .ok (.putfield 7, 3) := dk_181 0 7 (dk_at dksX17_init_0 10 rfl rfl)
theorem dX17_init_13 : decode cX17_init 13 = .ok (.aload_n 0, 1) := dk_42 (dk_at dksX17_init_0 13 rfl rfl)
theorem dX17_init_14 : decode cX17_init 14 = .ok (.sipush 200, 3) := dk_17 0 200 (dk_at dksX17_init_0 14 rfl rfl)
theorem dX17_init_17 : decode cX17_init 17 = .ok (.newarray .boolean, 2) := dk_188_4 (dk_at dksX17_init_0 17 rfl rfl)
theorem dX17_init_19 : decode cX17_init 19 = .ok (.putfield 13, 3) := dk_181 0 13 (dk_at dksX17_init_0 19 rfl rfl)
theorem dX17_init_22 : decode cX17_init 22 = .ok (.aload_n 0, 1) := dk_42 (dk_at dksX17_init_0 22 rfl rfl)
theorem dX17_init_23 : decode cX17_init 23 = .ok (.sipush 200, 3) := dk_17 0 200 (dk_at dksX17_init_1 0 rfl rfl)
theorem dX17_init_26 : decode cX17_init 26 = .ok (.newarray .int, 2) := dk_188_10 (dk_at dksX17_init_1 3 rfl rfl)
theorem dX17_init_28 : decode cX17_init 28 = .ok (.putfield 17, 3) := dk_181 0 17 (dk_at dksX17_init_1 5 rfl rfl)
theorem dX17_init_31 : decode cX17_init 31 = .ok (.aload_n 0, 1) := dk_42 (dk_at dksX17_init_1 8 rfl rfl)
theorem dX17_init_32 : decode cX17_init 32 = .ok (.sipush 200, 3) := dk_17 0 200 (dk_at dksX17_init_1 9 rfl rfl)
theorem dX17_init_35 : decode cX17_init 35 = .ok (.newarray .int, 2) := dk_188_10 (dk_at dksX17_init_1 12 rfl rfl)
theorem dX17_init_37 : decode cX17_init 37 = .ok (.putfield 21, 3) := dk_181 0 21 (dk_at dksX17_init_1 14 rfl rfl)
theorem dX17_init_40 : decode cX17_init 40 = .ok (.aload_n 0, 1) := dk_42 (dk_at dksX17_init_1 17 rfl rfl)
theorem dX17_init_41 : decode cX17_init 41 = .ok (.sipush 200, 3) := dk_17 0 200 (dk_at dksX17_init_1 18 rfl rfl)
theorem dX17_init_44 : decode cX17_init 44 = .ok (.newarray .int, 2) := dk_188_10 (dk_at dksX17_init_1 21 rfl rfl)
theorem dX17_init_46 : decode cX17_init 46 = .ok (.putfield 24, 3) := dk_181 0 24 (dk_at dksX17_init_2 0 rfl rfl)
theorem dX17_init_49 : decode cX17_init 49 = .ok (.aload_n 0, 1) := dk_42 (dk_at dksX17_init_2 3 rfl rfl)
theorem dX17_init_50 : decode cX17_init 50 = .ok (.bipush 100, 2) := dk_16 100 (dk_at dksX17_init_2 4 rfl rfl)
theorem dX17_init_52 : decode cX17_init 52 = .ok (.newarray .int, 2) := dk_188_10 (dk_at dksX17_init_2 6 rfl rfl)
theorem dX17_init_54 : decode cX17_init 54 = .ok (.putfield 27, 3) := dk_181 0 27 (dk_at dksX17_init_2 8 rfl rfl)
theorem dX17_init_57 : decode cX17_init 57 = .ok (.aload_n 0, 1) := dk_42 (dk_at dksX17_init_2 11 rfl rfl)
theorem dX17_init_58 : decode cX17_init 58 = .ok (.sipush 200, 3) := dk_17 0 200 (dk_at dksX17_init_2 12 rfl rfl)
theorem dX17_init_61 : decode cX17_init 61 = .ok (.newarray .long, 2) := dk_188_11 (dk_at dksX17_init_2 15 rfl rfl)
theorem dX17_init_63 : decode cX17_init 63 = .ok (.putfield 30, 3) := dk_181 0 30 (dk_at dksX17_init_2 17 rfl rfl)
theorem dX17_init_66 : decode cX17_init 66 = .ok (.aload_n 0, 1) := dk_42 (dk_at dksX17_init_2 20 rfl rfl)
theorem dX17_init_67 : decode cX17_init 67 = .ok (.sipush 200, 3) := dk_17 0 200 (dk_at dksX17_init_2 21 rfl rfl)
theorem dX17_init_70 : decode cX17_init 70 = .ok (.newarray .boolean, 2) := dk_188_4 (dk_at dksX17_init_3 0 rfl rfl)
theorem dX17_init_72 : decode cX17_init 72 = .ok (.putfield 33, 3) := dk_181 0 33 (dk_at dksX17_init_3 2 rfl rfl)
theorem dX17_init_75 : decode cX17_init 75 = .ok (.aload_n 0, 1) := dk_42 (dk_at dksX17_init_3 5 rfl rfl)
theorem dX17_init_76 : decode cX17_init 76 = .ok (.sipush 200, 3) := dk_17 0 200 (dk_at dksX17_init_3 6 rfl rfl)
theorem dX17_init_79 : decode cX17_init 79 = .ok (.newarray .int, 2) := dk_188_10 (dk_at dksX17_init_3 9 rfl rfl)
theorem dX17_init_81 : decode cX17_init 81 = .ok (.putfield 36, 3) := dk_181 0 36 (dk_at dksX17_init_3 11 rfl rfl)
theorem dX17_init_84 : decode cX17_init 84 = .ok (.aload_n 0, 1) := dk_42 (dk_at dksX17_init_3 14 rfl rfl)
theorem dX17_init_85 : decode cX17_init 85 = .ok (.sipush 200, 3) := dk_17 0 200 (dk_at dksX17_init_3 15 rfl rfl)
theorem dX17_init_88 : decode cX17_init 88 = .ok (.newarray .int, 2) := dk_188_10 (dk_at dksX17_init_3 18 rfl rfl)
theorem dX17_init_90 : decode cX17_init 90 = .ok (.putfield 39, 3) := dk_181 0 39 (dk_at dksX17_init_3 20 rfl rfl)
theorem dX17_init_93 : decode cX17_init 93 = .ok (.aload_n 0, 1) := dk_42 (dk_at dksX17_init_3 23 rfl rfl)
theorem dX17_init_94 : decode cX17_init 94 = .ok (.sipush 200, 3) := dk_17 0 200 (dk_at dksX17_init_4 0 rfl rfl)
theorem dX17_init_97 : decode cX17_init 97 = .ok (.newarray .int, 2) := dk_188_10 (dk_at dksX17_init_4 3 rfl rfl)
theorem dX17_init_99 : decode cX17_init 99 = .ok (.putfield 42, 3) := dk_181 0 42 (dk_at dksX17_init_4 5 rfl rfl)
theorem dX17_init_102 : decode cX17_init 102 = .ok (.return_, 1) := dk_177 (dk_at dksX17_init_4 8 rfl rfl)
abbrev cX17_keep : ByteArray := prog_25_method_4_code
def yX17_keep : MethodName := ⟨RX17, "keep", "(LContractLedger$Memory;)V"⟩
def dkwX17_keep_2 : List UInt8 := [167, 255, 214, 177]
abbrev dktX17_keep_2 : List UInt8 := dkwX17_keep_2 ++ []
def dkwX17_keep_1 : List UInt8 := [182, 0, 71, 79, 42, 180, 0, 39, 28, 43, 42, 180, 0, 39, 28, 46, 182, 0, 71, 79, 132, 2, 1]
abbrev dktX17_keep_1 : List UInt8 := dkwX17_keep_1 ++ dktX17_keep_2
def dkwX17_keep_0 : List UInt8 := [16, 100, 61, 28, 17, 0, 200, 162, 0, 41, 42, 180, 0, 21, 28, 43, 42, 180, 0, 21, 28, 46]
abbrev dktX17_keep_0 : List UInt8 := dkwX17_keep_0 ++ dktX17_keep_1
theorem dksX17_keep_0 : cX17_keep.data.toList.drop 0 = dktX17_keep_0 := by decide +kernel
theorem dksX17_keep_1 : cX17_keep.data.toList.drop 22 = dktX17_keep_1 := dk_seg dksX17_keep_0 22 rfl rfl
theorem dksX17_keep_2 : cX17_keep.data.toList.drop 45 = dktX17_keep_2 := dk_seg dksX17_keep_1 23 rfl rfl
theorem dX17_keep_0 : decode cX17_keep 0 = .ok (.bipush 100, 2) := dk_16 100 (dk_at dksX17_keep_0 0 rfl rfl)
theorem dX17_keep_2 : decode cX17_keep 2 = .ok (.istore_n 2, 1) := dk_61 (dk_at dksX17_keep_0 2 rfl rfl)
theorem dX17_keep_3 : decode cX17_keep 3 = .ok (.iload_n 2, 1) := dk_28 (dk_at dksX17_keep_0 3 rfl rfl)
theorem dX17_keep_4 : decode cX17_keep 4 = .ok (.sipush 200, 3) := dk_17 0 200 (dk_at dksX17_keep_0 4 rfl rfl)
theorem dX17_keep_7 : decode cX17_keep 7 = .ok (.if_icmp .ge 41, 3) := dk_162 0 41 (dk_at dksX17_keep_0 7 rfl rfl)
theorem dX17_keep_10 : decode cX17_keep 10 = .ok (.aload_n 0, 1) := dk_42 (dk_at dksX17_keep_0 10 rfl rfl)
theorem dX17_keep_11 : decode cX17_keep 11 = .ok (.getfield 21, 3) := dk_180 0 21 (dk_at dksX17_keep_0 11 rfl rfl)
theorem dX17_keep_14 : decode cX17_keep 14 = .ok (.iload_n 2, 1) := dk_28 (dk_at dksX17_keep_0 14 rfl rfl)
theorem dX17_keep_15 : decode cX17_keep 15 = .ok (.aload_n 1, 1) := dk_43 (dk_at dksX17_keep_0 15 rfl rfl)
theorem dX17_keep_16 : decode cX17_keep 16 = .ok (.aload_n 0, 1) := dk_42 (dk_at dksX17_keep_0 16 rfl rfl)
theorem dX17_keep_17 : decode cX17_keep 17 = .ok (.getfield 21, 3) := dk_180 0 21 (dk_at dksX17_keep_0 17 rfl rfl)
theorem dX17_keep_20 : decode cX17_keep 20 = .ok (.iload_n 2, 1) := dk_28 (dk_at dksX17_keep_0 20 rfl rfl)
theorem dX17_keep_21 : decode cX17_keep 21 = .ok (.iaload, 1) := dk_46 (dk_at dksX17_keep_0 21 rfl rfl)
theorem dX17_keep_22 : decode cX17_keep 22 = .ok (.invokevirtual 71, 3) := dk_182 0 71 (dk_at dksX17_keep_1 0 rfl rfl)
theorem dX17_keep_25 : decode cX17_keep 25 = .ok (.iastore, 1) := dk_79 (dk_at dksX17_keep_1 3 rfl rfl)
theorem dX17_keep_26 : decode cX17_keep 26 = .ok (.aload_n 0, 1) := dk_42 (dk_at dksX17_keep_1 4 rfl rfl)
theorem dX17_keep_27 : decode cX17_keep 27 = .ok (.getfield 39, 3) := dk_180 0 39 (dk_at dksX17_keep_1 5 rfl rfl)
theorem dX17_keep_30 : decode cX17_keep 30 = .ok (.iload_n 2, 1) := dk_28 (dk_at dksX17_keep_1 8 rfl rfl)
theorem dX17_keep_31 : decode cX17_keep 31 = .ok (.aload_n 1, 1) := dk_43 (dk_at dksX17_keep_1 9 rfl rfl)
theorem dX17_keep_32 : decode cX17_keep 32 = .ok (.aload_n 0, 1) := dk_42 (dk_at dksX17_keep_1 10 rfl rfl)
theorem dX17_keep_33 : decode cX17_keep 33 = .ok (.getfield 39, 3) := dk_180 0 39 (dk_at dksX17_keep_1 11 rfl rfl)
theorem dX17_keep_36 : decode cX17_keep 36 = .ok (.iload_n 2, 1) := dk_28 (dk_at dksX17_keep_1 14 rfl rfl)
theorem dX17_keep_37 : decode cX17_keep 37 = .ok (.iaload, 1) := dk_46 (dk_at dksX17_keep_1 15 rfl rfl)
theorem dX17_keep_38 : decode cX17_keep 38 = .ok (.invokevirtual 71, 3) := dk_182 0 71 (dk_at dksX17_keep_1 16 rfl rfl)
theorem dX17_keep_41 : decode cX17_keep 41 = .ok (.iastore, 1) := dk_79 (dk_at dksX17_keep_1 19 rfl rfl)
theorem dX17_keep_42 : decode cX17_keep 42 = .ok (.iinc 2 1, 3) := dk_132 2 1 (dk_at dksX17_keep_1 20 rfl rfl)
theorem dX17_keep_45 : decode cX17_keep 45 = .ok (.goto (-42), 3) := dk_167 255 214 (dk_at dksX17_keep_2 0 rfl rfl)
theorem dX17_keep_48 : decode cX17_keep 48 = .ok (.return_, 1) := dk_177 (dk_at dksX17_keep_2 3 rfl rfl)
abbrev cX17_save : ByteArray := prog_25_method_2_code
def yX17_save : MethodName := ⟨RX17, "save", "()V"⟩
def dkwX17_save_4 : List UInt8 := [181, 0, 61, 42, 42, 180, 0, 64, 181, 0, 68, 177]
abbrev dktX17_save_4 : List UInt8 := dkwX17_save_4 ++ []
def dkwX17_save_3 : List UInt8 := [42, 180, 0, 42, 3, 17, 0, 200, 184, 0, 45, 42, 42, 180, 0, 51, 181, 0, 55, 42, 42, 180, 0, 58]
abbrev dktX17_save_3 : List UInt8 := dkwX17_save_3 ++ dktX17_save_4
def dkwX17_save_2 : List UInt8 := [184, 0, 45, 42, 180, 0, 21, 3, 42, 180, 0, 39, 3, 17, 0, 200, 184, 0, 45, 42, 180, 0, 24, 3]
abbrev dktX17_save_2 : List UInt8 := dkwX17_save_2 ++ dktX17_save_3
def dkwX17_save_1 : List UInt8 := [180, 0, 33, 3, 17, 0, 200, 184, 0, 45, 42, 180, 0, 17, 3, 42, 180, 0, 36, 3, 17, 0, 200]
abbrev dktX17_save_1 : List UInt8 := dkwX17_save_1 ++ dktX17_save_2
def dkwX17_save_0 : List UInt8 := [42, 180, 0, 7, 3, 42, 180, 0, 30, 3, 17, 0, 200, 184, 0, 45, 42, 180, 0, 13, 3, 42]
abbrev dktX17_save_0 : List UInt8 := dkwX17_save_0 ++ dktX17_save_1
theorem dksX17_save_0 : cX17_save.data.toList.drop 0 = dktX17_save_0 := by decide +kernel
theorem dksX17_save_1 : cX17_save.data.toList.drop 22 = dktX17_save_1 := dk_seg dksX17_save_0 22 rfl rfl
theorem dksX17_save_2 : cX17_save.data.toList.drop 45 = dktX17_save_2 := dk_seg dksX17_save_1 23 rfl rfl
theorem dksX17_save_3 : cX17_save.data.toList.drop 69 = dktX17_save_3 := dk_seg dksX17_save_2 24 rfl rfl
theorem dksX17_save_4 : cX17_save.data.toList.drop 93 = dktX17_save_4 := dk_seg dksX17_save_3 24 rfl rfl
theorem dX17_save_0 : decode cX17_save 0 = .ok (.aload_n 0, 1) := dk_42 (dk_at dksX17_save_0 0 rfl rfl)
theorem dX17_save_1 : decode cX17_save 1 = .ok (.getfield 7, 3) := dk_180 0 7 (dk_at dksX17_save_0 1 rfl rfl)
theorem dX17_save_4 : decode cX17_save 4 = .ok (.iconst 0, 1) := dk_3 (dk_at dksX17_save_0 4 rfl rfl)
theorem dX17_save_5 : decode cX17_save 5 = .ok (.aload_n 0, 1) := dk_42 (dk_at dksX17_save_0 5 rfl rfl)
theorem dX17_save_6 : decode cX17_save 6 = .ok (.getfield 30, 3) := dk_180 0 30 (dk_at dksX17_save_0 6 rfl rfl)
theorem dX17_save_9 : decode cX17_save 9 = .ok (.iconst 0, 1) := dk_3 (dk_at dksX17_save_0 9 rfl rfl)
theorem dX17_save_10 : decode cX17_save 10 = .ok (.sipush 200, 3) := dk_17 0 200 (dk_at dksX17_save_0 10 rfl rfl)
theorem dX17_save_13 : decode cX17_save 13 = .ok (.invokestatic 45, 3) := dk_184 0 45 (dk_at dksX17_save_0 13 rfl rfl)
theorem dX17_save_16 : decode cX17_save 16 = .ok (.aload_n 0, 1) := dk_42 (dk_at dksX17_save_0 16 rfl rfl)
theorem dX17_save_17 : decode cX17_save 17 = .ok (.getfield 13, 3) := dk_180 0 13 (dk_at dksX17_save_0 17 rfl rfl)
theorem dX17_save_20 : decode cX17_save 20 = .ok (.iconst 0, 1) := dk_3 (dk_at dksX17_save_0 20 rfl rfl)
theorem dX17_save_21 : decode cX17_save 21 = .ok (.aload_n 0, 1) := dk_42 (dk_at dksX17_save_0 21 rfl rfl)
theorem dX17_save_22 : decode cX17_save 22 = .ok (.getfield 33, 3) := dk_180 0 33 (dk_at dksX17_save_1 0 rfl rfl)
theorem dX17_save_25 : decode cX17_save 25 = .ok (.iconst 0, 1) := dk_3 (dk_at dksX17_save_1 3 rfl rfl)
theorem dX17_save_26 : decode cX17_save 26 = .ok (.sipush 200, 3) := dk_17 0 200 (dk_at dksX17_save_1 4 rfl rfl)
theorem dX17_save_29 : decode cX17_save 29 = .ok (.invokestatic 45, 3) := dk_184 0 45 (dk_at dksX17_save_1 7 rfl rfl)
theorem dX17_save_32 : decode cX17_save 32 = .ok (.aload_n 0, 1) := dk_42 (dk_at dksX17_save_1 10 rfl rfl)
theorem dX17_save_33 : decode cX17_save 33 = .ok (.getfield 17, 3) := dk_180 0 17 (dk_at dksX17_save_1 11 rfl rfl)
theorem dX17_save_36 : decode cX17_save 36 = .ok (.iconst 0, 1) := dk_3 (dk_at dksX17_save_1 14 rfl rfl)
theorem dX17_save_37 : decode cX17_save 37 = .ok (.aload_n 0, 1) := dk_42 (dk_at dksX17_save_1 15 rfl rfl)
theorem dX17_save_38 : decode cX17_save 38 = .ok (.getfield 36, 3) := dk_180 0 36 (dk_at dksX17_save_1 16 rfl rfl)
theorem dX17_save_41 : decode cX17_save 41 = .ok (.iconst 0, 1) := dk_3 (dk_at dksX17_save_1 19 rfl rfl)
theorem dX17_save_42 : decode cX17_save 42 = .ok (.sipush 200, 3) := dk_17 0 200 (dk_at dksX17_save_1 20 rfl rfl)
theorem dX17_save_45 : decode cX17_save 45 = .ok (.invokestatic 45, 3) := dk_184 0 45 (dk_at dksX17_save_2 0 rfl rfl)
theorem dX17_save_48 : decode cX17_save 48 = .ok (.aload_n 0, 1) := dk_42 (dk_at dksX17_save_2 3 rfl rfl)
theorem dX17_save_49 : decode cX17_save 49 = .ok (.getfield 21, 3) := dk_180 0 21 (dk_at dksX17_save_2 4 rfl rfl)
theorem dX17_save_52 : decode cX17_save 52 = .ok (.iconst 0, 1) := dk_3 (dk_at dksX17_save_2 7 rfl rfl)
theorem dX17_save_53 : decode cX17_save 53 = .ok (.aload_n 0, 1) := dk_42 (dk_at dksX17_save_2 8 rfl rfl)
theorem dX17_save_54 : decode cX17_save 54 = .ok (.getfield 39, 3) := dk_180 0 39 (dk_at dksX17_save_2 9 rfl rfl)
theorem dX17_save_57 : decode cX17_save 57 = .ok (.iconst 0, 1) := dk_3 (dk_at dksX17_save_2 12 rfl rfl)
theorem dX17_save_58 : decode cX17_save 58 = .ok (.sipush 200, 3) := dk_17 0 200 (dk_at dksX17_save_2 13 rfl rfl)
theorem dX17_save_61 : decode cX17_save 61 = .ok (.invokestatic 45, 3) := dk_184 0 45 (dk_at dksX17_save_2 16 rfl rfl)
theorem dX17_save_64 : decode cX17_save 64 = .ok (.aload_n 0, 1) := dk_42 (dk_at dksX17_save_2 19 rfl rfl)
theorem dX17_save_65 : decode cX17_save 65 = .ok (.getfield 24, 3) := dk_180 0 24 (dk_at dksX17_save_2 20 rfl rfl)
theorem dX17_save_68 : decode cX17_save 68 = .ok (.iconst 0, 1) := dk_3 (dk_at dksX17_save_2 23 rfl rfl)
theorem dX17_save_69 : decode cX17_save 69 = .ok (.aload_n 0, 1) := dk_42 (dk_at dksX17_save_3 0 rfl rfl)
theorem dX17_save_70 : decode cX17_save 70 = .ok (.getfield 42, 3) := dk_180 0 42 (dk_at dksX17_save_3 1 rfl rfl)
theorem dX17_save_73 : decode cX17_save 73 = .ok (.iconst 0, 1) := dk_3 (dk_at dksX17_save_3 4 rfl rfl)
theorem dX17_save_74 : decode cX17_save 74 = .ok (.sipush 200, 3) := dk_17 0 200 (dk_at dksX17_save_3 5 rfl rfl)
theorem dX17_save_77 : decode cX17_save 77 = .ok (.invokestatic 45, 3) := dk_184 0 45 (dk_at dksX17_save_3 8 rfl rfl)
theorem dX17_save_80 : decode cX17_save 80 = .ok (.aload_n 0, 1) := dk_42 (dk_at dksX17_save_3 11 rfl rfl)
theorem dX17_save_81 : decode cX17_save 81 = .ok (.aload_n 0, 1) := dk_42 (dk_at dksX17_save_3 12 rfl rfl)
theorem dX17_save_82 : decode cX17_save 82 = .ok (.getfield 51, 3) := dk_180 0 51 (dk_at dksX17_save_3 13 rfl rfl)
theorem dX17_save_85 : decode cX17_save 85 = .ok (.putfield 55, 3) := dk_181 0 55 (dk_at dksX17_save_3 16 rfl rfl)
theorem dX17_save_88 : decode cX17_save 88 = .ok (.aload_n 0, 1) := dk_42 (dk_at dksX17_save_3 19 rfl rfl)
theorem dX17_save_89 : decode cX17_save 89 = .ok (.aload_n 0, 1) := dk_42 (dk_at dksX17_save_3 20 rfl rfl)
theorem dX17_save_90 : decode cX17_save 90 = .ok (.getfield 58, 3) := dk_180 0 58 (dk_at dksX17_save_3 21 rfl rfl)
theorem dX17_save_93 : decode cX17_save 93 = .ok (.putfield 61, 3) := dk_181 0 61 (dk_at dksX17_save_4 0 rfl rfl)
theorem dX17_save_96 : decode cX17_save 96 = .ok (.aload_n 0, 1) := dk_42 (dk_at dksX17_save_4 3 rfl rfl)
theorem dX17_save_97 : decode cX17_save 97 = .ok (.aload_n 0, 1) := dk_42 (dk_at dksX17_save_4 4 rfl rfl)
theorem dX17_save_98 : decode cX17_save 98 = .ok (.getfield 64, 3) := dk_180 0 64 (dk_at dksX17_save_4 5 rfl rfl)
theorem dX17_save_101 : decode cX17_save 101 = .ok (.putfield 68, 3) := dk_181 0 68 (dk_at dksX17_save_4 8 rfl rfl)
theorem dX17_save_104 : decode cX17_save 104 = .ok (.return_, 1) := dk_177 (dk_at dksX17_save_4 11 rfl rfl)
abbrev cX17_load : ByteArray := prog_25_method_3_code
def yX17_load : MethodName := ⟨RX17, "load", "()V"⟩
def dkwX17_load_4 : List UInt8 := [181, 0, 58, 42, 42, 180, 0, 68, 181, 0, 64, 177]
abbrev dktX17_load_4 : List UInt8 := dkwX17_load_4 ++ []
def dkwX17_load_3 : List UInt8 := [42, 180, 0, 24, 3, 17, 0, 200, 184, 0, 45, 42, 42, 180, 0, 55, 181, 0, 51, 42, 42, 180, 0, 61]
abbrev dktX17_load_3 : List UInt8 := dkwX17_load_3 ++ dktX17_load_4
def dkwX17_load_2 : List UInt8 := [184, 0, 45, 42, 180, 0, 39, 3, 42, 180, 0, 21, 3, 17, 0, 200, 184, 0, 45, 42, 180, 0, 42, 3]
abbrev dktX17_load_2 : List UInt8 := dkwX17_load_2 ++ dktX17_load_3
def dkwX17_load_1 : List UInt8 := [180, 0, 13, 3, 17, 0, 200, 184, 0, 45, 42, 180, 0, 36, 3, 42, 180, 0, 17, 3, 17, 0, 200]
abbrev dktX17_load_1 : List UInt8 := dkwX17_load_1 ++ dktX17_load_2
def dkwX17_load_0 : List UInt8 := [42, 180, 0, 30, 3, 42, 180, 0, 7, 3, 17, 0, 200, 184, 0, 45, 42, 180, 0, 33, 3, 42]
abbrev dktX17_load_0 : List UInt8 := dkwX17_load_0 ++ dktX17_load_1
theorem dksX17_load_0 : cX17_load.data.toList.drop 0 = dktX17_load_0 := by decide +kernel
theorem dksX17_load_1 : cX17_load.data.toList.drop 22 = dktX17_load_1 := dk_seg dksX17_load_0 22 rfl rfl
theorem dksX17_load_2 : cX17_load.data.toList.drop 45 = dktX17_load_2 := dk_seg dksX17_load_1 23 rfl rfl
theorem dksX17_load_3 : cX17_load.data.toList.drop 69 = dktX17_load_3 := dk_seg dksX17_load_2 24 rfl rfl
theorem dksX17_load_4 : cX17_load.data.toList.drop 93 = dktX17_load_4 := dk_seg dksX17_load_3 24 rfl rfl
theorem dX17_load_0 : decode cX17_load 0 = .ok (.aload_n 0, 1) := dk_42 (dk_at dksX17_load_0 0 rfl rfl)
theorem dX17_load_1 : decode cX17_load 1 = .ok (.getfield 30, 3) := dk_180 0 30 (dk_at dksX17_load_0 1 rfl rfl)
theorem dX17_load_4 : decode cX17_load 4 = .ok (.iconst 0, 1) := dk_3 (dk_at dksX17_load_0 4 rfl rfl)
theorem dX17_load_5 : decode cX17_load 5 = .ok (.aload_n 0, 1) := dk_42 (dk_at dksX17_load_0 5 rfl rfl)
theorem dX17_load_6 : decode cX17_load 6 = .ok (.getfield 7, 3) := dk_180 0 7 (dk_at dksX17_load_0 6 rfl rfl)
theorem dX17_load_9 : decode cX17_load 9 = .ok (.iconst 0, 1) := dk_3 (dk_at dksX17_load_0 9 rfl rfl)
theorem dX17_load_10 : decode cX17_load 10 = .ok (.sipush 200, 3) := dk_17 0 200 (dk_at dksX17_load_0 10 rfl rfl)
theorem dX17_load_13 : decode cX17_load 13 = .ok (.invokestatic 45, 3) := dk_184 0 45 (dk_at dksX17_load_0 13 rfl rfl)
theorem dX17_load_16 : decode cX17_load 16 = .ok (.aload_n 0, 1) := dk_42 (dk_at dksX17_load_0 16 rfl rfl)
theorem dX17_load_17 : decode cX17_load 17 = .ok (.getfield 33, 3) := dk_180 0 33 (dk_at dksX17_load_0 17 rfl rfl)
theorem dX17_load_20 : decode cX17_load 20 = .ok (.iconst 0, 1) := dk_3 (dk_at dksX17_load_0 20 rfl rfl)
theorem dX17_load_21 : decode cX17_load 21 = .ok (.aload_n 0, 1) := dk_42 (dk_at dksX17_load_0 21 rfl rfl)
theorem dX17_load_22 : decode cX17_load 22 = .ok (.getfield 13, 3) := dk_180 0 13 (dk_at dksX17_load_1 0 rfl rfl)
theorem dX17_load_25 : decode cX17_load 25 = .ok (.iconst 0, 1) := dk_3 (dk_at dksX17_load_1 3 rfl rfl)
theorem dX17_load_26 : decode cX17_load 26 = .ok (.sipush 200, 3) := dk_17 0 200 (dk_at dksX17_load_1 4 rfl rfl)
theorem dX17_load_29 : decode cX17_load 29 = .ok (.invokestatic 45, 3) := dk_184 0 45 (dk_at dksX17_load_1 7 rfl rfl)
theorem dX17_load_32 : decode cX17_load 32 = .ok (.aload_n 0, 1) := dk_42 (dk_at dksX17_load_1 10 rfl rfl)
theorem dX17_load_33 : decode cX17_load 33 = .ok (.getfield 36, 3) := dk_180 0 36 (dk_at dksX17_load_1 11 rfl rfl)
theorem dX17_load_36 : decode cX17_load 36 = .ok (.iconst 0, 1) := dk_3 (dk_at dksX17_load_1 14 rfl rfl)
theorem dX17_load_37 : decode cX17_load 37 = .ok (.aload_n 0, 1) := dk_42 (dk_at dksX17_load_1 15 rfl rfl)
theorem dX17_load_38 : decode cX17_load 38 = .ok (.getfield 17, 3) := dk_180 0 17 (dk_at dksX17_load_1 16 rfl rfl)
theorem dX17_load_41 : decode cX17_load 41 = .ok (.iconst 0, 1) := dk_3 (dk_at dksX17_load_1 19 rfl rfl)
theorem dX17_load_42 : decode cX17_load 42 = .ok (.sipush 200, 3) := dk_17 0 200 (dk_at dksX17_load_1 20 rfl rfl)
theorem dX17_load_45 : decode cX17_load 45 = .ok (.invokestatic 45, 3) := dk_184 0 45 (dk_at dksX17_load_2 0 rfl rfl)
theorem dX17_load_48 : decode cX17_load 48 = .ok (.aload_n 0, 1) := dk_42 (dk_at dksX17_load_2 3 rfl rfl)
theorem dX17_load_49 : decode cX17_load 49 = .ok (.getfield 39, 3) := dk_180 0 39 (dk_at dksX17_load_2 4 rfl rfl)
theorem dX17_load_52 : decode cX17_load 52 = .ok (.iconst 0, 1) := dk_3 (dk_at dksX17_load_2 7 rfl rfl)
theorem dX17_load_53 : decode cX17_load 53 = .ok (.aload_n 0, 1) := dk_42 (dk_at dksX17_load_2 8 rfl rfl)
theorem dX17_load_54 : decode cX17_load 54 = .ok (.getfield 21, 3) := dk_180 0 21 (dk_at dksX17_load_2 9 rfl rfl)
theorem dX17_load_57 : decode cX17_load 57 = .ok (.iconst 0, 1) := dk_3 (dk_at dksX17_load_2 12 rfl rfl)
theorem dX17_load_58 : decode cX17_load 58 = .ok (.sipush 200, 3) := dk_17 0 200 (dk_at dksX17_load_2 13 rfl rfl)
theorem dX17_load_61 : decode cX17_load 61 = .ok (.invokestatic 45, 3) := dk_184 0 45 (dk_at dksX17_load_2 16 rfl rfl)
theorem dX17_load_64 : decode cX17_load 64 = .ok (.aload_n 0, 1) := dk_42 (dk_at dksX17_load_2 19 rfl rfl)
theorem dX17_load_65 : decode cX17_load 65 = .ok (.getfield 42, 3) := dk_180 0 42 (dk_at dksX17_load_2 20 rfl rfl)
theorem dX17_load_68 : decode cX17_load 68 = .ok (.iconst 0, 1) := dk_3 (dk_at dksX17_load_2 23 rfl rfl)
theorem dX17_load_69 : decode cX17_load 69 = .ok (.aload_n 0, 1) := dk_42 (dk_at dksX17_load_3 0 rfl rfl)
theorem dX17_load_70 : decode cX17_load 70 = .ok (.getfield 24, 3) := dk_180 0 24 (dk_at dksX17_load_3 1 rfl rfl)
theorem dX17_load_73 : decode cX17_load 73 = .ok (.iconst 0, 1) := dk_3 (dk_at dksX17_load_3 4 rfl rfl)
theorem dX17_load_74 : decode cX17_load 74 = .ok (.sipush 200, 3) := dk_17 0 200 (dk_at dksX17_load_3 5 rfl rfl)
theorem dX17_load_77 : decode cX17_load 77 = .ok (.invokestatic 45, 3) := dk_184 0 45 (dk_at dksX17_load_3 8 rfl rfl)
theorem dX17_load_80 : decode cX17_load 80 = .ok (.aload_n 0, 1) := dk_42 (dk_at dksX17_load_3 11 rfl rfl)
theorem dX17_load_81 : decode cX17_load 81 = .ok (.aload_n 0, 1) := dk_42 (dk_at dksX17_load_3 12 rfl rfl)
theorem dX17_load_82 : decode cX17_load 82 = .ok (.getfield 55, 3) := dk_180 0 55 (dk_at dksX17_load_3 13 rfl rfl)
theorem dX17_load_85 : decode cX17_load 85 = .ok (.putfield 51, 3) := dk_181 0 51 (dk_at dksX17_load_3 16 rfl rfl)
theorem dX17_load_88 : decode cX17_load 88 = .ok (.aload_n 0, 1) := dk_42 (dk_at dksX17_load_3 19 rfl rfl)
theorem dX17_load_89 : decode cX17_load 89 = .ok (.aload_n 0, 1) := dk_42 (dk_at dksX17_load_3 20 rfl rfl)
theorem dX17_load_90 : decode cX17_load 90 = .ok (.getfield 61, 3) := dk_180 0 61 (dk_at dksX17_load_3 21 rfl rfl)
theorem dX17_load_93 : decode cX17_load 93 = .ok (.putfield 58, 3) := dk_181 0 58 (dk_at dksX17_load_4 0 rfl rfl)
theorem dX17_load_96 : decode cX17_load 96 = .ok (.aload_n 0, 1) := dk_42 (dk_at dksX17_load_4 3 rfl rfl)
theorem dX17_load_97 : decode cX17_load 97 = .ok (.aload_n 0, 1) := dk_42 (dk_at dksX17_load_4 4 rfl rfl)
theorem dX17_load_98 : decode cX17_load 98 = .ok (.getfield 68, 3) := dk_180 0 68 (dk_at dksX17_load_4 5 rfl rfl)
theorem dX17_load_101 : decode cX17_load 101 = .ok (.putfield 64, 3) := dk_181 0 64 (dk_at dksX17_load_4 8 rfl rfl)
theorem dX17_load_104 : decode cX17_load 104 = .ok (.return_, 1) := dk_177 (dk_at dksX17_load_4 11 rfl rfl)
theorem q384 : (Jvm.Cond.initialized "ContractLedger$World") ∈ lw_all := lw_g (lw_at lw_m1 27 rfl) rfl
theorem q1154 : (Jvm.Cond.instantiable "ContractLedger$World" (22 : Nat)) ∈ lw_all := lw_g (lw_at lw_m4 77 rfl) rfl
theorem q1156 : (Jvm.Cond.instanceMethod ({ cls := "ContractLedger$World", name := "<init>", desc := "()V" } : Jvm.MethodName)) ∈ lw_all := lw_g (lw_at lw_m4 79 rfl) rfl
theorem q1157 : (Jvm.Cond.code ({ cls := "ContractLedger$World", name := "<init>", desc := "()V" } : Jvm.MethodName) prog_25_method_1_code (1 : Nat) (Option.none : Option Jvm.ClassFile.FieldType)) ∈ lw_all := lw_g (lw_at lw_m4 80 rfl) rfl
theorem q1158 : (Jvm.Cond.methodLink "ContractLedger$World" (1 : Nat) ({ cls := "java/lang/Object", name := "<init>", desc := "()V" } : Jvm.MethodName)) ∈ lw_all := lw_g (lw_at lw_m4 81 rfl) rfl
theorem q1159 : (Jvm.Cond.fieldLink "ContractLedger$World" (7 : Nat) "ContractLedger$World" "balances" "[J") ∈ lw_all := lw_g (lw_at lw_m4 82 rfl) rfl
theorem q1162 : (Jvm.Cond.fieldLink "ContractLedger$World" (13 : Nat) "ContractLedger$World" "exists" "[Z") ∈ lw_all := lw_g (lw_at lw_m4 85 rfl) rfl
theorem q1166 : (Jvm.Cond.fieldLink "ContractLedger$World" (17 : Nat) "ContractLedger$World" "scripts" "[I") ∈ lw_all := lw_g (lw_at lw_m4 89 rfl) rfl
theorem q1170 : (Jvm.Cond.fieldLink "ContractLedger$World" (21 : Nat) "ContractLedger$World" "storages" "[I") ∈ lw_all := lw_g (lw_at lw_m4 93 rfl) rfl
theorem q1173 : (Jvm.Cond.fieldLink "ContractLedger$World" (24 : Nat) "ContractLedger$World" "paid" "[I") ∈ lw_all := lw_g (lw_at lw_m4 96 rfl) rfl
theorem q1176 : (Jvm.Cond.fieldLink "ContractLedger$World" (27 : Nat) "ContractLedger$World" "counters" "[I") ∈ lw_all := lw_g (lw_at lw_m4 99 rfl) rfl
theorem q1179 : (Jvm.Cond.fieldLink "ContractLedger$World" (51 : Nat) "ContractLedger$World" "next" "I") ∈ lw_all := lw_g (lw_at lw_m4 102 rfl) rfl
theorem q1183 : (Jvm.Cond.fieldLink "ContractLedger$World" (58 : Nat) "ContractLedger$World" "stored" "I") ∈ lw_all := lw_g (lw_at lw_m4 106 rfl) rfl
theorem q1187 : (Jvm.Cond.fieldLink "ContractLedger$World" (64 : Nat) "ContractLedger$World" "burnt" "J") ∈ lw_all := lw_g (lw_at lw_m4 110 rfl) rfl
theorem q1195 : (Jvm.Cond.fieldLink "ContractLedger$World" (30 : Nat) "ContractLedger$World" "oldBalances" "[J") ∈ lw_all := lw_g (lw_at lw_m4 118 rfl) rfl
theorem q1196 : (Jvm.Cond.fieldLink "ContractLedger$World" (33 : Nat) "ContractLedger$World" "oldExists" "[Z") ∈ lw_all := lw_g (lw_at lw_m4 119 rfl) rfl
theorem q1197 : (Jvm.Cond.fieldLink "ContractLedger$World" (36 : Nat) "ContractLedger$World" "oldScripts" "[I") ∈ lw_all := lw_g (lw_at lw_m4 120 rfl) rfl
theorem q1198 : (Jvm.Cond.fieldLink "ContractLedger$World" (39 : Nat) "ContractLedger$World" "oldStorages" "[I") ∈ lw_all := lw_g (lw_at lw_m4 121 rfl) rfl
theorem q1199 : (Jvm.Cond.fieldLink "ContractLedger$World" (42 : Nat) "ContractLedger$World" "oldPaid" "[I") ∈ lw_all := lw_g (lw_at lw_m4 122 rfl) rfl
theorem q1200 : (Jvm.Cond.fieldLink "ContractLedger$World" (55 : Nat) "ContractLedger$World" "oldNext" "I") ∈ lw_all := lw_g (lw_at lw_m4 123 rfl) rfl
theorem q1201 : (Jvm.Cond.fieldLink "ContractLedger$World" (61 : Nat) "ContractLedger$World" "oldStored" "I") ∈ lw_all := lw_g (lw_at lw_m4 124 rfl) rfl
theorem q1202 : (Jvm.Cond.fieldLink "ContractLedger$World" (68 : Nat) "ContractLedger$World" "oldBurnt" "J") ∈ lw_all := lw_g (lw_at lw_m4 125 rfl) rfl
theorem q1203 : (Jvm.Cond.laysFinal "ContractLedger$World" "ContractLedger$World" "balances" "[J") ∈ lw_all := lw_g (lw_at lw_m4 126 rfl) rfl
theorem q1204 : (Jvm.Cond.soleField "ContractLedger$World" "balances") ∈ lw_all := lw_g (lw_at lw_m4 127 rfl) rfl
theorem q1205 : (Jvm.Cond.laysFinal "ContractLedger$World" "ContractLedger$World" "exists" "[Z") ∈ lw_all := lw_g (lw_at lw_m4 128 rfl) rfl
theorem q1206 : (Jvm.Cond.soleField "ContractLedger$World" "exists") ∈ lw_all := lw_g (lw_at lw_m4 129 rfl) rfl
theorem q1207 : (Jvm.Cond.laysFinal "ContractLedger$World" "ContractLedger$World" "scripts" "[I") ∈ lw_all := lw_g (lw_at lw_m4 130 rfl) rfl
theorem q1208 : (Jvm.Cond.soleField "ContractLedger$World" "scripts") ∈ lw_all := lw_g (lw_at lw_m4 131 rfl) rfl
theorem q1209 : (Jvm.Cond.laysFinal "ContractLedger$World" "ContractLedger$World" "storages" "[I") ∈ lw_all := lw_g (lw_at lw_m4 132 rfl) rfl
theorem q1210 : (Jvm.Cond.soleField "ContractLedger$World" "storages") ∈ lw_all := lw_g (lw_at lw_m4 133 rfl) rfl
theorem q1211 : (Jvm.Cond.laysFinal "ContractLedger$World" "ContractLedger$World" "paid" "[I") ∈ lw_all := lw_g (lw_at lw_m4 134 rfl) rfl
theorem q1212 : (Jvm.Cond.soleField "ContractLedger$World" "paid") ∈ lw_all := lw_g (lw_at lw_m4 135 rfl) rfl
theorem q1213 : (Jvm.Cond.laysFinal "ContractLedger$World" "ContractLedger$World" "counters" "[I") ∈ lw_all := lw_g (lw_at lw_m4 136 rfl) rfl
theorem q1214 : (Jvm.Cond.soleField "ContractLedger$World" "counters") ∈ lw_all := lw_g (lw_at lw_m4 137 rfl) rfl
theorem q1215 : (Jvm.Cond.lays "ContractLedger$World" "ContractLedger$World" "accounts" "I") ∈ lw_all := lw_g (lw_at lw_m4 138 rfl) rfl
theorem q1216 : (Jvm.Cond.soleField "ContractLedger$World" "accounts") ∈ lw_all := lw_g (lw_at lw_m4 139 rfl) rfl
theorem q1217 : (Jvm.Cond.lays "ContractLedger$World" "ContractLedger$World" "next" "I") ∈ lw_all := lw_g (lw_at lw_m4 140 rfl) rfl
theorem q1218 : (Jvm.Cond.soleField "ContractLedger$World" "next") ∈ lw_all := lw_g (lw_at lw_m4 141 rfl) rfl
theorem q1219 : (Jvm.Cond.lays "ContractLedger$World" "ContractLedger$World" "stored" "I") ∈ lw_all := lw_g (lw_at lw_m4 142 rfl) rfl
theorem q1220 : (Jvm.Cond.soleField "ContractLedger$World" "stored") ∈ lw_all := lw_g (lw_at lw_m4 143 rfl) rfl
theorem q1221 : (Jvm.Cond.lays "ContractLedger$World" "ContractLedger$World" "collected" "J") ∈ lw_all := lw_g (lw_at lw_m4 144 rfl) rfl
theorem q1222 : (Jvm.Cond.soleField "ContractLedger$World" "collected") ∈ lw_all := lw_g (lw_at lw_m4 145 rfl) rfl
theorem q1223 : (Jvm.Cond.lays "ContractLedger$World" "ContractLedger$World" "burnt" "J") ∈ lw_all := lw_g (lw_at lw_m4 146 rfl) rfl
theorem q1224 : (Jvm.Cond.soleField "ContractLedger$World" "burnt") ∈ lw_all := lw_g (lw_at lw_m4 147 rfl) rfl
theorem q1225 : (Jvm.Cond.lays "ContractLedger$World" "ContractLedger$World" "made" "J") ∈ lw_all := lw_g (lw_at lw_m4 148 rfl) rfl
theorem q1226 : (Jvm.Cond.soleField "ContractLedger$World" "made") ∈ lw_all := lw_g (lw_at lw_m4 149 rfl) rfl
theorem q1227 : (Jvm.Cond.lays "ContractLedger$World" "ContractLedger$World" "time" "J") ∈ lw_all := lw_g (lw_at lw_m4 150 rfl) rfl
theorem q1228 : (Jvm.Cond.soleField "ContractLedger$World" "time") ∈ lw_all := lw_g (lw_at lw_m4 151 rfl) rfl
theorem q1229 : (Jvm.Cond.lays "ContractLedger$World" "ContractLedger$World" "level" "I") ∈ lw_all := lw_g (lw_at lw_m4 152 rfl) rfl
theorem q1230 : (Jvm.Cond.soleField "ContractLedger$World" "level") ∈ lw_all := lw_g (lw_at lw_m4 153 rfl) rfl
theorem q1231 : (Jvm.Cond.laysFinal "ContractLedger$World" "ContractLedger$World" "oldBalances" "[J") ∈ lw_all := lw_g (lw_at lw_m4 154 rfl) rfl
theorem q1232 : (Jvm.Cond.soleField "ContractLedger$World" "oldBalances") ∈ lw_all := lw_g (lw_at lw_m4 155 rfl) rfl
theorem q1233 : (Jvm.Cond.laysFinal "ContractLedger$World" "ContractLedger$World" "oldExists" "[Z") ∈ lw_all := lw_g (lw_at lw_m4 156 rfl) rfl
theorem q1234 : (Jvm.Cond.soleField "ContractLedger$World" "oldExists") ∈ lw_all := lw_g (lw_at lw_m4 157 rfl) rfl
theorem q1235 : (Jvm.Cond.laysFinal "ContractLedger$World" "ContractLedger$World" "oldScripts" "[I") ∈ lw_all := lw_g (lw_at lw_m4 158 rfl) rfl
theorem q1236 : (Jvm.Cond.soleField "ContractLedger$World" "oldScripts") ∈ lw_all := lw_g (lw_at lw_m4 159 rfl) rfl
theorem q1237 : (Jvm.Cond.laysFinal "ContractLedger$World" "ContractLedger$World" "oldStorages" "[I") ∈ lw_all := lw_g (lw_at lw_m4 160 rfl) rfl
theorem q1238 : (Jvm.Cond.soleField "ContractLedger$World" "oldStorages") ∈ lw_all := lw_g (lw_at lw_m4 161 rfl) rfl
theorem q1239 : (Jvm.Cond.laysFinal "ContractLedger$World" "ContractLedger$World" "oldPaid" "[I") ∈ lw_all := lw_g (lw_at lw_m4 162 rfl) rfl
theorem q1240 : (Jvm.Cond.soleField "ContractLedger$World" "oldPaid") ∈ lw_all := lw_g (lw_at lw_m4 163 rfl) rfl
theorem q1241 : (Jvm.Cond.lays "ContractLedger$World" "ContractLedger$World" "oldNext" "I") ∈ lw_all := lw_g (lw_at lw_m4 164 rfl) rfl
theorem q1242 : (Jvm.Cond.soleField "ContractLedger$World" "oldNext") ∈ lw_all := lw_g (lw_at lw_m4 165 rfl) rfl
theorem q1243 : (Jvm.Cond.lays "ContractLedger$World" "ContractLedger$World" "oldStored" "I") ∈ lw_all := lw_g (lw_at lw_m4 166 rfl) rfl
theorem q1244 : (Jvm.Cond.soleField "ContractLedger$World" "oldStored") ∈ lw_all := lw_g (lw_at lw_m4 167 rfl) rfl
theorem q1245 : (Jvm.Cond.lays "ContractLedger$World" "ContractLedger$World" "oldBurnt" "J") ∈ lw_all := lw_g (lw_at lw_m4 168 rfl) rfl
theorem q1246 : (Jvm.Cond.soleField "ContractLedger$World" "oldBurnt") ∈ lw_all := lw_g (lw_at lw_m4 169 rfl) rfl
theorem q1247 : (Jvm.Cond.superclass "ContractLedger$World" "java/lang/Object") ∈ lw_all := lw_g (lw_at lw_m4 170 rfl) rfl
theorem q2351 : (Jvm.Cond.instanceMethod ({ cls := "ContractLedger$World", name := "keep", desc := "(LContractLedger$Memory;)V" } : Jvm.MethodName)) ∈ lw_all := lw_g (lw_at lw_m9 74 rfl) rfl
theorem q2352 : (Jvm.Cond.selects "ContractLedger$World" ({ cls := "ContractLedger$World", name := "keep", desc := "(LContractLedger$Memory;)V" } : Jvm.MethodName) ({ cls := "ContractLedger$World", name := "keep", desc := "(LContractLedger$Memory;)V" } : Jvm.MethodName)) ∈ lw_all := lw_g (lw_at lw_m9 75 rfl) rfl
theorem q2353 : (Jvm.Cond.code ({ cls := "ContractLedger$World", name := "keep", desc := "(LContractLedger$Memory;)V" } : Jvm.MethodName) prog_25_method_4_code (3 : Nat) (Option.none : Option Jvm.ClassFile.FieldType)) ∈ lw_all := lw_g (lw_at lw_m9 76 rfl) rfl
theorem q2354 : (Jvm.Cond.methodLink "ContractLedger$World" (71 : Nat) ({ cls := "ContractLedger$Memory", name := "keep", desc := "(I)I" } : Jvm.MethodName)) ∈ lw_all := lw_g (lw_at lw_m9 77 rfl) rfl
theorem q2474 : (Jvm.Cond.instanceMethod ({ cls := "ContractLedger$World", name := "save", desc := "()V" } : Jvm.MethodName)) ∈ lw_all := lw_g (lw_at lw_m9 197 rfl) rfl
theorem q2475 : (Jvm.Cond.selects "ContractLedger$World" ({ cls := "ContractLedger$World", name := "save", desc := "()V" } : Jvm.MethodName) ({ cls := "ContractLedger$World", name := "save", desc := "()V" } : Jvm.MethodName)) ∈ lw_all := lw_g (lw_at lw_m9 198 rfl) rfl
theorem q2476 : (Jvm.Cond.code ({ cls := "ContractLedger$World", name := "save", desc := "()V" } : Jvm.MethodName) prog_25_method_2_code (1 : Nat) (Option.none : Option Jvm.ClassFile.FieldType)) ∈ lw_all := lw_g (lw_at lw_m9 199 rfl) rfl
theorem q2477 : (Jvm.Cond.methodLink "ContractLedger$World" (45 : Nat) ({ cls := "java/lang/System", name := "arraycopy", desc := "(Ljava/lang/Object;ILjava/lang/Object;II)V" } : Jvm.MethodName)) ∈ lw_all := lw_g (lw_at lw_m9 200 rfl) rfl
theorem q3025 : (Jvm.Cond.instanceMethod ({ cls := "ContractLedger$World", name := "load", desc := "()V" } : Jvm.MethodName)) ∈ lw_all := lw_g (lw_at lw_m12 28 rfl) rfl
theorem q3026 : (Jvm.Cond.selects "ContractLedger$World" ({ cls := "ContractLedger$World", name := "load", desc := "()V" } : Jvm.MethodName) ({ cls := "ContractLedger$World", name := "load", desc := "()V" } : Jvm.MethodName)) ∈ lw_all := lw_g (lw_at lw_m12 29 rfl) rfl
theorem q3027 : (Jvm.Cond.code ({ cls := "ContractLedger$World", name := "load", desc := "()V" } : Jvm.MethodName) prog_25_method_3_code (1 : Nat) (Option.none : Option Jvm.ClassFile.FieldType)) ∈ lw_all := lw_g (lw_at lw_m12 30 rfl) rfl
set_option maxRecDepth 100000
abbrev cX18_init : ByteArray := prog_8_method_1_code
def yX18_init : MethodName := ⟨RX18, "<init>", "(LContractLedger$Failing;)V"⟩
def dkwX18_init_0 : List UInt8 := [42, 183, 0, 1, 42, 43, 181, 0, 7, 177]
abbrev dktX18_init_0 : List UInt8 := dkwX18_init_0 ++ []
theorem dksX18_init_0 : cX18_init.data.toList.drop 0 = dktX18_init_0 := by decide +kernel
theorem dX18_init_0 : decode cX18_init 0 = .ok (.aload_n 0, 1) := dk_42 (dk_at dksX18_init_0 0 rfl rfl)
theorem dX18_init_1 : decode cX18_init 1 = .ok (.invokespecial 1, 3) := dk_183 0 1 (dk_at dksX18_init_0 1 rfl rfl)
theorem dX18_init_4 : decode cX18_init 4 = .ok (.aload_n 0, 1) := dk_42 (dk_at dksX18_init_0 4 rfl rfl)
theorem dX18_init_5 : decode cX18_init 5 = .ok (.aload_n 1, 1) := dk_43 (dk_at dksX18_init_0 5 rfl rfl)
theorem dX18_init_6 : decode cX18_init 6 = .ok (.putfield 7, 3) := dk_181 0 7 (dk_at dksX18_init_0 6 rfl rfl)
theorem dX18_init_9 : decode cX18_init 9 = .ok (.return_, 1) := dk_177 (dk_at dksX18_init_0 9 rfl rfl)
abbrev cX18_begin : ByteArray := prog_8_method_2_code
def yX18_begin : MethodName := ⟨RX18, "begin", "(I)V"⟩
def dkwX18_begin_0 : List UInt8 := [42, 27, 181, 0, 13, 42, 3, 181, 0, 17, 177]
abbrev dktX18_begin_0 : List UInt8 := dkwX18_begin_0 ++ []
theorem dksX18_begin_0 : cX18_begin.data.toList.drop 0 = dktX18_begin_0 := by decide +kernel
theorem dX18_begin_0 : decode cX18_begin 0 = .ok (.aload_n 0, 1) := dk_42 (dk_at dksX18_begin_0 0 rfl rfl)
theorem dX18_begin_1 : decode cX18_begin 1 = .ok (.iload_n 1, 1) := dk_27 (dk_at dksX18_begin_0 1 rfl rfl)
theorem dX18_begin_2 : decode cX18_begin 2 = .ok (.putfield 13, 3) := dk_181 0 13 (dk_at dksX18_begin_0 2 rfl rfl)
theorem dX18_begin_5 : decode cX18_begin 5 = .ok (.aload_n 0, 1) := dk_42 (dk_at dksX18_begin_0 5 rfl rfl)
theorem dX18_begin_6 : decode cX18_begin 6 = .ok (.iconst 0, 1) := dk_3 (dk_at dksX18_begin_0 6 rfl rfl)
theorem dX18_begin_7 : decode cX18_begin 7 = .ok (.putfield 17, 3) := dk_181 0 17 (dk_at dksX18_begin_0 7 rfl rfl)
theorem dX18_begin_10 : decode cX18_begin 10 = .ok (.return_, 1) := dk_177 (dk_at dksX18_begin_0 10 rfl rfl)
abbrev cX18_use : ByteArray := prog_8_method_4_code
def yX18_use : MethodName := ⟨RX18, "use", "(J)V"⟩
def dkwX18_use_1 : List UInt8 := [180, 0, 7, 7, 182, 0, 22, 42, 89, 180, 0, 17, 31, 136, 96, 181, 0, 17, 177]
abbrev dktX18_use_1 : List UInt8 := dkwX18_use_1 ++ []
def dkwX18_use_0 : List UInt8 := [31, 42, 180, 0, 13, 42, 180, 0, 17, 100, 133, 148, 158, 0, 19, 42, 42, 180, 0, 13, 181, 0, 17, 42]
abbrev dktX18_use_0 : List UInt8 := dkwX18_use_0 ++ dktX18_use_1
theorem dksX18_use_0 : cX18_use.data.toList.drop 0 = dktX18_use_0 := by decide +kernel
theorem dksX18_use_1 : cX18_use.data.toList.drop 24 = dktX18_use_1 := dk_seg dksX18_use_0 24 rfl rfl
theorem dX18_use_0 : decode cX18_use 0 = .ok (.lload_n 1, 1) := dk_31 (dk_at dksX18_use_0 0 rfl rfl)
theorem dX18_use_1 : decode cX18_use 1 = .ok (.aload_n 0, 1) := dk_42 (dk_at dksX18_use_0 1 rfl rfl)
theorem dX18_use_2 : decode cX18_use 2 = .ok (.getfield 13, 3) := dk_180 0 13 (dk_at dksX18_use_0 2 rfl rfl)
theorem dX18_use_5 : decode cX18_use 5 = .ok (.aload_n 0, 1) := dk_42 (dk_at dksX18_use_0 5 rfl rfl)
theorem dX18_use_6 : decode cX18_use 6 = .ok (.getfield 17, 3) := dk_180 0 17 (dk_at dksX18_use_0 6 rfl rfl)
theorem dX18_use_9 : decode cX18_use 9 = .ok (.isub, 1) := dk_100 (dk_at dksX18_use_0 9 rfl rfl)
theorem dX18_use_10 : decode cX18_use 10 = .ok (.i2l, 1) := dk_133 (dk_at dksX18_use_0 10 rfl rfl)
theorem dX18_use_11 : decode cX18_use 11 = .ok (.lcmp, 1) := dk_148 (dk_at dksX18_use_0 11 rfl rfl)
theorem dX18_use_12 : decode cX18_use 12 = .ok (.ifCond .le 19, 3) := dk_158 0 19 (dk_at dksX18_use_0 12 rfl rfl)
theorem dX18_use_15 : decode cX18_use 15 = .ok (.aload_n 0, 1) := dk_42 (dk_at dksX18_use_0 15 rfl rfl)
theorem dX18_use_16 : decode cX18_use 16 = .ok (.aload_n 0, 1) := dk_42 (dk_at dksX18_use_0 16 rfl rfl)
theorem dX18_use_17 : decode cX18_use 17 = .ok (.getfield 13, 3) := dk_180 0 13 (dk_at dksX18_use_0 17 rfl rfl)
theorem dX18_use_20 : decode cX18_use 20 = .ok (.putfield 17, 3) := dk_181 0 17 (dk_at dksX18_use_0 20 rfl rfl)
theorem dX18_use_23 : decode cX18_use 23 = .ok (.aload_n 0, 1) := dk_42 (dk_at dksX18_use_0 23 rfl rfl)
theorem dX18_use_24 : decode cX18_use 24 = .ok (.getfield 7, 3) := dk_180 0 7 (dk_at dksX18_use_1 0 rfl rfl)
theorem dX18_use_27 : decode cX18_use 27 = .ok (.iconst 4, 1) := dk_7 (dk_at dksX18_use_1 3 rfl rfl)
theorem dX18_use_28 : decode cX18_use 28 = .ok (.invokevirtual 22, 3) := dk_182 0 22 (dk_at dksX18_use_1 4 rfl rfl)
theorem dX18_use_31 : decode cX18_use 31 = .ok (.aload_n 0, 1) := dk_42 (dk_at dksX18_use_1 7 rfl rfl)
theorem dX18_use_32 : decode cX18_use 32 = .ok (.dup, 1) := dk_89 (dk_at dksX18_use_1 8 rfl rfl)
theorem dX18_use_33 : decode cX18_use 33 = .ok (.getfield 17, 3) := dk_180 0 17 (dk_at dksX18_use_1 9 rfl rfl)
theorem dX18_use_36 : decode cX18_use 36 = .ok (.lload_n 1, 1) := dk_31 (dk_at dksX18_use_1 12 rfl rfl)
theorem dX18_use_37 : decode cX18_use 37 = .ok (.l2i, 1) := dk_136 (dk_at dksX18_use_1 13 rfl rfl)
theorem dX18_use_38 : decode cX18_use 38 = .ok (.iadd, 1) := dk_96 (dk_at dksX18_use_1 14 rfl rfl)
theorem dX18_use_39 : decode cX18_use 39 = .ok (.putfield 17, 3) := dk_181 0 17 (dk_at dksX18_use_1 15 rfl rfl)
theorem dX18_use_42 : decode cX18_use 42 = .ok (.return_, 1) := dk_177 (dk_at dksX18_use_1 18 rfl rfl)
abbrev cX18_used : ByteArray := prog_8_method_3_code
def yX18_used : MethodName := ⟨RX18, "used", "()I"⟩
theorem dX18_used_0 : decode cX18_used 0 = .ok (.aload_n 0, 1) := by decide +kernel
theorem dX18_used_1 : decode cX18_used 1 = .ok (.getfield 17, 3) := by decide +kernel
theorem dX18_used_4 : decode cX18_used 4 = .ok (.ireturn, 1) := by decide +kernel
theorem q385 : (Jvm.Cond.initialized "ContractLedger$Gas") ∈ lw_all := lw_g (lw_at lw_m1 28 rfl) rfl
theorem q1250 : (Jvm.Cond.instantiable "ContractLedger$Gas" (3 : Nat)) ∈ lw_all := lw_g (lw_at lw_m4 173 rfl) rfl
theorem q1252 : (Jvm.Cond.instanceMethod ({ cls := "ContractLedger$Gas", name := "<init>", desc := "(LContractLedger$Failing;)V" } : Jvm.MethodName)) ∈ lw_all := lw_g (lw_at lw_m4 175 rfl) rfl
theorem q1253 : (Jvm.Cond.code ({ cls := "ContractLedger$Gas", name := "<init>", desc := "(LContractLedger$Failing;)V" } : Jvm.MethodName) prog_8_method_1_code (2 : Nat) (Option.none : Option Jvm.ClassFile.FieldType)) ∈ lw_all := lw_g (lw_at lw_m4 176 rfl) rfl
theorem q1254 : (Jvm.Cond.methodLink "ContractLedger$Gas" (1 : Nat) ({ cls := "java/lang/Object", name := "<init>", desc := "()V" } : Jvm.MethodName)) ∈ lw_all := lw_g (lw_at lw_m4 177 rfl) rfl
theorem q1255 : (Jvm.Cond.fieldLink "ContractLedger$Gas" (7 : Nat) "ContractLedger$Gas" "failing" "LContractLedger$Failing;") ∈ lw_all := lw_g (lw_at lw_m4 178 rfl) rfl
theorem q1256 : (Jvm.Cond.fieldLink "ContractLedger$Gas" (13 : Nat) "ContractLedger$Gas" "limit" "I") ∈ lw_all := lw_g (lw_at lw_m4 179 rfl) rfl
theorem q1257 : (Jvm.Cond.fieldLink "ContractLedger$Gas" (17 : Nat) "ContractLedger$Gas" "used" "I") ∈ lw_all := lw_g (lw_at lw_m4 180 rfl) rfl
theorem q1258 : (Jvm.Cond.laysFinal "ContractLedger$Gas" "ContractLedger$Gas" "failing" "LContractLedger$Failing;") ∈ lw_all := lw_g (lw_at lw_m4 181 rfl) rfl
theorem q1259 : (Jvm.Cond.soleField "ContractLedger$Gas" "failing") ∈ lw_all := lw_g (lw_at lw_m4 182 rfl) rfl
theorem q1260 : (Jvm.Cond.lays "ContractLedger$Gas" "ContractLedger$Gas" "limit" "I") ∈ lw_all := lw_g (lw_at lw_m4 183 rfl) rfl
theorem q1261 : (Jvm.Cond.soleField "ContractLedger$Gas" "limit") ∈ lw_all := lw_g (lw_at lw_m4 184 rfl) rfl
theorem q1262 : (Jvm.Cond.lays "ContractLedger$Gas" "ContractLedger$Gas" "used" "I") ∈ lw_all := lw_g (lw_at lw_m4 185 rfl) rfl
theorem q1263 : (Jvm.Cond.soleField "ContractLedger$Gas" "used") ∈ lw_all := lw_g (lw_at lw_m4 186 rfl) rfl
theorem q1264 : (Jvm.Cond.superclass "ContractLedger$Gas" "java/lang/Object") ∈ lw_all := lw_g (lw_at lw_m4 187 rfl) rfl
theorem q2490 : (Jvm.Cond.instanceMethod ({ cls := "ContractLedger$Gas", name := "begin", desc := "(I)V" } : Jvm.MethodName)) ∈ lw_all := lw_g (lw_at lw_m9 213 rfl) rfl
theorem q2491 : (Jvm.Cond.selects "ContractLedger$Gas" ({ cls := "ContractLedger$Gas", name := "begin", desc := "(I)V" } : Jvm.MethodName) ({ cls := "ContractLedger$Gas", name := "begin", desc := "(I)V" } : Jvm.MethodName)) ∈ lw_all := lw_g (lw_at lw_m9 214 rfl) rfl
theorem q2492 : (Jvm.Cond.code ({ cls := "ContractLedger$Gas", name := "begin", desc := "(I)V" } : Jvm.MethodName) prog_8_method_2_code (2 : Nat) (Option.none : Option Jvm.ClassFile.FieldType)) ∈ lw_all := lw_g (lw_at lw_m9 215 rfl) rfl
theorem q2500 : (Jvm.Cond.instanceMethod ({ cls := "ContractLedger$Gas", name := "use", desc := "(J)V" } : Jvm.MethodName)) ∈ lw_all := lw_g (lw_at lw_m9 223 rfl) rfl
theorem q2501 : (Jvm.Cond.selects "ContractLedger$Gas" ({ cls := "ContractLedger$Gas", name := "use", desc := "(J)V" } : Jvm.MethodName) ({ cls := "ContractLedger$Gas", name := "use", desc := "(J)V" } : Jvm.MethodName)) ∈ lw_all := lw_g (lw_at lw_m9 224 rfl) rfl
theorem q2502 : (Jvm.Cond.code ({ cls := "ContractLedger$Gas", name := "use", desc := "(J)V" } : Jvm.MethodName) prog_8_method_4_code (3 : Nat) (Option.none : Option Jvm.ClassFile.FieldType)) ∈ lw_all := lw_g (lw_at lw_m9 225 rfl) rfl
theorem q2503 : (Jvm.Cond.methodLink "ContractLedger$Gas" (22 : Nat) ({ cls := "ContractLedger$Failing", name := "fail", desc := "(I)V" } : Jvm.MethodName)) ∈ lw_all := lw_g (lw_at lw_m9 226 rfl) rfl
theorem q3021 : (Jvm.Cond.instanceMethod ({ cls := "ContractLedger$Gas", name := "used", desc := "()I" } : Jvm.MethodName)) ∈ lw_all := lw_g (lw_at lw_m12 24 rfl) rfl
theorem q3022 : (Jvm.Cond.selects "ContractLedger$Gas" ({ cls := "ContractLedger$Gas", name := "used", desc := "()I" } : Jvm.MethodName) ({ cls := "ContractLedger$Gas", name := "used", desc := "()I" } : Jvm.MethodName)) ∈ lw_all := lw_g (lw_at lw_m12 25 rfl) rfl
theorem q3023 : (Jvm.Cond.code ({ cls := "ContractLedger$Gas", name := "used", desc := "()I" } : Jvm.MethodName) prog_8_method_3_code (1 : Nat) (Option.some Jvm.ClassFile.FieldType.int)) ∈ lw_all := lw_g (lw_at lw_m12 26 rfl) rfl
