set_option maxRecDepth 100000
theorem q400 : (Jvm.Cond.initialized "java/lang/System") ∈ lw_all := lw_g (lw_at lw_m1 43 rfl) rfl
set_option maxRecDepth 100000
theorem q1892 : (Jvm.Cond.static ({ cls := "java/lang/System", name := "arraycopy", desc := "(Ljava/lang/Object;ILjava/lang/Object;II)V" } : Jvm.MethodName)) ∈ lw_all := lw_g (lw_at lw_m7 95 rfl) rfl
theorem q1893 : (Jvm.Cond.native ({ cls := "java/lang/System", name := "arraycopy", desc := "(Ljava/lang/Object;ILjava/lang/Object;II)V" } : Jvm.MethodName)) ∈ lw_all := lw_g (lw_at lw_m7 96 rfl) rfl

theorem q481 : (Jvm.Cond.arrayClass Jvm.ClassFile.FieldType.byte) ∈ lw_all := lw_g (lw_at lw_m1 124 rfl) rfl
set_option maxRecDepth 100000
theorem q587 : (Jvm.Cond.arrayClass Jvm.ClassFile.FieldType.int) ∈ lw_all := lw_g (lw_at lw_m1 230 rfl) rfl
theorem q792 : (Jvm.Cond.arrayClass Jvm.ClassFile.FieldType.short) ∈ lw_all := lw_g (lw_at lw_m2 195 rfl) rfl
theorem q1089 : (Jvm.Cond.arrayClass Jvm.ClassFile.FieldType.long) ∈ lw_all := lw_g (lw_at lw_m4 12 rfl) rfl
theorem q1248 : (Jvm.Cond.arrayClass Jvm.ClassFile.FieldType.boolean) ∈ lw_all := lw_g (lw_at lw_m4 171 rfl) rfl
theorem q1495 : (Jvm.Cond.arrayOver (Jvm.ClassFile.FieldType.object "ContractLedger$Content")) ∈ lw_tbl := lw_at lw_m5 178 rfl
theorem q1497 : (Jvm.Cond.arrayOver (Jvm.ClassFile.FieldType.object "ContractLedger$Receipt")) ∈ lw_tbl := lw_at lw_m5 180 rfl

set_option maxRecDepth 100000
def TJ0 : u_T := fun k => match k with
  | 0 => ("java/lang/Throwable", "cause", "Ljava/lang/Throwable;", false)
  | 1 => ("java/lang/Throwable", "stackTrace", "[Ljava/lang/StackTraceElement;", false)
  | 2 => ("java/lang/Throwable", "suppressedExceptions", "Ljava/util/List;", false)
  | 3 => ("java/lang/Throwable", "detailMessage", "Ljava/lang/String;", false)
  | _ => ("java/lang/Throwable", "backtrace", "Ljava/lang/Object;", false)
def tyJ0 : Nat → FieldType := fun k => match k with
  | 0 => .object "java/lang/Throwable"
  | 1 => .array (.object "java/lang/StackTraceElement")
  | 2 => .object "java/util/List"
  | 3 => .object "java/lang/String"
  | _ => .object "java/lang/Object"
abbrev wsJ00 : List Cond := u_ws RJ0 TJ0 5
theorem nmJ0 : ∀ a, a < 5 → ∀ b, b < 5 → a ≠ b → (TJ0 a).2.1 ≠ (TJ0 b).2.1 := by decide +kernel
theorem tyJ0_ok : ∀ k, k < 5 → parseFieldDescriptor (TJ0 k).2.2.1 = some (tyJ0 k) := by decide +kernel
abbrev cJ0_init : ByteArray := prog_43_method_1_code
def yJ0_init : MethodName := ⟨RJ0, "<init>", "()V"⟩
def dkwJ0_init_1 : List UInt8 := [182, 0, 27, 87, 177]
abbrev dktJ0_init_1 : List UInt8 := dkwJ0_init_1 ++ []
def dkwJ0_init_0 : List UInt8 := [42, 183, 0, 1, 42, 42, 181, 0, 7, 42, 178, 0, 13, 181, 0, 17, 42, 178, 0, 20, 181, 0, 24, 42]
abbrev dktJ0_init_0 : List UInt8 := dkwJ0_init_0 ++ dktJ0_init_1
theorem dksJ0_init_0 : cJ0_init.data.toList.drop 0 = dktJ0_init_0 := by decide +kernel
theorem dksJ0_init_1 : cJ0_init.data.toList.drop 24 = dktJ0_init_1 := dk_seg dksJ0_init_0 24 rfl rfl
theorem dJ0_init_0 : decode cJ0_init 0 = .ok (.aload_n 0, 1) := dk_42 (dk_at dksJ0_init_0 0 rfl rfl)
theorem dJ0_init_1 : decode cJ0_init 1 = .ok (.invokespecial 1, 3) := dk_183 0 1 (dk_at dksJ0_init_0 1 rfl rfl)
theorem dJ0_init_4 : decode cJ0_init 4 = .ok (.aload_n 0, 1) := dk_42 (dk_at dksJ0_init_0 4 rfl rfl)
theorem dJ0_init_5 : decode cJ0_init 5 = .ok (.aload_n 0, 1) := dk_42 (dk_at dksJ0_init_0 5 rfl rfl)
theorem dJ0_init_6 : decode cJ0_init 6 = .ok (.putfield 7, 3) := dk_181 0 7 (dk_at dksJ0_init_0 6 rfl rfl)
theorem dJ0_init_9 : decode cJ0_init 9 = .ok (.aload_n 0, 1) := dk_42 (dk_at dksJ0_init_0 9 rfl rfl)
theorem dJ0_init_10 : decode cJ0_init 10 = .ok (.getstatic 13, 3) := dk_178 0 13 (dk_at dksJ0_init_0 10 rfl rfl)
theorem dJ0_init_13 : decode cJ0_init 13 = .ok (.putfield 17, 3) := dk_181 0 17 (dk_at dksJ0_init_0 13 rfl rfl)
theorem dJ0_init_16 : decode cJ0_init 16 = .ok (.aload_n 0, 1) := dk_42 (dk_at dksJ0_init_0 16 rfl rfl)
theorem dJ0_init_17 : decode cJ0_init 17 = .ok (.getstatic 20, 3) := dk_178 0 20 (dk_at dksJ0_init_0 17 rfl rfl)
theorem dJ0_init_20 : decode cJ0_init 20 = .ok (.putfield 24, 3) := dk_181 0 24 (dk_at dksJ0_init_0 20 rfl rfl)
theorem dJ0_init_23 : decode cJ0_init 23 = .ok (.aload_n 0, 1) := dk_42 (dk_at dksJ0_init_0 23 rfl rfl)
theorem dJ0_init_24 : decode cJ0_init 24 = .ok (.invokevirtual 27, 3) := dk_182 0 27 (dk_at dksJ0_init_1 0 rfl rfl)
theorem dJ0_init_27 : decode cJ0_init 27 = .ok (.pop, 1) := dk_87 (dk_at dksJ0_init_1 3 rfl rfl)
theorem dJ0_init_28 : decode cJ0_init 28 = .ok (.return_, 1) := dk_177 (dk_at dksJ0_init_1 4 rfl rfl)
abbrev cJ0_init_2 : ByteArray := prog_43_method_2_code
def yJ0_init_2 : MethodName := ⟨RJ0, "<init>", "(Ljava/lang/String;)V"⟩
def dkwJ0_init_2_1 : List UInt8 := [182, 0, 27, 87, 42, 43, 181, 0, 31, 177]
abbrev dktJ0_init_2_1 : List UInt8 := dkwJ0_init_2_1 ++ []
def dkwJ0_init_2_0 : List UInt8 := [42, 183, 0, 1, 42, 42, 181, 0, 7, 42, 178, 0, 13, 181, 0, 17, 42, 178, 0, 20, 181, 0, 24, 42]
abbrev dktJ0_init_2_0 : List UInt8 := dkwJ0_init_2_0 ++ dktJ0_init_2_1
theorem dksJ0_init_2_0 : cJ0_init_2.data.toList.drop 0 = dktJ0_init_2_0 := by decide +kernel
theorem dksJ0_init_2_1 : cJ0_init_2.data.toList.drop 24 = dktJ0_init_2_1 := dk_seg dksJ0_init_2_0 24 rfl rfl
theorem dJ0_init_2_0 : decode cJ0_init_2 0 = .ok (.aload_n 0, 1) := dk_42 (dk_at dksJ0_init_2_0 0 rfl rfl)
theorem dJ0_init_2_1 : decode cJ0_init_2 1 = .ok (.invokespecial 1, 3) := dk_183 0 1 (dk_at dksJ0_init_2_0 1 rfl rfl)
theorem dJ0_init_2_4 : decode cJ0_init_2 4 = .ok (.aload_n 0, 1) := dk_42 (dk_at dksJ0_init_2_0 4 rfl rfl)
theorem dJ0_init_2_5 : decode cJ0_init_2 5 = .ok (.aload_n 0, 1) := dk_42 (dk_at dksJ0_init_2_0 5 rfl rfl)
theorem dJ0_init_2_6 : decode cJ0_init_2 6 = .ok (.putfield 7, 3) := dk_181 0 7 (dk_at dksJ0_init_2_0 6 rfl rfl)
theorem dJ0_init_2_9 : decode cJ0_init_2 9 = .ok (.aload_n 0, 1) := dk_42 (dk_at dksJ0_init_2_0 9 rfl rfl)
theorem dJ0_init_2_10 : decode cJ0_init_2 10 = .ok (.getstatic 13, 3) := dk_178 0 13 (dk_at dksJ0_init_2_0 10 rfl rfl)
theorem dJ0_init_2_13 : decode cJ0_init_2 13 = .ok (.putfield 17, 3) := dk_181 0 17 (dk_at dksJ0_init_2_0 13 rfl rfl)
theorem dJ0_init_2_16 : decode cJ0_init_2 16 = .ok (.aload_n 0, 1) := dk_42 (dk_at dksJ0_init_2_0 16 rfl rfl)
theorem dJ0_init_2_17 : decode cJ0_init_2 17 = .ok (.getstatic 20, 3) := dk_178 0 20 (dk_at dksJ0_init_2_0 17 rfl rfl)
theorem dJ0_init_2_20 : decode cJ0_init_2 20 = .ok (.putfield 24, 3) := dk_181 0 24 (dk_at dksJ0_init_2_0 20 rfl rfl)
theorem dJ0_init_2_23 : decode cJ0_init_2 23 = .ok (.aload_n 0, 1) := dk_42 (dk_at dksJ0_init_2_0 23 rfl rfl)
theorem dJ0_init_2_24 : decode cJ0_init_2 24 = .ok (.invokevirtual 27, 3) := dk_182 0 27 (dk_at dksJ0_init_2_1 0 rfl rfl)
theorem dJ0_init_2_27 : decode cJ0_init_2 27 = .ok (.pop, 1) := dk_87 (dk_at dksJ0_init_2_1 3 rfl rfl)
theorem dJ0_init_2_28 : decode cJ0_init_2 28 = .ok (.aload_n 0, 1) := dk_42 (dk_at dksJ0_init_2_1 4 rfl rfl)
theorem dJ0_init_2_29 : decode cJ0_init_2 29 = .ok (.aload_n 1, 1) := dk_43 (dk_at dksJ0_init_2_1 5 rfl rfl)
theorem dJ0_init_2_30 : decode cJ0_init_2 30 = .ok (.putfield 31, 3) := dk_181 0 31 (dk_at dksJ0_init_2_1 6 rfl rfl)
theorem dJ0_init_2_33 : decode cJ0_init_2 33 = .ok (.return_, 1) := dk_177 (dk_at dksJ0_init_2_1 9 rfl rfl)
theorem q360 : (Jvm.Cond.initialized "java/lang/Throwable") ∈ lw_all := lw_g (lw_at lw_m1 3 rfl) rfl
theorem q422 : (Jvm.Cond.declares ({ cls := "java/lang/Throwable", name := "<init>", desc := "()V" } : Jvm.MethodName)) ∈ lw_tbl := lw_at lw_m1 65 rfl
theorem q423 : (Jvm.Cond.declares ({ cls := "java/lang/Throwable", name := "<init>", desc := "(Ljava/lang/String;)V" } : Jvm.MethodName)) ∈ lw_tbl := lw_at lw_m1 66 rfl
theorem q427 : (Jvm.Cond.lays "java/lang/Throwable" "java/lang/Throwable" "cause" "Ljava/lang/Throwable;") ∈ lw_all := lw_g (lw_at lw_m1 70 rfl) rfl
theorem q429 : (Jvm.Cond.lays "java/lang/Throwable" "java/lang/Throwable" "stackTrace" "[Ljava/lang/StackTraceElement;") ∈ lw_all := lw_g (lw_at lw_m1 72 rfl) rfl
theorem q431 : (Jvm.Cond.lays "java/lang/Throwable" "java/lang/Throwable" "suppressedExceptions" "Ljava/util/List;") ∈ lw_all := lw_g (lw_at lw_m1 74 rfl) rfl
theorem q433 : (Jvm.Cond.lays "java/lang/Throwable" "java/lang/Throwable" "detailMessage" "Ljava/lang/String;") ∈ lw_all := lw_g (lw_at lw_m1 76 rfl) rfl
theorem q435 : (Jvm.Cond.lays "java/lang/Throwable" "java/lang/Throwable" "backtrace" "Ljava/lang/Object;") ∈ lw_all := lw_g (lw_at lw_m1 78 rfl) rfl
theorem q436 : (Jvm.Cond.fieldLink "java/lang/Throwable" (198 : Nat) "java/lang/Throwable" "backtrace" "Ljava/lang/Object;") ∈ lw_all := lw_g (lw_at lw_m1 79 rfl) rfl
theorem q437 : (Jvm.Cond.superclass "java/lang/Throwable" "java/lang/Object") ∈ lw_all := lw_g (lw_at lw_m1 80 rfl) rfl
theorem q438 : (Jvm.Cond.instanceMethod ({ cls := "java/lang/Throwable", name := "<init>", desc := "()V" } : Jvm.MethodName)) ∈ lw_all := lw_g (lw_at lw_m1 81 rfl) rfl
theorem q439 : (Jvm.Cond.code ({ cls := "java/lang/Throwable", name := "<init>", desc := "()V" } : Jvm.MethodName) prog_43_method_1_code (1 : Nat) (Option.none : Option Jvm.ClassFile.FieldType)) ∈ lw_all := lw_g (lw_at lw_m1 82 rfl) rfl
theorem q440 : (Jvm.Cond.methodLink "java/lang/Throwable" (1 : Nat) ({ cls := "java/lang/Object", name := "<init>", desc := "()V" } : Jvm.MethodName)) ∈ lw_all := lw_g (lw_at lw_m1 83 rfl) rfl
theorem q441 : (Jvm.Cond.fieldLink "java/lang/Throwable" (13 : Nat) "java/lang/Throwable" "UNASSIGNED_STACK" "[Ljava/lang/StackTraceElement;") ∈ lw_all := lw_g (lw_at lw_m1 84 rfl) rfl
theorem q442 : (Jvm.Cond.laysStatic "java/lang/Throwable" "UNASSIGNED_STACK" "[Ljava/lang/StackTraceElement;") ∈ lw_tbl := lw_at lw_m1 85 rfl
theorem q443 : (Jvm.Cond.fieldLink "java/lang/Throwable" (20 : Nat) "java/lang/Throwable" "SUPPRESSED_SENTINEL" "Ljava/util/List;") ∈ lw_all := lw_g (lw_at lw_m1 86 rfl) rfl
theorem q444 : (Jvm.Cond.laysStatic "java/lang/Throwable" "SUPPRESSED_SENTINEL" "Ljava/util/List;") ∈ lw_tbl := lw_at lw_m1 87 rfl
theorem q445 : (Jvm.Cond.methodLink "java/lang/Throwable" (27 : Nat) ({ cls := "java/lang/Throwable", name := "fillInStackTrace", desc := "()Ljava/lang/Throwable;" } : Jvm.MethodName)) ∈ lw_all := lw_g (lw_at lw_m1 88 rfl) rfl
theorem q446 : (Jvm.Cond.instanceMethod ({ cls := "java/lang/Throwable", name := "fillInStackTrace", desc := "()Ljava/lang/Throwable;" } : Jvm.MethodName)) ∈ lw_all := lw_g (lw_at lw_m1 89 rfl) rfl
theorem q447 : (Jvm.Cond.sameMethod "java/lang/Throwable" "java/lang/Throwable" "fillInStackTrace" "()Ljava/lang/Throwable;") ∈ lw_all := lw_g (lw_at lw_m1 90 rfl) rfl
theorem q449 : (Jvm.Cond.codeSync ({ cls := "java/lang/Throwable", name := "fillInStackTrace", desc := "()Ljava/lang/Throwable;" } : Jvm.MethodName) prog_43_method_18_code (1 : Nat) (Option.some (Jvm.ClassFile.FieldType.object "java/lang/Throwable"))) ∈ lw_all := lw_g (lw_at lw_m1 92 rfl) rfl
theorem q450 : (Jvm.Cond.methodLink "java/lang/Throwable" (202 : Nat) ({ cls := "java/lang/Throwable", name := "fillInStackTrace", desc := "(I)Ljava/lang/Throwable;" } : Jvm.MethodName)) ∈ lw_all := lw_g (lw_at lw_m1 93 rfl) rfl
theorem q451 : (Jvm.Cond.privateMethod ({ cls := "java/lang/Throwable", name := "fillInStackTrace", desc := "(I)Ljava/lang/Throwable;" } : Jvm.MethodName)) ∈ lw_tbl := lw_at lw_m1 94 rfl
theorem q452 : (Jvm.Cond.instanceMethod ({ cls := "java/lang/Throwable", name := "fillInStackTrace", desc := "(I)Ljava/lang/Throwable;" } : Jvm.MethodName)) ∈ lw_all := lw_g (lw_at lw_m1 95 rfl) rfl
theorem q453 : (Jvm.Cond.instantiable "java/lang/Throwable" (6 : Nat)) ∈ lw_all := lw_g (lw_at lw_m1 96 rfl) rfl
theorem q454 : (Jvm.Cond.native ({ cls := "java/lang/Throwable", name := "fillInStackTrace", desc := "(I)Ljava/lang/Throwable;" } : Jvm.MethodName)) ∈ lw_all := lw_g (lw_at lw_m1 97 rfl) rfl
theorem q466 : (Jvm.Cond.instanceMethod ({ cls := "java/lang/Throwable", name := "<init>", desc := "(Ljava/lang/String;)V" } : Jvm.MethodName)) ∈ lw_all := lw_g (lw_at lw_m1 109 rfl) rfl
theorem q467 : (Jvm.Cond.code ({ cls := "java/lang/Throwable", name := "<init>", desc := "(Ljava/lang/String;)V" } : Jvm.MethodName) prog_43_method_2_code (2 : Nat) (Option.none : Option Jvm.ClassFile.FieldType)) ∈ lw_all := lw_g (lw_at lw_m1 110 rfl) rfl
theorem q468 : (Jvm.Cond.fieldLink "java/lang/Throwable" (198 : Nat) "java/lang/Throwable" "backtrace" "Ljava/lang/Object;") ∈ lw_all := lw_g (lw_at lw_m1 111 rfl) rfl
theorem q469 : (Jvm.Cond.fieldLink "java/lang/Throwable" (31 : Nat) "java/lang/Throwable" "detailMessage" "Ljava/lang/String;") ∈ lw_all := lw_g (lw_at lw_m1 112 rfl) rfl
theorem q470 : (Jvm.Cond.fieldLink "java/lang/Throwable" (7 : Nat) "java/lang/Throwable" "cause" "Ljava/lang/Throwable;") ∈ lw_all := lw_g (lw_at lw_m1 113 rfl) rfl
theorem q471 : (Jvm.Cond.fieldLink "java/lang/Throwable" (17 : Nat) "java/lang/Throwable" "stackTrace" "[Ljava/lang/StackTraceElement;") ∈ lw_all := lw_g (lw_at lw_m1 114 rfl) rfl
theorem q472 : (Jvm.Cond.fieldLink "java/lang/Throwable" (24 : Nat) "java/lang/Throwable" "suppressedExceptions" "Ljava/util/List;") ∈ lw_all := lw_g (lw_at lw_m1 115 rfl) rfl
theorem q473 : (Jvm.Cond.soleField "java/lang/Throwable" "backtrace") ∈ lw_all := lw_g (lw_at lw_m1 116 rfl) rfl
theorem q474 : (Jvm.Cond.soleField "java/lang/Throwable" "detailMessage") ∈ lw_all := lw_g (lw_at lw_m1 117 rfl) rfl
theorem q475 : (Jvm.Cond.soleField "java/lang/Throwable" "cause") ∈ lw_all := lw_g (lw_at lw_m1 118 rfl) rfl
theorem q476 : (Jvm.Cond.soleField "java/lang/Throwable" "stackTrace") ∈ lw_all := lw_g (lw_at lw_m1 119 rfl) rfl
theorem q478 : (Jvm.Cond.soleField "java/lang/Throwable" "depth") ∈ lw_all := lw_g (lw_at lw_m1 121 rfl) rfl
theorem q479 : (Jvm.Cond.soleField "java/lang/Throwable" "suppressedExceptions") ∈ lw_all := lw_g (lw_at lw_m1 122 rfl) rfl
theorem q4700 : (Jvm.Cond.sameMethod "java/lang/Throwable" "java/lang/Throwable" "fillInStackTrace" "(I)Ljava/lang/Throwable;") ∈ lw_all := lw_g (lw_at lw_m19 23 rfl) rfl
theorem in_J0 : ∀ w ∈ wsJ00, w ∈ lw_all := lw_in wsJ00 [427, 429, 431, 433, 435] (by decide +kernel) (by decide +kernel)

set_option maxRecDepth 100000
abbrev cJ1_init : ByteArray := prog_33_method_2_code
def yJ1_init : MethodName := ⟨RJ1, "<init>", "(Ljava/lang/String;)V"⟩
def dkwJ1_init_0 : List UInt8 := [42, 43, 183, 0, 7, 177]
abbrev dktJ1_init_0 : List UInt8 := dkwJ1_init_0 ++ []
theorem dksJ1_init_0 : cJ1_init.data.toList.drop 0 = dktJ1_init_0 := by decide +kernel
theorem dJ1_init_0 : decode cJ1_init 0 = .ok (.aload_n 0, 1) := dk_42 (dk_at dksJ1_init_0 0 rfl rfl)
theorem dJ1_init_1 : decode cJ1_init 1 = .ok (.aload_n 1, 1) := dk_43 (dk_at dksJ1_init_0 1 rfl rfl)
theorem dJ1_init_2 : decode cJ1_init 2 = .ok (.invokespecial 7, 3) := dk_183 0 7 (dk_at dksJ1_init_0 2 rfl rfl)
theorem dJ1_init_5 : decode cJ1_init 5 = .ok (.return_, 1) := dk_177 (dk_at dksJ1_init_0 5 rfl rfl)
theorem q361 : (Jvm.Cond.initialized "java/lang/Exception") ∈ lw_all := lw_g (lw_at lw_m1 4 rfl) rfl
theorem q420 : (Jvm.Cond.declares ({ cls := "java/lang/Exception", name := "<init>", desc := "()V" } : Jvm.MethodName)) ∈ lw_tbl := lw_at lw_m1 63 rfl
theorem q421 : (Jvm.Cond.declares ({ cls := "java/lang/Exception", name := "<init>", desc := "(Ljava/lang/String;)V" } : Jvm.MethodName)) ∈ lw_tbl := lw_at lw_m1 64 rfl
theorem q463 : (Jvm.Cond.instanceMethod ({ cls := "java/lang/Exception", name := "<init>", desc := "(Ljava/lang/String;)V" } : Jvm.MethodName)) ∈ lw_all := lw_g (lw_at lw_m1 106 rfl) rfl
theorem q464 : (Jvm.Cond.code ({ cls := "java/lang/Exception", name := "<init>", desc := "(Ljava/lang/String;)V" } : Jvm.MethodName) prog_33_method_2_code (2 : Nat) (Option.none : Option Jvm.ClassFile.FieldType)) ∈ lw_all := lw_g (lw_at lw_m1 107 rfl) rfl
theorem q465 : (Jvm.Cond.methodLink "java/lang/Exception" (7 : Nat) ({ cls := "java/lang/Throwable", name := "<init>", desc := "(Ljava/lang/String;)V" } : Jvm.MethodName)) ∈ lw_all := lw_g (lw_at lw_m1 108 rfl) rfl

set_option maxRecDepth 100000
abbrev cJ2_init : ByteArray := prog_38_method_2_code
def yJ2_init : MethodName := ⟨RJ2, "<init>", "(Ljava/lang/String;)V"⟩
def dkwJ2_init_0 : List UInt8 := [42, 43, 183, 0, 7, 177]
abbrev dktJ2_init_0 : List UInt8 := dkwJ2_init_0 ++ []
theorem dksJ2_init_0 : cJ2_init.data.toList.drop 0 = dktJ2_init_0 := by decide +kernel
theorem dJ2_init_0 : decode cJ2_init 0 = .ok (.aload_n 0, 1) := dk_42 (dk_at dksJ2_init_0 0 rfl rfl)
theorem dJ2_init_1 : decode cJ2_init 1 = .ok (.aload_n 1, 1) := dk_43 (dk_at dksJ2_init_0 1 rfl rfl)
theorem dJ2_init_2 : decode cJ2_init 2 = .ok (.invokespecial 7, 3) := dk_183 0 7 (dk_at dksJ2_init_0 2 rfl rfl)
theorem dJ2_init_5 : decode cJ2_init 5 = .ok (.return_, 1) := dk_177 (dk_at dksJ2_init_0 5 rfl rfl)
theorem q362 : (Jvm.Cond.initialized "java/lang/RuntimeException") ∈ lw_all := lw_g (lw_at lw_m1 5 rfl) rfl
theorem q418 : (Jvm.Cond.declares ({ cls := "java/lang/RuntimeException", name := "<init>", desc := "()V" } : Jvm.MethodName)) ∈ lw_tbl := lw_at lw_m1 61 rfl
theorem q419 : (Jvm.Cond.declares ({ cls := "java/lang/RuntimeException", name := "<init>", desc := "(Ljava/lang/String;)V" } : Jvm.MethodName)) ∈ lw_tbl := lw_at lw_m1 62 rfl
theorem q460 : (Jvm.Cond.instanceMethod ({ cls := "java/lang/RuntimeException", name := "<init>", desc := "(Ljava/lang/String;)V" } : Jvm.MethodName)) ∈ lw_all := lw_g (lw_at lw_m1 103 rfl) rfl
theorem q461 : (Jvm.Cond.code ({ cls := "java/lang/RuntimeException", name := "<init>", desc := "(Ljava/lang/String;)V" } : Jvm.MethodName) prog_38_method_2_code (2 : Nat) (Option.none : Option Jvm.ClassFile.FieldType)) ∈ lw_all := lw_g (lw_at lw_m1 104 rfl) rfl
theorem q462 : (Jvm.Cond.methodLink "java/lang/RuntimeException" (7 : Nat) ({ cls := "java/lang/Exception", name := "<init>", desc := "(Ljava/lang/String;)V" } : Jvm.MethodName)) ∈ lw_all := lw_g (lw_at lw_m1 105 rfl) rfl

set_option maxRecDepth 100000
abbrev cJ3_init : ByteArray := prog_35_method_2_code
def yJ3_init : MethodName := ⟨RJ3, "<init>", "(Ljava/lang/String;)V"⟩
def dkwJ3_init_0 : List UInt8 := [42, 43, 183, 0, 7, 177]
abbrev dktJ3_init_0 : List UInt8 := dkwJ3_init_0 ++ []
theorem dksJ3_init_0 : cJ3_init.data.toList.drop 0 = dktJ3_init_0 := by decide +kernel
theorem dJ3_init_0 : decode cJ3_init 0 = .ok (.aload_n 0, 1) := dk_42 (dk_at dksJ3_init_0 0 rfl rfl)
theorem dJ3_init_1 : decode cJ3_init 1 = .ok (.aload_n 1, 1) := dk_43 (dk_at dksJ3_init_0 1 rfl rfl)
theorem dJ3_init_2 : decode cJ3_init 2 = .ok (.invokespecial 7, 3) := dk_183 0 7 (dk_at dksJ3_init_0 2 rfl rfl)
theorem dJ3_init_5 : decode cJ3_init 5 = .ok (.return_, 1) := dk_177 (dk_at dksJ3_init_0 5 rfl rfl)
theorem q363 : (Jvm.Cond.initialized "java/lang/IllegalStateException") ∈ lw_all := lw_g (lw_at lw_m1 6 rfl) rfl
theorem q416 : (Jvm.Cond.instantiable "java/lang/IllegalStateException" (6 : Nat)) ∈ lw_all := lw_g (lw_at lw_m1 59 rfl) rfl
theorem q417 : (Jvm.Cond.castable "java/lang/IllegalStateException" "java/lang/IllegalStateException") ∈ lw_tbl := lw_at lw_m1 60 rfl
theorem q424 : (Jvm.Cond.selects "java/lang/IllegalStateException" ({ cls := "java/lang/Throwable", name := "fillInStackTrace", desc := "(I)Ljava/lang/Throwable;" } : Jvm.MethodName) ({ cls := "java/lang/Throwable", name := "fillInStackTrace", desc := "(I)Ljava/lang/Throwable;" } : Jvm.MethodName)) ∈ lw_all := lw_g (lw_at lw_m1 67 rfl) rfl
theorem q425 : (Jvm.Cond.selects "java/lang/IllegalStateException" ({ cls := "java/lang/Throwable", name := "fillInStackTrace", desc := "()Ljava/lang/Throwable;" } : Jvm.MethodName) ({ cls := "java/lang/Throwable", name := "fillInStackTrace", desc := "()Ljava/lang/Throwable;" } : Jvm.MethodName)) ∈ lw_all := lw_g (lw_at lw_m1 68 rfl) rfl
theorem q426 : (Jvm.Cond.lays "java/lang/IllegalStateException" "java/lang/Throwable" "cause" "Ljava/lang/Throwable;") ∈ lw_all := lw_g (lw_at lw_m1 69 rfl) rfl
theorem q428 : (Jvm.Cond.lays "java/lang/IllegalStateException" "java/lang/Throwable" "stackTrace" "[Ljava/lang/StackTraceElement;") ∈ lw_all := lw_g (lw_at lw_m1 71 rfl) rfl
theorem q430 : (Jvm.Cond.lays "java/lang/IllegalStateException" "java/lang/Throwable" "suppressedExceptions" "Ljava/util/List;") ∈ lw_all := lw_g (lw_at lw_m1 73 rfl) rfl
theorem q432 : (Jvm.Cond.lays "java/lang/IllegalStateException" "java/lang/Throwable" "detailMessage" "Ljava/lang/String;") ∈ lw_all := lw_g (lw_at lw_m1 75 rfl) rfl
theorem q434 : (Jvm.Cond.lays "java/lang/IllegalStateException" "java/lang/Throwable" "backtrace" "Ljava/lang/Object;") ∈ lw_all := lw_g (lw_at lw_m1 77 rfl) rfl
theorem q457 : (Jvm.Cond.instanceMethod ({ cls := "java/lang/IllegalStateException", name := "<init>", desc := "(Ljava/lang/String;)V" } : Jvm.MethodName)) ∈ lw_all := lw_g (lw_at lw_m1 100 rfl) rfl
theorem q458 : (Jvm.Cond.code ({ cls := "java/lang/IllegalStateException", name := "<init>", desc := "(Ljava/lang/String;)V" } : Jvm.MethodName) prog_35_method_2_code (2 : Nat) (Option.none : Option Jvm.ClassFile.FieldType)) ∈ lw_all := lw_g (lw_at lw_m1 101 rfl) rfl
theorem q459 : (Jvm.Cond.methodLink "java/lang/IllegalStateException" (7 : Nat) ({ cls := "java/lang/RuntimeException", name := "<init>", desc := "(Ljava/lang/String;)V" } : Jvm.MethodName)) ∈ lw_all := lw_g (lw_at lw_m1 102 rfl) rfl
theorem q477 : (Jvm.Cond.lays "java/lang/IllegalStateException" "java/lang/Throwable" "depth" "I") ∈ lw_all := lw_g (lw_at lw_m1 120 rfl) rfl
theorem q480 : (Jvm.Cond.superclass "java/lang/IllegalStateException" "java/lang/RuntimeException") ∈ lw_all := lw_g (lw_at lw_m1 123 rfl) rfl
set_option maxRecDepth 100000
abbrev cJ4_length : ByteArray := prog_39_method_54_code
def yJ4_length : MethodName := ⟨RJ4, "length", "()I"⟩
def dkwJ4_length_0 : List UInt8 := [42, 180, 0, 9, 190, 42, 182, 1, 79, 122, 172]
abbrev dktJ4_length_0 : List UInt8 := dkwJ4_length_0 ++ []
theorem dksJ4_length_0 : cJ4_length.data.toList.drop 0 = dktJ4_length_0 := by decide +kernel
theorem dJ4_length_0 : decode cJ4_length 0 = .ok (.aload_n 0, 1) := dk_42 (dk_at dksJ4_length_0 0 rfl rfl)
theorem dJ4_length_1 : decode cJ4_length 1 = .ok (.getfield 9, 3) := dk_180 0 9 (dk_at dksJ4_length_0 1 rfl rfl)
theorem dJ4_length_4 : decode cJ4_length 4 = .ok (.arraylength, 1) := dk_190 (dk_at dksJ4_length_0 4 rfl rfl)
theorem dJ4_length_5 : decode cJ4_length 5 = .ok (.aload_n 0, 1) := dk_42 (dk_at dksJ4_length_0 5 rfl rfl)
theorem dJ4_length_6 : decode cJ4_length 6 = .ok (.invokevirtual 335, 3) := dk_182 1 79 (dk_at dksJ4_length_0 6 rfl rfl)
theorem dJ4_length_9 : decode cJ4_length 9 = .ok (.ishr, 1) := dk_122 (dk_at dksJ4_length_0 9 rfl rfl)
theorem dJ4_length_10 : decode cJ4_length 10 = .ok (.ireturn, 1) := dk_172 (dk_at dksJ4_length_0 10 rfl rfl)
abbrev cJ4_coder : ByteArray := prog_39_method_152_code
def yJ4_coder : MethodName := ⟨RJ4, "coder", "()B"⟩
def dkwJ4_coder_0 : List UInt8 := [178, 0, 38, 153, 0, 10, 42, 180, 0, 15, 167, 0, 4, 4, 172]
abbrev dktJ4_coder_0 : List UInt8 := dkwJ4_coder_0 ++ []
theorem dksJ4_coder_0 : cJ4_coder.data.toList.drop 0 = dktJ4_coder_0 := by decide +kernel
theorem dJ4_coder_0 : decode cJ4_coder 0 = .ok (.getstatic 38, 3) := dk_178 0 38 (dk_at dksJ4_coder_0 0 rfl rfl)
theorem dJ4_coder_3 : decode cJ4_coder 3 = .ok (.ifCond .eq 10, 3) := dk_153 0 10 (dk_at dksJ4_coder_0 3 rfl rfl)
theorem dJ4_coder_6 : decode cJ4_coder 6 = .ok (.aload_n 0, 1) := dk_42 (dk_at dksJ4_coder_0 6 rfl rfl)
theorem dJ4_coder_7 : decode cJ4_coder 7 = .ok (.getfield 15, 3) := dk_180 0 15 (dk_at dksJ4_coder_0 7 rfl rfl)
theorem dJ4_coder_10 : decode cJ4_coder 10 = .ok (.goto 4, 3) := dk_167 0 4 (dk_at dksJ4_coder_0 10 rfl rfl)
theorem dJ4_coder_13 : decode cJ4_coder 13 = .ok (.iconst 1, 1) := dk_4 (dk_at dksJ4_coder_0 13 rfl rfl)
theorem dJ4_coder_14 : decode cJ4_coder 14 = .ok (.ireturn, 1) := dk_172 (dk_at dksJ4_coder_0 14 rfl rfl)
abbrev cJ4_indexOf : ByteArray := prog_39_method_80_code
def yJ4_indexOf : MethodName := ⟨RJ4, "indexOf", "(II)I"⟩
def dkwJ4_indexOf_1 : List UInt8 := [180, 0, 9, 27, 28, 42, 182, 1, 249, 184, 2, 128, 172]
abbrev dktJ4_indexOf_1 : List UInt8 := dkwJ4_indexOf_1 ++ []
def dkwJ4_indexOf_0 : List UInt8 := [42, 182, 1, 236, 153, 0, 19, 42, 180, 0, 9, 27, 28, 42, 182, 1, 249, 184, 2, 125, 167, 0, 16, 42]
abbrev dktJ4_indexOf_0 : List UInt8 := dkwJ4_indexOf_0 ++ dktJ4_indexOf_1
theorem dksJ4_indexOf_0 : cJ4_indexOf.data.toList.drop 0 = dktJ4_indexOf_0 := by decide +kernel
theorem dksJ4_indexOf_1 : cJ4_indexOf.data.toList.drop 24 = dktJ4_indexOf_1 := dk_seg dksJ4_indexOf_0 24 rfl rfl
theorem dJ4_indexOf_0 : decode cJ4_indexOf 0 = .ok (.aload_n 0, 1) := dk_42 (dk_at dksJ4_indexOf_0 0 rfl rfl)
theorem dJ4_indexOf_1 : decode cJ4_indexOf 1 = .ok (.invokevirtual 492, 3) := dk_182 1 236 (dk_at dksJ4_indexOf_0 1 rfl rfl)
theorem dJ4_indexOf_4 : decode cJ4_indexOf 4 = .ok (.ifCond .eq 19, 3) := dk_153 0 19 (dk_at dksJ4_indexOf_0 4 rfl rfl)
theorem dJ4_indexOf_7 : decode cJ4_indexOf 7 = .ok (.aload_n 0, 1) := dk_42 (dk_at dksJ4_indexOf_0 7 rfl rfl)
theorem dJ4_indexOf_8 : decode cJ4_indexOf 8 = .ok (.getfield 9, 3) := dk_180 0 9 (dk_at dksJ4_indexOf_0 8 rfl rfl)
theorem dJ4_indexOf_11 : decode cJ4_indexOf 11 = .ok (.iload_n 1, 1) := dk_27 (dk_at dksJ4_indexOf_0 11 rfl rfl)
theorem dJ4_indexOf_12 : decode cJ4_indexOf 12 = .ok (.iload_n 2, 1) := dk_28 (dk_at dksJ4_indexOf_0 12 rfl rfl)
theorem dJ4_indexOf_13 : decode cJ4_indexOf 13 = .ok (.aload_n 0, 1) := dk_42 (dk_at dksJ4_indexOf_0 13 rfl rfl)
theorem dJ4_indexOf_14 : decode cJ4_indexOf 14 = .ok (.invokevirtual 505, 3) := dk_182 1 249 (dk_at dksJ4_indexOf_0 14 rfl rfl)
theorem dJ4_indexOf_17 : decode cJ4_indexOf 17 = .ok (.invokestatic 637, 3) := dk_184 2 125 (dk_at dksJ4_indexOf_0 17 rfl rfl)
theorem dJ4_indexOf_20 : decode cJ4_indexOf 20 = .ok (.goto 16, 3) := dk_167 0 16 (dk_at dksJ4_indexOf_0 20 rfl rfl)
theorem dJ4_indexOf_23 : decode cJ4_indexOf 23 = .ok (.aload_n 0, 1) := dk_42 (dk_at dksJ4_indexOf_0 23 rfl rfl)
theorem dJ4_indexOf_24 : decode cJ4_indexOf 24 = .ok (.getfield 9, 3) := dk_180 0 9 (dk_at dksJ4_indexOf_1 0 rfl rfl)
theorem dJ4_indexOf_27 : decode cJ4_indexOf 27 = .ok (.iload_n 1, 1) := dk_27 (dk_at dksJ4_indexOf_1 3 rfl rfl)
theorem dJ4_indexOf_28 : decode cJ4_indexOf 28 = .ok (.iload_n 2, 1) := dk_28 (dk_at dksJ4_indexOf_1 4 rfl rfl)
theorem dJ4_indexOf_29 : decode cJ4_indexOf 29 = .ok (.aload_n 0, 1) := dk_42 (dk_at dksJ4_indexOf_1 5 rfl rfl)
theorem dJ4_indexOf_30 : decode cJ4_indexOf 30 = .ok (.invokevirtual 505, 3) := dk_182 1 249 (dk_at dksJ4_indexOf_1 6 rfl rfl)
theorem dJ4_indexOf_33 : decode cJ4_indexOf 33 = .ok (.invokestatic 640, 3) := dk_184 2 128 (dk_at dksJ4_indexOf_1 9 rfl rfl)
theorem dJ4_indexOf_36 : decode cJ4_indexOf 36 = .ok (.ireturn, 1) := dk_172 (dk_at dksJ4_indexOf_1 12 rfl rfl)
abbrev cJ4_isLatin1 : ByteArray := prog_39_method_154_code
def yJ4_isLatin1 : MethodName := ⟨RJ4, "isLatin1", "()Z"⟩
def dkwJ4_isLatin1_0 : List UInt8 := [178, 0, 38, 153, 0, 14, 42, 180, 0, 15, 154, 0, 7, 4, 167, 0, 4, 3, 172]
abbrev dktJ4_isLatin1_0 : List UInt8 := dkwJ4_isLatin1_0 ++ []
theorem dksJ4_isLatin1_0 : cJ4_isLatin1.data.toList.drop 0 = dktJ4_isLatin1_0 := by decide +kernel
theorem dJ4_isLatin1_0 : decode cJ4_isLatin1 0 = .ok (.getstatic 38, 3) := dk_178 0 38 (dk_at dksJ4_isLatin1_0 0 rfl rfl)
theorem dJ4_isLatin1_3 : decode cJ4_isLatin1 3 = .ok (.ifCond .eq 14, 3) := dk_153 0 14 (dk_at dksJ4_isLatin1_0 3 rfl rfl)
theorem dJ4_isLatin1_6 : decode cJ4_isLatin1 6 = .ok (.aload_n 0, 1) := dk_42 (dk_at dksJ4_isLatin1_0 6 rfl rfl)
theorem dJ4_isLatin1_7 : decode cJ4_isLatin1 7 = .ok (.getfield 15, 3) := dk_180 0 15 (dk_at dksJ4_isLatin1_0 7 rfl rfl)
theorem dJ4_isLatin1_10 : decode cJ4_isLatin1 10 = .ok (.ifCond .ne 7, 3) := dk_154 0 7 (dk_at dksJ4_isLatin1_0 10 rfl rfl)
theorem dJ4_isLatin1_13 : decode cJ4_isLatin1 13 = .ok (.iconst 1, 1) := dk_4 (dk_at dksJ4_isLatin1_0 13 rfl rfl)
theorem dJ4_isLatin1_14 : decode cJ4_isLatin1 14 = .ok (.goto 4, 3) := dk_167 0 4 (dk_at dksJ4_isLatin1_0 14 rfl rfl)
theorem dJ4_isLatin1_17 : decode cJ4_isLatin1 17 = .ok (.iconst 0, 1) := dk_3 (dk_at dksJ4_isLatin1_0 17 rfl rfl)
theorem dJ4_isLatin1_18 : decode cJ4_isLatin1 18 = .ok (.ireturn, 1) := dk_172 (dk_at dksJ4_isLatin1_0 18 rfl rfl)
abbrev cJ4_checkBoundsBeginEnd : ByteArray := prog_39_method_158_code
def yJ4_checkBoundsBeginEnd : MethodName := ⟨RJ4, "checkBoundsBeginEnd", "(III)V"⟩
def dkwJ4_checkBoundsBeginEnd_0 : List UInt8 := [26, 27, 28, 178, 4, 29, 184, 4, 38, 87, 177]
abbrev dktJ4_checkBoundsBeginEnd_0 : List UInt8 := dkwJ4_checkBoundsBeginEnd_0 ++ []
theorem dksJ4_checkBoundsBeginEnd_0 : cJ4_checkBoundsBeginEnd.data.toList.drop 0 = dktJ4_checkBoundsBeginEnd_0 := by decide +kernel
theorem dJ4_checkBoundsBeginEnd_0 : decode cJ4_checkBoundsBeginEnd 0 = .ok (.iload_n 0, 1) := dk_26 (dk_at dksJ4_checkBoundsBeginEnd_0 0 rfl rfl)
theorem dJ4_checkBoundsBeginEnd_1 : decode cJ4_checkBoundsBeginEnd 1 = .ok (.iload_n 1, 1) := dk_27 (dk_at dksJ4_checkBoundsBeginEnd_0 1 rfl rfl)
theorem dJ4_checkBoundsBeginEnd_2 : decode cJ4_checkBoundsBeginEnd 2 = .ok (.iload_n 2, 1) := dk_28 (dk_at dksJ4_checkBoundsBeginEnd_0 2 rfl rfl)
theorem dJ4_checkBoundsBeginEnd_3 : decode cJ4_checkBoundsBeginEnd 3 = .ok (.getstatic 1053, 3) := dk_178 4 29 (dk_at dksJ4_checkBoundsBeginEnd_0 3 rfl rfl)
theorem dJ4_checkBoundsBeginEnd_6 : decode cJ4_checkBoundsBeginEnd 6 = .ok (.invokestatic 1062, 3) := dk_184 4 38 (dk_at dksJ4_checkBoundsBeginEnd_0 6 rfl rfl)
theorem dJ4_checkBoundsBeginEnd_9 : decode cJ4_checkBoundsBeginEnd 9 = .ok (.pop, 1) := dk_87 (dk_at dksJ4_checkBoundsBeginEnd_0 9 rfl rfl)
theorem dJ4_checkBoundsBeginEnd_10 : decode cJ4_checkBoundsBeginEnd 10 = .ok (.return_, 1) := dk_177 (dk_at dksJ4_checkBoundsBeginEnd_0 10 rfl rfl)
abbrev cJ4_charAt : ByteArray := prog_39_method_56_code
def yJ4_charAt : MethodName := ⟨RJ4, "charAt", "(I)C"⟩
def dkwJ4_charAt_1 : List UInt8 := [172]
abbrev dktJ4_charAt_1 : List UInt8 := dkwJ4_charAt_1 ++ []
def dkwJ4_charAt_0 : List UInt8 := [42, 182, 1, 236, 153, 0, 12, 42, 180, 0, 9, 27, 184, 1, 239, 172, 42, 180, 0, 9, 27, 184, 1, 242]
abbrev dktJ4_charAt_0 : List UInt8 := dkwJ4_charAt_0 ++ dktJ4_charAt_1
theorem dksJ4_charAt_0 : cJ4_charAt.data.toList.drop 0 = dktJ4_charAt_0 := by decide +kernel
theorem dksJ4_charAt_1 : cJ4_charAt.data.toList.drop 24 = dktJ4_charAt_1 := dk_seg dksJ4_charAt_0 24 rfl rfl
theorem dJ4_charAt_0 : decode cJ4_charAt 0 = .ok (.aload_n 0, 1) := dk_42 (dk_at dksJ4_charAt_0 0 rfl rfl)
theorem dJ4_charAt_1 : decode cJ4_charAt 1 = .ok (.invokevirtual 492, 3) := dk_182 1 236 (dk_at dksJ4_charAt_0 1 rfl rfl)
theorem dJ4_charAt_4 : decode cJ4_charAt 4 = .ok (.ifCond .eq 12, 3) := dk_153 0 12 (dk_at dksJ4_charAt_0 4 rfl rfl)
theorem dJ4_charAt_7 : decode cJ4_charAt 7 = .ok (.aload_n 0, 1) := dk_42 (dk_at dksJ4_charAt_0 7 rfl rfl)
theorem dJ4_charAt_8 : decode cJ4_charAt 8 = .ok (.getfield 9, 3) := dk_180 0 9 (dk_at dksJ4_charAt_0 8 rfl rfl)
theorem dJ4_charAt_11 : decode cJ4_charAt 11 = .ok (.iload_n 1, 1) := dk_27 (dk_at dksJ4_charAt_0 11 rfl rfl)
theorem dJ4_charAt_12 : decode cJ4_charAt 12 = .ok (.invokestatic 495, 3) := dk_184 1 239 (dk_at dksJ4_charAt_0 12 rfl rfl)
theorem dJ4_charAt_15 : decode cJ4_charAt 15 = .ok (.ireturn, 1) := dk_172 (dk_at dksJ4_charAt_0 15 rfl rfl)
theorem dJ4_charAt_16 : decode cJ4_charAt 16 = .ok (.aload_n 0, 1) := dk_42 (dk_at dksJ4_charAt_0 16 rfl rfl)
theorem dJ4_charAt_17 : decode cJ4_charAt 17 = .ok (.getfield 9, 3) := dk_180 0 9 (dk_at dksJ4_charAt_0 17 rfl rfl)
theorem dJ4_charAt_20 : decode cJ4_charAt 20 = .ok (.iload_n 1, 1) := dk_27 (dk_at dksJ4_charAt_0 20 rfl rfl)
theorem dJ4_charAt_21 : decode cJ4_charAt 21 = .ok (.invokestatic 498, 3) := dk_184 1 242 (dk_at dksJ4_charAt_0 21 rfl rfl)
theorem dJ4_charAt_24 : decode cJ4_charAt 24 = .ok (.ireturn, 1) := dk_172 (dk_at dksJ4_charAt_1 0 rfl rfl)
abbrev cJ4_checkIndex : ByteArray := prog_39_method_155_code
def yJ4_checkIndex : MethodName := ⟨RJ4, "checkIndex", "(II)V"⟩
def dkwJ4_checkIndex_0 : List UInt8 := [26, 27, 178, 4, 29, 184, 4, 35, 87, 177]
abbrev dktJ4_checkIndex_0 : List UInt8 := dkwJ4_checkIndex_0 ++ []
theorem dksJ4_checkIndex_0 : cJ4_checkIndex.data.toList.drop 0 = dktJ4_checkIndex_0 := by decide +kernel
theorem dJ4_checkIndex_0 : decode cJ4_checkIndex 0 = .ok (.iload_n 0, 1) := dk_26 (dk_at dksJ4_checkIndex_0 0 rfl rfl)
theorem dJ4_checkIndex_1 : decode cJ4_checkIndex 1 = .ok (.iload_n 1, 1) := dk_27 (dk_at dksJ4_checkIndex_0 1 rfl rfl)
theorem dJ4_checkIndex_2 : decode cJ4_checkIndex 2 = .ok (.getstatic 1053, 3) := dk_178 4 29 (dk_at dksJ4_checkIndex_0 2 rfl rfl)
theorem dJ4_checkIndex_5 : decode cJ4_checkIndex 5 = .ok (.invokestatic 1059, 3) := dk_184 4 35 (dk_at dksJ4_checkIndex_0 5 rfl rfl)
theorem dJ4_checkIndex_8 : decode cJ4_checkIndex 8 = .ok (.pop, 1) := dk_87 (dk_at dksJ4_checkIndex_0 8 rfl rfl)
theorem dJ4_checkIndex_9 : decode cJ4_checkIndex 9 = .ok (.return_, 1) := dk_177 (dk_at dksJ4_checkIndex_0 9 rfl rfl)
theorem q365 : (Jvm.Cond.initialized "java/lang/String") ∈ lw_all := lw_g (lw_at lw_m1 8 rfl) rfl
theorem q498 : (Jvm.Cond.instanceMethod ({ cls := "java/lang/String", name := "length", desc := "()I" } : Jvm.MethodName)) ∈ lw_all := lw_g (lw_at lw_m1 141 rfl) rfl
theorem q499 : (Jvm.Cond.selects "java/lang/String" ({ cls := "java/lang/String", name := "length", desc := "()I" } : Jvm.MethodName) ({ cls := "java/lang/String", name := "length", desc := "()I" } : Jvm.MethodName)) ∈ lw_all := lw_g (lw_at lw_m1 142 rfl) rfl
theorem q500 : (Jvm.Cond.code ({ cls := "java/lang/String", name := "length", desc := "()I" } : Jvm.MethodName) prog_39_method_54_code (1 : Nat) (Option.some Jvm.ClassFile.FieldType.int)) ∈ lw_all := lw_g (lw_at lw_m1 143 rfl) rfl
theorem q501 : (Jvm.Cond.methodLink "java/lang/String" (335 : Nat) ({ cls := "java/lang/String", name := "coder", desc := "()B" } : Jvm.MethodName)) ∈ lw_all := lw_g (lw_at lw_m1 144 rfl) rfl
theorem q502 : (Jvm.Cond.instanceMethod ({ cls := "java/lang/String", name := "coder", desc := "()B" } : Jvm.MethodName)) ∈ lw_all := lw_g (lw_at lw_m1 145 rfl) rfl
theorem q503 : (Jvm.Cond.selects "java/lang/String" ({ cls := "java/lang/String", name := "coder", desc := "()B" } : Jvm.MethodName) ({ cls := "java/lang/String", name := "coder", desc := "()B" } : Jvm.MethodName)) ∈ lw_all := lw_g (lw_at lw_m1 146 rfl) rfl
theorem q504 : (Jvm.Cond.code ({ cls := "java/lang/String", name := "coder", desc := "()B" } : Jvm.MethodName) prog_39_method_152_code (1 : Nat) (Option.some Jvm.ClassFile.FieldType.byte)) ∈ lw_all := lw_g (lw_at lw_m1 147 rfl) rfl
theorem q505 : (Jvm.Cond.fieldLink "java/lang/String" (38 : Nat) "java/lang/String" "COMPACT_STRINGS" "Z") ∈ lw_all := lw_g (lw_at lw_m1 148 rfl) rfl
theorem q506 : (Jvm.Cond.laysStatic "java/lang/String" "COMPACT_STRINGS" "Z") ∈ lw_tbl := lw_at lw_m1 149 rfl
theorem q508 : (Jvm.Cond.instanceMethod ({ cls := "java/lang/String", name := "indexOf", desc := "(II)I" } : Jvm.MethodName)) ∈ lw_all := lw_g (lw_at lw_m1 151 rfl) rfl
theorem q509 : (Jvm.Cond.selects "java/lang/String" ({ cls := "java/lang/String", name := "indexOf", desc := "(II)I" } : Jvm.MethodName) ({ cls := "java/lang/String", name := "indexOf", desc := "(II)I" } : Jvm.MethodName)) ∈ lw_all := lw_g (lw_at lw_m1 152 rfl) rfl
theorem q510 : (Jvm.Cond.code ({ cls := "java/lang/String", name := "indexOf", desc := "(II)I" } : Jvm.MethodName) prog_39_method_80_code (3 : Nat) (Option.some Jvm.ClassFile.FieldType.int)) ∈ lw_all := lw_g (lw_at lw_m1 153 rfl) rfl
theorem q511 : (Jvm.Cond.methodLink "java/lang/String" (492 : Nat) ({ cls := "java/lang/String", name := "isLatin1", desc := "()Z" } : Jvm.MethodName)) ∈ lw_all := lw_g (lw_at lw_m1 154 rfl) rfl
theorem q512 : (Jvm.Cond.instanceMethod ({ cls := "java/lang/String", name := "isLatin1", desc := "()Z" } : Jvm.MethodName)) ∈ lw_all := lw_g (lw_at lw_m1 155 rfl) rfl
theorem q513 : (Jvm.Cond.selects "java/lang/String" ({ cls := "java/lang/String", name := "isLatin1", desc := "()Z" } : Jvm.MethodName) ({ cls := "java/lang/String", name := "isLatin1", desc := "()Z" } : Jvm.MethodName)) ∈ lw_all := lw_g (lw_at lw_m1 156 rfl) rfl
theorem q514 : (Jvm.Cond.code ({ cls := "java/lang/String", name := "isLatin1", desc := "()Z" } : Jvm.MethodName) prog_39_method_154_code (1 : Nat) (Option.some Jvm.ClassFile.FieldType.boolean)) ∈ lw_all := lw_g (lw_at lw_m1 157 rfl) rfl
theorem q515 : (Jvm.Cond.methodLink "java/lang/String" (505 : Nat) ({ cls := "java/lang/String", name := "length", desc := "()I" } : Jvm.MethodName)) ∈ lw_all := lw_g (lw_at lw_m1 158 rfl) rfl
theorem q516 : (Jvm.Cond.methodLink "java/lang/String" (637 : Nat) ({ cls := "java/lang/StringLatin1", name := "indexOf", desc := "([BIII)I" } : Jvm.MethodName)) ∈ lw_all := lw_g (lw_at lw_m1 159 rfl) rfl
theorem q531 : (Jvm.Cond.methodLink "java/lang/String" (640 : Nat) ({ cls := "java/lang/StringUTF16", name := "indexOf", desc := "([BIII)I" } : Jvm.MethodName)) ∈ lw_all := lw_g (lw_at lw_m1 174 rfl) rfl
theorem q547 : (Jvm.Cond.static ({ cls := "java/lang/String", name := "checkBoundsBeginEnd", desc := "(III)V" } : Jvm.MethodName)) ∈ lw_all := lw_g (lw_at lw_m1 190 rfl) rfl
theorem q548 : (Jvm.Cond.code ({ cls := "java/lang/String", name := "checkBoundsBeginEnd", desc := "(III)V" } : Jvm.MethodName) prog_39_method_158_code (3 : Nat) (Option.none : Option Jvm.ClassFile.FieldType)) ∈ lw_all := lw_g (lw_at lw_m1 191 rfl) rfl
theorem q549 : (Jvm.Cond.fieldLink "java/lang/String" (1053 : Nat) "jdk/internal/util/Preconditions" "SIOOBE_FORMATTER" "Ljava/util/function/BiFunction;") ∈ lw_all := lw_g (lw_at lw_m1 192 rfl) rfl
theorem q551 : (Jvm.Cond.methodLink "java/lang/String" (1062 : Nat) ({ cls := "jdk/internal/util/Preconditions", name := "checkFromToIndex", desc := "(IIILjava/util/function/BiFunction;)I" } : Jvm.MethodName)) ∈ lw_all := lw_g (lw_at lw_m1 194 rfl) rfl
theorem q981 : (Jvm.Cond.instanceMethod ({ cls := "java/lang/String", name := "charAt", desc := "(I)C" } : Jvm.MethodName)) ∈ lw_all := lw_g (lw_at lw_m3 144 rfl) rfl
theorem q982 : (Jvm.Cond.selects "java/lang/String" ({ cls := "java/lang/String", name := "charAt", desc := "(I)C" } : Jvm.MethodName) ({ cls := "java/lang/String", name := "charAt", desc := "(I)C" } : Jvm.MethodName)) ∈ lw_all := lw_g (lw_at lw_m3 145 rfl) rfl
theorem q983 : (Jvm.Cond.code ({ cls := "java/lang/String", name := "charAt", desc := "(I)C" } : Jvm.MethodName) prog_39_method_56_code (2 : Nat) (Option.some Jvm.ClassFile.FieldType.char)) ∈ lw_all := lw_g (lw_at lw_m3 146 rfl) rfl
theorem q984 : (Jvm.Cond.methodLink "java/lang/String" (495 : Nat) ({ cls := "java/lang/StringLatin1", name := "charAt", desc := "([BI)C" } : Jvm.MethodName)) ∈ lw_all := lw_g (lw_at lw_m3 147 rfl) rfl
theorem q988 : (Jvm.Cond.static ({ cls := "java/lang/String", name := "checkIndex", desc := "(II)V" } : Jvm.MethodName)) ∈ lw_all := lw_g (lw_at lw_m3 151 rfl) rfl
theorem q989 : (Jvm.Cond.code ({ cls := "java/lang/String", name := "checkIndex", desc := "(II)V" } : Jvm.MethodName) prog_39_method_155_code (2 : Nat) (Option.none : Option Jvm.ClassFile.FieldType)) ∈ lw_all := lw_g (lw_at lw_m3 152 rfl) rfl
theorem q990 : (Jvm.Cond.methodLink "java/lang/String" (1059 : Nat) ({ cls := "jdk/internal/util/Preconditions", name := "checkIndex", desc := "(IILjava/util/function/BiFunction;)I" } : Jvm.MethodName)) ∈ lw_all := lw_g (lw_at lw_m3 153 rfl) rfl
theorem q993 : (Jvm.Cond.methodLink "java/lang/String" (498 : Nat) ({ cls := "java/lang/StringUTF16", name := "charAt", desc := "([BI)C" } : Jvm.MethodName)) ∈ lw_all := lw_g (lw_at lw_m3 156 rfl) rfl
theorem q4701 : (Jvm.Cond.fieldLink "java/lang/String" (9 : Nat) "java/lang/String" "value" "[B") ∈ lw_all := lw_g (lw_at lw_m19 24 rfl) rfl
theorem q4702 : (Jvm.Cond.fieldLink "java/lang/String" (15 : Nat) "java/lang/String" "coder" "B") ∈ lw_all := lw_g (lw_at lw_m19 25 rfl) rfl

set_option maxRecDepth 100000
abbrev cJ5_indexOf : ByteArray := prog_40_method_22_code
def yJ5_indexOf : MethodName := ⟨RJ5, "indexOf", "([BIII)I"⟩
def dkwJ5_indexOf_1 : List UInt8 := [161, 0, 5, 2, 172, 42, 27, 28, 29, 184, 0, 95, 172]
abbrev dktJ5_indexOf_1 : List UInt8 := dkwJ5_indexOf_1 ++ []
def dkwJ5_indexOf_0 : List UInt8 := [27, 184, 0, 88, 154, 0, 5, 2, 172, 28, 3, 184, 0, 92, 61, 29, 42, 190, 184, 0, 38, 62, 28, 29]
abbrev dktJ5_indexOf_0 : List UInt8 := dkwJ5_indexOf_0 ++ dktJ5_indexOf_1
theorem dksJ5_indexOf_0 : cJ5_indexOf.data.toList.drop 0 = dktJ5_indexOf_0 := by decide +kernel
theorem dksJ5_indexOf_1 : cJ5_indexOf.data.toList.drop 24 = dktJ5_indexOf_1 := dk_seg dksJ5_indexOf_0 24 rfl rfl
theorem dJ5_indexOf_0 : decode cJ5_indexOf 0 = .ok (.iload_n 1, 1) := dk_27 (dk_at dksJ5_indexOf_0 0 rfl rfl)
theorem dJ5_indexOf_1 : decode cJ5_indexOf 1 = .ok (.invokestatic 88, 3) := dk_184 0 88 (dk_at dksJ5_indexOf_0 1 rfl rfl)
theorem dJ5_indexOf_4 : decode cJ5_indexOf 4 = .ok (.ifCond .ne 5, 3) := dk_154 0 5 (dk_at dksJ5_indexOf_0 4 rfl rfl)
theorem dJ5_indexOf_7 : decode cJ5_indexOf 7 = .ok (.iconst (-1), 1) := dk_2 (dk_at dksJ5_indexOf_0 7 rfl rfl)
theorem dJ5_indexOf_8 : decode cJ5_indexOf 8 = .ok (.ireturn, 1) := dk_172 (dk_at dksJ5_indexOf_0 8 rfl rfl)
theorem dJ5_indexOf_9 : decode cJ5_indexOf 9 = .ok (.iload_n 2, 1) := dk_28 (dk_at dksJ5_indexOf_0 9 rfl rfl)
theorem dJ5_indexOf_10 : decode cJ5_indexOf 10 = .ok (.iconst 0, 1) := dk_3 (dk_at dksJ5_indexOf_0 10 rfl rfl)
theorem dJ5_indexOf_11 : decode cJ5_indexOf 11 = .ok (.invokestatic 92, 3) := dk_184 0 92 (dk_at dksJ5_indexOf_0 11 rfl rfl)
theorem dJ5_indexOf_14 : decode cJ5_indexOf 14 = .ok (.istore_n 2, 1) := dk_61 (dk_at dksJ5_indexOf_0 14 rfl rfl)
theorem dJ5_indexOf_15 : decode cJ5_indexOf 15 = .ok (.iload_n 3, 1) := dk_29 (dk_at dksJ5_indexOf_0 15 rfl rfl)
theorem dJ5_indexOf_16 : decode cJ5_indexOf 16 = .ok (.aload_n 0, 1) := dk_42 (dk_at dksJ5_indexOf_0 16 rfl rfl)
theorem dJ5_indexOf_17 : decode cJ5_indexOf 17 = .ok (.arraylength, 1) := dk_190 (dk_at dksJ5_indexOf_0 17 rfl rfl)
theorem dJ5_indexOf_18 : decode cJ5_indexOf 18 = .ok (.invokestatic 38, 3) := dk_184 0 38 (dk_at dksJ5_indexOf_0 18 rfl rfl)
theorem dJ5_indexOf_21 : decode cJ5_indexOf 21 = .ok (.istore_n 3, 1) := dk_62 (dk_at dksJ5_indexOf_0 21 rfl rfl)
theorem dJ5_indexOf_22 : decode cJ5_indexOf 22 = .ok (.iload_n 2, 1) := dk_28 (dk_at dksJ5_indexOf_0 22 rfl rfl)
theorem dJ5_indexOf_23 : decode cJ5_indexOf 23 = .ok (.iload_n 3, 1) := dk_29 (dk_at dksJ5_indexOf_0 23 rfl rfl)
theorem dJ5_indexOf_24 : decode cJ5_indexOf 24 = .ok (.if_icmp .lt 5, 3) := dk_161 0 5 (dk_at dksJ5_indexOf_1 0 rfl rfl)
theorem dJ5_indexOf_27 : decode cJ5_indexOf 27 = .ok (.iconst (-1), 1) := dk_2 (dk_at dksJ5_indexOf_1 3 rfl rfl)
theorem dJ5_indexOf_28 : decode cJ5_indexOf 28 = .ok (.ireturn, 1) := dk_172 (dk_at dksJ5_indexOf_1 4 rfl rfl)
theorem dJ5_indexOf_29 : decode cJ5_indexOf 29 = .ok (.aload_n 0, 1) := dk_42 (dk_at dksJ5_indexOf_1 5 rfl rfl)
theorem dJ5_indexOf_30 : decode cJ5_indexOf 30 = .ok (.iload_n 1, 1) := dk_27 (dk_at dksJ5_indexOf_1 6 rfl rfl)
theorem dJ5_indexOf_31 : decode cJ5_indexOf 31 = .ok (.iload_n 2, 1) := dk_28 (dk_at dksJ5_indexOf_1 7 rfl rfl)
theorem dJ5_indexOf_32 : decode cJ5_indexOf 32 = .ok (.iload_n 3, 1) := dk_29 (dk_at dksJ5_indexOf_1 8 rfl rfl)
theorem dJ5_indexOf_33 : decode cJ5_indexOf 33 = .ok (.invokestatic 95, 3) := dk_184 0 95 (dk_at dksJ5_indexOf_1 9 rfl rfl)
theorem dJ5_indexOf_36 : decode cJ5_indexOf 36 = .ok (.ireturn, 1) := dk_172 (dk_at dksJ5_indexOf_1 12 rfl rfl)
abbrev cJ5_canEncode : ByteArray := prog_40_method_4_code
def yJ5_canEncode : MethodName := ⟨RJ5, "canEncode", "(I)Z"⟩
def dkwJ5_canEncode_0 : List UInt8 := [26, 155, 0, 14, 26, 17, 0, 255, 163, 0, 7, 4, 167, 0, 4, 3, 172]
abbrev dktJ5_canEncode_0 : List UInt8 := dkwJ5_canEncode_0 ++ []
theorem dksJ5_canEncode_0 : cJ5_canEncode.data.toList.drop 0 = dktJ5_canEncode_0 := by decide +kernel
theorem dJ5_canEncode_0 : decode cJ5_canEncode 0 = .ok (.iload_n 0, 1) := dk_26 (dk_at dksJ5_canEncode_0 0 rfl rfl)
theorem dJ5_canEncode_1 : decode cJ5_canEncode 1 = .ok (.ifCond .lt 14, 3) := dk_155 0 14 (dk_at dksJ5_canEncode_0 1 rfl rfl)
theorem dJ5_canEncode_4 : decode cJ5_canEncode 4 = .ok (.iload_n 0, 1) := dk_26 (dk_at dksJ5_canEncode_0 4 rfl rfl)
theorem dJ5_canEncode_5 : decode cJ5_canEncode 5 = .ok (.sipush 255, 3) := dk_17 0 255 (dk_at dksJ5_canEncode_0 5 rfl rfl)
theorem dJ5_canEncode_8 : decode cJ5_canEncode 8 = .ok (.if_icmp .gt 7, 3) := dk_163 0 7 (dk_at dksJ5_canEncode_0 8 rfl rfl)
theorem dJ5_canEncode_11 : decode cJ5_canEncode 11 = .ok (.iconst 1, 1) := dk_4 (dk_at dksJ5_canEncode_0 11 rfl rfl)
theorem dJ5_canEncode_12 : decode cJ5_canEncode 12 = .ok (.goto 4, 3) := dk_167 0 4 (dk_at dksJ5_canEncode_0 12 rfl rfl)
theorem dJ5_canEncode_15 : decode cJ5_canEncode 15 = .ok (.iconst 0, 1) := dk_3 (dk_at dksJ5_canEncode_0 15 rfl rfl)
theorem dJ5_canEncode_16 : decode cJ5_canEncode 16 = .ok (.ireturn, 1) := dk_172 (dk_at dksJ5_canEncode_0 16 rfl rfl)
abbrev cJ5_indexOfChar : ByteArray := prog_40_method_23_code
def yJ5_indexOfChar : MethodName := ⟨RJ5, "indexOfChar", "([BIII)I"⟩
def dkwJ5_indexOfChar_1 : List UInt8 := [172, 132, 5, 1, 167, 255, 235, 2, 172]
abbrev dktJ5_indexOfChar_1 : List UInt8 := dkwJ5_indexOfChar_1 ++ []
def dkwJ5_indexOfChar_0 : List UInt8 := [27, 145, 54, 4, 28, 54, 5, 21, 5, 29, 162, 0, 21, 42, 21, 5, 51, 21, 4, 160, 0, 6, 21, 5]
abbrev dktJ5_indexOfChar_0 : List UInt8 := dkwJ5_indexOfChar_0 ++ dktJ5_indexOfChar_1
theorem dksJ5_indexOfChar_0 : cJ5_indexOfChar.data.toList.drop 0 = dktJ5_indexOfChar_0 := by decide +kernel
theorem dksJ5_indexOfChar_1 : cJ5_indexOfChar.data.toList.drop 24 = dktJ5_indexOfChar_1 := dk_seg dksJ5_indexOfChar_0 24 rfl rfl
theorem dJ5_indexOfChar_0 : decode cJ5_indexOfChar 0 = .ok (.iload_n 1, 1) := dk_27 (dk_at dksJ5_indexOfChar_0 0 rfl rfl)
theorem dJ5_indexOfChar_1 : decode cJ5_indexOfChar 1 = .ok (.i2b, 1) := dk_145 (dk_at dksJ5_indexOfChar_0 1 rfl rfl)
theorem dJ5_indexOfChar_2 : decode cJ5_indexOfChar 2 = .ok (.istore 4, 2) := dk_54 4 (dk_at dksJ5_indexOfChar_0 2 rfl rfl)
theorem dJ5_indexOfChar_4 : decode cJ5_indexOfChar 4 = .ok (.iload_n 2, 1) := dk_28 (dk_at dksJ5_indexOfChar_0 4 rfl rfl)
theorem dJ5_indexOfChar_5 : decode cJ5_indexOfChar 5 = .ok (.istore 5, 2) := dk_54 5 (dk_at dksJ5_indexOfChar_0 5 rfl rfl)
theorem dJ5_indexOfChar_7 : decode cJ5_indexOfChar 7 = .ok (.iload 5, 2) := dk_21 5 (dk_at dksJ5_indexOfChar_0 7 rfl rfl)
theorem dJ5_indexOfChar_9 : decode cJ5_indexOfChar 9 = .ok (.iload_n 3, 1) := dk_29 (dk_at dksJ5_indexOfChar_0 9 rfl rfl)
theorem dJ5_indexOfChar_10 : decode cJ5_indexOfChar 10 = .ok (.if_icmp .ge 21, 3) := dk_162 0 21 (dk_at dksJ5_indexOfChar_0 10 rfl rfl)
theorem dJ5_indexOfChar_13 : decode cJ5_indexOfChar 13 = .ok (.aload_n 0, 1) := dk_42 (dk_at dksJ5_indexOfChar_0 13 rfl rfl)
theorem dJ5_indexOfChar_14 : decode cJ5_indexOfChar 14 = .ok (.iload 5, 2) := dk_21 5 (dk_at dksJ5_indexOfChar_0 14 rfl rfl)
theorem dJ5_indexOfChar_16 : decode cJ5_indexOfChar 16 = .ok (.baload, 1) := dk_51 (dk_at dksJ5_indexOfChar_0 16 rfl rfl)
theorem dJ5_indexOfChar_17 : decode cJ5_indexOfChar 17 = .ok (.iload 4, 2) := dk_21 4 (dk_at dksJ5_indexOfChar_0 17 rfl rfl)
theorem dJ5_indexOfChar_19 : decode cJ5_indexOfChar 19 = .ok (.if_icmp .ne 6, 3) := dk_160 0 6 (dk_at dksJ5_indexOfChar_0 19 rfl rfl)
theorem dJ5_indexOfChar_22 : decode cJ5_indexOfChar 22 = .ok (.iload 5, 2) := dk_21 5 (dk_at dksJ5_indexOfChar_0 22 rfl rfl)
theorem dJ5_indexOfChar_24 : decode cJ5_indexOfChar 24 = .ok (.ireturn, 1) := dk_172 (dk_at dksJ5_indexOfChar_1 0 rfl rfl)
theorem dJ5_indexOfChar_25 : decode cJ5_indexOfChar 25 = .ok (.iinc 5 1, 3) := dk_132 5 1 (dk_at dksJ5_indexOfChar_1 1 rfl rfl)
theorem dJ5_indexOfChar_28 : decode cJ5_indexOfChar 28 = .ok (.goto (-21), 3) := dk_167 255 235 (dk_at dksJ5_indexOfChar_1 4 rfl rfl)
theorem dJ5_indexOfChar_31 : decode cJ5_indexOfChar 31 = .ok (.iconst (-1), 1) := dk_2 (dk_at dksJ5_indexOfChar_1 7 rfl rfl)
theorem dJ5_indexOfChar_32 : decode cJ5_indexOfChar 32 = .ok (.ireturn, 1) := dk_172 (dk_at dksJ5_indexOfChar_1 8 rfl rfl)
abbrev cJ5_charAt : ByteArray := prog_40_method_2_code
def yJ5_charAt : MethodName := ⟨RJ5, "charAt", "([BI)C"⟩
def dkwJ5_charAt_0 : List UInt8 := [27, 42, 190, 184, 0, 9, 42, 27, 51, 17, 0, 255, 126, 146, 172]
abbrev dktJ5_charAt_0 : List UInt8 := dkwJ5_charAt_0 ++ []
theorem dksJ5_charAt_0 : cJ5_charAt.data.toList.drop 0 = dktJ5_charAt_0 := by decide +kernel
theorem dJ5_charAt_0 : decode cJ5_charAt 0 = .ok (.iload_n 1, 1) := dk_27 (dk_at dksJ5_charAt_0 0 rfl rfl)
theorem dJ5_charAt_1 : decode cJ5_charAt 1 = .ok (.aload_n 0, 1) := dk_42 (dk_at dksJ5_charAt_0 1 rfl rfl)
theorem dJ5_charAt_2 : decode cJ5_charAt 2 = .ok (.arraylength, 1) := dk_190 (dk_at dksJ5_charAt_0 2 rfl rfl)
theorem dJ5_charAt_3 : decode cJ5_charAt 3 = .ok (.invokestatic 9, 3) := dk_184 0 9 (dk_at dksJ5_charAt_0 3 rfl rfl)
theorem dJ5_charAt_6 : decode cJ5_charAt 6 = .ok (.aload_n 0, 1) := dk_42 (dk_at dksJ5_charAt_0 6 rfl rfl)
theorem dJ5_charAt_7 : decode cJ5_charAt 7 = .ok (.iload_n 1, 1) := dk_27 (dk_at dksJ5_charAt_0 7 rfl rfl)
theorem dJ5_charAt_8 : decode cJ5_charAt 8 = .ok (.baload, 1) := dk_51 (dk_at dksJ5_charAt_0 8 rfl rfl)
theorem dJ5_charAt_9 : decode cJ5_charAt 9 = .ok (.sipush 255, 3) := dk_17 0 255 (dk_at dksJ5_charAt_0 9 rfl rfl)
theorem dJ5_charAt_12 : decode cJ5_charAt 12 = .ok (.iand, 1) := dk_126 (dk_at dksJ5_charAt_0 12 rfl rfl)
theorem dJ5_charAt_13 : decode cJ5_charAt 13 = .ok (.i2c, 1) := dk_146 (dk_at dksJ5_charAt_0 13 rfl rfl)
theorem dJ5_charAt_14 : decode cJ5_charAt 14 = .ok (.ireturn, 1) := dk_172 (dk_at dksJ5_charAt_0 14 rfl rfl)
theorem q366 : (Jvm.Cond.initialized "java/lang/StringLatin1") ∈ lw_all := lw_g (lw_at lw_m1 9 rfl) rfl
theorem q517 : (Jvm.Cond.static ({ cls := "java/lang/StringLatin1", name := "indexOf", desc := "([BIII)I" } : Jvm.MethodName)) ∈ lw_all := lw_g (lw_at lw_m1 160 rfl) rfl
theorem q518 : (Jvm.Cond.code ({ cls := "java/lang/StringLatin1", name := "indexOf", desc := "([BIII)I" } : Jvm.MethodName) prog_40_method_22_code (4 : Nat) (Option.some Jvm.ClassFile.FieldType.int)) ∈ lw_all := lw_g (lw_at lw_m1 161 rfl) rfl
theorem q519 : (Jvm.Cond.methodLink "java/lang/StringLatin1" (88 : Nat) ({ cls := "java/lang/StringLatin1", name := "canEncode", desc := "(I)Z" } : Jvm.MethodName)) ∈ lw_all := lw_g (lw_at lw_m1 162 rfl) rfl
theorem q520 : (Jvm.Cond.static ({ cls := "java/lang/StringLatin1", name := "canEncode", desc := "(I)Z" } : Jvm.MethodName)) ∈ lw_all := lw_g (lw_at lw_m1 163 rfl) rfl
theorem q521 : (Jvm.Cond.code ({ cls := "java/lang/StringLatin1", name := "canEncode", desc := "(I)Z" } : Jvm.MethodName) prog_40_method_4_code (1 : Nat) (Option.some Jvm.ClassFile.FieldType.boolean)) ∈ lw_all := lw_g (lw_at lw_m1 164 rfl) rfl
theorem q522 : (Jvm.Cond.methodLink "java/lang/StringLatin1" (92 : Nat) ({ cls := "java/lang/Math", name := "max", desc := "(II)I" } : Jvm.MethodName)) ∈ lw_all := lw_g (lw_at lw_m1 165 rfl) rfl
theorem q525 : (Jvm.Cond.methodLink "java/lang/StringLatin1" (38 : Nat) ({ cls := "java/lang/Math", name := "min", desc := "(II)I" } : Jvm.MethodName)) ∈ lw_all := lw_g (lw_at lw_m1 168 rfl) rfl
theorem q528 : (Jvm.Cond.methodLink "java/lang/StringLatin1" (95 : Nat) ({ cls := "java/lang/StringLatin1", name := "indexOfChar", desc := "([BIII)I" } : Jvm.MethodName)) ∈ lw_all := lw_g (lw_at lw_m1 171 rfl) rfl
theorem q529 : (Jvm.Cond.static ({ cls := "java/lang/StringLatin1", name := "indexOfChar", desc := "([BIII)I" } : Jvm.MethodName)) ∈ lw_all := lw_g (lw_at lw_m1 172 rfl) rfl
theorem q530 : (Jvm.Cond.code ({ cls := "java/lang/StringLatin1", name := "indexOfChar", desc := "([BIII)I" } : Jvm.MethodName) prog_40_method_23_code (6 : Nat) (Option.some Jvm.ClassFile.FieldType.int)) ∈ lw_all := lw_g (lw_at lw_m1 173 rfl) rfl
theorem q985 : (Jvm.Cond.static ({ cls := "java/lang/StringLatin1", name := "charAt", desc := "([BI)C" } : Jvm.MethodName)) ∈ lw_all := lw_g (lw_at lw_m3 148 rfl) rfl
theorem q986 : (Jvm.Cond.code ({ cls := "java/lang/StringLatin1", name := "charAt", desc := "([BI)C" } : Jvm.MethodName) prog_40_method_2_code (2 : Nat) (Option.some Jvm.ClassFile.FieldType.char)) ∈ lw_all := lw_g (lw_at lw_m3 149 rfl) rfl
theorem q987 : (Jvm.Cond.methodLink "java/lang/StringLatin1" (9 : Nat) ({ cls := "java/lang/String", name := "checkIndex", desc := "(II)V" } : Jvm.MethodName)) ∈ lw_all := lw_g (lw_at lw_m3 150 rfl) rfl

set_option maxRecDepth 100000
abbrev cJ6_max : ByteArray := prog_37_method_65_code
def yJ6_max : MethodName := ⟨RJ6, "max", "(II)I"⟩
def dkwJ6_max_0 : List UInt8 := [26, 27, 161, 0, 7, 26, 167, 0, 4, 27, 172]
abbrev dktJ6_max_0 : List UInt8 := dkwJ6_max_0 ++ []
theorem dksJ6_max_0 : cJ6_max.data.toList.drop 0 = dktJ6_max_0 := by decide +kernel
theorem dJ6_max_0 : decode cJ6_max 0 = .ok (.iload_n 0, 1) := dk_26 (dk_at dksJ6_max_0 0 rfl rfl)
theorem dJ6_max_1 : decode cJ6_max 1 = .ok (.iload_n 1, 1) := dk_27 (dk_at dksJ6_max_0 1 rfl rfl)
theorem dJ6_max_2 : decode cJ6_max 2 = .ok (.if_icmp .lt 7, 3) := dk_161 0 7 (dk_at dksJ6_max_0 2 rfl rfl)
theorem dJ6_max_5 : decode cJ6_max 5 = .ok (.iload_n 0, 1) := dk_26 (dk_at dksJ6_max_0 5 rfl rfl)
theorem dJ6_max_6 : decode cJ6_max 6 = .ok (.goto 4, 3) := dk_167 0 4 (dk_at dksJ6_max_0 6 rfl rfl)
theorem dJ6_max_9 : decode cJ6_max 9 = .ok (.iload_n 1, 1) := dk_27 (dk_at dksJ6_max_0 9 rfl rfl)
theorem dJ6_max_10 : decode cJ6_max 10 = .ok (.ireturn, 1) := dk_172 (dk_at dksJ6_max_0 10 rfl rfl)
abbrev cJ6_min : ByteArray := prog_37_method_69_code
def yJ6_min : MethodName := ⟨RJ6, "min", "(II)I"⟩
def dkwJ6_min_0 : List UInt8 := [26, 27, 163, 0, 7, 26, 167, 0, 4, 27, 172]
abbrev dktJ6_min_0 : List UInt8 := dkwJ6_min_0 ++ []
theorem dksJ6_min_0 : cJ6_min.data.toList.drop 0 = dktJ6_min_0 := by decide +kernel
theorem dJ6_min_0 : decode cJ6_min 0 = .ok (.iload_n 0, 1) := dk_26 (dk_at dksJ6_min_0 0 rfl rfl)
theorem dJ6_min_1 : decode cJ6_min 1 = .ok (.iload_n 1, 1) := dk_27 (dk_at dksJ6_min_0 1 rfl rfl)
theorem dJ6_min_2 : decode cJ6_min 2 = .ok (.if_icmp .gt 7, 3) := dk_163 0 7 (dk_at dksJ6_min_0 2 rfl rfl)
theorem dJ6_min_5 : decode cJ6_min 5 = .ok (.iload_n 0, 1) := dk_26 (dk_at dksJ6_min_0 5 rfl rfl)
theorem dJ6_min_6 : decode cJ6_min 6 = .ok (.goto 4, 3) := dk_167 0 4 (dk_at dksJ6_min_0 6 rfl rfl)
theorem dJ6_min_9 : decode cJ6_min 9 = .ok (.iload_n 1, 1) := dk_27 (dk_at dksJ6_min_0 9 rfl rfl)
theorem dJ6_min_10 : decode cJ6_min 10 = .ok (.ireturn, 1) := dk_172 (dk_at dksJ6_min_0 10 rfl rfl)
abbrev cJ6_abs : ByteArray := prog_37_method_59_code
def yJ6_abs : MethodName := ⟨RJ6, "abs", "(I)I"⟩
def dkwJ6_abs_0 : List UInt8 := [26, 156, 0, 8, 26, 116, 167, 0, 4, 26, 172]
abbrev dktJ6_abs_0 : List UInt8 := dkwJ6_abs_0 ++ []
theorem dksJ6_abs_0 : cJ6_abs.data.toList.drop 0 = dktJ6_abs_0 := by decide +kernel
theorem dJ6_abs_0 : decode cJ6_abs 0 = .ok (.iload_n 0, 1) := dk_26 (dk_at dksJ6_abs_0 0 rfl rfl)
theorem dJ6_abs_1 : decode cJ6_abs 1 = .ok (.ifCond .ge 8, 3) := dk_156 0 8 (dk_at dksJ6_abs_0 1 rfl rfl)
theorem dJ6_abs_4 : decode cJ6_abs 4 = .ok (.iload_n 0, 1) := dk_26 (dk_at dksJ6_abs_0 4 rfl rfl)
theorem dJ6_abs_5 : decode cJ6_abs 5 = .ok (.ineg, 1) := dk_116 (dk_at dksJ6_abs_0 5 rfl rfl)
theorem dJ6_abs_6 : decode cJ6_abs 6 = .ok (.goto 4, 3) := dk_167 0 4 (dk_at dksJ6_abs_0 6 rfl rfl)
theorem dJ6_abs_9 : decode cJ6_abs 9 = .ok (.iload_n 0, 1) := dk_26 (dk_at dksJ6_abs_0 9 rfl rfl)
theorem dJ6_abs_10 : decode cJ6_abs 10 = .ok (.ireturn, 1) := dk_172 (dk_at dksJ6_abs_0 10 rfl rfl)
abbrev cJ6_min_2 : ByteArray := prog_37_method_70_code
def yJ6_min_2 : MethodName := ⟨RJ6, "min", "(JJ)J"⟩
def dkwJ6_min_2_0 : List UInt8 := [30, 32, 148, 157, 0, 7, 30, 167, 0, 4, 32, 173]
abbrev dktJ6_min_2_0 : List UInt8 := dkwJ6_min_2_0 ++ []
theorem dksJ6_min_2_0 : cJ6_min_2.data.toList.drop 0 = dktJ6_min_2_0 := by decide +kernel
theorem dJ6_min_2_0 : decode cJ6_min_2 0 = .ok (.lload_n 0, 1) := dk_30 (dk_at dksJ6_min_2_0 0 rfl rfl)
theorem dJ6_min_2_1 : decode cJ6_min_2 1 = .ok (.lload_n 2, 1) := dk_32 (dk_at dksJ6_min_2_0 1 rfl rfl)
theorem dJ6_min_2_2 : decode cJ6_min_2 2 = .ok (.lcmp, 1) := dk_148 (dk_at dksJ6_min_2_0 2 rfl rfl)
theorem dJ6_min_2_3 : decode cJ6_min_2 3 = .ok (.ifCond .gt 7, 3) := dk_157 0 7 (dk_at dksJ6_min_2_0 3 rfl rfl)
theorem dJ6_min_2_6 : decode cJ6_min_2 6 = .ok (.lload_n 0, 1) := dk_30 (dk_at dksJ6_min_2_0 6 rfl rfl)
theorem dJ6_min_2_7 : decode cJ6_min_2 7 = .ok (.goto 4, 3) := dk_167 0 4 (dk_at dksJ6_min_2_0 7 rfl rfl)
theorem dJ6_min_2_10 : decode cJ6_min_2 10 = .ok (.lload_n 2, 1) := dk_32 (dk_at dksJ6_min_2_0 10 rfl rfl)
theorem dJ6_min_2_11 : decode cJ6_min_2 11 = .ok (.lreturn, 1) := dk_173 (dk_at dksJ6_min_2_0 11 rfl rfl)
theorem q367 : (Jvm.Cond.initialized "java/lang/Math") ∈ lw_all := lw_g (lw_at lw_m1 10 rfl) rfl
theorem q523 : (Jvm.Cond.static ({ cls := "java/lang/Math", name := "max", desc := "(II)I" } : Jvm.MethodName)) ∈ lw_all := lw_g (lw_at lw_m1 166 rfl) rfl
theorem q524 : (Jvm.Cond.code ({ cls := "java/lang/Math", name := "max", desc := "(II)I" } : Jvm.MethodName) prog_37_method_65_code (2 : Nat) (Option.some Jvm.ClassFile.FieldType.int)) ∈ lw_all := lw_g (lw_at lw_m1 167 rfl) rfl
theorem q526 : (Jvm.Cond.static ({ cls := "java/lang/Math", name := "min", desc := "(II)I" } : Jvm.MethodName)) ∈ lw_all := lw_g (lw_at lw_m1 169 rfl) rfl
theorem q527 : (Jvm.Cond.code ({ cls := "java/lang/Math", name := "min", desc := "(II)I" } : Jvm.MethodName) prog_37_method_69_code (2 : Nat) (Option.some Jvm.ClassFile.FieldType.int)) ∈ lw_all := lw_g (lw_at lw_m1 170 rfl) rfl
theorem q2035 : (Jvm.Cond.static ({ cls := "java/lang/Math", name := "abs", desc := "(I)I" } : Jvm.MethodName)) ∈ lw_all := lw_g (lw_at lw_m7 238 rfl) rfl
theorem q2036 : (Jvm.Cond.code ({ cls := "java/lang/Math", name := "abs", desc := "(I)I" } : Jvm.MethodName) prog_37_method_59_code (1 : Nat) (Option.some Jvm.ClassFile.FieldType.int)) ∈ lw_all := lw_g (lw_at lw_m7 239 rfl) rfl
theorem q2816 : (Jvm.Cond.static ({ cls := "java/lang/Math", name := "min", desc := "(JJ)J" } : Jvm.MethodName)) ∈ lw_all := lw_g (lw_at lw_m11 59 rfl) rfl
theorem q2817 : (Jvm.Cond.code ({ cls := "java/lang/Math", name := "min", desc := "(JJ)J" } : Jvm.MethodName) prog_37_method_70_code (4 : Nat) (Option.some Jvm.ClassFile.FieldType.long)) ∈ lw_all := lw_g (lw_at lw_m11 60 rfl) rfl

set_option maxRecDepth 100000
abbrev cJ7_indexOf : ByteArray := prog_41_method_40_code
def yJ7_indexOf : MethodName := ⟨RJ7, "indexOf", "([BIII)I"⟩
def dkwJ7_indexOf_1 : List UInt8 := [18, 227, 162, 0, 11, 42, 27, 28, 29, 184, 0, 228, 172, 42, 27, 28, 29, 184, 0, 232, 172]
abbrev dktJ7_indexOf_1 : List UInt8 := dkwJ7_indexOf_1 ++ []
def dkwJ7_indexOf_0 : List UInt8 := [28, 3, 184, 0, 224, 61, 29, 42, 190, 4, 122, 184, 0, 183, 62, 28, 29, 161, 0, 5, 2, 172, 27]
abbrev dktJ7_indexOf_0 : List UInt8 := dkwJ7_indexOf_0 ++ dktJ7_indexOf_1
theorem dksJ7_indexOf_0 : cJ7_indexOf.data.toList.drop 0 = dktJ7_indexOf_0 := by decide +kernel
theorem dksJ7_indexOf_1 : cJ7_indexOf.data.toList.drop 23 = dktJ7_indexOf_1 := dk_seg dksJ7_indexOf_0 23 rfl rfl
theorem dJ7_indexOf_0 : decode cJ7_indexOf 0 = .ok (.iload_n 2, 1) := dk_28 (dk_at dksJ7_indexOf_0 0 rfl rfl)
theorem dJ7_indexOf_1 : decode cJ7_indexOf 1 = .ok (.iconst 0, 1) := dk_3 (dk_at dksJ7_indexOf_0 1 rfl rfl)
theorem dJ7_indexOf_2 : decode cJ7_indexOf 2 = .ok (.invokestatic 224, 3) := dk_184 0 224 (dk_at dksJ7_indexOf_0 2 rfl rfl)
theorem dJ7_indexOf_5 : decode cJ7_indexOf 5 = .ok (.istore_n 2, 1) := dk_61 (dk_at dksJ7_indexOf_0 5 rfl rfl)
theorem dJ7_indexOf_6 : decode cJ7_indexOf 6 = .ok (.iload_n 3, 1) := dk_29 (dk_at dksJ7_indexOf_0 6 rfl rfl)
theorem dJ7_indexOf_7 : decode cJ7_indexOf 7 = .ok (.aload_n 0, 1) := dk_42 (dk_at dksJ7_indexOf_0 7 rfl rfl)
theorem dJ7_indexOf_8 : decode cJ7_indexOf 8 = .ok (.arraylength, 1) := dk_190 (dk_at dksJ7_indexOf_0 8 rfl rfl)
theorem dJ7_indexOf_9 : decode cJ7_indexOf 9 = .ok (.iconst 1, 1) := dk_4 (dk_at dksJ7_indexOf_0 9 rfl rfl)
theorem dJ7_indexOf_10 : decode cJ7_indexOf 10 = .ok (.ishr, 1) := dk_122 (dk_at dksJ7_indexOf_0 10 rfl rfl)
theorem dJ7_indexOf_11 : decode cJ7_indexOf 11 = .ok (.invokestatic 183, 3) := dk_184 0 183 (dk_at dksJ7_indexOf_0 11 rfl rfl)
theorem dJ7_indexOf_14 : decode cJ7_indexOf 14 = .ok (.istore_n 3, 1) := dk_62 (dk_at dksJ7_indexOf_0 14 rfl rfl)
theorem dJ7_indexOf_15 : decode cJ7_indexOf 15 = .ok (.iload_n 2, 1) := dk_28 (dk_at dksJ7_indexOf_0 15 rfl rfl)
theorem dJ7_indexOf_16 : decode cJ7_indexOf 16 = .ok (.iload_n 3, 1) := dk_29 (dk_at dksJ7_indexOf_0 16 rfl rfl)
theorem dJ7_indexOf_17 : decode cJ7_indexOf 17 = .ok (.if_icmp .lt 5, 3) := dk_161 0 5 (dk_at dksJ7_indexOf_0 17 rfl rfl)
theorem dJ7_indexOf_20 : decode cJ7_indexOf 20 = .ok (.iconst (-1), 1) := dk_2 (dk_at dksJ7_indexOf_0 20 rfl rfl)
theorem dJ7_indexOf_21 : decode cJ7_indexOf 21 = .ok (.ireturn, 1) := dk_172 (dk_at dksJ7_indexOf_0 21 rfl rfl)
theorem dJ7_indexOf_22 : decode cJ7_indexOf 22 = .ok (.iload_n 1, 1) := dk_27 (dk_at dksJ7_indexOf_0 22 rfl rfl)
theorem dJ7_indexOf_23 : decode cJ7_indexOf 23 = .ok (.ldc 227, 2) := dk_18 227 (dk_at dksJ7_indexOf_1 0 rfl rfl)
theorem dJ7_indexOf_25 : decode cJ7_indexOf 25 = .ok (.if_icmp .ge 11, 3) := dk_162 0 11 (dk_at dksJ7_indexOf_1 2 rfl rfl)
theorem dJ7_indexOf_28 : decode cJ7_indexOf 28 = .ok (.aload_n 0, 1) := dk_42 (dk_at dksJ7_indexOf_1 5 rfl rfl)
theorem dJ7_indexOf_29 : decode cJ7_indexOf 29 = .ok (.iload_n 1, 1) := dk_27 (dk_at dksJ7_indexOf_1 6 rfl rfl)
theorem dJ7_indexOf_30 : decode cJ7_indexOf 30 = .ok (.iload_n 2, 1) := dk_28 (dk_at dksJ7_indexOf_1 7 rfl rfl)
theorem dJ7_indexOf_31 : decode cJ7_indexOf 31 = .ok (.iload_n 3, 1) := dk_29 (dk_at dksJ7_indexOf_1 8 rfl rfl)
theorem dJ7_indexOf_32 : decode cJ7_indexOf 32 = .ok (.invokestatic 228, 3) := dk_184 0 228 (dk_at dksJ7_indexOf_1 9 rfl rfl)
theorem dJ7_indexOf_35 : decode cJ7_indexOf 35 = .ok (.ireturn, 1) := dk_172 (dk_at dksJ7_indexOf_1 12 rfl rfl)
theorem dJ7_indexOf_36 : decode cJ7_indexOf 36 = .ok (.aload_n 0, 1) := dk_42 (dk_at dksJ7_indexOf_1 13 rfl rfl)
theorem dJ7_indexOf_37 : decode cJ7_indexOf 37 = .ok (.iload_n 1, 1) := dk_27 (dk_at dksJ7_indexOf_1 14 rfl rfl)
theorem dJ7_indexOf_38 : decode cJ7_indexOf 38 = .ok (.iload_n 2, 1) := dk_28 (dk_at dksJ7_indexOf_1 15 rfl rfl)
theorem dJ7_indexOf_39 : decode cJ7_indexOf 39 = .ok (.iload_n 3, 1) := dk_29 (dk_at dksJ7_indexOf_1 16 rfl rfl)
theorem dJ7_indexOf_40 : decode cJ7_indexOf 40 = .ok (.invokestatic 232, 3) := dk_184 0 232 (dk_at dksJ7_indexOf_1 17 rfl rfl)
theorem dJ7_indexOf_43 : decode cJ7_indexOf 43 = .ok (.ireturn, 1) := dk_172 (dk_at dksJ7_indexOf_1 20 rfl rfl)
abbrev cJ7_indexOfChar : ByteArray := prog_41_method_47_code
def yJ7_indexOfChar : MethodName := ⟨RJ7, "indexOfChar", "([BIII)I"⟩
def dkwJ7_indexOfChar_0 : List UInt8 := [28, 29, 42, 184, 0, 96, 42, 27, 28, 29, 184, 0, 244, 172]
abbrev dktJ7_indexOfChar_0 : List UInt8 := dkwJ7_indexOfChar_0 ++ []
theorem dksJ7_indexOfChar_0 : cJ7_indexOfChar.data.toList.drop 0 = dktJ7_indexOfChar_0 := by decide +kernel
theorem dJ7_indexOfChar_0 : decode cJ7_indexOfChar 0 = .ok (.iload_n 2, 1) := dk_28 (dk_at dksJ7_indexOfChar_0 0 rfl rfl)
theorem dJ7_indexOfChar_1 : decode cJ7_indexOfChar 1 = .ok (.iload_n 3, 1) := dk_29 (dk_at dksJ7_indexOfChar_0 1 rfl rfl)
theorem dJ7_indexOfChar_2 : decode cJ7_indexOfChar 2 = .ok (.aload_n 0, 1) := dk_42 (dk_at dksJ7_indexOfChar_0 2 rfl rfl)
theorem dJ7_indexOfChar_3 : decode cJ7_indexOfChar 3 = .ok (.invokestatic 96, 3) := dk_184 0 96 (dk_at dksJ7_indexOfChar_0 3 rfl rfl)
theorem dJ7_indexOfChar_6 : decode cJ7_indexOfChar 6 = .ok (.aload_n 0, 1) := dk_42 (dk_at dksJ7_indexOfChar_0 6 rfl rfl)
theorem dJ7_indexOfChar_7 : decode cJ7_indexOfChar 7 = .ok (.iload_n 1, 1) := dk_27 (dk_at dksJ7_indexOfChar_0 7 rfl rfl)
theorem dJ7_indexOfChar_8 : decode cJ7_indexOfChar 8 = .ok (.iload_n 2, 1) := dk_28 (dk_at dksJ7_indexOfChar_0 8 rfl rfl)
theorem dJ7_indexOfChar_9 : decode cJ7_indexOfChar 9 = .ok (.iload_n 3, 1) := dk_29 (dk_at dksJ7_indexOfChar_0 9 rfl rfl)
theorem dJ7_indexOfChar_10 : decode cJ7_indexOfChar 10 = .ok (.invokestatic 244, 3) := dk_184 0 244 (dk_at dksJ7_indexOfChar_0 10 rfl rfl)
theorem dJ7_indexOfChar_13 : decode cJ7_indexOfChar 13 = .ok (.ireturn, 1) := dk_172 (dk_at dksJ7_indexOfChar_0 13 rfl rfl)
abbrev cJ7_checkBoundsBeginEnd : ByteArray := prog_41_method_93_code
def yJ7_checkBoundsBeginEnd : MethodName := ⟨RJ7, "checkBoundsBeginEnd", "(II[B)V"⟩
def dkwJ7_checkBoundsBeginEnd_0 : List UInt8 := [26, 27, 44, 184, 0, 48, 184, 0, 241, 177]
abbrev dktJ7_checkBoundsBeginEnd_0 : List UInt8 := dkwJ7_checkBoundsBeginEnd_0 ++ []
theorem dksJ7_checkBoundsBeginEnd_0 : cJ7_checkBoundsBeginEnd.data.toList.drop 0 = dktJ7_checkBoundsBeginEnd_0 := by decide +kernel
theorem dJ7_checkBoundsBeginEnd_0 : decode cJ7_checkBoundsBeginEnd 0 = .ok (.iload_n 0, 1) := dk_26 (dk_at dksJ7_checkBoundsBeginEnd_0 0 rfl rfl)
theorem dJ7_checkBoundsBeginEnd_1 : decode cJ7_checkBoundsBeginEnd 1 = .ok (.iload_n 1, 1) := dk_27 (dk_at dksJ7_checkBoundsBeginEnd_0 1 rfl rfl)
theorem dJ7_checkBoundsBeginEnd_2 : decode cJ7_checkBoundsBeginEnd 2 = .ok (.aload_n 2, 1) := dk_44 (dk_at dksJ7_checkBoundsBeginEnd_0 2 rfl rfl)
theorem dJ7_checkBoundsBeginEnd_3 : decode cJ7_checkBoundsBeginEnd 3 = .ok (.invokestatic 48, 3) := dk_184 0 48 (dk_at dksJ7_checkBoundsBeginEnd_0 3 rfl rfl)
theorem dJ7_checkBoundsBeginEnd_6 : decode cJ7_checkBoundsBeginEnd 6 = .ok (.invokestatic 241, 3) := dk_184 0 241 (dk_at dksJ7_checkBoundsBeginEnd_0 6 rfl rfl)
theorem dJ7_checkBoundsBeginEnd_9 : decode cJ7_checkBoundsBeginEnd 9 = .ok (.return_, 1) := dk_177 (dk_at dksJ7_checkBoundsBeginEnd_0 9 rfl rfl)
abbrev cJ7_length : ByteArray := prog_41_method_6_code
def yJ7_length : MethodName := ⟨RJ7, "length", "([B)I"⟩
def dkwJ7_length_0 : List UInt8 := [42, 190, 4, 122, 172]
abbrev dktJ7_length_0 : List UInt8 := dkwJ7_length_0 ++ []
theorem dksJ7_length_0 : cJ7_length.data.toList.drop 0 = dktJ7_length_0 := by decide +kernel
theorem dJ7_length_0 : decode cJ7_length 0 = .ok (.aload_n 0, 1) := dk_42 (dk_at dksJ7_length_0 0 rfl rfl)
theorem dJ7_length_1 : decode cJ7_length 1 = .ok (.arraylength, 1) := dk_190 (dk_at dksJ7_length_0 1 rfl rfl)
theorem dJ7_length_2 : decode cJ7_length 2 = .ok (.iconst 1, 1) := dk_4 (dk_at dksJ7_length_0 2 rfl rfl)
theorem dJ7_length_3 : decode cJ7_length 3 = .ok (.ishr, 1) := dk_122 (dk_at dksJ7_length_0 3 rfl rfl)
theorem dJ7_length_4 : decode cJ7_length 4 = .ok (.ireturn, 1) := dk_172 (dk_at dksJ7_length_0 4 rfl rfl)
abbrev cJ7_indexOfCharUnsafe : ByteArray := prog_41_method_48_code
def yJ7_indexOfCharUnsafe : MethodName := ⟨RJ7, "indexOfCharUnsafe", "([BIII)I"⟩
def dkwJ7_indexOfCharUnsafe_1 : List UInt8 := [132, 4, 1, 167, 255, 234, 2, 172]
abbrev dktJ7_indexOfCharUnsafe_1 : List UInt8 := dkwJ7_indexOfCharUnsafe_1 ++ []
def dkwJ7_indexOfCharUnsafe_0 : List UInt8 := [28, 54, 4, 21, 4, 29, 162, 0, 22, 42, 21, 4, 184, 0, 71, 27, 160, 0, 6, 21, 4, 172]
abbrev dktJ7_indexOfCharUnsafe_0 : List UInt8 := dkwJ7_indexOfCharUnsafe_0 ++ dktJ7_indexOfCharUnsafe_1
theorem dksJ7_indexOfCharUnsafe_0 : cJ7_indexOfCharUnsafe.data.toList.drop 0 = dktJ7_indexOfCharUnsafe_0 := by decide +kernel
theorem dksJ7_indexOfCharUnsafe_1 : cJ7_indexOfCharUnsafe.data.toList.drop 22 = dktJ7_indexOfCharUnsafe_1 := dk_seg dksJ7_indexOfCharUnsafe_0 22 rfl rfl
theorem dJ7_indexOfCharUnsafe_0 : decode cJ7_indexOfCharUnsafe 0 = .ok (.iload_n 2, 1) := dk_28 (dk_at dksJ7_indexOfCharUnsafe_0 0 rfl rfl)
theorem dJ7_indexOfCharUnsafe_1 : decode cJ7_indexOfCharUnsafe 1 = .ok (.istore 4, 2) := dk_54 4 (dk_at dksJ7_indexOfCharUnsafe_0 1 rfl rfl)
theorem dJ7_indexOfCharUnsafe_3 : decode cJ7_indexOfCharUnsafe 3 = .ok (.iload 4, 2) := dk_21 4 (dk_at dksJ7_indexOfCharUnsafe_0 3 rfl rfl)
theorem dJ7_indexOfCharUnsafe_5 : decode cJ7_indexOfCharUnsafe 5 = .ok (.iload_n 3, 1) := dk_29 (dk_at dksJ7_indexOfCharUnsafe_0 5 rfl rfl)
theorem dJ7_indexOfCharUnsafe_6 : decode cJ7_indexOfCharUnsafe 6 = .ok (.if_icmp .ge 22, 3) := dk_162 0 22 (dk_at dksJ7_indexOfCharUnsafe_0 6 rfl rfl)
theorem dJ7_indexOfCharUnsafe_9 : decode cJ7_indexOfCharUnsafe 9 = .ok (.aload_n 0, 1) := dk_42 (dk_at dksJ7_indexOfCharUnsafe_0 9 rfl rfl)
theorem dJ7_indexOfCharUnsafe_10 : decode cJ7_indexOfCharUnsafe 10 = .ok (.iload 4, 2) := dk_21 4 (dk_at dksJ7_indexOfCharUnsafe_0 10 rfl rfl)
theorem dJ7_indexOfCharUnsafe_12 : decode cJ7_indexOfCharUnsafe 12 = .ok (.invokestatic 71, 3) := dk_184 0 71 (dk_at dksJ7_indexOfCharUnsafe_0 12 rfl rfl)
theorem dJ7_indexOfCharUnsafe_15 : decode cJ7_indexOfCharUnsafe 15 = .ok (.iload_n 1, 1) := dk_27 (dk_at dksJ7_indexOfCharUnsafe_0 15 rfl rfl)
theorem dJ7_indexOfCharUnsafe_16 : decode cJ7_indexOfCharUnsafe 16 = .ok (.if_icmp .ne 6, 3) := dk_160 0 6 (dk_at dksJ7_indexOfCharUnsafe_0 16 rfl rfl)
theorem dJ7_indexOfCharUnsafe_19 : decode cJ7_indexOfCharUnsafe 19 = .ok (.iload 4, 2) := dk_21 4 (dk_at dksJ7_indexOfCharUnsafe_0 19 rfl rfl)
theorem dJ7_indexOfCharUnsafe_21 : decode cJ7_indexOfCharUnsafe 21 = .ok (.ireturn, 1) := dk_172 (dk_at dksJ7_indexOfCharUnsafe_0 21 rfl rfl)
theorem dJ7_indexOfCharUnsafe_22 : decode cJ7_indexOfCharUnsafe 22 = .ok (.iinc 4 1, 3) := dk_132 4 1 (dk_at dksJ7_indexOfCharUnsafe_1 0 rfl rfl)
theorem dJ7_indexOfCharUnsafe_25 : decode cJ7_indexOfCharUnsafe 25 = .ok (.goto (-22), 3) := dk_167 255 234 (dk_at dksJ7_indexOfCharUnsafe_1 3 rfl rfl)
theorem dJ7_indexOfCharUnsafe_28 : decode cJ7_indexOfCharUnsafe 28 = .ok (.iconst (-1), 1) := dk_2 (dk_at dksJ7_indexOfCharUnsafe_1 6 rfl rfl)
theorem dJ7_indexOfCharUnsafe_29 : decode cJ7_indexOfCharUnsafe 29 = .ok (.ireturn, 1) := dk_172 (dk_at dksJ7_indexOfCharUnsafe_1 7 rfl rfl)
abbrev cJ7_getChar : ByteArray := prog_41_method_5_code
def yJ7_getChar : MethodName := ⟨RJ7, "getChar", "([BI)C"⟩
def dkwJ7_getChar_2 : List UInt8 := [51, 17, 0, 255, 126, 178, 0, 63, 120, 128, 146, 172]
abbrev dktJ7_getChar_2 : List UInt8 := dkwJ7_getChar_2 ++ []
def dkwJ7_getChar_1 : List UInt8 := [183, 0, 56, 191, 27, 4, 120, 60, 42, 27, 132, 1, 1, 51, 17, 0, 255, 126, 178, 0, 59, 120, 42, 27]
abbrev dktJ7_getChar_1 : List UInt8 := dkwJ7_getChar_1 ++ dktJ7_getChar_2
def dkwJ7_getChar_0 : List UInt8 := [178, 0, 44, 154, 0, 25, 27, 155, 0, 11, 27, 42, 184, 0, 48, 161, 0, 13, 187, 0, 52, 89, 18, 54]
abbrev dktJ7_getChar_0 : List UInt8 := dkwJ7_getChar_0 ++ dktJ7_getChar_1
theorem dksJ7_getChar_0 : cJ7_getChar.data.toList.drop 0 = dktJ7_getChar_0 := by decide +kernel
theorem dksJ7_getChar_1 : cJ7_getChar.data.toList.drop 24 = dktJ7_getChar_1 := dk_seg dksJ7_getChar_0 24 rfl rfl
theorem dksJ7_getChar_2 : cJ7_getChar.data.toList.drop 48 = dktJ7_getChar_2 := dk_seg dksJ7_getChar_1 24 rfl rfl
theorem dJ7_getChar_0 : decode cJ7_getChar 0 = .ok (.getstatic 44, 3) := dk_178 0 44 (dk_at dksJ7_getChar_0 0 rfl rfl)
theorem dJ7_getChar_3 : decode cJ7_getChar 3 = .ok (.ifCond .ne 25, 3) := dk_154 0 25 (dk_at dksJ7_getChar_0 3 rfl rfl)
theorem dJ7_getChar_6 : decode cJ7_getChar 6 = .ok (.iload_n 1, 1) := dk_27 (dk_at dksJ7_getChar_0 6 rfl rfl)
theorem dJ7_getChar_7 : decode cJ7_getChar 7 = .ok (.ifCond .lt 11, 3) := dk_155 0 11 (dk_at dksJ7_getChar_0 7 rfl rfl)
theorem dJ7_getChar_10 : decode cJ7_getChar 10 = .ok (.iload_n 1, 1) := dk_27 (dk_at dksJ7_getChar_0 10 rfl rfl)
theorem dJ7_getChar_11 : decode cJ7_getChar 11 = .ok (.aload_n 0, 1) := dk_42 (dk_at dksJ7_getChar_0 11 rfl rfl)
theorem dJ7_getChar_12 : decode cJ7_getChar 12 = .ok (.invokestatic 48, 3) := dk_184 0 48 (dk_at dksJ7_getChar_0 12 rfl rfl)
theorem dJ7_getChar_15 : decode cJ7_getChar 15 = .ok (.if_icmp .lt 13, 3) := dk_161 0 13 (dk_at dksJ7_getChar_0 15 rfl rfl)
theorem dJ7_getChar_18 : decode cJ7_getChar 18 = .ok (.new 52, 3) := dk_187 0 52 (dk_at dksJ7_getChar_0 18 rfl rfl)
theorem dJ7_getChar_21 : decode cJ7_getChar 21 = .ok (.dup, 1) := dk_89 (dk_at dksJ7_getChar_0 21 rfl rfl)
theorem dJ7_getChar_22 : decode cJ7_getChar 22 = .ok (.ldc 54, 2) := dk_18 54 (dk_at dksJ7_getChar_0 22 rfl rfl)
theorem dJ7_getChar_24 : decode cJ7_getChar 24 = .ok (.invokespecial 56, 3) := dk_183 0 56 (dk_at dksJ7_getChar_1 0 rfl rfl)
theorem dJ7_getChar_27 : decode cJ7_getChar 27 = .ok (.athrow, 1) := dk_191 (dk_at dksJ7_getChar_1 3 rfl rfl)
theorem dJ7_getChar_28 : decode cJ7_getChar 28 = .ok (.iload_n 1, 1) := dk_27 (dk_at dksJ7_getChar_1 4 rfl rfl)
theorem dJ7_getChar_29 : decode cJ7_getChar 29 = .ok (.iconst 1, 1) := dk_4 (dk_at dksJ7_getChar_1 5 rfl rfl)
theorem dJ7_getChar_30 : decode cJ7_getChar 30 = .ok (.ishl, 1) := dk_120 (dk_at dksJ7_getChar_1 6 rfl rfl)
theorem dJ7_getChar_31 : decode cJ7_getChar 31 = .ok (.istore_n 1, 1) := dk_60 (dk_at dksJ7_getChar_1 7 rfl rfl)
theorem dJ7_getChar_32 : decode cJ7_getChar 32 = .ok (.aload_n 0, 1) := dk_42 (dk_at dksJ7_getChar_1 8 rfl rfl)
theorem dJ7_getChar_33 : decode cJ7_getChar 33 = .ok (.iload_n 1, 1) := dk_27 (dk_at dksJ7_getChar_1 9 rfl rfl)
theorem dJ7_getChar_34 : decode cJ7_getChar 34 = .ok (.iinc 1 1, 3) := dk_132 1 1 (dk_at dksJ7_getChar_1 10 rfl rfl)
theorem dJ7_getChar_37 : decode cJ7_getChar 37 = .ok (.baload, 1) := dk_51 (dk_at dksJ7_getChar_1 13 rfl rfl)
theorem dJ7_getChar_38 : decode cJ7_getChar 38 = .ok (.sipush 255, 3) := dk_17 0 255 (dk_at dksJ7_getChar_1 14 rfl rfl)
theorem dJ7_getChar_41 : decode cJ7_getChar 41 = .ok (.iand, 1) := dk_126 (dk_at dksJ7_getChar_1 17 rfl rfl)
theorem dJ7_getChar_42 : decode cJ7_getChar 42 = .ok (.getstatic 59, 3) := dk_178 0 59 (dk_at dksJ7_getChar_1 18 rfl rfl)
theorem dJ7_getChar_45 : decode cJ7_getChar 45 = .ok (.ishl, 1) := dk_120 (dk_at dksJ7_getChar_1 21 rfl rfl)
theorem dJ7_getChar_46 : decode cJ7_getChar 46 = .ok (.aload_n 0, 1) := dk_42 (dk_at dksJ7_getChar_1 22 rfl rfl)
theorem dJ7_getChar_47 : decode cJ7_getChar 47 = .ok (.iload_n 1, 1) := dk_27 (dk_at dksJ7_getChar_1 23 rfl rfl)
theorem dJ7_getChar_48 : decode cJ7_getChar 48 = .ok (.baload, 1) := dk_51 (dk_at dksJ7_getChar_2 0 rfl rfl)
theorem dJ7_getChar_49 : decode cJ7_getChar 49 = .ok (.sipush 255, 3) := dk_17 0 255 (dk_at dksJ7_getChar_2 1 rfl rfl)
theorem dJ7_getChar_52 : decode cJ7_getChar 52 = .ok (.iand, 1) := dk_126 (dk_at dksJ7_getChar_2 4 rfl rfl)
theorem dJ7_getChar_53 : decode cJ7_getChar 53 = .ok (.getstatic 63, 3) := dk_178 0 63 (dk_at dksJ7_getChar_2 5 rfl rfl)
theorem dJ7_getChar_56 : decode cJ7_getChar 56 = .ok (.ishl, 1) := dk_120 (dk_at dksJ7_getChar_2 8 rfl rfl)
theorem dJ7_getChar_57 : decode cJ7_getChar 57 = .ok (.ior, 1) := dk_128 (dk_at dksJ7_getChar_2 9 rfl rfl)
theorem dJ7_getChar_58 : decode cJ7_getChar 58 = .ok (.i2c, 1) := dk_146 (dk_at dksJ7_getChar_2 10 rfl rfl)
theorem dJ7_getChar_59 : decode cJ7_getChar 59 = .ok (.ireturn, 1) := dk_172 (dk_at dksJ7_getChar_2 11 rfl rfl)
abbrev cJ7_indexOfSupplementary : ByteArray := prog_41_method_49_code
def yJ7_indexOfSupplementary : MethodName := ⟨RJ7, "indexOfSupplementary", "([BIII)I"⟩
def dkwJ7_indexOfSupplementary_3 : List UInt8 := [167, 255, 218, 2, 172]
abbrev dktJ7_indexOfSupplementary_3 : List UInt8 := dkwJ7_indexOfSupplementary_3 ++ []
def dkwJ7_indexOfSupplementary_2 : List UInt8 := [160, 0, 19, 42, 21, 6, 4, 96, 184, 0, 71, 21, 5, 160, 0, 6, 21, 6, 172, 132, 6, 1]
abbrev dktJ7_indexOfSupplementary_2 : List UInt8 := dkwJ7_indexOfSupplementary_2 ++ dktJ7_indexOfSupplementary_3
def dkwJ7_indexOfSupplementary_1 : List UInt8 := [184, 0, 96, 28, 54, 6, 21, 6, 29, 4, 100, 162, 0, 36, 42, 21, 6, 184, 0, 71, 21, 4]
abbrev dktJ7_indexOfSupplementary_1 : List UInt8 := dkwJ7_indexOfSupplementary_1 ++ dktJ7_indexOfSupplementary_2
def dkwJ7_indexOfSupplementary_0 : List UInt8 := [27, 184, 0, 164, 153, 0, 65, 27, 184, 0, 157, 54, 4, 27, 184, 0, 161, 54, 5, 28, 29, 42]
abbrev dktJ7_indexOfSupplementary_0 : List UInt8 := dkwJ7_indexOfSupplementary_0 ++ dktJ7_indexOfSupplementary_1
theorem dksJ7_indexOfSupplementary_0 : cJ7_indexOfSupplementary.data.toList.drop 0 = dktJ7_indexOfSupplementary_0 := by decide +kernel
theorem dksJ7_indexOfSupplementary_1 : cJ7_indexOfSupplementary.data.toList.drop 22 = dktJ7_indexOfSupplementary_1 := dk_seg dksJ7_indexOfSupplementary_0 22 rfl rfl
theorem dksJ7_indexOfSupplementary_2 : cJ7_indexOfSupplementary.data.toList.drop 44 = dktJ7_indexOfSupplementary_2 := dk_seg dksJ7_indexOfSupplementary_1 22 rfl rfl
theorem dksJ7_indexOfSupplementary_3 : cJ7_indexOfSupplementary.data.toList.drop 66 = dktJ7_indexOfSupplementary_3 := dk_seg dksJ7_indexOfSupplementary_2 22 rfl rfl
theorem dJ7_indexOfSupplementary_0 : decode cJ7_indexOfSupplementary 0 = .ok (.iload_n 1, 1) := dk_27 (dk_at dksJ7_indexOfSupplementary_0 0 rfl rfl)
theorem dJ7_indexOfSupplementary_1 : decode cJ7_indexOfSupplementary 1 = .ok (.invokestatic 164, 3) := dk_184 0 164 (dk_at dksJ7_indexOfSupplementary_0 1 rfl rfl)
theorem dJ7_indexOfSupplementary_4 : decode cJ7_indexOfSupplementary 4 = .ok (.ifCond .eq 65, 3) := dk_153 0 65 (dk_at dksJ7_indexOfSupplementary_0 4 rfl rfl)
theorem dJ7_indexOfSupplementary_7 : decode cJ7_indexOfSupplementary 7 = .ok (.iload_n 1, 1) := dk_27 (dk_at dksJ7_indexOfSupplementary_0 7 rfl rfl)
theorem dJ7_indexOfSupplementary_8 : decode cJ7_indexOfSupplementary 8 = .ok (.invokestatic 157, 3) := dk_184 0 157 (dk_at dksJ7_indexOfSupplementary_0 8 rfl rfl)
theorem dJ7_indexOfSupplementary_11 : decode cJ7_indexOfSupplementary 11 = .ok (.istore 4, 2) := dk_54 4 (dk_at dksJ7_indexOfSupplementary_0 11 rfl rfl)
theorem dJ7_indexOfSupplementary_13 : decode cJ7_indexOfSupplementary 13 = .ok (.iload_n 1, 1) := dk_27 (dk_at dksJ7_indexOfSupplementary_0 13 rfl rfl)
theorem dJ7_indexOfSupplementary_14 : decode cJ7_indexOfSupplementary 14 = .ok (.invokestatic 161, 3) := dk_184 0 161 (dk_at dksJ7_indexOfSupplementary_0 14 rfl rfl)
theorem dJ7_indexOfSupplementary_17 : decode cJ7_indexOfSupplementary 17 = .ok (.istore 5, 2) := dk_54 5 (dk_at dksJ7_indexOfSupplementary_0 17 rfl rfl)
theorem dJ7_indexOfSupplementary_19 : decode cJ7_indexOfSupplementary 19 = .ok (.iload_n 2, 1) := dk_28 (dk_at dksJ7_indexOfSupplementary_0 19 rfl rfl)
theorem dJ7_indexOfSupplementary_20 : decode cJ7_indexOfSupplementary 20 = .ok (.iload_n 3, 1) := dk_29 (dk_at dksJ7_indexOfSupplementary_0 20 rfl rfl)
theorem dJ7_indexOfSupplementary_21 : decode cJ7_indexOfSupplementary 21 = .ok (.aload_n 0, 1) := dk_42 (dk_at dksJ7_indexOfSupplementary_0 21 rfl rfl)
theorem dJ7_indexOfSupplementary_22 : decode cJ7_indexOfSupplementary 22 = .ok (.invokestatic 96, 3) := dk_184 0 96 (dk_at dksJ7_indexOfSupplementary_1 0 rfl rfl)
theorem dJ7_indexOfSupplementary_25 : decode cJ7_indexOfSupplementary 25 = .ok (.iload_n 2, 1) := dk_28 (dk_at dksJ7_indexOfSupplementary_1 3 rfl rfl)
theorem dJ7_indexOfSupplementary_26 : decode cJ7_indexOfSupplementary 26 = .ok (.istore 6, 2) := dk_54 6 (dk_at dksJ7_indexOfSupplementary_1 4 rfl rfl)
theorem dJ7_indexOfSupplementary_28 : decode cJ7_indexOfSupplementary 28 = .ok (.iload 6, 2) := dk_21 6 (dk_at dksJ7_indexOfSupplementary_1 6 rfl rfl)
theorem dJ7_indexOfSupplementary_30 : decode cJ7_indexOfSupplementary 30 = .ok (.iload_n 3, 1) := dk_29 (dk_at dksJ7_indexOfSupplementary_1 8 rfl rfl)
theorem dJ7_indexOfSupplementary_31 : decode cJ7_indexOfSupplementary 31 = .ok (.iconst 1, 1) := dk_4 (dk_at dksJ7_indexOfSupplementary_1 9 rfl rfl)
theorem dJ7_indexOfSupplementary_32 : decode cJ7_indexOfSupplementary 32 = .ok (.isub, 1) := dk_100 (dk_at dksJ7_indexOfSupplementary_1 10 rfl rfl)
theorem dJ7_indexOfSupplementary_33 : decode cJ7_indexOfSupplementary 33 = .ok (.if_icmp .ge 36, 3) := dk_162 0 36 (dk_at dksJ7_indexOfSupplementary_1 11 rfl rfl)
theorem dJ7_indexOfSupplementary_36 : decode cJ7_indexOfSupplementary 36 = .ok (.aload_n 0, 1) := dk_42 (dk_at dksJ7_indexOfSupplementary_1 14 rfl rfl)
theorem dJ7_indexOfSupplementary_37 : decode cJ7_indexOfSupplementary 37 = .ok (.iload 6, 2) := dk_21 6 (dk_at dksJ7_indexOfSupplementary_1 15 rfl rfl)
theorem dJ7_indexOfSupplementary_39 : decode cJ7_indexOfSupplementary 39 = .ok (.invokestatic 71, 3) := dk_184 0 71 (dk_at dksJ7_indexOfSupplementary_1 17 rfl rfl)
theorem dJ7_indexOfSupplementary_42 : decode cJ7_indexOfSupplementary 42 = .ok (.iload 4, 2) := dk_21 4 (dk_at dksJ7_indexOfSupplementary_1 20 rfl rfl)
theorem dJ7_indexOfSupplementary_44 : decode cJ7_indexOfSupplementary 44 = .ok (.if_icmp .ne 19, 3) := dk_160 0 19 (dk_at dksJ7_indexOfSupplementary_2 0 rfl rfl)
theorem dJ7_indexOfSupplementary_47 : decode cJ7_indexOfSupplementary 47 = .ok (.aload_n 0, 1) := dk_42 (dk_at dksJ7_indexOfSupplementary_2 3 rfl rfl)
theorem dJ7_indexOfSupplementary_48 : decode cJ7_indexOfSupplementary 48 = .ok (.iload 6, 2) := dk_21 6 (dk_at dksJ7_indexOfSupplementary_2 4 rfl rfl)
theorem dJ7_indexOfSupplementary_50 : decode cJ7_indexOfSupplementary 50 = .ok (.iconst 1, 1) := dk_4 (dk_at dksJ7_indexOfSupplementary_2 6 rfl rfl)
theorem dJ7_indexOfSupplementary_51 : decode cJ7_indexOfSupplementary 51 = .ok (.iadd, 1) := dk_96 (dk_at dksJ7_indexOfSupplementary_2 7 rfl rfl)
theorem dJ7_indexOfSupplementary_52 : decode cJ7_indexOfSupplementary 52 = .ok (.invokestatic 71, 3) := dk_184 0 71 (dk_at dksJ7_indexOfSupplementary_2 8 rfl rfl)
theorem dJ7_indexOfSupplementary_55 : decode cJ7_indexOfSupplementary 55 = .ok (.iload 5, 2) := dk_21 5 (dk_at dksJ7_indexOfSupplementary_2 11 rfl rfl)
theorem dJ7_indexOfSupplementary_57 : decode cJ7_indexOfSupplementary 57 = .ok (.if_icmp .ne 6, 3) := dk_160 0 6 (dk_at dksJ7_indexOfSupplementary_2 13 rfl rfl)
theorem dJ7_indexOfSupplementary_60 : decode cJ7_indexOfSupplementary 60 = .ok (.iload 6, 2) := dk_21 6 (dk_at dksJ7_indexOfSupplementary_2 16 rfl rfl)
theorem dJ7_indexOfSupplementary_62 : decode cJ7_indexOfSupplementary 62 = .ok (.ireturn, 1) := dk_172 (dk_at dksJ7_indexOfSupplementary_2 18 rfl rfl)
theorem dJ7_indexOfSupplementary_63 : decode cJ7_indexOfSupplementary 63 = .ok (.iinc 6 1, 3) := dk_132 6 1 (dk_at dksJ7_indexOfSupplementary_2 19 rfl rfl)
theorem dJ7_indexOfSupplementary_66 : decode cJ7_indexOfSupplementary 66 = .ok (.goto (-38), 3) := dk_167 255 218 (dk_at dksJ7_indexOfSupplementary_3 0 rfl rfl)
theorem dJ7_indexOfSupplementary_69 : decode cJ7_indexOfSupplementary 69 = .ok (.iconst (-1), 1) := dk_2 (dk_at dksJ7_indexOfSupplementary_3 3 rfl rfl)
theorem dJ7_indexOfSupplementary_70 : decode cJ7_indexOfSupplementary 70 = .ok (.ireturn, 1) := dk_172 (dk_at dksJ7_indexOfSupplementary_3 4 rfl rfl)
abbrev cJ7_charAt : ByteArray := prog_41_method_83_code
def yJ7_charAt : MethodName := ⟨RJ7, "charAt", "([BI)C"⟩
def dkwJ7_charAt_0 : List UInt8 := [27, 42, 184, 0, 67, 42, 27, 184, 0, 71, 172]
abbrev dktJ7_charAt_0 : List UInt8 := dkwJ7_charAt_0 ++ []
theorem dksJ7_charAt_0 : cJ7_charAt.data.toList.drop 0 = dktJ7_charAt_0 := by decide +kernel
theorem dJ7_charAt_0 : decode cJ7_charAt 0 = .ok (.iload_n 1, 1) := dk_27 (dk_at dksJ7_charAt_0 0 rfl rfl)
theorem dJ7_charAt_1 : decode cJ7_charAt 1 = .ok (.aload_n 0, 1) := dk_42 (dk_at dksJ7_charAt_0 1 rfl rfl)
theorem dJ7_charAt_2 : decode cJ7_charAt 2 = .ok (.invokestatic 67, 3) := dk_184 0 67 (dk_at dksJ7_charAt_0 2 rfl rfl)
theorem dJ7_charAt_5 : decode cJ7_charAt 5 = .ok (.aload_n 0, 1) := dk_42 (dk_at dksJ7_charAt_0 5 rfl rfl)
theorem dJ7_charAt_6 : decode cJ7_charAt 6 = .ok (.iload_n 1, 1) := dk_27 (dk_at dksJ7_charAt_0 6 rfl rfl)
theorem dJ7_charAt_7 : decode cJ7_charAt 7 = .ok (.invokestatic 71, 3) := dk_184 0 71 (dk_at dksJ7_charAt_0 7 rfl rfl)
theorem dJ7_charAt_10 : decode cJ7_charAt 10 = .ok (.ireturn, 1) := dk_172 (dk_at dksJ7_charAt_0 10 rfl rfl)
abbrev cJ7_checkIndex : ByteArray := prog_41_method_91_code
def yJ7_checkIndex : MethodName := ⟨RJ7, "checkIndex", "(I[B)V"⟩
def dkwJ7_checkIndex_0 : List UInt8 := [26, 43, 184, 0, 48, 184, 1, 158, 177]
abbrev dktJ7_checkIndex_0 : List UInt8 := dkwJ7_checkIndex_0 ++ []
theorem dksJ7_checkIndex_0 : cJ7_checkIndex.data.toList.drop 0 = dktJ7_checkIndex_0 := by decide +kernel
theorem dJ7_checkIndex_0 : decode cJ7_checkIndex 0 = .ok (.iload_n 0, 1) := dk_26 (dk_at dksJ7_checkIndex_0 0 rfl rfl)
theorem dJ7_checkIndex_1 : decode cJ7_checkIndex 1 = .ok (.aload_n 1, 1) := dk_43 (dk_at dksJ7_checkIndex_0 1 rfl rfl)
theorem dJ7_checkIndex_2 : decode cJ7_checkIndex 2 = .ok (.invokestatic 48, 3) := dk_184 0 48 (dk_at dksJ7_checkIndex_0 2 rfl rfl)
theorem dJ7_checkIndex_5 : decode cJ7_checkIndex 5 = .ok (.invokestatic 414, 3) := dk_184 1 158 (dk_at dksJ7_checkIndex_0 5 rfl rfl)
theorem dJ7_checkIndex_8 : decode cJ7_checkIndex 8 = .ok (.return_, 1) := dk_177 (dk_at dksJ7_checkIndex_0 8 rfl rfl)
theorem q368 : (Jvm.Cond.initialized "java/lang/StringUTF16") ∈ lw_all := lw_g (lw_at lw_m1 11 rfl) rfl
theorem q532 : (Jvm.Cond.static ({ cls := "java/lang/StringUTF16", name := "indexOf", desc := "([BIII)I" } : Jvm.MethodName)) ∈ lw_all := lw_g (lw_at lw_m1 175 rfl) rfl
theorem q533 : (Jvm.Cond.code ({ cls := "java/lang/StringUTF16", name := "indexOf", desc := "([BIII)I" } : Jvm.MethodName) prog_41_method_40_code (4 : Nat) (Option.some Jvm.ClassFile.FieldType.int)) ∈ lw_all := lw_g (lw_at lw_m1 176 rfl) rfl
theorem q534 : (Jvm.Cond.methodLink "java/lang/StringUTF16" (224 : Nat) ({ cls := "java/lang/Math", name := "max", desc := "(II)I" } : Jvm.MethodName)) ∈ lw_all := lw_g (lw_at lw_m1 177 rfl) rfl
theorem q535 : (Jvm.Cond.methodLink "java/lang/StringUTF16" (183 : Nat) ({ cls := "java/lang/Math", name := "min", desc := "(II)I" } : Jvm.MethodName)) ∈ lw_all := lw_g (lw_at lw_m1 178 rfl) rfl
theorem q536 : (Jvm.Cond.constant "java/lang/StringUTF16" (227 : Nat) (65536 : Int32)) ∈ lw_all := lw_g (lw_at lw_m1 179 rfl) rfl
theorem q537 : (Jvm.Cond.methodLink "java/lang/StringUTF16" (228 : Nat) ({ cls := "java/lang/StringUTF16", name := "indexOfChar", desc := "([BIII)I" } : Jvm.MethodName)) ∈ lw_all := lw_g (lw_at lw_m1 180 rfl) rfl
theorem q538 : (Jvm.Cond.static ({ cls := "java/lang/StringUTF16", name := "indexOfChar", desc := "([BIII)I" } : Jvm.MethodName)) ∈ lw_all := lw_g (lw_at lw_m1 181 rfl) rfl
theorem q539 : (Jvm.Cond.code ({ cls := "java/lang/StringUTF16", name := "indexOfChar", desc := "([BIII)I" } : Jvm.MethodName) prog_41_method_47_code (4 : Nat) (Option.some Jvm.ClassFile.FieldType.int)) ∈ lw_all := lw_g (lw_at lw_m1 182 rfl) rfl
theorem q540 : (Jvm.Cond.methodLink "java/lang/StringUTF16" (96 : Nat) ({ cls := "java/lang/StringUTF16", name := "checkBoundsBeginEnd", desc := "(II[B)V" } : Jvm.MethodName)) ∈ lw_all := lw_g (lw_at lw_m1 183 rfl) rfl
theorem q541 : (Jvm.Cond.static ({ cls := "java/lang/StringUTF16", name := "checkBoundsBeginEnd", desc := "(II[B)V" } : Jvm.MethodName)) ∈ lw_all := lw_g (lw_at lw_m1 184 rfl) rfl
theorem q542 : (Jvm.Cond.code ({ cls := "java/lang/StringUTF16", name := "checkBoundsBeginEnd", desc := "(II[B)V" } : Jvm.MethodName) prog_41_method_93_code (3 : Nat) (Option.none : Option Jvm.ClassFile.FieldType)) ∈ lw_all := lw_g (lw_at lw_m1 185 rfl) rfl
theorem q543 : (Jvm.Cond.methodLink "java/lang/StringUTF16" (48 : Nat) ({ cls := "java/lang/StringUTF16", name := "length", desc := "([B)I" } : Jvm.MethodName)) ∈ lw_all := lw_g (lw_at lw_m1 186 rfl) rfl
theorem q544 : (Jvm.Cond.static ({ cls := "java/lang/StringUTF16", name := "length", desc := "([B)I" } : Jvm.MethodName)) ∈ lw_all := lw_g (lw_at lw_m1 187 rfl) rfl
theorem q545 : (Jvm.Cond.code ({ cls := "java/lang/StringUTF16", name := "length", desc := "([B)I" } : Jvm.MethodName) prog_41_method_6_code (1 : Nat) (Option.some Jvm.ClassFile.FieldType.int)) ∈ lw_all := lw_g (lw_at lw_m1 188 rfl) rfl
theorem q546 : (Jvm.Cond.methodLink "java/lang/StringUTF16" (241 : Nat) ({ cls := "java/lang/String", name := "checkBoundsBeginEnd", desc := "(III)V" } : Jvm.MethodName)) ∈ lw_all := lw_g (lw_at lw_m1 189 rfl) rfl
theorem q554 : (Jvm.Cond.methodLink "java/lang/StringUTF16" (244 : Nat) ({ cls := "java/lang/StringUTF16", name := "indexOfCharUnsafe", desc := "([BIII)I" } : Jvm.MethodName)) ∈ lw_all := lw_g (lw_at lw_m1 197 rfl) rfl
theorem q555 : (Jvm.Cond.static ({ cls := "java/lang/StringUTF16", name := "indexOfCharUnsafe", desc := "([BIII)I" } : Jvm.MethodName)) ∈ lw_all := lw_g (lw_at lw_m1 198 rfl) rfl
theorem q556 : (Jvm.Cond.code ({ cls := "java/lang/StringUTF16", name := "indexOfCharUnsafe", desc := "([BIII)I" } : Jvm.MethodName) prog_41_method_48_code (5 : Nat) (Option.some Jvm.ClassFile.FieldType.int)) ∈ lw_all := lw_g (lw_at lw_m1 199 rfl) rfl
theorem q557 : (Jvm.Cond.methodLink "java/lang/StringUTF16" (71 : Nat) ({ cls := "java/lang/StringUTF16", name := "getChar", desc := "([BI)C" } : Jvm.MethodName)) ∈ lw_all := lw_g (lw_at lw_m1 200 rfl) rfl
theorem q558 : (Jvm.Cond.static ({ cls := "java/lang/StringUTF16", name := "getChar", desc := "([BI)C" } : Jvm.MethodName)) ∈ lw_all := lw_g (lw_at lw_m1 201 rfl) rfl
theorem q559 : (Jvm.Cond.code ({ cls := "java/lang/StringUTF16", name := "getChar", desc := "([BI)C" } : Jvm.MethodName) prog_41_method_5_code (2 : Nat) (Option.some Jvm.ClassFile.FieldType.char)) ∈ lw_all := lw_g (lw_at lw_m1 202 rfl) rfl
theorem q560 : (Jvm.Cond.fieldLink "java/lang/StringUTF16" (44 : Nat) "java/lang/StringUTF16" "$assertionsDisabled" "Z") ∈ lw_all := lw_g (lw_at lw_m1 203 rfl) rfl
theorem q561 : (Jvm.Cond.laysStatic "java/lang/StringUTF16" "$assertionsDisabled" "Z") ∈ lw_tbl := lw_at lw_m1 204 rfl
theorem q562 : (Jvm.Cond.fieldLink "java/lang/StringUTF16" (59 : Nat) "java/lang/StringUTF16" "HI_BYTE_SHIFT" "I") ∈ lw_all := lw_g (lw_at lw_m1 205 rfl) rfl
theorem q563 : (Jvm.Cond.laysStatic "java/lang/StringUTF16" "HI_BYTE_SHIFT" "I") ∈ lw_tbl := lw_at lw_m1 206 rfl
theorem q564 : (Jvm.Cond.fieldLink "java/lang/StringUTF16" (63 : Nat) "java/lang/StringUTF16" "LO_BYTE_SHIFT" "I") ∈ lw_all := lw_g (lw_at lw_m1 207 rfl) rfl
theorem q565 : (Jvm.Cond.laysStatic "java/lang/StringUTF16" "LO_BYTE_SHIFT" "I") ∈ lw_tbl := lw_at lw_m1 208 rfl
theorem q566 : (Jvm.Cond.methodLink "java/lang/StringUTF16" (232 : Nat) ({ cls := "java/lang/StringUTF16", name := "indexOfSupplementary", desc := "([BIII)I" } : Jvm.MethodName)) ∈ lw_all := lw_g (lw_at lw_m1 209 rfl) rfl
theorem q567 : (Jvm.Cond.static ({ cls := "java/lang/StringUTF16", name := "indexOfSupplementary", desc := "([BIII)I" } : Jvm.MethodName)) ∈ lw_all := lw_g (lw_at lw_m1 210 rfl) rfl
theorem q568 : (Jvm.Cond.code ({ cls := "java/lang/StringUTF16", name := "indexOfSupplementary", desc := "([BIII)I" } : Jvm.MethodName) prog_41_method_49_code (7 : Nat) (Option.some Jvm.ClassFile.FieldType.int)) ∈ lw_all := lw_g (lw_at lw_m1 211 rfl) rfl
theorem q569 : (Jvm.Cond.methodLink "java/lang/StringUTF16" (164 : Nat) ({ cls := "java/lang/Character", name := "isValidCodePoint", desc := "(I)Z" } : Jvm.MethodName)) ∈ lw_all := lw_g (lw_at lw_m1 212 rfl) rfl
theorem q572 : (Jvm.Cond.methodLink "java/lang/StringUTF16" (157 : Nat) ({ cls := "java/lang/Character", name := "highSurrogate", desc := "(I)C" } : Jvm.MethodName)) ∈ lw_all := lw_g (lw_at lw_m1 215 rfl) rfl
theorem q576 : (Jvm.Cond.methodLink "java/lang/StringUTF16" (161 : Nat) ({ cls := "java/lang/Character", name := "lowSurrogate", desc := "(I)C" } : Jvm.MethodName)) ∈ lw_all := lw_g (lw_at lw_m1 219 rfl) rfl
theorem q994 : (Jvm.Cond.static ({ cls := "java/lang/StringUTF16", name := "charAt", desc := "([BI)C" } : Jvm.MethodName)) ∈ lw_all := lw_g (lw_at lw_m3 157 rfl) rfl
theorem q995 : (Jvm.Cond.code ({ cls := "java/lang/StringUTF16", name := "charAt", desc := "([BI)C" } : Jvm.MethodName) prog_41_method_83_code (2 : Nat) (Option.some Jvm.ClassFile.FieldType.char)) ∈ lw_all := lw_g (lw_at lw_m3 158 rfl) rfl
theorem q996 : (Jvm.Cond.methodLink "java/lang/StringUTF16" (67 : Nat) ({ cls := "java/lang/StringUTF16", name := "checkIndex", desc := "(I[B)V" } : Jvm.MethodName)) ∈ lw_all := lw_g (lw_at lw_m3 159 rfl) rfl
theorem q997 : (Jvm.Cond.static ({ cls := "java/lang/StringUTF16", name := "checkIndex", desc := "(I[B)V" } : Jvm.MethodName)) ∈ lw_all := lw_g (lw_at lw_m3 160 rfl) rfl
theorem q998 : (Jvm.Cond.code ({ cls := "java/lang/StringUTF16", name := "checkIndex", desc := "(I[B)V" } : Jvm.MethodName) prog_41_method_91_code (2 : Nat) (Option.none : Option Jvm.ClassFile.FieldType)) ∈ lw_all := lw_g (lw_at lw_m3 161 rfl) rfl
theorem q999 : (Jvm.Cond.methodLink "java/lang/StringUTF16" (414 : Nat) ({ cls := "java/lang/String", name := "checkIndex", desc := "(II)V" } : Jvm.MethodName)) ∈ lw_all := lw_g (lw_at lw_m3 162 rfl) rfl

set_option maxRecDepth 100000
abbrev cJ8_checkFromToIndex : ByteArray := prog_44_method_12_code
def yJ8_checkFromToIndex : MethodName := ⟨RJ8, "checkFromToIndex", "(IIILjava/util/function/BiFunction;)I"⟩
def dkwJ8_checkFromToIndex_0 : List UInt8 := [26, 155, 0, 13, 26, 27, 163, 0, 8, 27, 28, 164, 0, 11, 45, 26, 27, 28, 184, 0, 99, 191, 26, 172]
abbrev dktJ8_checkFromToIndex_0 : List UInt8 := dkwJ8_checkFromToIndex_0 ++ []
theorem dksJ8_checkFromToIndex_0 : cJ8_checkFromToIndex.data.toList.drop 0 = dktJ8_checkFromToIndex_0 := by decide +kernel
theorem dJ8_checkFromToIndex_0 : decode cJ8_checkFromToIndex 0 = .ok (.iload_n 0, 1) := dk_26 (dk_at dksJ8_checkFromToIndex_0 0 rfl rfl)
theorem dJ8_checkFromToIndex_1 : decode cJ8_checkFromToIndex 1 = .ok (.ifCond .lt 13, 3) := dk_155 0 13 (dk_at dksJ8_checkFromToIndex_0 1 rfl rfl)
theorem dJ8_checkFromToIndex_4 : decode cJ8_checkFromToIndex 4 = .ok (.iload_n 0, 1) := dk_26 (dk_at dksJ8_checkFromToIndex_0 4 rfl rfl)
theorem dJ8_checkFromToIndex_5 : decode cJ8_checkFromToIndex 5 = .ok (.iload_n 1, 1) := dk_27 (dk_at dksJ8_checkFromToIndex_0 5 rfl rfl)
theorem dJ8_checkFromToIndex_6 : decode cJ8_checkFromToIndex 6 = .ok (.if_icmp .gt 8, 3) := dk_163 0 8 (dk_at dksJ8_checkFromToIndex_0 6 rfl rfl)
theorem dJ8_checkFromToIndex_9 : decode cJ8_checkFromToIndex 9 = .ok (.iload_n 1, 1) := dk_27 (dk_at dksJ8_checkFromToIndex_0 9 rfl rfl)
theorem dJ8_checkFromToIndex_10 : decode cJ8_checkFromToIndex 10 = .ok (.iload_n 2, 1) := dk_28 (dk_at dksJ8_checkFromToIndex_0 10 rfl rfl)
theorem dJ8_checkFromToIndex_11 : decode cJ8_checkFromToIndex 11 = .ok (.if_icmp .le 11, 3) := dk_164 0 11 (dk_at dksJ8_checkFromToIndex_0 11 rfl rfl)
theorem dJ8_checkFromToIndex_14 : decode cJ8_checkFromToIndex 14 = .ok (.aload_n 3, 1) := dk_45 (dk_at dksJ8_checkFromToIndex_0 14 rfl rfl)
theorem dJ8_checkFromToIndex_15 : decode cJ8_checkFromToIndex 15 = .ok (.iload_n 0, 1) := dk_26 (dk_at dksJ8_checkFromToIndex_0 15 rfl rfl)
theorem dJ8_checkFromToIndex_16 : decode cJ8_checkFromToIndex 16 = .ok (.iload_n 1, 1) := dk_27 (dk_at dksJ8_checkFromToIndex_0 16 rfl rfl)
theorem dJ8_checkFromToIndex_17 : decode cJ8_checkFromToIndex 17 = .ok (.iload_n 2, 1) := dk_28 (dk_at dksJ8_checkFromToIndex_0 17 rfl rfl)
theorem dJ8_checkFromToIndex_18 : decode cJ8_checkFromToIndex 18 = .ok (.invokestatic 99, 3) := dk_184 0 99 (dk_at dksJ8_checkFromToIndex_0 18 rfl rfl)
theorem dJ8_checkFromToIndex_21 : decode cJ8_checkFromToIndex 21 = .ok (.athrow, 1) := dk_191 (dk_at dksJ8_checkFromToIndex_0 21 rfl rfl)
theorem dJ8_checkFromToIndex_22 : decode cJ8_checkFromToIndex 22 = .ok (.iload_n 0, 1) := dk_26 (dk_at dksJ8_checkFromToIndex_0 22 rfl rfl)
theorem dJ8_checkFromToIndex_23 : decode cJ8_checkFromToIndex 23 = .ok (.ireturn, 1) := dk_172 (dk_at dksJ8_checkFromToIndex_0 23 rfl rfl)
abbrev cJ8_checkIndex : ByteArray := prog_44_method_11_code
def yJ8_checkIndex : MethodName := ⟨RJ8, "checkIndex", "(IILjava/util/function/BiFunction;)I"⟩
def dkwJ8_checkIndex_0 : List UInt8 := [26, 155, 0, 8, 26, 27, 161, 0, 10, 44, 26, 27, 184, 0, 95, 191, 26, 172]
abbrev dktJ8_checkIndex_0 : List UInt8 := dkwJ8_checkIndex_0 ++ []
theorem dksJ8_checkIndex_0 : cJ8_checkIndex.data.toList.drop 0 = dktJ8_checkIndex_0 := by decide +kernel
theorem dJ8_checkIndex_0 : decode cJ8_checkIndex 0 = .ok (.iload_n 0, 1) := dk_26 (dk_at dksJ8_checkIndex_0 0 rfl rfl)
theorem dJ8_checkIndex_1 : decode cJ8_checkIndex 1 = .ok (.ifCond .lt 8, 3) := dk_155 0 8 (dk_at dksJ8_checkIndex_0 1 rfl rfl)
theorem dJ8_checkIndex_4 : decode cJ8_checkIndex 4 = .ok (.iload_n 0, 1) := dk_26 (dk_at dksJ8_checkIndex_0 4 rfl rfl)
theorem dJ8_checkIndex_5 : decode cJ8_checkIndex 5 = .ok (.iload_n 1, 1) := dk_27 (dk_at dksJ8_checkIndex_0 5 rfl rfl)
theorem dJ8_checkIndex_6 : decode cJ8_checkIndex 6 = .ok (.if_icmp .lt 10, 3) := dk_161 0 10 (dk_at dksJ8_checkIndex_0 6 rfl rfl)
theorem dJ8_checkIndex_9 : decode cJ8_checkIndex 9 = .ok (.aload_n 2, 1) := dk_44 (dk_at dksJ8_checkIndex_0 9 rfl rfl)
theorem dJ8_checkIndex_10 : decode cJ8_checkIndex 10 = .ok (.iload_n 0, 1) := dk_26 (dk_at dksJ8_checkIndex_0 10 rfl rfl)
theorem dJ8_checkIndex_11 : decode cJ8_checkIndex 11 = .ok (.iload_n 1, 1) := dk_27 (dk_at dksJ8_checkIndex_0 11 rfl rfl)
theorem dJ8_checkIndex_12 : decode cJ8_checkIndex 12 = .ok (.invokestatic 95, 3) := dk_184 0 95 (dk_at dksJ8_checkIndex_0 12 rfl rfl)
theorem dJ8_checkIndex_15 : decode cJ8_checkIndex 15 = .ok (.athrow, 1) := dk_191 (dk_at dksJ8_checkIndex_0 15 rfl rfl)
theorem dJ8_checkIndex_16 : decode cJ8_checkIndex 16 = .ok (.iload_n 0, 1) := dk_26 (dk_at dksJ8_checkIndex_0 16 rfl rfl)
theorem dJ8_checkIndex_17 : decode cJ8_checkIndex 17 = .ok (.ireturn, 1) := dk_172 (dk_at dksJ8_checkIndex_0 17 rfl rfl)
theorem q369 : (Jvm.Cond.initialized "jdk/internal/util/Preconditions") ∈ lw_all := lw_g (lw_at lw_m1 12 rfl) rfl
theorem q550 : (Jvm.Cond.laysStatic "jdk/internal/util/Preconditions" "SIOOBE_FORMATTER" "Ljava/util/function/BiFunction;") ∈ lw_tbl := lw_at lw_m1 193 rfl
theorem q552 : (Jvm.Cond.static ({ cls := "jdk/internal/util/Preconditions", name := "checkFromToIndex", desc := "(IIILjava/util/function/BiFunction;)I" } : Jvm.MethodName)) ∈ lw_all := lw_g (lw_at lw_m1 195 rfl) rfl
theorem q553 : (Jvm.Cond.code ({ cls := "jdk/internal/util/Preconditions", name := "checkFromToIndex", desc := "(IIILjava/util/function/BiFunction;)I" } : Jvm.MethodName) prog_44_method_12_code (4 : Nat) (Option.some Jvm.ClassFile.FieldType.int)) ∈ lw_all := lw_g (lw_at lw_m1 196 rfl) rfl
theorem q991 : (Jvm.Cond.static ({ cls := "jdk/internal/util/Preconditions", name := "checkIndex", desc := "(IILjava/util/function/BiFunction;)I" } : Jvm.MethodName)) ∈ lw_all := lw_g (lw_at lw_m3 154 rfl) rfl
theorem q992 : (Jvm.Cond.code ({ cls := "jdk/internal/util/Preconditions", name := "checkIndex", desc := "(IILjava/util/function/BiFunction;)I" } : Jvm.MethodName) prog_44_method_11_code (3 : Nat) (Option.some Jvm.ClassFile.FieldType.int)) ∈ lw_all := lw_g (lw_at lw_m3 155 rfl) rfl

set_option maxRecDepth 100000
abbrev cJ9_isValidCodePoint : ByteArray := prog_32_method_11_code
def yJ9_isValidCodePoint : MethodName := ⟨RJ9, "isValidCodePoint", "(I)Z"⟩
def dkwJ9_isValidCodePoint_0 : List UInt8 := [26, 16, 16, 124, 60, 27, 16, 17, 162, 0, 7, 4, 167, 0, 4, 3, 172]
abbrev dktJ9_isValidCodePoint_0 : List UInt8 := dkwJ9_isValidCodePoint_0 ++ []
theorem dksJ9_isValidCodePoint_0 : cJ9_isValidCodePoint.data.toList.drop 0 = dktJ9_isValidCodePoint_0 := by decide +kernel
theorem dJ9_isValidCodePoint_0 : decode cJ9_isValidCodePoint 0 = .ok (.iload_n 0, 1) := dk_26 (dk_at dksJ9_isValidCodePoint_0 0 rfl rfl)
theorem dJ9_isValidCodePoint_1 : decode cJ9_isValidCodePoint 1 = .ok (.bipush 16, 2) := dk_16 16 (dk_at dksJ9_isValidCodePoint_0 1 rfl rfl)
theorem dJ9_isValidCodePoint_3 : decode cJ9_isValidCodePoint 3 = .ok (.iushr, 1) := dk_124 (dk_at dksJ9_isValidCodePoint_0 3 rfl rfl)
theorem dJ9_isValidCodePoint_4 : decode cJ9_isValidCodePoint 4 = .ok (.istore_n 1, 1) := dk_60 (dk_at dksJ9_isValidCodePoint_0 4 rfl rfl)
theorem dJ9_isValidCodePoint_5 : decode cJ9_isValidCodePoint 5 = .ok (.iload_n 1, 1) := dk_27 (dk_at dksJ9_isValidCodePoint_0 5 rfl rfl)
theorem dJ9_isValidCodePoint_6 : decode cJ9_isValidCodePoint 6 = .ok (.bipush 17, 2) := dk_16 17 (dk_at dksJ9_isValidCodePoint_0 6 rfl rfl)
theorem dJ9_isValidCodePoint_8 : decode cJ9_isValidCodePoint 8 = .ok (.if_icmp .ge 7, 3) := dk_162 0 7 (dk_at dksJ9_isValidCodePoint_0 8 rfl rfl)
theorem dJ9_isValidCodePoint_11 : decode cJ9_isValidCodePoint 11 = .ok (.iconst 1, 1) := dk_4 (dk_at dksJ9_isValidCodePoint_0 11 rfl rfl)
theorem dJ9_isValidCodePoint_12 : decode cJ9_isValidCodePoint 12 = .ok (.goto 4, 3) := dk_167 0 4 (dk_at dksJ9_isValidCodePoint_0 12 rfl rfl)
theorem dJ9_isValidCodePoint_15 : decode cJ9_isValidCodePoint 15 = .ok (.iconst 0, 1) := dk_3 (dk_at dksJ9_isValidCodePoint_0 15 rfl rfl)
theorem dJ9_isValidCodePoint_16 : decode cJ9_isValidCodePoint 16 = .ok (.ireturn, 1) := dk_172 (dk_at dksJ9_isValidCodePoint_0 16 rfl rfl)
abbrev cJ9_highSurrogate : ByteArray := prog_32_method_28_code
def yJ9_highSurrogate : MethodName := ⟨RJ9, "highSurrogate", "(I)C"⟩
def dkwJ9_highSurrogate_0 : List UInt8 := [26, 16, 10, 124, 18, 110, 96, 146, 172]
abbrev dktJ9_highSurrogate_0 : List UInt8 := dkwJ9_highSurrogate_0 ++ []
theorem dksJ9_highSurrogate_0 : cJ9_highSurrogate.data.toList.drop 0 = dktJ9_highSurrogate_0 := by decide +kernel
theorem dJ9_highSurrogate_0 : decode cJ9_highSurrogate 0 = .ok (.iload_n 0, 1) := dk_26 (dk_at dksJ9_highSurrogate_0 0 rfl rfl)
theorem dJ9_highSurrogate_1 : decode cJ9_highSurrogate 1 = .ok (.bipush 10, 2) := dk_16 10 (dk_at dksJ9_highSurrogate_0 1 rfl rfl)
theorem dJ9_highSurrogate_3 : decode cJ9_highSurrogate 3 = .ok (.iushr, 1) := dk_124 (dk_at dksJ9_highSurrogate_0 3 rfl rfl)
theorem dJ9_highSurrogate_4 : decode cJ9_highSurrogate 4 = .ok (.ldc 110, 2) := dk_18 110 (dk_at dksJ9_highSurrogate_0 4 rfl rfl)
theorem dJ9_highSurrogate_6 : decode cJ9_highSurrogate 6 = .ok (.iadd, 1) := dk_96 (dk_at dksJ9_highSurrogate_0 6 rfl rfl)
theorem dJ9_highSurrogate_7 : decode cJ9_highSurrogate 7 = .ok (.i2c, 1) := dk_146 (dk_at dksJ9_highSurrogate_0 7 rfl rfl)
theorem dJ9_highSurrogate_8 : decode cJ9_highSurrogate 8 = .ok (.ireturn, 1) := dk_172 (dk_at dksJ9_highSurrogate_0 8 rfl rfl)
abbrev cJ9_lowSurrogate : ByteArray := prog_32_method_29_code
def yJ9_lowSurrogate : MethodName := ⟨RJ9, "lowSurrogate", "(I)C"⟩
def dkwJ9_lowSurrogate_0 : List UInt8 := [26, 17, 3, 255, 126, 18, 76, 96, 146, 172]
abbrev dktJ9_lowSurrogate_0 : List UInt8 := dkwJ9_lowSurrogate_0 ++ []
theorem dksJ9_lowSurrogate_0 : cJ9_lowSurrogate.data.toList.drop 0 = dktJ9_lowSurrogate_0 := by decide +kernel
theorem dJ9_lowSurrogate_0 : decode cJ9_lowSurrogate 0 = .ok (.iload_n 0, 1) := dk_26 (dk_at dksJ9_lowSurrogate_0 0 rfl rfl)
theorem dJ9_lowSurrogate_1 : decode cJ9_lowSurrogate 1 = .ok (.sipush 1023, 3) := dk_17 3 255 (dk_at dksJ9_lowSurrogate_0 1 rfl rfl)
theorem dJ9_lowSurrogate_4 : decode cJ9_lowSurrogate 4 = .ok (.iand, 1) := dk_126 (dk_at dksJ9_lowSurrogate_0 4 rfl rfl)
theorem dJ9_lowSurrogate_5 : decode cJ9_lowSurrogate 5 = .ok (.ldc 76, 2) := dk_18 76 (dk_at dksJ9_lowSurrogate_0 5 rfl rfl)
theorem dJ9_lowSurrogate_7 : decode cJ9_lowSurrogate 7 = .ok (.iadd, 1) := dk_96 (dk_at dksJ9_lowSurrogate_0 7 rfl rfl)
theorem dJ9_lowSurrogate_8 : decode cJ9_lowSurrogate 8 = .ok (.i2c, 1) := dk_146 (dk_at dksJ9_lowSurrogate_0 8 rfl rfl)
theorem dJ9_lowSurrogate_9 : decode cJ9_lowSurrogate 9 = .ok (.ireturn, 1) := dk_172 (dk_at dksJ9_lowSurrogate_0 9 rfl rfl)
theorem q370 : (Jvm.Cond.initialized "java/lang/Character") ∈ lw_all := lw_g (lw_at lw_m1 13 rfl) rfl
theorem q570 : (Jvm.Cond.static ({ cls := "java/lang/Character", name := "isValidCodePoint", desc := "(I)Z" } : Jvm.MethodName)) ∈ lw_all := lw_g (lw_at lw_m1 213 rfl) rfl
theorem q571 : (Jvm.Cond.code ({ cls := "java/lang/Character", name := "isValidCodePoint", desc := "(I)Z" } : Jvm.MethodName) prog_32_method_11_code (2 : Nat) (Option.some Jvm.ClassFile.FieldType.boolean)) ∈ lw_all := lw_g (lw_at lw_m1 214 rfl) rfl
theorem q573 : (Jvm.Cond.static ({ cls := "java/lang/Character", name := "highSurrogate", desc := "(I)C" } : Jvm.MethodName)) ∈ lw_all := lw_g (lw_at lw_m1 216 rfl) rfl
theorem q574 : (Jvm.Cond.code ({ cls := "java/lang/Character", name := "highSurrogate", desc := "(I)C" } : Jvm.MethodName) prog_32_method_28_code (1 : Nat) (Option.some Jvm.ClassFile.FieldType.char)) ∈ lw_all := lw_g (lw_at lw_m1 217 rfl) rfl
theorem q575 : (Jvm.Cond.constant "java/lang/Character" (110 : Nat) (55232 : Int32)) ∈ lw_all := lw_g (lw_at lw_m1 218 rfl) rfl
theorem q577 : (Jvm.Cond.static ({ cls := "java/lang/Character", name := "lowSurrogate", desc := "(I)C" } : Jvm.MethodName)) ∈ lw_all := lw_g (lw_at lw_m1 220 rfl) rfl
theorem q578 : (Jvm.Cond.code ({ cls := "java/lang/Character", name := "lowSurrogate", desc := "(I)C" } : Jvm.MethodName) prog_32_method_29_code (1 : Nat) (Option.some Jvm.ClassFile.FieldType.char)) ∈ lw_all := lw_g (lw_at lw_m1 221 rfl) rfl
theorem q579 : (Jvm.Cond.constant "java/lang/Character" (76 : Nat) (56320 : Int32)) ∈ lw_all := lw_g (lw_at lw_m1 222 rfl) rfl

set_option maxRecDepth 100000
def TJ10 : u_T := fun k => match k with
  | 0 => ("java/lang/Throwable", "cause", "Ljava/lang/Throwable;", false)
  | 1 => ("java/lang/Throwable", "stackTrace", "[Ljava/lang/StackTraceElement;", false)
  | 2 => ("java/lang/Throwable", "suppressedExceptions", "Ljava/util/List;", false)
  | 3 => ("java/lang/Throwable", "detailMessage", "Ljava/lang/String;", false)
  | 4 => ("java/lang/Throwable", "backtrace", "Ljava/lang/Object;", false)
  | _ => ("java/lang/Throwable", "depth", "I", false)
def tyJ10 : Nat → FieldType := fun k => match k with
  | 0 => .object "java/lang/Throwable"
  | 1 => .array (.object "java/lang/StackTraceElement")
  | 2 => .object "java/util/List"
  | 3 => .object "java/lang/String"
  | 4 => .object "java/lang/Object"
  | _ => .int
abbrev wsJ100 : List Cond := u_ws RJ10 TJ10 6
theorem nmJ10 : ∀ a, a < 6 → ∀ b, b < 6 → a ≠ b → (TJ10 a).2.1 ≠ (TJ10 b).2.1 := by decide +kernel
theorem tyJ10_ok : ∀ k, k < 6 → parseFieldDescriptor (TJ10 k).2.2.1 = some (tyJ10 k) := by decide +kernel
abbrev cJ10_init : ByteArray := prog_34_method_2_code
def yJ10_init : MethodName := ⟨RJ10, "<init>", "(Ljava/lang/String;)V"⟩
def dkwJ10_init_0 : List UInt8 := [42, 43, 183, 0, 7, 177]
abbrev dktJ10_init_0 : List UInt8 := dkwJ10_init_0 ++ []
theorem dksJ10_init_0 : cJ10_init.data.toList.drop 0 = dktJ10_init_0 := by decide +kernel
theorem dJ10_init_0 : decode cJ10_init 0 = .ok (.aload_n 0, 1) := dk_42 (dk_at dksJ10_init_0 0 rfl rfl)
theorem dJ10_init_1 : decode cJ10_init 1 = .ok (.aload_n 1, 1) := dk_43 (dk_at dksJ10_init_0 1 rfl rfl)
theorem dJ10_init_2 : decode cJ10_init 2 = .ok (.invokespecial 7, 3) := dk_183 0 7 (dk_at dksJ10_init_0 2 rfl rfl)
theorem dJ10_init_5 : decode cJ10_init 5 = .ok (.return_, 1) := dk_177 (dk_at dksJ10_init_0 5 rfl rfl)
theorem q397 : (Jvm.Cond.initialized "java/lang/IllegalArgumentException") ∈ lw_all := lw_g (lw_at lw_m1 40 rfl) rfl
theorem q448 : (Jvm.Cond.selects "java/lang/IllegalArgumentException" ({ cls := "java/lang/Throwable", name := "fillInStackTrace", desc := "()Ljava/lang/Throwable;" } : Jvm.MethodName) ({ cls := "java/lang/Throwable", name := "fillInStackTrace", desc := "()Ljava/lang/Throwable;" } : Jvm.MethodName)) ∈ lw_all := lw_g (lw_at lw_m1 91 rfl) rfl
theorem q3109 : (Jvm.Cond.instantiable "java/lang/IllegalArgumentException" (6 : Nat)) ∈ lw_all := lw_g (lw_at lw_m12 112 rfl) rfl
theorem q3110 : (Jvm.Cond.castable "java/lang/IllegalArgumentException" "java/lang/IllegalArgumentException") ∈ lw_tbl := lw_at lw_m12 113 rfl
theorem q3111 : (Jvm.Cond.selects "java/lang/IllegalArgumentException" ({ cls := "java/lang/Throwable", name := "fillInStackTrace", desc := "(I)Ljava/lang/Throwable;" } : Jvm.MethodName) ({ cls := "java/lang/Throwable", name := "fillInStackTrace", desc := "(I)Ljava/lang/Throwable;" } : Jvm.MethodName)) ∈ lw_all := lw_g (lw_at lw_m12 114 rfl) rfl
theorem q3112 : (Jvm.Cond.lays "java/lang/IllegalArgumentException" "java/lang/Throwable" "cause" "Ljava/lang/Throwable;") ∈ lw_all := lw_g (lw_at lw_m12 115 rfl) rfl
theorem q3113 : (Jvm.Cond.lays "java/lang/IllegalArgumentException" "java/lang/Throwable" "stackTrace" "[Ljava/lang/StackTraceElement;") ∈ lw_all := lw_g (lw_at lw_m12 116 rfl) rfl
theorem q3114 : (Jvm.Cond.lays "java/lang/IllegalArgumentException" "java/lang/Throwable" "suppressedExceptions" "Ljava/util/List;") ∈ lw_all := lw_g (lw_at lw_m12 117 rfl) rfl
theorem q3115 : (Jvm.Cond.lays "java/lang/IllegalArgumentException" "java/lang/Throwable" "detailMessage" "Ljava/lang/String;") ∈ lw_all := lw_g (lw_at lw_m12 118 rfl) rfl
theorem q3116 : (Jvm.Cond.lays "java/lang/IllegalArgumentException" "java/lang/Throwable" "backtrace" "Ljava/lang/Object;") ∈ lw_all := lw_g (lw_at lw_m12 119 rfl) rfl
theorem q3119 : (Jvm.Cond.instanceMethod ({ cls := "java/lang/IllegalArgumentException", name := "<init>", desc := "(Ljava/lang/String;)V" } : Jvm.MethodName)) ∈ lw_all := lw_g (lw_at lw_m12 122 rfl) rfl
theorem q3120 : (Jvm.Cond.code ({ cls := "java/lang/IllegalArgumentException", name := "<init>", desc := "(Ljava/lang/String;)V" } : Jvm.MethodName) prog_34_method_2_code (2 : Nat) (Option.none : Option Jvm.ClassFile.FieldType)) ∈ lw_all := lw_g (lw_at lw_m12 123 rfl) rfl
theorem q3121 : (Jvm.Cond.methodLink "java/lang/IllegalArgumentException" (7 : Nat) ({ cls := "java/lang/RuntimeException", name := "<init>", desc := "(Ljava/lang/String;)V" } : Jvm.MethodName)) ∈ lw_all := lw_g (lw_at lw_m12 124 rfl) rfl
theorem q3122 : (Jvm.Cond.lays "java/lang/IllegalArgumentException" "java/lang/Throwable" "depth" "I") ∈ lw_all := lw_g (lw_at lw_m12 125 rfl) rfl
theorem q3123 : (Jvm.Cond.superclass "java/lang/IllegalArgumentException" "java/lang/RuntimeException") ∈ lw_all := lw_g (lw_at lw_m12 126 rfl) rfl
theorem in_J10 : ∀ w ∈ wsJ100, w ∈ lw_all := lw_in wsJ100 [3112, 3113, 3114, 3115, 3116, 3122] (by decide +kernel) (by decide +kernel)

set_option maxRecDepth 100000
abbrev cJ11_numberOfLeadingZeros : ByteArray := prog_36_method_47_code
def yJ11_numberOfLeadingZeros : MethodName := ⟨RJ11, "numberOfLeadingZeros", "(I)I"⟩
def dkwJ11_numberOfLeadingZeros_3 : List UInt8 := [5, 124, 59, 27, 26, 4, 124, 100, 172]
abbrev dktJ11_numberOfLeadingZeros_3 : List UInt8 := dkwJ11_numberOfLeadingZeros_3 ++ []
def dkwJ11_numberOfLeadingZeros_2 : List UInt8 := [124, 59, 26, 16, 16, 161, 0, 10, 132, 1, 252, 26, 7, 124, 59, 26, 7, 161, 0, 10, 132, 1, 254, 26]
abbrev dktJ11_numberOfLeadingZeros_2 : List UInt8 := dkwJ11_numberOfLeadingZeros_2 ++ dktJ11_numberOfLeadingZeros_3
def dkwJ11_numberOfLeadingZeros_1 : List UInt8 := [161, 0, 11, 132, 1, 240, 26, 16, 16, 124, 59, 26, 17, 1, 0, 161, 0, 11, 132, 1, 248, 26, 16, 8]
abbrev dktJ11_numberOfLeadingZeros_1 : List UInt8 := dkwJ11_numberOfLeadingZeros_1 ++ dktJ11_numberOfLeadingZeros_2
def dkwJ11_numberOfLeadingZeros_0 : List UInt8 := [26, 157, 0, 14, 26, 154, 0, 8, 16, 32, 167, 0, 4, 3, 172, 16, 31, 60, 26, 19, 1, 8]
abbrev dktJ11_numberOfLeadingZeros_0 : List UInt8 := dkwJ11_numberOfLeadingZeros_0 ++ dktJ11_numberOfLeadingZeros_1
theorem dksJ11_numberOfLeadingZeros_0 : cJ11_numberOfLeadingZeros.data.toList.drop 0 = dktJ11_numberOfLeadingZeros_0 := by decide +kernel
theorem dksJ11_numberOfLeadingZeros_1 : cJ11_numberOfLeadingZeros.data.toList.drop 22 = dktJ11_numberOfLeadingZeros_1 := dk_seg dksJ11_numberOfLeadingZeros_0 22 rfl rfl
theorem dksJ11_numberOfLeadingZeros_2 : cJ11_numberOfLeadingZeros.data.toList.drop 46 = dktJ11_numberOfLeadingZeros_2 := dk_seg dksJ11_numberOfLeadingZeros_1 24 rfl rfl
theorem dksJ11_numberOfLeadingZeros_3 : cJ11_numberOfLeadingZeros.data.toList.drop 70 = dktJ11_numberOfLeadingZeros_3 := dk_seg dksJ11_numberOfLeadingZeros_2 24 rfl rfl
theorem dJ11_numberOfLeadingZeros_0 : decode cJ11_numberOfLeadingZeros 0 = .ok (.iload_n 0, 1) := dk_26 (dk_at dksJ11_numberOfLeadingZeros_0 0 rfl rfl)
theorem dJ11_numberOfLeadingZeros_1 : decode cJ11_numberOfLeadingZeros 1 = .ok (.ifCond .gt 14, 3) := dk_157 0 14 (dk_at dksJ11_numberOfLeadingZeros_0 1 rfl rfl)
theorem dJ11_numberOfLeadingZeros_4 : decode cJ11_numberOfLeadingZeros 4 = .ok (.iload_n 0, 1) := dk_26 (dk_at dksJ11_numberOfLeadingZeros_0 4 rfl rfl)
theorem dJ11_numberOfLeadingZeros_5 : decode cJ11_numberOfLeadingZeros 5 = .ok (.ifCond .ne 8, 3) := dk_154 0 8 (dk_at dksJ11_numberOfLeadingZeros_0 5 rfl rfl)
theorem dJ11_numberOfLeadingZeros_8 : decode cJ11_numberOfLeadingZeros 8 = .ok (.bipush 32, 2) := dk_16 32 (dk_at dksJ11_numberOfLeadingZeros_0 8 rfl rfl)
theorem dJ11_numberOfLeadingZeros_10 : decode cJ11_numberOfLeadingZeros 10 = .ok (.goto 4, 3) := dk_167 0 4 (dk_at dksJ11_numberOfLeadingZeros_0 10 rfl rfl)
theorem dJ11_numberOfLeadingZeros_13 : decode cJ11_numberOfLeadingZeros 13 = .ok (.iconst 0, 1) := dk_3 (dk_at dksJ11_numberOfLeadingZeros_0 13 rfl rfl)
theorem dJ11_numberOfLeadingZeros_14 : decode cJ11_numberOfLeadingZeros 14 = .ok (.ireturn, 1) := dk_172 (dk_at dksJ11_numberOfLeadingZeros_0 14 rfl rfl)
theorem dJ11_numberOfLeadingZeros_15 : decode cJ11_numberOfLeadingZeros 15 = .ok (.bipush 31, 2) := dk_16 31 (dk_at dksJ11_numberOfLeadingZeros_0 15 rfl rfl)
theorem dJ11_numberOfLeadingZeros_17 : decode cJ11_numberOfLeadingZeros 17 = .ok (.istore_n 1, 1) := dk_60 (dk_at dksJ11_numberOfLeadingZeros_0 17 rfl rfl)
theorem dJ11_numberOfLeadingZeros_18 : decode cJ11_numberOfLeadingZeros 18 = .ok (.iload_n 0, 1) := dk_26 (dk_at dksJ11_numberOfLeadingZeros_0 18 rfl rfl)
theorem dJ11_numberOfLeadingZeros_19 : decode cJ11_numberOfLeadingZeros 19 = .ok (.ldc_w 264, 3) := dk_19 1 8 (dk_at dksJ11_numberOfLeadingZeros_0 19 rfl rfl)
theorem dJ11_numberOfLeadingZeros_22 : decode cJ11_numberOfLeadingZeros 22 = .ok (.if_icmp .lt 11, 3) := dk_161 0 11 (dk_at dksJ11_numberOfLeadingZeros_1 0 rfl rfl)
theorem dJ11_numberOfLeadingZeros_25 : decode cJ11_numberOfLeadingZeros 25 = .ok (.iinc 1 (-16), 3) := dk_132 1 240 (dk_at dksJ11_numberOfLeadingZeros_1 3 rfl rfl)
theorem dJ11_numberOfLeadingZeros_28 : decode cJ11_numberOfLeadingZeros 28 = .ok (.iload_n 0, 1) := dk_26 (dk_at dksJ11_numberOfLeadingZeros_1 6 rfl rfl)
theorem dJ11_numberOfLeadingZeros_29 : decode cJ11_numberOfLeadingZeros 29 = .ok (.bipush 16, 2) := dk_16 16 (dk_at dksJ11_numberOfLeadingZeros_1 7 rfl rfl)
theorem dJ11_numberOfLeadingZeros_31 : decode cJ11_numberOfLeadingZeros 31 = .ok (.iushr, 1) := dk_124 (dk_at dksJ11_numberOfLeadingZeros_1 9 rfl rfl)
theorem dJ11_numberOfLeadingZeros_32 : decode cJ11_numberOfLeadingZeros 32 = .ok (.istore_n 0, 1) := dk_59 (dk_at dksJ11_numberOfLeadingZeros_1 10 rfl rfl)
theorem dJ11_numberOfLeadingZeros_33 : decode cJ11_numberOfLeadingZeros 33 = .ok (.iload_n 0, 1) := dk_26 (dk_at dksJ11_numberOfLeadingZeros_1 11 rfl rfl)
theorem dJ11_numberOfLeadingZeros_34 : decode cJ11_numberOfLeadingZeros 34 = .ok (.sipush 256, 3) := dk_17 1 0 (dk_at dksJ11_numberOfLeadingZeros_1 12 rfl rfl)
theorem dJ11_numberOfLeadingZeros_37 : decode cJ11_numberOfLeadingZeros 37 = .ok (.if_icmp .lt 11, 3) := dk_161 0 11 (dk_at dksJ11_numberOfLeadingZeros_1 15 rfl rfl)
theorem dJ11_numberOfLeadingZeros_40 : decode cJ11_numberOfLeadingZeros 40 = .ok (.iinc 1 (-8), 3) := dk_132 1 248 (dk_at dksJ11_numberOfLeadingZeros_1 18 rfl rfl)
theorem dJ11_numberOfLeadingZeros_43 : decode cJ11_numberOfLeadingZeros 43 = .ok (.iload_n 0, 1) := dk_26 (dk_at dksJ11_numberOfLeadingZeros_1 21 rfl rfl)
theorem dJ11_numberOfLeadingZeros_44 : decode cJ11_numberOfLeadingZeros 44 = .ok (.bipush 8, 2) := dk_16 8 (dk_at dksJ11_numberOfLeadingZeros_1 22 rfl rfl)
theorem dJ11_numberOfLeadingZeros_46 : decode cJ11_numberOfLeadingZeros 46 = .ok (.iushr, 1) := dk_124 (dk_at dksJ11_numberOfLeadingZeros_2 0 rfl rfl)
theorem dJ11_numberOfLeadingZeros_47 : decode cJ11_numberOfLeadingZeros 47 = .ok (.istore_n 0, 1) := dk_59 (dk_at dksJ11_numberOfLeadingZeros_2 1 rfl rfl)
theorem dJ11_numberOfLeadingZeros_48 : decode cJ11_numberOfLeadingZeros 48 = .ok (.iload_n 0, 1) := dk_26 (dk_at dksJ11_numberOfLeadingZeros_2 2 rfl rfl)
theorem dJ11_numberOfLeadingZeros_49 : decode cJ11_numberOfLeadingZeros 49 = .ok (.bipush 16, 2) := dk_16 16 (dk_at dksJ11_numberOfLeadingZeros_2 3 rfl rfl)
theorem dJ11_numberOfLeadingZeros_51 : decode cJ11_numberOfLeadingZeros 51 = .ok (.if_icmp .lt 10, 3) := dk_161 0 10 (dk_at dksJ11_numberOfLeadingZeros_2 5 rfl rfl)
theorem dJ11_numberOfLeadingZeros_54 : decode cJ11_numberOfLeadingZeros 54 = .ok (.iinc 1 (-4), 3) := dk_132 1 252 (dk_at dksJ11_numberOfLeadingZeros_2 8 rfl rfl)
theorem dJ11_numberOfLeadingZeros_57 : decode cJ11_numberOfLeadingZeros 57 = .ok (.iload_n 0, 1) := dk_26 (dk_at dksJ11_numberOfLeadingZeros_2 11 rfl rfl)
theorem dJ11_numberOfLeadingZeros_58 : decode cJ11_numberOfLeadingZeros 58 = .ok (.iconst 4, 1) := dk_7 (dk_at dksJ11_numberOfLeadingZeros_2 12 rfl rfl)
theorem dJ11_numberOfLeadingZeros_59 : decode cJ11_numberOfLeadingZeros 59 = .ok (.iushr, 1) := dk_124 (dk_at dksJ11_numberOfLeadingZeros_2 13 rfl rfl)
theorem dJ11_numberOfLeadingZeros_60 : decode cJ11_numberOfLeadingZeros 60 = .ok (.istore_n 0, 1) := dk_59 (dk_at dksJ11_numberOfLeadingZeros_2 14 rfl rfl)
theorem dJ11_numberOfLeadingZeros_61 : decode cJ11_numberOfLeadingZeros 61 = .ok (.iload_n 0, 1) := dk_26 (dk_at dksJ11_numberOfLeadingZeros_2 15 rfl rfl)
theorem dJ11_numberOfLeadingZeros_62 : decode cJ11_numberOfLeadingZeros 62 = .ok (.iconst 4, 1) := dk_7 (dk_at dksJ11_numberOfLeadingZeros_2 16 rfl rfl)
theorem dJ11_numberOfLeadingZeros_63 : decode cJ11_numberOfLeadingZeros 63 = .ok (.if_icmp .lt 10, 3) := dk_161 0 10 (dk_at dksJ11_numberOfLeadingZeros_2 17 rfl rfl)
theorem dJ11_numberOfLeadingZeros_66 : decode cJ11_numberOfLeadingZeros 66 = .ok (.iinc 1 (-2), 3) := dk_132 1 254 (dk_at dksJ11_numberOfLeadingZeros_2 20 rfl rfl)
theorem dJ11_numberOfLeadingZeros_69 : decode cJ11_numberOfLeadingZeros 69 = .ok (.iload_n 0, 1) := dk_26 (dk_at dksJ11_numberOfLeadingZeros_2 23 rfl rfl)
theorem dJ11_numberOfLeadingZeros_70 : decode cJ11_numberOfLeadingZeros 70 = .ok (.iconst 2, 1) := dk_5 (dk_at dksJ11_numberOfLeadingZeros_3 0 rfl rfl)
theorem dJ11_numberOfLeadingZeros_71 : decode cJ11_numberOfLeadingZeros 71 = .ok (.iushr, 1) := dk_124 (dk_at dksJ11_numberOfLeadingZeros_3 1 rfl rfl)
theorem dJ11_numberOfLeadingZeros_72 : decode cJ11_numberOfLeadingZeros 72 = .ok (.istore_n 0, 1) := dk_59 (dk_at dksJ11_numberOfLeadingZeros_3 2 rfl rfl)
theorem dJ11_numberOfLeadingZeros_73 : decode cJ11_numberOfLeadingZeros 73 = .ok (.iload_n 1, 1) := dk_27 (dk_at dksJ11_numberOfLeadingZeros_3 3 rfl rfl)
theorem dJ11_numberOfLeadingZeros_74 : decode cJ11_numberOfLeadingZeros 74 = .ok (.iload_n 0, 1) := dk_26 (dk_at dksJ11_numberOfLeadingZeros_3 4 rfl rfl)
theorem dJ11_numberOfLeadingZeros_75 : decode cJ11_numberOfLeadingZeros 75 = .ok (.iconst 1, 1) := dk_4 (dk_at dksJ11_numberOfLeadingZeros_3 5 rfl rfl)
theorem dJ11_numberOfLeadingZeros_76 : decode cJ11_numberOfLeadingZeros 76 = .ok (.iushr, 1) := dk_124 (dk_at dksJ11_numberOfLeadingZeros_3 6 rfl rfl)
theorem dJ11_numberOfLeadingZeros_77 : decode cJ11_numberOfLeadingZeros 77 = .ok (.isub, 1) := dk_100 (dk_at dksJ11_numberOfLeadingZeros_3 7 rfl rfl)
theorem dJ11_numberOfLeadingZeros_78 : decode cJ11_numberOfLeadingZeros 78 = .ok (.ireturn, 1) := dk_172 (dk_at dksJ11_numberOfLeadingZeros_3 8 rfl rfl)
theorem q399 : (Jvm.Cond.initialized "java/lang/Integer") ∈ lw_all := lw_g (lw_at lw_m1 42 rfl) rfl
theorem q1756 : (Jvm.Cond.static ({ cls := "java/lang/Integer", name := "numberOfLeadingZeros", desc := "(I)I" } : Jvm.MethodName)) ∈ lw_all := lw_g (lw_at lw_m6 199 rfl) rfl
theorem q1757 : (Jvm.Cond.code ({ cls := "java/lang/Integer", name := "numberOfLeadingZeros", desc := "(I)I" } : Jvm.MethodName) prog_36_method_47_code (2 : Nat) (Option.some Jvm.ClassFile.FieldType.int)) ∈ lw_all := lw_g (lw_at lw_m6 200 rfl) rfl
theorem q1758 : (Jvm.Cond.constant "java/lang/Integer" (264 : Nat) (65536 : Int32)) ∈ lw_all := lw_g (lw_at lw_m6 201 rfl) rfl

set_option maxRecDepth 100000
abbrev cJ12_init : ByteArray := object_method_1_code
def yJ12_init : MethodName := ⟨RJ12, "<init>", "()V"⟩
theorem dJ12_init_0 : decode cJ12_init 0 = .ok (.return_, 1) := by decide +kernel
theorem q407 : (Jvm.Cond.instanceMethod ({ cls := "java/lang/Object", name := "<init>", desc := "()V" } : Jvm.MethodName)) ∈ lw_all := lw_g (lw_at lw_m1 50 rfl) rfl
theorem q408 : (Jvm.Cond.code ({ cls := "java/lang/Object", name := "<init>", desc := "()V" } : Jvm.MethodName) object_method_1_code (1 : Nat) (Option.none : Option Jvm.ClassFile.FieldType)) ∈ lw_all := lw_g (lw_at lw_m1 51 rfl) rfl

set_option maxRecDepth 100000
abbrev cX0_feed : ByteArray := method_3_code
def yX0_feed : MethodName := ⟨RX0, "feed", "(LContractLedger;IIIII)I"⟩
def dkwX0_feed_0 : List UInt8 := [42, 27, 28, 29, 21, 4, 21, 5, 182, 0, 7, 167, 0, 7, 58, 6, 4, 172, 3, 172]
abbrev dktX0_feed_0 : List UInt8 := dkwX0_feed_0 ++ []
theorem dksX0_feed_0 : cX0_feed.data.toList.drop 0 = dktX0_feed_0 := by decide +kernel
theorem dX0_feed_0 : decode cX0_feed 0 = .ok (.aload_n 0, 1) := dk_42 (dk_at dksX0_feed_0 0 rfl rfl)
theorem dX0_feed_1 : decode cX0_feed 1 = .ok (.iload_n 1, 1) := dk_27 (dk_at dksX0_feed_0 1 rfl rfl)
theorem dX0_feed_2 : decode cX0_feed 2 = .ok (.iload_n 2, 1) := dk_28 (dk_at dksX0_feed_0 2 rfl rfl)
theorem dX0_feed_3 : decode cX0_feed 3 = .ok (.iload_n 3, 1) := dk_29 (dk_at dksX0_feed_0 3 rfl rfl)
theorem dX0_feed_4 : decode cX0_feed 4 = .ok (.iload 4, 2) := dk_21 4 (dk_at dksX0_feed_0 4 rfl rfl)
theorem dX0_feed_6 : decode cX0_feed 6 = .ok (.iload 5, 2) := dk_21 5 (dk_at dksX0_feed_0 6 rfl rfl)
theorem dX0_feed_8 : decode cX0_feed 8 = .ok (.invokevirtual 7, 3) := dk_182 0 7 (dk_at dksX0_feed_0 8 rfl rfl)
theorem dX0_feed_11 : decode cX0_feed 11 = .ok (.goto 7, 3) := dk_167 0 7 (dk_at dksX0_feed_0 11 rfl rfl)
theorem dX0_feed_14 : decode cX0_feed 14 = .ok (.astore 6, 2) := dk_58 6 (dk_at dksX0_feed_0 14 rfl rfl)
theorem dX0_feed_16 : decode cX0_feed 16 = .ok (.iconst 1, 1) := dk_4 (dk_at dksX0_feed_0 16 rfl rfl)
theorem dX0_feed_17 : decode cX0_feed 17 = .ok (.ireturn, 1) := dk_172 (dk_at dksX0_feed_0 17 rfl rfl)
theorem dX0_feed_18 : decode cX0_feed 18 = .ok (.iconst 0, 1) := dk_3 (dk_at dksX0_feed_0 18 rfl rfl)
theorem dX0_feed_19 : decode cX0_feed 19 = .ok (.ireturn, 1) := dk_172 (dk_at dksX0_feed_0 19 rfl rfl)
abbrev cX0_end : ByteArray := method_4_code
def yX0_end : MethodName := ⟨RX0, "end", "(LContractLedger;I[J)I"⟩
def dkwX0_end_0 : List UInt8 := [44, 3, 42, 27, 182, 0, 15, 133, 80, 167, 0, 6, 78, 4, 172, 3, 172]
abbrev dktX0_end_0 : List UInt8 := dkwX0_end_0 ++ []
theorem dksX0_end_0 : cX0_end.data.toList.drop 0 = dktX0_end_0 := by decide +kernel
theorem dX0_end_0 : decode cX0_end 0 = .ok (.aload_n 2, 1) := dk_44 (dk_at dksX0_end_0 0 rfl rfl)
theorem dX0_end_1 : decode cX0_end 1 = .ok (.iconst 0, 1) := dk_3 (dk_at dksX0_end_0 1 rfl rfl)
theorem dX0_end_2 : decode cX0_end 2 = .ok (.aload_n 0, 1) := dk_42 (dk_at dksX0_end_0 2 rfl rfl)
theorem dX0_end_3 : decode cX0_end 3 = .ok (.iload_n 1, 1) := dk_27 (dk_at dksX0_end_0 3 rfl rfl)
theorem dX0_end_4 : decode cX0_end 4 = .ok (.invokevirtual 15, 3) := dk_182 0 15 (dk_at dksX0_end_0 4 rfl rfl)
theorem dX0_end_7 : decode cX0_end 7 = .ok (.i2l, 1) := dk_133 (dk_at dksX0_end_0 7 rfl rfl)
theorem dX0_end_8 : decode cX0_end 8 = .ok (.lastore, 1) := dk_80 (dk_at dksX0_end_0 8 rfl rfl)
theorem dX0_end_9 : decode cX0_end 9 = .ok (.goto 6, 3) := dk_167 0 6 (dk_at dksX0_end_0 9 rfl rfl)
theorem dX0_end_12 : decode cX0_end 12 = .ok (.astore_n 3, 1) := dk_78 (dk_at dksX0_end_0 12 rfl rfl)
theorem dX0_end_13 : decode cX0_end 13 = .ok (.iconst 1, 1) := dk_4 (dk_at dksX0_end_0 13 rfl rfl)
theorem dX0_end_14 : decode cX0_end 14 = .ok (.ireturn, 1) := dk_172 (dk_at dksX0_end_0 14 rfl rfl)
theorem dX0_end_15 : decode cX0_end 15 = .ok (.iconst 0, 1) := dk_3 (dk_at dksX0_end_0 15 rfl rfl)
theorem dX0_end_16 : decode cX0_end 16 = .ok (.ireturn, 1) := dk_172 (dk_at dksX0_end_0 16 rfl rfl)
theorem q357 : (Jvm.Cond.initialized "ContractLedgerLaw") ∈ lw_all := lw_g (lw_at lw_m1 0 rfl) rfl
theorem q401 : (Jvm.Cond.classLink "ContractLedgerLaw" (8 : Nat) "ContractLedger") ∈ lw_all := lw_g (lw_at lw_m1 44 rfl) rfl
theorem q403 : (Jvm.Cond.methodLink "ContractLedgerLaw" (21 : Nat) ({ cls := "ContractLedger", name := "<init>", desc := "()V" } : Jvm.MethodName)) ∈ lw_all := lw_g (lw_at lw_m1 46 rfl) rfl
theorem q1667 : (Jvm.Cond.methodLink "ContractLedgerLaw" (39 : Nat) ({ cls := "ContractLedger", name := "check", desc := "()I" } : Jvm.MethodName)) ∈ lw_all := lw_g (lw_at lw_m6 110 rfl) rfl
theorem q2326 : (Jvm.Cond.methodLink "ContractLedgerLaw" (43 : Nat) ({ cls := "ContractLedger", name := "place", desc := "()I" } : Jvm.MethodName)) ∈ lw_all := lw_g (lw_at lw_m9 49 rfl) rfl
theorem q2330 : (Jvm.Cond.methodLink "ContractLedgerLaw" (47 : Nat) ({ cls := "ContractLedger", name := "form", desc := "()I" } : Jvm.MethodName)) ∈ lw_all := lw_g (lw_at lw_m9 53 rfl) rfl
theorem q2434 : (Jvm.Cond.methodLink "ContractLedgerLaw" (53 : Nat) ({ cls := "ContractLedger", name := "account", desc := "(J)I" } : Jvm.MethodName)) ∈ lw_all := lw_g (lw_at lw_m9 157 rfl) rfl
theorem q2439 : (Jvm.Cond.methodLink "ContractLedgerLaw" (58 : Nat) ({ cls := "ContractLedger", name := "now", desc := "(JI)Z" } : Jvm.MethodName)) ∈ lw_all := lw_g (lw_at lw_m9 162 rfl) rfl
theorem q2446 : (Jvm.Cond.methodLink "ContractLedgerLaw" (63 : Nat) ({ cls := "ContractLedger", name := "batch", desc := "(II)Z" } : Jvm.MethodName)) ∈ lw_all := lw_g (lw_at lw_m9 169 rfl) rfl
theorem q2454 : (Jvm.Cond.methodLink "ContractLedgerLaw" (68 : Nat) ({ cls := "ContractLedger", name := "limits", desc := "(JII)Z" } : Jvm.MethodName)) ∈ lw_all := lw_g (lw_at lw_m9 177 rfl) rfl
theorem q2460 : (Jvm.Cond.methodLink "ContractLedgerLaw" (73 : Nat) ({ cls := "ContractLedger", name := "content", desc := "(ZJ)I" } : Jvm.MethodName)) ∈ lw_all := lw_g (lw_at lw_m9 183 rfl) rfl
theorem q2465 : (Jvm.Cond.methodLink "ContractLedgerLaw" (78 : Nat) ({ cls := "ContractLedger", name := "apply", desc := "()I" } : Jvm.MethodName)) ∈ lw_all := lw_g (lw_at lw_m9 188 rfl) rfl
theorem q3028 : (Jvm.Cond.methodLink "ContractLedgerLaw" (82 : Nat) ({ cls := "ContractLedger", name := "receipt", desc := "(II)I" } : Jvm.MethodName)) ∈ lw_all := lw_g (lw_at lw_m12 31 rfl) rfl
theorem q3032 : (Jvm.Cond.methodLink "ContractLedgerLaw" (87 : Nat) ({ cls := "ContractLedger", name := "accounts", desc := "()I" } : Jvm.MethodName)) ∈ lw_all := lw_g (lw_at lw_m12 35 rfl) rfl
theorem q3036 : (Jvm.Cond.methodLink "ContractLedgerLaw" (91 : Nat) ({ cls := "ContractLedger", name := "contracts", desc := "()I" } : Jvm.MethodName)) ∈ lw_all := lw_g (lw_at lw_m12 39 rfl) rfl
theorem q3040 : (Jvm.Cond.methodLink "ContractLedgerLaw" (95 : Nat) ({ cls := "ContractLedger", name := "balance", desc := "(ZI)J" } : Jvm.MethodName)) ∈ lw_all := lw_g (lw_at lw_m12 43 rfl) rfl
theorem q3049 : (Jvm.Cond.methodLink "ContractLedgerLaw" (100 : Nat) ({ cls := "ContractLedger", name := "counter", desc := "(I)I" } : Jvm.MethodName)) ∈ lw_all := lw_g (lw_at lw_m12 52 rfl) rfl
theorem q3053 : (Jvm.Cond.methodLink "ContractLedgerLaw" (104 : Nat) ({ cls := "ContractLedger", name := "paid", desc := "(I)I" } : Jvm.MethodName)) ∈ lw_all := lw_g (lw_at lw_m12 56 rfl) rfl
theorem q3057 : (Jvm.Cond.methodLink "ContractLedgerLaw" (108 : Nat) ({ cls := "ContractLedger", name := "money", desc := "(I)J" } : Jvm.MethodName)) ∈ lw_all := lw_g (lw_at lw_m12 60 rfl) rfl
theorem q3061 : (Jvm.Cond.methodLink "ContractLedgerLaw" (113 : Nat) ({ cls := "ContractLedger", name := "stored", desc := "()I" } : Jvm.MethodName)) ∈ lw_all := lw_g (lw_at lw_m12 64 rfl) rfl
theorem q3065 : (Jvm.Cond.methodLink "ContractLedgerLaw" (117 : Nat) ({ cls := "ContractLedger", name := "storage", desc := "(I)I" } : Jvm.MethodName)) ∈ lw_all := lw_g (lw_at lw_m12 68 rfl) rfl
theorem q3069 : (Jvm.Cond.methodLink "ContractLedgerLaw" (121 : Nat) ({ cls := "ContractLedger", name := "failure", desc := "()I" } : Jvm.MethodName)) ∈ lw_all := lw_g (lw_at lw_m12 72 rfl) rfl
theorem q3073 : (Jvm.Cond.methodLink "ContractLedgerLaw" (125 : Nat) ({ cls := "ContractLedger", name := "out", desc := "(I)I" } : Jvm.MethodName)) ∈ lw_all := lw_g (lw_at lw_m12 76 rfl) rfl
theorem q3077 : (Jvm.Cond.methodLink "ContractLedgerLaw" (129 : Nat) ({ cls := "ContractLedger", name := "wrongs", desc := "()I" } : Jvm.MethodName)) ∈ lw_all := lw_g (lw_at lw_m12 80 rfl) rfl
theorem q3081 : (Jvm.Cond.methodLink "ContractLedgerLaw" (133 : Nat) ({ cls := "ContractLedger", name := "isWhole", desc := "()Z" } : Jvm.MethodName)) ∈ lw_all := lw_g (lw_at lw_m12 84 rfl) rfl
theorem q3085 : (Jvm.Cond.methodLink "ContractLedgerLaw" (25 : Nat) ({ cls := "ContractLedgerLaw", name := "feed", desc := "(LContractLedger;IIIII)I" } : Jvm.MethodName)) ∈ lw_all := lw_g (lw_at lw_m12 88 rfl) rfl
theorem q3086 : (Jvm.Cond.static ({ cls := "ContractLedgerLaw", name := "feed", desc := "(LContractLedger;IIIII)I" } : Jvm.MethodName)) ∈ lw_all := lw_g (lw_at lw_m12 89 rfl) rfl
theorem q3087 : (Jvm.Cond.codeWith ({ cls := "ContractLedgerLaw", name := "feed", desc := "(LContractLedger;IIIII)I" } : Jvm.MethodName) method_3_code (7 : Nat) (Option.some Jvm.ClassFile.FieldType.int) [((0 : Nat), (11 : Nat), (14 : Nat), (13 : Nat))]) ∈ lw_all := lw_g (lw_at lw_m12 90 rfl) rfl
theorem q3088 : (Jvm.Cond.classLink "ContractLedgerLaw" (13 : Nat) "java/lang/IllegalStateException") ∈ lw_all := lw_g (lw_at lw_m12 91 rfl) rfl
theorem q3089 : (Jvm.Cond.methodLink "ContractLedgerLaw" (7 : Nat) ({ cls := "ContractLedger", name := "feed", desc := "(IIIII)V" } : Jvm.MethodName)) ∈ lw_all := lw_g (lw_at lw_m12 92 rfl) rfl
theorem q3100 : (Jvm.Cond.methodLink "ContractLedgerLaw" (35 : Nat) ({ cls := "ContractLedgerLaw", name := "end", desc := "(LContractLedger;I[J)I" } : Jvm.MethodName)) ∈ lw_all := lw_g (lw_at lw_m12 103 rfl) rfl
theorem q3101 : (Jvm.Cond.static ({ cls := "ContractLedgerLaw", name := "end", desc := "(LContractLedger;I[J)I" } : Jvm.MethodName)) ∈ lw_all := lw_g (lw_at lw_m12 104 rfl) rfl
theorem q3102 : (Jvm.Cond.codeWith ({ cls := "ContractLedgerLaw", name := "end", desc := "(LContractLedger;I[J)I" } : Jvm.MethodName) method_4_code (4 : Nat) (Option.some Jvm.ClassFile.FieldType.int) [((0 : Nat), (9 : Nat), (12 : Nat), (19 : Nat))]) ∈ lw_all := lw_g (lw_at lw_m12 105 rfl) rfl
theorem q3103 : (Jvm.Cond.classLink "ContractLedgerLaw" (19 : Nat) "java/lang/IllegalArgumentException") ∈ lw_all := lw_g (lw_at lw_m12 106 rfl) rfl
theorem q3104 : (Jvm.Cond.methodLink "ContractLedgerLaw" (15 : Nat) ({ cls := "ContractLedger", name := "end", desc := "(I)I" } : Jvm.MethodName)) ∈ lw_all := lw_g (lw_at lw_m12 107 rfl) rfl
theorem q3124 : (Jvm.Cond.methodLink "ContractLedgerLaw" (81 : Nat) ({ cls := "ContractLedgerModel", name := "apply", desc := "()I" } : Jvm.MethodName)) ∈ lw_all := lw_g (lw_at lw_m12 127 rfl) rfl
theorem q4073 : (Jvm.Cond.classLink "ContractLedgerLaw" (22 : Nat) "ContractLedgerModel") ∈ lw_all := lw_g (lw_at lw_m16 116 rfl) rfl
theorem q4074 : (Jvm.Cond.methodLink "ContractLedgerLaw" (24 : Nat) ({ cls := "ContractLedgerModel", name := "<init>", desc := "()V" } : Jvm.MethodName)) ∈ lw_all := lw_g (lw_at lw_m16 117 rfl) rfl
theorem q4581 : (Jvm.Cond.methodLink "ContractLedgerLaw" (31 : Nat) ({ cls := "ContractLedgerModel", name := "thrown", desc := "()I" } : Jvm.MethodName)) ∈ lw_all := lw_g (lw_at lw_m18 144 rfl) rfl
theorem q4585 : (Jvm.Cond.methodLink "ContractLedgerLaw" (30 : Nat) ({ cls := "ContractLedgerModel", name := "feed", desc := "(IIIII)V" } : Jvm.MethodName)) ∈ lw_all := lw_g (lw_at lw_m18 148 rfl) rfl
theorem q4593 : (Jvm.Cond.methodLink "ContractLedgerLaw" (38 : Nat) ({ cls := "ContractLedgerModel", name := "end", desc := "(I)I" } : Jvm.MethodName)) ∈ lw_all := lw_g (lw_at lw_m18 156 rfl) rfl
theorem q4597 : (Jvm.Cond.methodLink "ContractLedgerLaw" (42 : Nat) ({ cls := "ContractLedgerModel", name := "check", desc := "()I" } : Jvm.MethodName)) ∈ lw_all := lw_g (lw_at lw_m18 160 rfl) rfl
theorem q4605 : (Jvm.Cond.methodLink "ContractLedgerLaw" (46 : Nat) ({ cls := "ContractLedgerModel", name := "place", desc := "()I" } : Jvm.MethodName)) ∈ lw_all := lw_g (lw_at lw_m18 168 rfl) rfl
theorem q4609 : (Jvm.Cond.methodLink "ContractLedgerLaw" (50 : Nat) ({ cls := "ContractLedgerModel", name := "form", desc := "()I" } : Jvm.MethodName)) ∈ lw_all := lw_g (lw_at lw_m18 172 rfl) rfl
theorem q4617 : (Jvm.Cond.methodLink "ContractLedgerLaw" (57 : Nat) ({ cls := "ContractLedgerModel", name := "account", desc := "(J)I" } : Jvm.MethodName)) ∈ lw_all := lw_g (lw_at lw_m18 180 rfl) rfl
theorem q4622 : (Jvm.Cond.methodLink "ContractLedgerLaw" (62 : Nat) ({ cls := "ContractLedgerModel", name := "now", desc := "(JI)Z" } : Jvm.MethodName)) ∈ lw_all := lw_g (lw_at lw_m18 185 rfl) rfl
theorem q4629 : (Jvm.Cond.methodLink "ContractLedgerLaw" (67 : Nat) ({ cls := "ContractLedgerModel", name := "batch", desc := "(II)Z" } : Jvm.MethodName)) ∈ lw_all := lw_g (lw_at lw_m18 192 rfl) rfl
theorem q4633 : (Jvm.Cond.methodLink "ContractLedgerLaw" (72 : Nat) ({ cls := "ContractLedgerModel", name := "limits", desc := "(JII)Z" } : Jvm.MethodName)) ∈ lw_all := lw_g (lw_at lw_m18 196 rfl) rfl
theorem q4639 : (Jvm.Cond.methodLink "ContractLedgerLaw" (77 : Nat) ({ cls := "ContractLedgerModel", name := "content", desc := "(ZJ)I" } : Jvm.MethodName)) ∈ lw_all := lw_g (lw_at lw_m18 202 rfl) rfl
theorem q4643 : (Jvm.Cond.methodLink "ContractLedgerLaw" (86 : Nat) ({ cls := "ContractLedgerModel", name := "receipt", desc := "(II)I" } : Jvm.MethodName)) ∈ lw_all := lw_g (lw_at lw_m18 206 rfl) rfl
theorem q4647 : (Jvm.Cond.methodLink "ContractLedgerLaw" (90 : Nat) ({ cls := "ContractLedgerModel", name := "accounts", desc := "()I" } : Jvm.MethodName)) ∈ lw_all := lw_g (lw_at lw_m18 210 rfl) rfl
theorem q4651 : (Jvm.Cond.methodLink "ContractLedgerLaw" (94 : Nat) ({ cls := "ContractLedgerModel", name := "contracts", desc := "()I" } : Jvm.MethodName)) ∈ lw_all := lw_g (lw_at lw_m18 214 rfl) rfl
theorem q4655 : (Jvm.Cond.methodLink "ContractLedgerLaw" (99 : Nat) ({ cls := "ContractLedgerModel", name := "balance", desc := "(ZI)J" } : Jvm.MethodName)) ∈ lw_all := lw_g (lw_at lw_m18 218 rfl) rfl
theorem q4663 : (Jvm.Cond.methodLink "ContractLedgerLaw" (103 : Nat) ({ cls := "ContractLedgerModel", name := "counter", desc := "(I)I" } : Jvm.MethodName)) ∈ lw_all := lw_g (lw_at lw_m18 226 rfl) rfl
theorem q4667 : (Jvm.Cond.methodLink "ContractLedgerLaw" (107 : Nat) ({ cls := "ContractLedgerModel", name := "paid", desc := "(I)I" } : Jvm.MethodName)) ∈ lw_all := lw_g (lw_at lw_m18 230 rfl) rfl
theorem q4671 : (Jvm.Cond.methodLink "ContractLedgerLaw" (112 : Nat) ({ cls := "ContractLedgerModel", name := "money", desc := "(I)J" } : Jvm.MethodName)) ∈ lw_all := lw_g (lw_at lw_m18 234 rfl) rfl
theorem q4675 : (Jvm.Cond.methodLink "ContractLedgerLaw" (116 : Nat) ({ cls := "ContractLedgerModel", name := "stored", desc := "()I" } : Jvm.MethodName)) ∈ lw_all := lw_g (lw_at lw_m18 238 rfl) rfl
theorem q4679 : (Jvm.Cond.methodLink "ContractLedgerLaw" (120 : Nat) ({ cls := "ContractLedgerModel", name := "storage", desc := "(I)I" } : Jvm.MethodName)) ∈ lw_all := lw_g (lw_at lw_m19 2 rfl) rfl
theorem q4683 : (Jvm.Cond.methodLink "ContractLedgerLaw" (124 : Nat) ({ cls := "ContractLedgerModel", name := "failure", desc := "()I" } : Jvm.MethodName)) ∈ lw_all := lw_g (lw_at lw_m19 6 rfl) rfl
theorem q4687 : (Jvm.Cond.methodLink "ContractLedgerLaw" (128 : Nat) ({ cls := "ContractLedgerModel", name := "out", desc := "(I)I" } : Jvm.MethodName)) ∈ lw_all := lw_g (lw_at lw_m19 10 rfl) rfl
theorem q4691 : (Jvm.Cond.methodLink "ContractLedgerLaw" (132 : Nat) ({ cls := "ContractLedgerModel", name := "wrongs", desc := "()I" } : Jvm.MethodName)) ∈ lw_all := lw_g (lw_at lw_m19 14 rfl) rfl
theorem q4695 : (Jvm.Cond.methodLink "ContractLedgerLaw" (137 : Nat) ({ cls := "ContractLedgerModel", name := "isWhole", desc := "()Z" } : Jvm.MethodName)) ∈ lw_all := lw_g (lw_at lw_m19 18 rfl) rfl
theorem q4699 : (Jvm.Cond.constantLong "ContractLedgerLaw" (51 : Nat) (4294967295 : Int64)) ∈ lw_all := lw_g (lw_at lw_m19 22 rfl) rfl

set_option maxRecDepth 100000
set_option maxRecDepth 100000 in
set_option maxRecDepth 100000 in
abbrev cX1_init : ByteArray := prog_1_method_1_code
def yX1_init : MethodName := ⟨RX1, "<init>", "()V"⟩
def dkwX1_init_19 : List UInt8 := [183, 0, 169, 83, 42, 180, 0, 165, 27, 187, 0, 163, 89, 183, 0, 170, 83, 132, 1, 1, 167, 255, 221, 177]
abbrev dktX1_init_19 : List UInt8 := dkwX1_init_19 ++ []
def dkwX1_init_18 : List UInt8 := [189, 0, 163, 181, 0, 165, 3, 60, 27, 16, 16, 162, 0, 35, 42, 180, 0, 156, 27, 187, 0, 154, 89]
abbrev dktX1_init_18 : List UInt8 := dkwX1_init_18 ++ dktX1_init_19
def dkwX1_init_17 : List UInt8 := [181, 0, 151, 42, 16, 16, 189, 0, 154, 181, 0, 156, 42, 17, 64, 0, 188, 8, 181, 0, 160, 42, 16, 16]
abbrev dktX1_init_17 : List UInt8 := dkwX1_init_17 ++ dktX1_init_18
def dkwX1_init_16 : List UInt8 := [180, 0, 16, 42, 180, 0, 128, 42, 180, 0, 137, 183, 0, 143, 181, 0, 146, 42, 18, 150, 188, 8]
abbrev dktX1_init_16 : List UInt8 := dkwX1_init_16 ++ dktX1_init_17
def dkwX1_init_15 : List UInt8 := [180, 0, 105, 42, 180, 0, 114, 42, 180, 0, 82, 42, 180, 0, 48, 42, 180, 0, 91, 42, 180, 0, 121, 42]
abbrev dktX1_init_15 : List UInt8 := dkwX1_init_15 ++ dktX1_init_16
def dkwX1_init_14 : List UInt8 := [183, 0, 134, 181, 0, 137, 42, 187, 0, 141, 89, 42, 180, 0, 32, 42, 180, 0, 39, 42, 180, 0, 98, 42]
abbrev dktX1_init_14 : List UInt8 := dkwX1_init_14 ++ dktX1_init_15
def dkwX1_init_13 : List UInt8 := [42, 180, 0, 66, 42, 180, 0, 91, 42, 180, 0, 73, 42, 180, 0, 121, 42, 180, 0, 16, 42, 180, 0, 128]
abbrev dktX1_init_13 : List UInt8 := dkwX1_init_13 ++ dktX1_init_14
def dkwX1_init_12 : List UInt8 := [187, 0, 132, 89, 42, 180, 0, 48, 42, 180, 0, 39, 42, 180, 0, 105, 42, 180, 0, 98, 42, 180, 0, 57]
abbrev dktX1_init_12 : List UInt8 := dkwX1_init_12 ++ dktX1_init_13
def dkwX1_init_11 : List UInt8 := [183, 0, 120, 181, 0, 121, 42, 187, 0, 125, 89, 42, 180, 0, 16, 183, 0, 127, 181, 0, 128, 42]
abbrev dktX1_init_11 : List UInt8 := dkwX1_init_11 ++ dktX1_init_12
def dkwX1_init_10 : List UInt8 := [180, 0, 105, 42, 180, 0, 82, 42, 180, 0, 48, 183, 0, 111, 181, 0, 114, 42, 187, 0, 118, 89]
abbrev dktX1_init_10 : List UInt8 := dkwX1_init_10 ++ dktX1_init_11
def dkwX1_init_9 : List UInt8 := [183, 0, 104, 181, 0, 105, 42, 187, 0, 109, 89, 42, 180, 0, 32, 42, 180, 0, 39, 42, 180, 0, 98, 42]
abbrev dktX1_init_9 : List UInt8 := dkwX1_init_9 ++ dktX1_init_10
def dkwX1_init_8 : List UInt8 := [183, 0, 88, 181, 0, 91, 42, 187, 0, 95, 89, 183, 0, 97, 181, 0, 98, 42, 187, 0, 102, 89]
abbrev dktX1_init_8 : List UInt8 := dkwX1_init_8 ++ dktX1_init_9
def dkwX1_init_7 : List UInt8 := [187, 0, 86, 89, 42, 180, 0, 39, 42, 180, 0, 48, 42, 180, 0, 57, 42, 180, 0, 66, 42, 180, 0, 73]
abbrev dktX1_init_7 : List UInt8 := dkwX1_init_7 ++ dktX1_init_8
def dkwX1_init_6 : List UInt8 := [180, 0, 48, 42, 180, 0, 57, 42, 180, 0, 66, 42, 180, 0, 73, 183, 0, 79, 181, 0, 82, 42]
abbrev dktX1_init_6 : List UInt8 := dkwX1_init_6 ++ dktX1_init_7
def dkwX1_init_5 : List UInt8 := [187, 0, 70, 89, 183, 0, 72, 181, 0, 73, 42, 187, 0, 77, 89, 42, 180, 0, 32, 42, 180, 0, 39, 42]
abbrev dktX1_init_5 : List UInt8 := dkwX1_init_5 ++ dktX1_init_6
def dkwX1_init_4 : List UInt8 := [181, 0, 57, 42, 187, 0, 61, 89, 42, 180, 0, 48, 42, 180, 0, 57, 183, 0, 63, 181, 0, 66, 42]
abbrev dktX1_init_4 : List UInt8 := dkwX1_init_4 ++ dktX1_init_5
def dkwX1_init_3 : List UInt8 := [183, 0, 45, 181, 0, 48, 42, 187, 0, 52, 89, 42, 180, 0, 48, 42, 180, 0, 39, 183, 0, 54]
abbrev dktX1_init_3 : List UInt8 := dkwX1_init_3 ++ dktX1_init_4
def dkwX1_init_2 : List UInt8 := [181, 0, 32, 42, 187, 0, 36, 89, 183, 0, 38, 181, 0, 39, 42, 187, 0, 43, 89, 42, 180, 0, 16]
abbrev dktX1_init_2 : List UInt8 := dkwX1_init_2 ++ dktX1_init_3
def dkwX1_init_1 : List UInt8 := [42, 187, 0, 20, 89, 183, 0, 22, 181, 0, 23, 42, 187, 0, 27, 89, 42, 180, 0, 23, 183, 0, 29]
abbrev dktX1_init_1 : List UInt8 := dkwX1_init_1 ++ dktX1_init_2
def dkwX1_init_0 : List UInt8 := [42, 183, 0, 1, 42, 17, 64, 0, 188, 8, 181, 0, 7, 42, 187, 0, 13, 89, 183, 0, 15, 181, 0, 16]
abbrev dktX1_init_0 : List UInt8 := dkwX1_init_0 ++ dktX1_init_1
theorem dksX1_init_0 : cX1_init.data.toList.drop 0 = dktX1_init_0 := by decide +kernel
theorem dksX1_init_1 : cX1_init.data.toList.drop 24 = dktX1_init_1 := dk_seg dksX1_init_0 24 rfl rfl
theorem dksX1_init_2 : cX1_init.data.toList.drop 47 = dktX1_init_2 := dk_seg dksX1_init_1 23 rfl rfl
theorem dksX1_init_3 : cX1_init.data.toList.drop 70 = dktX1_init_3 := dk_seg dksX1_init_2 23 rfl rfl
theorem dksX1_init_4 : cX1_init.data.toList.drop 92 = dktX1_init_4 := dk_seg dksX1_init_3 22 rfl rfl
theorem dksX1_init_5 : cX1_init.data.toList.drop 115 = dktX1_init_5 := dk_seg dksX1_init_4 23 rfl rfl
theorem dksX1_init_6 : cX1_init.data.toList.drop 139 = dktX1_init_6 := dk_seg dksX1_init_5 24 rfl rfl
theorem dksX1_init_7 : cX1_init.data.toList.drop 161 = dktX1_init_7 := dk_seg dksX1_init_6 22 rfl rfl
theorem dksX1_init_8 : cX1_init.data.toList.drop 185 = dktX1_init_8 := dk_seg dksX1_init_7 24 rfl rfl
theorem dksX1_init_9 : cX1_init.data.toList.drop 207 = dktX1_init_9 := dk_seg dksX1_init_8 22 rfl rfl
theorem dksX1_init_10 : cX1_init.data.toList.drop 231 = dktX1_init_10 := dk_seg dksX1_init_9 24 rfl rfl
theorem dksX1_init_11 : cX1_init.data.toList.drop 253 = dktX1_init_11 := dk_seg dksX1_init_10 22 rfl rfl
theorem dksX1_init_12 : cX1_init.data.toList.drop 275 = dktX1_init_12 := dk_seg dksX1_init_11 22 rfl rfl
theorem dksX1_init_13 : cX1_init.data.toList.drop 299 = dktX1_init_13 := dk_seg dksX1_init_12 24 rfl rfl
theorem dksX1_init_14 : cX1_init.data.toList.drop 323 = dktX1_init_14 := dk_seg dksX1_init_13 24 rfl rfl
theorem dksX1_init_15 : cX1_init.data.toList.drop 347 = dktX1_init_15 := dk_seg dksX1_init_14 24 rfl rfl
theorem dksX1_init_16 : cX1_init.data.toList.drop 371 = dktX1_init_16 := dk_seg dksX1_init_15 24 rfl rfl
theorem dksX1_init_17 : cX1_init.data.toList.drop 393 = dktX1_init_17 := dk_seg dksX1_init_16 22 rfl rfl
theorem dksX1_init_18 : cX1_init.data.toList.drop 417 = dktX1_init_18 := dk_seg dksX1_init_17 24 rfl rfl
theorem dksX1_init_19 : cX1_init.data.toList.drop 440 = dktX1_init_19 := dk_seg dksX1_init_18 23 rfl rfl
theorem dX1_init_0 : decode cX1_init 0 = .ok (.aload_n 0, 1) := dk_42 (dk_at dksX1_init_0 0 rfl rfl)
theorem dX1_init_1 : decode cX1_init 1 = .ok (.invokespecial 1, 3) := dk_183 0 1 (dk_at dksX1_init_0 1 rfl rfl)
theorem dX1_init_4 : decode cX1_init 4 = .ok (.aload_n 0, 1) := dk_42 (dk_at dksX1_init_0 4 rfl rfl)
theorem dX1_init_5 : decode cX1_init 5 = .ok (.sipush 16384, 3) := dk_17 64 0 (dk_at dksX1_init_0 5 rfl rfl)
theorem dX1_init_8 : decode cX1_init 8 = .ok (.newarray .byte, 2) := dk_188_8 (dk_at dksX1_init_0 8 rfl rfl)
theorem dX1_init_10 : decode cX1_init 10 = .ok (.putfield 7, 3) := dk_181 0 7 (dk_at dksX1_init_0 10 rfl rfl)
theorem dX1_init_13 : decode cX1_init 13 = .ok (.aload_n 0, 1) := dk_42 (dk_at dksX1_init_0 13 rfl rfl)
theorem dX1_init_14 : decode cX1_init 14 = .ok (.new 13, 3) := dk_187 0 13 (dk_at dksX1_init_0 14 rfl rfl)
theorem dX1_init_17 : decode cX1_init 17 = .ok (.dup, 1) := dk_89 (dk_at dksX1_init_0 17 rfl rfl)
theorem dX1_init_18 : decode cX1_init 18 = .ok (.invokespecial 15, 3) := dk_183 0 15 (dk_at dksX1_init_0 18 rfl rfl)
theorem dX1_init_21 : decode cX1_init 21 = .ok (.putfield 16, 3) := dk_181 0 16 (dk_at dksX1_init_0 21 rfl rfl)
theorem dX1_init_24 : decode cX1_init 24 = .ok (.aload_n 0, 1) := dk_42 (dk_at dksX1_init_1 0 rfl rfl)
theorem dX1_init_25 : decode cX1_init 25 = .ok (.new 20, 3) := dk_187 0 20 (dk_at dksX1_init_1 1 rfl rfl)
theorem dX1_init_28 : decode cX1_init 28 = .ok (.dup, 1) := dk_89 (dk_at dksX1_init_1 4 rfl rfl)
theorem dX1_init_29 : decode cX1_init 29 = .ok (.invokespecial 22, 3) := dk_183 0 22 (dk_at dksX1_init_1 5 rfl rfl)
theorem dX1_init_32 : decode cX1_init 32 = .ok (.putfield 23, 3) := dk_181 0 23 (dk_at dksX1_init_1 8 rfl rfl)
theorem dX1_init_35 : decode cX1_init 35 = .ok (.aload_n 0, 1) := dk_42 (dk_at dksX1_init_1 11 rfl rfl)
theorem dX1_init_36 : decode cX1_init 36 = .ok (.new 27, 3) := dk_187 0 27 (dk_at dksX1_init_1 12 rfl rfl)
theorem dX1_init_39 : decode cX1_init 39 = .ok (.dup, 1) := dk_89 (dk_at dksX1_init_1 15 rfl rfl)
theorem dX1_init_40 : decode cX1_init 40 = .ok (.aload_n 0, 1) := dk_42 (dk_at dksX1_init_1 16 rfl rfl)
theorem dX1_init_41 : decode cX1_init 41 = .ok (.getfield 23, 3) := dk_180 0 23 (dk_at dksX1_init_1 17 rfl rfl)
theorem dX1_init_44 : decode cX1_init 44 = .ok (.invokespecial 29, 3) := dk_183 0 29 (dk_at dksX1_init_1 20 rfl rfl)
theorem dX1_init_47 : decode cX1_init 47 = .ok (.putfield 32, 3) := dk_181 0 32 (dk_at dksX1_init_2 0 rfl rfl)
theorem dX1_init_50 : decode cX1_init 50 = .ok (.aload_n 0, 1) := dk_42 (dk_at dksX1_init_2 3 rfl rfl)
theorem dX1_init_51 : decode cX1_init 51 = .ok (.new 36, 3) := dk_187 0 36 (dk_at dksX1_init_2 4 rfl rfl)
theorem dX1_init_54 : decode cX1_init 54 = .ok (.dup, 1) := dk_89 (dk_at dksX1_init_2 7 rfl rfl)
theorem dX1_init_55 : decode cX1_init 55 = .ok (.invokespecial 38, 3) := dk_183 0 38 (dk_at dksX1_init_2 8 rfl rfl)
theorem dX1_init_58 : decode cX1_init 58 = .ok (.putfield 39, 3) := dk_181 0 39 (dk_at dksX1_init_2 11 rfl rfl)
theorem dX1_init_61 : decode cX1_init 61 = .ok (.aload_n 0, 1) := dk_42 (dk_at dksX1_init_2 14 rfl rfl)
theorem dX1_init_62 : decode cX1_init 62 = .ok (.new 43, 3) := dk_187 0 43 (dk_at dksX1_init_2 15 rfl rfl)
theorem dX1_init_65 : decode cX1_init 65 = .ok (.dup, 1) := dk_89 (dk_at dksX1_init_2 18 rfl rfl)
theorem dX1_init_66 : decode cX1_init 66 = .ok (.aload_n 0, 1) := dk_42 (dk_at dksX1_init_2 19 rfl rfl)
theorem dX1_init_67 : decode cX1_init 67 = .ok (.getfield 16, 3) := dk_180 0 16 (dk_at dksX1_init_2 20 rfl rfl)
theorem dX1_init_70 : decode cX1_init 70 = .ok (.invokespecial 45, 3) := dk_183 0 45 (dk_at dksX1_init_3 0 rfl rfl)
theorem dX1_init_73 : decode cX1_init 73 = .ok (.putfield 48, 3) := dk_181 0 48 (dk_at dksX1_init_3 3 rfl rfl)
theorem dX1_init_76 : decode cX1_init 76 = .ok (.aload_n 0, 1) := dk_42 (dk_at dksX1_init_3 6 rfl rfl)
theorem dX1_init_77 : decode cX1_init 77 = .ok (.new 52, 3) := dk_187 0 52 (dk_at dksX1_init_3 7 rfl rfl)
theorem dX1_init_80 : decode cX1_init 80 = .ok (.dup, 1) := dk_89 (dk_at dksX1_init_3 10 rfl rfl)
theorem dX1_init_81 : decode cX1_init 81 = .ok (.aload_n 0, 1) := dk_42 (dk_at dksX1_init_3 11 rfl rfl)
theorem dX1_init_82 : decode cX1_init 82 = .ok (.getfield 48, 3) := dk_180 0 48 (dk_at dksX1_init_3 12 rfl rfl)
theorem dX1_init_85 : decode cX1_init 85 = .ok (.aload_n 0, 1) := dk_42 (dk_at dksX1_init_3 15 rfl rfl)
theorem dX1_init_86 : decode cX1_init 86 = .ok (.getfield 39, 3) := dk_180 0 39 (dk_at dksX1_init_3 16 rfl rfl)
theorem dX1_init_89 : decode cX1_init 89 = .ok (.invokespecial 54, 3) := dk_183 0 54 (dk_at dksX1_init_3 19 rfl rfl)
theorem dX1_init_92 : decode cX1_init 92 = .ok (.putfield 57, 3) := dk_181 0 57 (dk_at dksX1_init_4 0 rfl rfl)
theorem dX1_init_95 : decode cX1_init 95 = .ok (.aload_n 0, 1) := dk_42 (dk_at dksX1_init_4 3 rfl rfl)
theorem dX1_init_96 : decode cX1_init 96 = .ok (.new 61, 3) := dk_187 0 61 (dk_at dksX1_init_4 4 rfl rfl)
theorem dX1_init_99 : decode cX1_init 99 = .ok (.dup, 1) := dk_89 (dk_at dksX1_init_4 7 rfl rfl)
theorem dX1_init_100 : decode cX1_init 100 = .ok (.aload_n 0, 1) := dk_42 (dk_at dksX1_init_4 8 rfl rfl)
theorem dX1_init_101 : decode cX1_init 101 = .ok (.getfield 48, 3) := dk_180 0 48 (dk_at dksX1_init_4 9 rfl rfl)
theorem dX1_init_104 : decode cX1_init 104 = .ok (.aload_n 0, 1) := dk_42 (dk_at dksX1_init_4 12 rfl rfl)
theorem dX1_init_105 : decode cX1_init 105 = .ok (.getfield 57, 3) := dk_180 0 57 (dk_at dksX1_init_4 13 rfl rfl)
theorem dX1_init_108 : decode cX1_init 108 = .ok (.invokespecial 63, 3) := dk_183 0 63 (dk_at dksX1_init_4 16 rfl rfl)
theorem dX1_init_111 : decode cX1_init 111 = .ok (.putfield 66, 3) := dk_181 0 66 (dk_at dksX1_init_4 19 rfl rfl)
theorem dX1_init_114 : decode cX1_init 114 = .ok (.aload_n 0, 1) := dk_42 (dk_at dksX1_init_4 22 rfl rfl)
theorem dX1_init_115 : decode cX1_init 115 = .ok (.new 70, 3) := dk_187 0 70 (dk_at dksX1_init_5 0 rfl rfl)
theorem dX1_init_118 : decode cX1_init 118 = .ok (.dup, 1) := dk_89 (dk_at dksX1_init_5 3 rfl rfl)
theorem dX1_init_119 : decode cX1_init 119 = .ok (.invokespecial 72, 3) := dk_183 0 72 (dk_at dksX1_init_5 4 rfl rfl)
theorem dX1_init_122 : decode cX1_init 122 = .ok (.putfield 73, 3) := dk_181 0 73 (dk_at dksX1_init_5 7 rfl rfl)
theorem dX1_init_125 : decode cX1_init 125 = .ok (.aload_n 0, 1) := dk_42 (dk_at dksX1_init_5 10 rfl rfl)
theorem dX1_init_126 : decode cX1_init 126 = .ok (.new 77, 3) := dk_187 0 77 (dk_at dksX1_init_5 11 rfl rfl)
theorem dX1_init_129 : decode cX1_init 129 = .ok (.dup, 1) := dk_89 (dk_at dksX1_init_5 14 rfl rfl)
theorem dX1_init_130 : decode cX1_init 130 = .ok (.aload_n 0, 1) := dk_42 (dk_at dksX1_init_5 15 rfl rfl)
theorem dX1_init_131 : decode cX1_init 131 = .ok (.getfield 32, 3) := dk_180 0 32 (dk_at dksX1_init_5 16 rfl rfl)
theorem dX1_init_134 : decode cX1_init 134 = .ok (.aload_n 0, 1) := dk_42 (dk_at dksX1_init_5 19 rfl rfl)
theorem dX1_init_135 : decode cX1_init 135 = .ok (.getfield 39, 3) := dk_180 0 39 (dk_at dksX1_init_5 20 rfl rfl)
theorem dX1_init_138 : decode cX1_init 138 = .ok (.aload_n 0, 1) := dk_42 (dk_at dksX1_init_5 23 rfl rfl)
theorem dX1_init_139 : decode cX1_init 139 = .ok (.getfield 48, 3) := dk_180 0 48 (dk_at dksX1_init_6 0 rfl rfl)
theorem dX1_init_142 : decode cX1_init 142 = .ok (.aload_n 0, 1) := dk_42 (dk_at dksX1_init_6 3 rfl rfl)
theorem dX1_init_143 : decode cX1_init 143 = .ok (.getfield 57, 3) := dk_180 0 57 (dk_at dksX1_init_6 4 rfl rfl)
theorem dX1_init_146 : decode cX1_init 146 = .ok (.aload_n 0, 1) := dk_42 (dk_at dksX1_init_6 7 rfl rfl)
theorem dX1_init_147 : decode cX1_init 147 = .ok (.getfield 66, 3) := dk_180 0 66 (dk_at dksX1_init_6 8 rfl rfl)
theorem dX1_init_150 : decode cX1_init 150 = .ok (.aload_n 0, 1) := dk_42 (dk_at dksX1_init_6 11 rfl rfl)
theorem dX1_init_151 : decode cX1_init 151 = .ok (.getfield 73, 3) := dk_180 0 73 (dk_at dksX1_init_6 12 rfl rfl)
theorem dX1_init_154 : decode cX1_init 154 = .ok (.invokespecial 79, 3) := dk_183 0 79 (dk_at dksX1_init_6 15 rfl rfl)
theorem dX1_init_157 : decode cX1_init 157 = .ok (.putfield 82, 3) := dk_181 0 82 (dk_at dksX1_init_6 18 rfl rfl)
theorem dX1_init_160 : decode cX1_init 160 = .ok (.aload_n 0, 1) := dk_42 (dk_at dksX1_init_6 21 rfl rfl)
theorem dX1_init_161 : decode cX1_init 161 = .ok (.new 86, 3) := dk_187 0 86 (dk_at dksX1_init_7 0 rfl rfl)
theorem dX1_init_164 : decode cX1_init 164 = .ok (.dup, 1) := dk_89 (dk_at dksX1_init_7 3 rfl rfl)
theorem dX1_init_165 : decode cX1_init 165 = .ok (.aload_n 0, 1) := dk_42 (dk_at dksX1_init_7 4 rfl rfl)
theorem dX1_init_166 : decode cX1_init 166 = .ok (.getfield 39, 3) := dk_180 0 39 (dk_at dksX1_init_7 5 rfl rfl)
theorem dX1_init_169 : decode cX1_init 169 = .ok (.aload_n 0, 1) := dk_42 (dk_at dksX1_init_7 8 rfl rfl)
theorem dX1_init_170 : decode cX1_init 170 = .ok (.getfield 48, 3) := dk_180 0 48 (dk_at dksX1_init_7 9 rfl rfl)
theorem dX1_init_173 : decode cX1_init 173 = .ok (.aload_n 0, 1) := dk_42 (dk_at dksX1_init_7 12 rfl rfl)
theorem dX1_init_174 : decode cX1_init 174 = .ok (.getfield 57, 3) := dk_180 0 57 (dk_at dksX1_init_7 13 rfl rfl)
theorem dX1_init_177 : decode cX1_init 177 = .ok (.aload_n 0, 1) := dk_42 (dk_at dksX1_init_7 16 rfl rfl)
theorem dX1_init_178 : decode cX1_init 178 = .ok (.getfield 66, 3) := dk_180 0 66 (dk_at dksX1_init_7 17 rfl rfl)
theorem dX1_init_181 : decode cX1_init 181 = .ok (.aload_n 0, 1) := dk_42 (dk_at dksX1_init_7 20 rfl rfl)
theorem dX1_init_182 : decode cX1_init 182 = .ok (.getfield 73, 3) := dk_180 0 73 (dk_at dksX1_init_7 21 rfl rfl)
theorem dX1_init_185 : decode cX1_init 185 = .ok (.invokespecial 88, 3) := dk_183 0 88 (dk_at dksX1_init_8 0 rfl rfl)
theorem dX1_init_188 : decode cX1_init 188 = .ok (.putfield 91, 3) := dk_181 0 91 (dk_at dksX1_init_8 3 rfl rfl)
theorem dX1_init_191 : decode cX1_init 191 = .ok (.aload_n 0, 1) := dk_42 (dk_at dksX1_init_8 6 rfl rfl)
theorem dX1_init_192 : decode cX1_init 192 = .ok (.new 95, 3) := dk_187 0 95 (dk_at dksX1_init_8 7 rfl rfl)
theorem dX1_init_195 : decode cX1_init 195 = .ok (.dup, 1) := dk_89 (dk_at dksX1_init_8 10 rfl rfl)
theorem dX1_init_196 : decode cX1_init 196 = .ok (.invokespecial 97, 3) := dk_183 0 97 (dk_at dksX1_init_8 11 rfl rfl)
theorem dX1_init_199 : decode cX1_init 199 = .ok (.putfield 98, 3) := dk_181 0 98 (dk_at dksX1_init_8 14 rfl rfl)
theorem dX1_init_202 : decode cX1_init 202 = .ok (.aload_n 0, 1) := dk_42 (dk_at dksX1_init_8 17 rfl rfl)
theorem dX1_init_203 : decode cX1_init 203 = .ok (.new 102, 3) := dk_187 0 102 (dk_at dksX1_init_8 18 rfl rfl)
theorem dX1_init_206 : decode cX1_init 206 = .ok (.dup, 1) := dk_89 (dk_at dksX1_init_8 21 rfl rfl)
theorem dX1_init_207 : decode cX1_init 207 = .ok (.invokespecial 104, 3) := dk_183 0 104 (dk_at dksX1_init_9 0 rfl rfl)
theorem dX1_init_210 : decode cX1_init 210 = .ok (.putfield 105, 3) := dk_181 0 105 (dk_at dksX1_init_9 3 rfl rfl)
theorem dX1_init_213 : decode cX1_init 213 = .ok (.aload_n 0, 1) := dk_42 (dk_at dksX1_init_9 6 rfl rfl)
theorem dX1_init_214 : decode cX1_init 214 = .ok (.new 109, 3) := dk_187 0 109 (dk_at dksX1_init_9 7 rfl rfl)
theorem dX1_init_217 : decode cX1_init 217 = .ok (.dup, 1) := dk_89 (dk_at dksX1_init_9 10 rfl rfl)
theorem dX1_init_218 : decode cX1_init 218 = .ok (.aload_n 0, 1) := dk_42 (dk_at dksX1_init_9 11 rfl rfl)
theorem dX1_init_219 : decode cX1_init 219 = .ok (.getfield 32, 3) := dk_180 0 32 (dk_at dksX1_init_9 12 rfl rfl)
theorem dX1_init_222 : decode cX1_init 222 = .ok (.aload_n 0, 1) := dk_42 (dk_at dksX1_init_9 15 rfl rfl)
theorem dX1_init_223 : decode cX1_init 223 = .ok (.getfield 39, 3) := dk_180 0 39 (dk_at dksX1_init_9 16 rfl rfl)
theorem dX1_init_226 : decode cX1_init 226 = .ok (.aload_n 0, 1) := dk_42 (dk_at dksX1_init_9 19 rfl rfl)
theorem dX1_init_227 : decode cX1_init 227 = .ok (.getfield 98, 3) := dk_180 0 98 (dk_at dksX1_init_9 20 rfl rfl)
theorem dX1_init_230 : decode cX1_init 230 = .ok (.aload_n 0, 1) := dk_42 (dk_at dksX1_init_9 23 rfl rfl)
theorem dX1_init_231 : decode cX1_init 231 = .ok (.getfield 105, 3) := dk_180 0 105 (dk_at dksX1_init_10 0 rfl rfl)
theorem dX1_init_234 : decode cX1_init 234 = .ok (.aload_n 0, 1) := dk_42 (dk_at dksX1_init_10 3 rfl rfl)
theorem dX1_init_235 : decode cX1_init 235 = .ok (.getfield 82, 3) := dk_180 0 82 (dk_at dksX1_init_10 4 rfl rfl)
theorem dX1_init_238 : decode cX1_init 238 = .ok (.aload_n 0, 1) := dk_42 (dk_at dksX1_init_10 7 rfl rfl)
theorem dX1_init_239 : decode cX1_init 239 = .ok (.getfield 48, 3) := dk_180 0 48 (dk_at dksX1_init_10 8 rfl rfl)
theorem dX1_init_242 : decode cX1_init 242 = .ok (.invokespecial 111, 3) := dk_183 0 111 (dk_at dksX1_init_10 11 rfl rfl)
theorem dX1_init_245 : decode cX1_init 245 = .ok (.putfield 114, 3) := dk_181 0 114 (dk_at dksX1_init_10 14 rfl rfl)
theorem dX1_init_248 : decode cX1_init 248 = .ok (.aload_n 0, 1) := dk_42 (dk_at dksX1_init_10 17 rfl rfl)
theorem dX1_init_249 : decode cX1_init 249 = .ok (.new 118, 3) := dk_187 0 118 (dk_at dksX1_init_10 18 rfl rfl)
theorem dX1_init_252 : decode cX1_init 252 = .ok (.dup, 1) := dk_89 (dk_at dksX1_init_10 21 rfl rfl)
theorem dX1_init_253 : decode cX1_init 253 = .ok (.invokespecial 120, 3) := dk_183 0 120 (dk_at dksX1_init_11 0 rfl rfl)
theorem dX1_init_256 : decode cX1_init 256 = .ok (.putfield 121, 3) := dk_181 0 121 (dk_at dksX1_init_11 3 rfl rfl)
theorem dX1_init_259 : decode cX1_init 259 = .ok (.aload_n 0, 1) := dk_42 (dk_at dksX1_init_11 6 rfl rfl)
theorem dX1_init_260 : decode cX1_init 260 = .ok (.new 125, 3) := dk_187 0 125 (dk_at dksX1_init_11 7 rfl rfl)
theorem dX1_init_263 : decode cX1_init 263 = .ok (.dup, 1) := dk_89 (dk_at dksX1_init_11 10 rfl rfl)
theorem dX1_init_264 : decode cX1_init 264 = .ok (.aload_n 0, 1) := dk_42 (dk_at dksX1_init_11 11 rfl rfl)
theorem dX1_init_265 : decode cX1_init 265 = .ok (.getfield 16, 3) := dk_180 0 16 (dk_at dksX1_init_11 12 rfl rfl)
theorem dX1_init_268 : decode cX1_init 268 = .ok (.invokespecial 127, 3) := dk_183 0 127 (dk_at dksX1_init_11 15 rfl rfl)
theorem dX1_init_271 : decode cX1_init 271 = .ok (.putfield 128, 3) := dk_181 0 128 (dk_at dksX1_init_11 18 rfl rfl)
theorem dX1_init_274 : decode cX1_init 274 = .ok (.aload_n 0, 1) := dk_42 (dk_at dksX1_init_11 21 rfl rfl)
theorem dX1_init_275 : decode cX1_init 275 = .ok (.new 132, 3) := dk_187 0 132 (dk_at dksX1_init_12 0 rfl rfl)
theorem dX1_init_278 : decode cX1_init 278 = .ok (.dup, 1) := dk_89 (dk_at dksX1_init_12 3 rfl rfl)
theorem dX1_init_279 : decode cX1_init 279 = .ok (.aload_n 0, 1) := dk_42 (dk_at dksX1_init_12 4 rfl rfl)
theorem dX1_init_280 : decode cX1_init 280 = .ok (.getfield 48, 3) := dk_180 0 48 (dk_at dksX1_init_12 5 rfl rfl)
theorem dX1_init_283 : decode cX1_init 283 = .ok (.aload_n 0, 1) := dk_42 (dk_at dksX1_init_12 8 rfl rfl)
theorem dX1_init_284 : decode cX1_init 284 = .ok (.getfield 39, 3) := dk_180 0 39 (dk_at dksX1_init_12 9 rfl rfl)
theorem dX1_init_287 : decode cX1_init 287 = .ok (.aload_n 0, 1) := dk_42 (dk_at dksX1_init_12 12 rfl rfl)
theorem dX1_init_288 : decode cX1_init 288 = .ok (.getfield 105, 3) := dk_180 0 105 (dk_at dksX1_init_12 13 rfl rfl)
theorem dX1_init_291 : decode cX1_init 291 = .ok (.aload_n 0, 1) := dk_42 (dk_at dksX1_init_12 16 rfl rfl)
theorem dX1_init_292 : decode cX1_init 292 = .ok (.getfield 98, 3) := dk_180 0 98 (dk_at dksX1_init_12 17 rfl rfl)
theorem dX1_init_295 : decode cX1_init 295 = .ok (.aload_n 0, 1) := dk_42 (dk_at dksX1_init_12 20 rfl rfl)
theorem dX1_init_296 : decode cX1_init 296 = .ok (.getfield 57, 3) := dk_180 0 57 (dk_at dksX1_init_12 21 rfl rfl)
theorem dX1_init_299 : decode cX1_init 299 = .ok (.aload_n 0, 1) := dk_42 (dk_at dksX1_init_13 0 rfl rfl)
theorem dX1_init_300 : decode cX1_init 300 = .ok (.getfield 66, 3) := dk_180 0 66 (dk_at dksX1_init_13 1 rfl rfl)
theorem dX1_init_303 : decode cX1_init 303 = .ok (.aload_n 0, 1) := dk_42 (dk_at dksX1_init_13 4 rfl rfl)
theorem dX1_init_304 : decode cX1_init 304 = .ok (.getfield 91, 3) := dk_180 0 91 (dk_at dksX1_init_13 5 rfl rfl)
theorem dX1_init_307 : decode cX1_init 307 = .ok (.aload_n 0, 1) := dk_42 (dk_at dksX1_init_13 8 rfl rfl)
theorem dX1_init_308 : decode cX1_init 308 = .ok (.getfield 73, 3) := dk_180 0 73 (dk_at dksX1_init_13 9 rfl rfl)
theorem dX1_init_311 : decode cX1_init 311 = .ok (.aload_n 0, 1) := dk_42 (dk_at dksX1_init_13 12 rfl rfl)
theorem dX1_init_312 : decode cX1_init 312 = .ok (.getfield 121, 3) := dk_180 0 121 (dk_at dksX1_init_13 13 rfl rfl)
theorem dX1_init_315 : decode cX1_init 315 = .ok (.aload_n 0, 1) := dk_42 (dk_at dksX1_init_13 16 rfl rfl)
theorem dX1_init_316 : decode cX1_init 316 = .ok (.getfield 16, 3) := dk_180 0 16 (dk_at dksX1_init_13 17 rfl rfl)
theorem dX1_init_319 : decode cX1_init 319 = .ok (.aload_n 0, 1) := dk_42 (dk_at dksX1_init_13 20 rfl rfl)
theorem dX1_init_320 : decode cX1_init 320 = .ok (.getfield 128, 3) := dk_180 0 128 (dk_at dksX1_init_13 21 rfl rfl)
theorem dX1_init_323 : decode cX1_init 323 = .ok (.invokespecial 134, 3) := dk_183 0 134 (dk_at dksX1_init_14 0 rfl rfl)
theorem dX1_init_326 : decode cX1_init 326 = .ok (.putfield 137, 3) := dk_181 0 137 (dk_at dksX1_init_14 3 rfl rfl)
theorem dX1_init_329 : decode cX1_init 329 = .ok (.aload_n 0, 1) := dk_42 (dk_at dksX1_init_14 6 rfl rfl)
theorem dX1_init_330 : decode cX1_init 330 = .ok (.new 141, 3) := dk_187 0 141 (dk_at dksX1_init_14 7 rfl rfl)
theorem dX1_init_333 : decode cX1_init 333 = .ok (.dup, 1) := dk_89 (dk_at dksX1_init_14 10 rfl rfl)
theorem dX1_init_334 : decode cX1_init 334 = .ok (.aload_n 0, 1) := dk_42 (dk_at dksX1_init_14 11 rfl rfl)
theorem dX1_init_335 : decode cX1_init 335 = .ok (.getfield 32, 3) := dk_180 0 32 (dk_at dksX1_init_14 12 rfl rfl)
theorem dX1_init_338 : decode cX1_init 338 = .ok (.aload_n 0, 1) := dk_42 (dk_at dksX1_init_14 15 rfl rfl)
theorem dX1_init_339 : decode cX1_init 339 = .ok (.getfield 39, 3) := dk_180 0 39 (dk_at dksX1_init_14 16 rfl rfl)
theorem dX1_init_342 : decode cX1_init 342 = .ok (.aload_n 0, 1) := dk_42 (dk_at dksX1_init_14 19 rfl rfl)
theorem dX1_init_343 : decode cX1_init 343 = .ok (.getfield 98, 3) := dk_180 0 98 (dk_at dksX1_init_14 20 rfl rfl)
theorem dX1_init_346 : decode cX1_init 346 = .ok (.aload_n 0, 1) := dk_42 (dk_at dksX1_init_14 23 rfl rfl)
theorem dX1_init_347 : decode cX1_init 347 = .ok (.getfield 105, 3) := dk_180 0 105 (dk_at dksX1_init_15 0 rfl rfl)
theorem dX1_init_350 : decode cX1_init 350 = .ok (.aload_n 0, 1) := dk_42 (dk_at dksX1_init_15 3 rfl rfl)
theorem dX1_init_351 : decode cX1_init 351 = .ok (.getfield 114, 3) := dk_180 0 114 (dk_at dksX1_init_15 4 rfl rfl)
theorem dX1_init_354 : decode cX1_init 354 = .ok (.aload_n 0, 1) := dk_42 (dk_at dksX1_init_15 7 rfl rfl)
theorem dX1_init_355 : decode cX1_init 355 = .ok (.getfield 82, 3) := dk_180 0 82 (dk_at dksX1_init_15 8 rfl rfl)
theorem dX1_init_358 : decode cX1_init 358 = .ok (.aload_n 0, 1) := dk_42 (dk_at dksX1_init_15 11 rfl rfl)
theorem dX1_init_359 : decode cX1_init 359 = .ok (.getfield 48, 3) := dk_180 0 48 (dk_at dksX1_init_15 12 rfl rfl)
theorem dX1_init_362 : decode cX1_init 362 = .ok (.aload_n 0, 1) := dk_42 (dk_at dksX1_init_15 15 rfl rfl)
theorem dX1_init_363 : decode cX1_init 363 = .ok (.getfield 91, 3) := dk_180 0 91 (dk_at dksX1_init_15 16 rfl rfl)
theorem dX1_init_366 : decode cX1_init 366 = .ok (.aload_n 0, 1) := dk_42 (dk_at dksX1_init_15 19 rfl rfl)
theorem dX1_init_367 : decode cX1_init 367 = .ok (.getfield 121, 3) := dk_180 0 121 (dk_at dksX1_init_15 20 rfl rfl)
theorem dX1_init_370 : decode cX1_init 370 = .ok (.aload_n 0, 1) := dk_42 (dk_at dksX1_init_15 23 rfl rfl)
theorem dX1_init_371 : decode cX1_init 371 = .ok (.getfield 16, 3) := dk_180 0 16 (dk_at dksX1_init_16 0 rfl rfl)
theorem dX1_init_374 : decode cX1_init 374 = .ok (.aload_n 0, 1) := dk_42 (dk_at dksX1_init_16 3 rfl rfl)
theorem dX1_init_375 : decode cX1_init 375 = .ok (.getfield 128, 3) := dk_180 0 128 (dk_at dksX1_init_16 4 rfl rfl)
theorem dX1_init_378 : decode cX1_init 378 = .ok (.aload_n 0, 1) := dk_42 (dk_at dksX1_init_16 7 rfl rfl)
theorem dX1_init_379 : decode cX1_init 379 = .ok (.getfield 137, 3) := dk_180 0 137 (dk_at dksX1_init_16 8 rfl rfl)
theorem dX1_init_382 : decode cX1_init 382 = .ok (.invokespecial 143, 3) := dk_183 0 143 (dk_at dksX1_init_16 11 rfl rfl)
theorem dX1_init_385 : decode cX1_init 385 = .ok (.putfield 146, 3) := dk_181 0 146 (dk_at dksX1_init_16 14 rfl rfl)
theorem dX1_init_388 : decode cX1_init 388 = .ok (.aload_n 0, 1) := dk_42 (dk_at dksX1_init_16 17 rfl rfl)
theorem dX1_init_389 : decode cX1_init 389 = .ok (.ldc 150, 2) := dk_18 150 (dk_at dksX1_init_16 18 rfl rfl)
theorem dX1_init_391 : decode cX1_init 391 = .ok (.newarray .byte, 2) := dk_188_8 (dk_at dksX1_init_16 20 rfl rfl)
theorem dX1_init_393 : decode cX1_init 393 = .ok (.putfield 151, 3) := dk_181 0 151 (dk_at dksX1_init_17 0 rfl rfl)
theorem dX1_init_396 : decode cX1_init 396 = .ok (.aload_n 0, 1) := dk_42 (dk_at dksX1_init_17 3 rfl rfl)
theorem dX1_init_397 : decode cX1_init 397 = .ok (.bipush 16, 2) := dk_16 16 (dk_at dksX1_init_17 4 rfl rfl)
theorem dX1_init_399 : decode cX1_init 399 = .ok (.anewarray 154, 3) := dk_189 0 154 (dk_at dksX1_init_17 6 rfl rfl)
theorem dX1_init_402 : decode cX1_init 402 = .ok (.putfield 156, 3) := dk_181 0 156 (dk_at dksX1_init_17 9 rfl rfl)
theorem dX1_init_405 : decode cX1_init 405 = .ok (.aload_n 0, 1) := dk_42 (dk_at dksX1_init_17 12 rfl rfl)
theorem dX1_init_406 : decode cX1_init 406 = .ok (.sipush 16384, 3) := dk_17 64 0 (dk_at dksX1_init_17 13 rfl rfl)
theorem dX1_init_409 : decode cX1_init 409 = .ok (.newarray .byte, 2) := dk_188_8 (dk_at dksX1_init_17 16 rfl rfl)
theorem dX1_init_411 : decode cX1_init 411 = .ok (.putfield 160, 3) := dk_181 0 160 (dk_at dksX1_init_17 18 rfl rfl)
theorem dX1_init_414 : decode cX1_init 414 = .ok (.aload_n 0, 1) := dk_42 (dk_at dksX1_init_17 21 rfl rfl)
theorem dX1_init_415 : decode cX1_init 415 = .ok (.bipush 16, 2) := dk_16 16 (dk_at dksX1_init_17 22 rfl rfl)
theorem dX1_init_417 : decode cX1_init 417 = .ok (.anewarray 163, 3) := dk_189 0 163 (dk_at dksX1_init_18 0 rfl rfl)
theorem dX1_init_420 : decode cX1_init 420 = .ok (.putfield 165, 3) := dk_181 0 165 (dk_at dksX1_init_18 3 rfl rfl)
theorem dX1_init_423 : decode cX1_init 423 = .ok (.iconst 0, 1) := dk_3 (dk_at dksX1_init_18 6 rfl rfl)
theorem dX1_init_424 : decode cX1_init 424 = .ok (.istore_n 1, 1) := dk_60 (dk_at dksX1_init_18 7 rfl rfl)
theorem dX1_init_425 : decode cX1_init 425 = .ok (.iload_n 1, 1) := dk_27 (dk_at dksX1_init_18 8 rfl rfl)
theorem dX1_init_426 : decode cX1_init 426 = .ok (.bipush 16, 2) := dk_16 16 (dk_at dksX1_init_18 9 rfl rfl)
theorem dX1_init_428 : decode cX1_init 428 = .ok (.if_icmp .ge 35, 3) := dk_162 0 35 (dk_at dksX1_init_18 11 rfl rfl)
theorem dX1_init_431 : decode cX1_init 431 = .ok (.aload_n 0, 1) := dk_42 (dk_at dksX1_init_18 14 rfl rfl)
theorem dX1_init_432 : decode cX1_init 432 = .ok (.getfield 156, 3) := dk_180 0 156 (dk_at dksX1_init_18 15 rfl rfl)
theorem dX1_init_435 : decode cX1_init 435 = .ok (.iload_n 1, 1) := dk_27 (dk_at dksX1_init_18 18 rfl rfl)
theorem dX1_init_436 : decode cX1_init 436 = .ok (.new 154, 3) := dk_187 0 154 (dk_at dksX1_init_18 19 rfl rfl)
theorem dX1_init_439 : decode cX1_init 439 = .ok (.dup, 1) := dk_89 (dk_at dksX1_init_18 22 rfl rfl)
theorem dX1_init_440 : decode cX1_init 440 = .ok (.invokespecial 169, 3) := dk_183 0 169 (dk_at dksX1_init_19 0 rfl rfl)
theorem dX1_init_443 : decode cX1_init 443 = .ok (.aastore, 1) := dk_83 (dk_at dksX1_init_19 3 rfl rfl)
theorem dX1_init_444 : decode cX1_init 444 = .ok (.aload_n 0, 1) := dk_42 (dk_at dksX1_init_19 4 rfl rfl)
theorem dX1_init_445 : decode cX1_init 445 = .ok (.getfield 165, 3) := dk_180 0 165 (dk_at dksX1_init_19 5 rfl rfl)
theorem dX1_init_448 : decode cX1_init 448 = .ok (.iload_n 1, 1) := dk_27 (dk_at dksX1_init_19 8 rfl rfl)
theorem dX1_init_449 : decode cX1_init 449 = .ok (.new 163, 3) := dk_187 0 163 (dk_at dksX1_init_19 9 rfl rfl)
theorem dX1_init_452 : decode cX1_init 452 = .ok (.dup, 1) := dk_89 (dk_at dksX1_init_19 12 rfl rfl)
theorem dX1_init_453 : decode cX1_init 453 = .ok (.invokespecial 170, 3) := dk_183 0 170 (dk_at dksX1_init_19 13 rfl rfl)
theorem dX1_init_456 : decode cX1_init 456 = .ok (.aastore, 1) := dk_83 (dk_at dksX1_init_19 16 rfl rfl)
theorem dX1_init_457 : decode cX1_init 457 = .ok (.iinc 1 1, 3) := dk_132 1 1 (dk_at dksX1_init_19 17 rfl rfl)
theorem dX1_init_460 : decode cX1_init 460 = .ok (.goto (-35), 3) := dk_167 255 221 (dk_at dksX1_init_19 20 rfl rfl)
theorem dX1_init_463 : decode cX1_init 463 = .ok (.return_, 1) := dk_177 (dk_at dksX1_init_19 23 rfl rfl)
abbrev cX1_check : ByteArray := prog_1_method_6_code
def yX1_check : MethodName := ⟨RX1, "check", "()I"⟩
def dkwX1_check_3 : List UInt8 := [27, 153, 0, 7, 3, 167, 0, 4, 5, 172]
abbrev dktX1_check_3 : List UInt8 := dkwX1_check_3 ++ []
def dkwX1_check_2 : List UInt8 := [180, 0, 146, 182, 0, 212, 27, 154, 0, 17, 42, 180, 0, 146, 42, 180, 0, 114, 180, 0, 215, 181, 0, 202]
abbrev dktX1_check_2 : List UInt8 := dkwX1_check_2 ++ dktX1_check_3
def dkwX1_check_1 : List UInt8 := [180, 0, 146, 182, 0, 205, 42, 180, 0, 114, 3, 182, 0, 208, 155, 0, 7, 4, 167, 0, 4, 3, 60, 42]
abbrev dktX1_check_1 : List UInt8 := dkwX1_check_1 ++ dktX1_check_2
def dkwX1_check_0 : List UInt8 := [42, 182, 0, 195, 154, 0, 19, 42, 180, 0, 146, 42, 180, 0, 32, 180, 0, 199, 181, 0, 202, 4, 172, 42]
abbrev dktX1_check_0 : List UInt8 := dkwX1_check_0 ++ dktX1_check_1
theorem dksX1_check_0 : cX1_check.data.toList.drop 0 = dktX1_check_0 := by decide +kernel
theorem dksX1_check_1 : cX1_check.data.toList.drop 24 = dktX1_check_1 := dk_seg dksX1_check_0 24 rfl rfl
theorem dksX1_check_2 : cX1_check.data.toList.drop 48 = dktX1_check_2 := dk_seg dksX1_check_1 24 rfl rfl
theorem dksX1_check_3 : cX1_check.data.toList.drop 72 = dktX1_check_3 := dk_seg dksX1_check_2 24 rfl rfl
theorem dX1_check_0 : decode cX1_check 0 = .ok (.aload_n 0, 1) := dk_42 (dk_at dksX1_check_0 0 rfl rfl)
theorem dX1_check_1 : decode cX1_check 1 = .ok (.invokevirtual 195, 3) := dk_182 0 195 (dk_at dksX1_check_0 1 rfl rfl)
theorem dX1_check_4 : decode cX1_check 4 = .ok (.ifCond .ne 19, 3) := dk_154 0 19 (dk_at dksX1_check_0 4 rfl rfl)
theorem dX1_check_7 : decode cX1_check 7 = .ok (.aload_n 0, 1) := dk_42 (dk_at dksX1_check_0 7 rfl rfl)
theorem dX1_check_8 : decode cX1_check 8 = .ok (.getfield 146, 3) := dk_180 0 146 (dk_at dksX1_check_0 8 rfl rfl)
theorem dX1_check_11 : decode cX1_check 11 = .ok (.aload_n 0, 1) := dk_42 (dk_at dksX1_check_0 11 rfl rfl)
theorem dX1_check_12 : decode cX1_check 12 = .ok (.getfield 32, 3) := dk_180 0 32 (dk_at dksX1_check_0 12 rfl rfl)
theorem dX1_check_15 : decode cX1_check 15 = .ok (.getfield 199, 3) := dk_180 0 199 (dk_at dksX1_check_0 15 rfl rfl)
theorem dX1_check_18 : decode cX1_check 18 = .ok (.putfield 202, 3) := dk_181 0 202 (dk_at dksX1_check_0 18 rfl rfl)
theorem dX1_check_21 : decode cX1_check 21 = .ok (.iconst 1, 1) := dk_4 (dk_at dksX1_check_0 21 rfl rfl)
theorem dX1_check_22 : decode cX1_check 22 = .ok (.ireturn, 1) := dk_172 (dk_at dksX1_check_0 22 rfl rfl)
theorem dX1_check_23 : decode cX1_check 23 = .ok (.aload_n 0, 1) := dk_42 (dk_at dksX1_check_0 23 rfl rfl)
theorem dX1_check_24 : decode cX1_check 24 = .ok (.getfield 146, 3) := dk_180 0 146 (dk_at dksX1_check_1 0 rfl rfl)
theorem dX1_check_27 : decode cX1_check 27 = .ok (.invokevirtual 205, 3) := dk_182 0 205 (dk_at dksX1_check_1 3 rfl rfl)
theorem dX1_check_30 : decode cX1_check 30 = .ok (.aload_n 0, 1) := dk_42 (dk_at dksX1_check_1 6 rfl rfl)
theorem dX1_check_31 : decode cX1_check 31 = .ok (.getfield 114, 3) := dk_180 0 114 (dk_at dksX1_check_1 7 rfl rfl)
theorem dX1_check_34 : decode cX1_check 34 = .ok (.iconst 0, 1) := dk_3 (dk_at dksX1_check_1 10 rfl rfl)
theorem dX1_check_35 : decode cX1_check 35 = .ok (.invokevirtual 208, 3) := dk_182 0 208 (dk_at dksX1_check_1 11 rfl rfl)
theorem dX1_check_38 : decode cX1_check 38 = .ok (.ifCond .lt 7, 3) := dk_155 0 7 (dk_at dksX1_check_1 14 rfl rfl)
theorem dX1_check_41 : decode cX1_check 41 = .ok (.iconst 1, 1) := dk_4 (dk_at dksX1_check_1 17 rfl rfl)
theorem dX1_check_42 : decode cX1_check 42 = .ok (.goto 4, 3) := dk_167 0 4 (dk_at dksX1_check_1 18 rfl rfl)
theorem dX1_check_45 : decode cX1_check 45 = .ok (.iconst 0, 1) := dk_3 (dk_at dksX1_check_1 21 rfl rfl)
theorem dX1_check_46 : decode cX1_check 46 = .ok (.istore_n 1, 1) := dk_60 (dk_at dksX1_check_1 22 rfl rfl)
theorem dX1_check_47 : decode cX1_check 47 = .ok (.aload_n 0, 1) := dk_42 (dk_at dksX1_check_1 23 rfl rfl)
theorem dX1_check_48 : decode cX1_check 48 = .ok (.getfield 146, 3) := dk_180 0 146 (dk_at dksX1_check_2 0 rfl rfl)
theorem dX1_check_51 : decode cX1_check 51 = .ok (.invokevirtual 212, 3) := dk_182 0 212 (dk_at dksX1_check_2 3 rfl rfl)
theorem dX1_check_54 : decode cX1_check 54 = .ok (.iload_n 1, 1) := dk_27 (dk_at dksX1_check_2 6 rfl rfl)
theorem dX1_check_55 : decode cX1_check 55 = .ok (.ifCond .ne 17, 3) := dk_154 0 17 (dk_at dksX1_check_2 7 rfl rfl)
theorem dX1_check_58 : decode cX1_check 58 = .ok (.aload_n 0, 1) := dk_42 (dk_at dksX1_check_2 10 rfl rfl)
theorem dX1_check_59 : decode cX1_check 59 = .ok (.getfield 146, 3) := dk_180 0 146 (dk_at dksX1_check_2 11 rfl rfl)
theorem dX1_check_62 : decode cX1_check 62 = .ok (.aload_n 0, 1) := dk_42 (dk_at dksX1_check_2 14 rfl rfl)
theorem dX1_check_63 : decode cX1_check 63 = .ok (.getfield 114, 3) := dk_180 0 114 (dk_at dksX1_check_2 15 rfl rfl)
theorem dX1_check_66 : decode cX1_check 66 = .ok (.getfield 215, 3) := dk_180 0 215 (dk_at dksX1_check_2 18 rfl rfl)
theorem dX1_check_69 : decode cX1_check 69 = .ok (.putfield 202, 3) := dk_181 0 202 (dk_at dksX1_check_2 21 rfl rfl)
theorem dX1_check_72 : decode cX1_check 72 = .ok (.iload_n 1, 1) := dk_27 (dk_at dksX1_check_3 0 rfl rfl)
theorem dX1_check_73 : decode cX1_check 73 = .ok (.ifCond .eq 7, 3) := dk_153 0 7 (dk_at dksX1_check_3 1 rfl rfl)
theorem dX1_check_76 : decode cX1_check 76 = .ok (.iconst 0, 1) := dk_3 (dk_at dksX1_check_3 4 rfl rfl)
theorem dX1_check_77 : decode cX1_check 77 = .ok (.goto 4, 3) := dk_167 0 4 (dk_at dksX1_check_3 5 rfl rfl)
theorem dX1_check_80 : decode cX1_check 80 = .ok (.iconst 2, 1) := dk_5 (dk_at dksX1_check_3 8 rfl rfl)
theorem dX1_check_81 : decode cX1_check 81 = .ok (.ireturn, 1) := dk_172 (dk_at dksX1_check_3 9 rfl rfl)
abbrev cX1_reads : ByteArray := prog_1_method_5_code
def yX1_reads : MethodName := ⟨RX1, "reads", "()Z"⟩
def dkwX1_reads_0 : List UInt8 := [42, 180, 0, 32, 42, 180, 0, 7, 42, 180, 0, 171, 182, 0, 191, 60, 42, 3, 181, 0, 171, 27, 172]
abbrev dktX1_reads_0 : List UInt8 := dkwX1_reads_0 ++ []
theorem dksX1_reads_0 : cX1_reads.data.toList.drop 0 = dktX1_reads_0 := by decide +kernel
theorem dX1_reads_0 : decode cX1_reads 0 = .ok (.aload_n 0, 1) := dk_42 (dk_at dksX1_reads_0 0 rfl rfl)
theorem dX1_reads_1 : decode cX1_reads 1 = .ok (.getfield 32, 3) := dk_180 0 32 (dk_at dksX1_reads_0 1 rfl rfl)
theorem dX1_reads_4 : decode cX1_reads 4 = .ok (.aload_n 0, 1) := dk_42 (dk_at dksX1_reads_0 4 rfl rfl)
theorem dX1_reads_5 : decode cX1_reads 5 = .ok (.getfield 7, 3) := dk_180 0 7 (dk_at dksX1_reads_0 5 rfl rfl)
theorem dX1_reads_8 : decode cX1_reads 8 = .ok (.aload_n 0, 1) := dk_42 (dk_at dksX1_reads_0 8 rfl rfl)
theorem dX1_reads_9 : decode cX1_reads 9 = .ok (.getfield 171, 3) := dk_180 0 171 (dk_at dksX1_reads_0 9 rfl rfl)
theorem dX1_reads_12 : decode cX1_reads 12 = .ok (.invokevirtual 191, 3) := dk_182 0 191 (dk_at dksX1_reads_0 12 rfl rfl)
theorem dX1_reads_15 : decode cX1_reads 15 = .ok (.istore_n 1, 1) := dk_60 (dk_at dksX1_reads_0 15 rfl rfl)
theorem dX1_reads_16 : decode cX1_reads 16 = .ok (.aload_n 0, 1) := dk_42 (dk_at dksX1_reads_0 16 rfl rfl)
theorem dX1_reads_17 : decode cX1_reads 17 = .ok (.iconst 0, 1) := dk_3 (dk_at dksX1_reads_0 17 rfl rfl)
theorem dX1_reads_18 : decode cX1_reads 18 = .ok (.putfield 171, 3) := dk_181 0 171 (dk_at dksX1_reads_0 18 rfl rfl)
theorem dX1_reads_21 : decode cX1_reads 21 = .ok (.iload_n 1, 1) := dk_27 (dk_at dksX1_reads_0 21 rfl rfl)
theorem dX1_reads_22 : decode cX1_reads 22 = .ok (.ireturn, 1) := dk_172 (dk_at dksX1_reads_0 22 rfl rfl)
abbrev cX1_place : ByteArray := prog_1_method_7_code
def yX1_place : MethodName := ⟨RX1, "place", "()I"⟩
def dkwX1_place_0 : List UInt8 := [42, 180, 0, 146, 180, 0, 202, 172]
abbrev dktX1_place_0 : List UInt8 := dkwX1_place_0 ++ []
theorem dksX1_place_0 : cX1_place.data.toList.drop 0 = dktX1_place_0 := by decide +kernel
theorem dX1_place_0 : decode cX1_place 0 = .ok (.aload_n 0, 1) := dk_42 (dk_at dksX1_place_0 0 rfl rfl)
theorem dX1_place_1 : decode cX1_place 1 = .ok (.getfield 146, 3) := dk_180 0 146 (dk_at dksX1_place_0 1 rfl rfl)
theorem dX1_place_4 : decode cX1_place 4 = .ok (.getfield 202, 3) := dk_180 0 202 (dk_at dksX1_place_0 4 rfl rfl)
theorem dX1_place_7 : decode cX1_place 7 = .ok (.ireturn, 1) := dk_172 (dk_at dksX1_place_0 7 rfl rfl)
abbrev cX1_form : ByteArray := prog_1_method_8_code
def yX1_form : MethodName := ⟨RX1, "form", "()I"⟩
def dkwX1_form_6 : List UInt8 := [167, 0, 7, 42, 180, 0, 245, 172]
abbrev dktX1_form_6 : List UInt8 := dkwX1_form_6 ++ []
def dkwX1_form_5 : List UInt8 := [62, 29, 153, 0, 9, 42, 29, 27, 182, 0, 241, 42, 180, 0, 146, 182, 0, 212, 29, 154, 0, 7, 2]
abbrev dktX1_form_5 : List UInt8 := dkwX1_form_5 ++ dktX1_form_6
def dkwX1_form_4 : List UInt8 := [153, 0, 23, 42, 180, 0, 82, 42, 180, 0, 32, 3, 4, 182, 0, 227, 27, 182, 0, 239, 167, 0, 4, 3]
abbrev dktX1_form_4 : List UInt8 := dkwX1_form_4 ++ dktX1_form_5
def dkwX1_form_3 : List UInt8 := [27, 155, 0, 19, 42, 180, 0, 39, 27, 5, 182, 0, 235, 153, 0, 7, 4, 167, 0, 4, 3, 61, 28]
abbrev dktX1_form_3 : List UInt8 := dkwX1_form_3 ++ dktX1_form_4
def dkwX1_form_2 : List UInt8 := [182, 0, 205, 42, 180, 0, 39, 42, 180, 0, 32, 42, 180, 0, 32, 3, 3, 182, 0, 227, 182, 0, 231, 60]
abbrev dktX1_form_2 : List UInt8 := dkwX1_form_2 ++ dktX1_form_3
def dkwX1_form_1 : List UInt8 := [180, 0, 220, 3, 46, 5, 159, 0, 5, 2, 172, 42, 180, 0, 146, 182, 0, 224, 42, 180, 0, 146]
abbrev dktX1_form_1 : List UInt8 := dkwX1_form_1 ++ dktX1_form_2
def dkwX1_form_0 : List UInt8 := [42, 182, 0, 195, 153, 0, 27, 42, 180, 0, 32, 3, 182, 0, 216, 153, 0, 16, 42, 180, 0, 32]
abbrev dktX1_form_0 : List UInt8 := dkwX1_form_0 ++ dktX1_form_1
theorem dksX1_form_0 : cX1_form.data.toList.drop 0 = dktX1_form_0 := by decide +kernel
theorem dksX1_form_1 : cX1_form.data.toList.drop 22 = dktX1_form_1 := dk_seg dksX1_form_0 22 rfl rfl
theorem dksX1_form_2 : cX1_form.data.toList.drop 44 = dktX1_form_2 := dk_seg dksX1_form_1 22 rfl rfl
theorem dksX1_form_3 : cX1_form.data.toList.drop 68 = dktX1_form_3 := dk_seg dksX1_form_2 24 rfl rfl
theorem dksX1_form_4 : cX1_form.data.toList.drop 91 = dktX1_form_4 := dk_seg dksX1_form_3 23 rfl rfl
theorem dksX1_form_5 : cX1_form.data.toList.drop 115 = dktX1_form_5 := dk_seg dksX1_form_4 24 rfl rfl
theorem dksX1_form_6 : cX1_form.data.toList.drop 138 = dktX1_form_6 := dk_seg dksX1_form_5 23 rfl rfl
theorem dX1_form_0 : decode cX1_form 0 = .ok (.aload_n 0, 1) := dk_42 (dk_at dksX1_form_0 0 rfl rfl)
theorem dX1_form_1 : decode cX1_form 1 = .ok (.invokevirtual 195, 3) := dk_182 0 195 (dk_at dksX1_form_0 1 rfl rfl)
theorem dX1_form_4 : decode cX1_form 4 = .ok (.ifCond .eq 27, 3) := dk_153 0 27 (dk_at dksX1_form_0 4 rfl rfl)
theorem dX1_form_7 : decode cX1_form 7 = .ok (.aload_n 0, 1) := dk_42 (dk_at dksX1_form_0 7 rfl rfl)
theorem dX1_form_8 : decode cX1_form 8 = .ok (.getfield 32, 3) := dk_180 0 32 (dk_at dksX1_form_0 8 rfl rfl)
theorem dX1_form_11 : decode cX1_form 11 = .ok (.iconst 0, 1) := dk_3 (dk_at dksX1_form_0 11 rfl rfl)
theorem dX1_form_12 : decode cX1_form 12 = .ok (.invokevirtual 216, 3) := dk_182 0 216 (dk_at dksX1_form_0 12 rfl rfl)
theorem dX1_form_15 : decode cX1_form 15 = .ok (.ifCond .eq 16, 3) := dk_153 0 16 (dk_at dksX1_form_0 15 rfl rfl)
theorem dX1_form_18 : decode cX1_form 18 = .ok (.aload_n 0, 1) := dk_42 (dk_at dksX1_form_0 18 rfl rfl)
theorem dX1_form_19 : decode cX1_form 19 = .ok (.getfield 32, 3) := dk_180 0 32 (dk_at dksX1_form_0 19 rfl rfl)
theorem dX1_form_22 : decode cX1_form 22 = .ok (.getfield 220, 3) := dk_180 0 220 (dk_at dksX1_form_1 0 rfl rfl)
theorem dX1_form_25 : decode cX1_form 25 = .ok (.iconst 0, 1) := dk_3 (dk_at dksX1_form_1 3 rfl rfl)
theorem dX1_form_26 : decode cX1_form 26 = .ok (.iaload, 1) := dk_46 (dk_at dksX1_form_1 4 rfl rfl)
theorem dX1_form_27 : decode cX1_form 27 = .ok (.iconst 2, 1) := dk_5 (dk_at dksX1_form_1 5 rfl rfl)
theorem dX1_form_28 : decode cX1_form 28 = .ok (.if_icmp .eq 5, 3) := dk_159 0 5 (dk_at dksX1_form_1 6 rfl rfl)
theorem dX1_form_31 : decode cX1_form 31 = .ok (.iconst (-1), 1) := dk_2 (dk_at dksX1_form_1 9 rfl rfl)
theorem dX1_form_32 : decode cX1_form 32 = .ok (.ireturn, 1) := dk_172 (dk_at dksX1_form_1 10 rfl rfl)
theorem dX1_form_33 : decode cX1_form 33 = .ok (.aload_n 0, 1) := dk_42 (dk_at dksX1_form_1 11 rfl rfl)
theorem dX1_form_34 : decode cX1_form 34 = .ok (.getfield 146, 3) := dk_180 0 146 (dk_at dksX1_form_1 12 rfl rfl)
theorem dX1_form_37 : decode cX1_form 37 = .ok (.invokevirtual 224, 3) := dk_182 0 224 (dk_at dksX1_form_1 15 rfl rfl)
theorem dX1_form_40 : decode cX1_form 40 = .ok (.aload_n 0, 1) := dk_42 (dk_at dksX1_form_1 18 rfl rfl)
theorem dX1_form_41 : decode cX1_form 41 = .ok (.getfield 146, 3) := dk_180 0 146 (dk_at dksX1_form_1 19 rfl rfl)
theorem dX1_form_44 : decode cX1_form 44 = .ok (.invokevirtual 205, 3) := dk_182 0 205 (dk_at dksX1_form_2 0 rfl rfl)
theorem dX1_form_47 : decode cX1_form 47 = .ok (.aload_n 0, 1) := dk_42 (dk_at dksX1_form_2 3 rfl rfl)
theorem dX1_form_48 : decode cX1_form 48 = .ok (.getfield 39, 3) := dk_180 0 39 (dk_at dksX1_form_2 4 rfl rfl)
theorem dX1_form_51 : decode cX1_form 51 = .ok (.aload_n 0, 1) := dk_42 (dk_at dksX1_form_2 7 rfl rfl)
theorem dX1_form_52 : decode cX1_form 52 = .ok (.getfield 32, 3) := dk_180 0 32 (dk_at dksX1_form_2 8 rfl rfl)
theorem dX1_form_55 : decode cX1_form 55 = .ok (.aload_n 0, 1) := dk_42 (dk_at dksX1_form_2 11 rfl rfl)
theorem dX1_form_56 : decode cX1_form 56 = .ok (.getfield 32, 3) := dk_180 0 32 (dk_at dksX1_form_2 12 rfl rfl)
theorem dX1_form_59 : decode cX1_form 59 = .ok (.iconst 0, 1) := dk_3 (dk_at dksX1_form_2 15 rfl rfl)
theorem dX1_form_60 : decode cX1_form 60 = .ok (.iconst 0, 1) := dk_3 (dk_at dksX1_form_2 16 rfl rfl)
theorem dX1_form_61 : decode cX1_form 61 = .ok (.invokevirtual 227, 3) := dk_182 0 227 (dk_at dksX1_form_2 17 rfl rfl)
theorem dX1_form_64 : decode cX1_form 64 = .ok (.invokevirtual 231, 3) := dk_182 0 231 (dk_at dksX1_form_2 20 rfl rfl)
theorem dX1_form_67 : decode cX1_form 67 = .ok (.istore_n 1, 1) := dk_60 (dk_at dksX1_form_2 23 rfl rfl)
theorem dX1_form_68 : decode cX1_form 68 = .ok (.iload_n 1, 1) := dk_27 (dk_at dksX1_form_3 0 rfl rfl)
theorem dX1_form_69 : decode cX1_form 69 = .ok (.ifCond .lt 19, 3) := dk_155 0 19 (dk_at dksX1_form_3 1 rfl rfl)
theorem dX1_form_72 : decode cX1_form 72 = .ok (.aload_n 0, 1) := dk_42 (dk_at dksX1_form_3 4 rfl rfl)
theorem dX1_form_73 : decode cX1_form 73 = .ok (.getfield 39, 3) := dk_180 0 39 (dk_at dksX1_form_3 5 rfl rfl)
theorem dX1_form_76 : decode cX1_form 76 = .ok (.iload_n 1, 1) := dk_27 (dk_at dksX1_form_3 8 rfl rfl)
theorem dX1_form_77 : decode cX1_form 77 = .ok (.iconst 2, 1) := dk_5 (dk_at dksX1_form_3 9 rfl rfl)
theorem dX1_form_78 : decode cX1_form 78 = .ok (.invokevirtual 235, 3) := dk_182 0 235 (dk_at dksX1_form_3 10 rfl rfl)
theorem dX1_form_81 : decode cX1_form 81 = .ok (.ifCond .eq 7, 3) := dk_153 0 7 (dk_at dksX1_form_3 13 rfl rfl)
theorem dX1_form_84 : decode cX1_form 84 = .ok (.iconst 1, 1) := dk_4 (dk_at dksX1_form_3 16 rfl rfl)
theorem dX1_form_85 : decode cX1_form 85 = .ok (.goto 4, 3) := dk_167 0 4 (dk_at dksX1_form_3 17 rfl rfl)
theorem dX1_form_88 : decode cX1_form 88 = .ok (.iconst 0, 1) := dk_3 (dk_at dksX1_form_3 20 rfl rfl)
theorem dX1_form_89 : decode cX1_form 89 = .ok (.istore_n 2, 1) := dk_61 (dk_at dksX1_form_3 21 rfl rfl)
theorem dX1_form_90 : decode cX1_form 90 = .ok (.iload_n 2, 1) := dk_28 (dk_at dksX1_form_3 22 rfl rfl)
theorem dX1_form_91 : decode cX1_form 91 = .ok (.ifCond .eq 23, 3) := dk_153 0 23 (dk_at dksX1_form_4 0 rfl rfl)
theorem dX1_form_94 : decode cX1_form 94 = .ok (.aload_n 0, 1) := dk_42 (dk_at dksX1_form_4 3 rfl rfl)
theorem dX1_form_95 : decode cX1_form 95 = .ok (.getfield 82, 3) := dk_180 0 82 (dk_at dksX1_form_4 4 rfl rfl)
theorem dX1_form_98 : decode cX1_form 98 = .ok (.aload_n 0, 1) := dk_42 (dk_at dksX1_form_4 7 rfl rfl)
theorem dX1_form_99 : decode cX1_form 99 = .ok (.getfield 32, 3) := dk_180 0 32 (dk_at dksX1_form_4 8 rfl rfl)
theorem dX1_form_102 : decode cX1_form 102 = .ok (.iconst 0, 1) := dk_3 (dk_at dksX1_form_4 11 rfl rfl)
theorem dX1_form_103 : decode cX1_form 103 = .ok (.iconst 1, 1) := dk_4 (dk_at dksX1_form_4 12 rfl rfl)
theorem dX1_form_104 : decode cX1_form 104 = .ok (.invokevirtual 227, 3) := dk_182 0 227 (dk_at dksX1_form_4 13 rfl rfl)
theorem dX1_form_107 : decode cX1_form 107 = .ok (.iload_n 1, 1) := dk_27 (dk_at dksX1_form_4 16 rfl rfl)
theorem dX1_form_108 : decode cX1_form 108 = .ok (.invokevirtual 239, 3) := dk_182 0 239 (dk_at dksX1_form_4 17 rfl rfl)
theorem dX1_form_111 : decode cX1_form 111 = .ok (.goto 4, 3) := dk_167 0 4 (dk_at dksX1_form_4 20 rfl rfl)
theorem dX1_form_114 : decode cX1_form 114 = .ok (.iconst 0, 1) := dk_3 (dk_at dksX1_form_4 23 rfl rfl)
theorem dX1_form_115 : decode cX1_form 115 = .ok (.istore_n 3, 1) := dk_62 (dk_at dksX1_form_5 0 rfl rfl)
theorem dX1_form_116 : decode cX1_form 116 = .ok (.iload_n 3, 1) := dk_29 (dk_at dksX1_form_5 1 rfl rfl)
theorem dX1_form_117 : decode cX1_form 117 = .ok (.ifCond .eq 9, 3) := dk_153 0 9 (dk_at dksX1_form_5 2 rfl rfl)
theorem dX1_form_120 : decode cX1_form 120 = .ok (.aload_n 0, 1) := dk_42 (dk_at dksX1_form_5 5 rfl rfl)
theorem dX1_form_121 : decode cX1_form 121 = .ok (.iload_n 3, 1) := dk_29 (dk_at dksX1_form_5 6 rfl rfl)
theorem dX1_form_122 : decode cX1_form 122 = .ok (.iload_n 1, 1) := dk_27 (dk_at dksX1_form_5 7 rfl rfl)
theorem dX1_form_123 : decode cX1_form 123 = .ok (.invokevirtual 241, 3) := dk_182 0 241 (dk_at dksX1_form_5 8 rfl rfl)
theorem dX1_form_126 : decode cX1_form 126 = .ok (.aload_n 0, 1) := dk_42 (dk_at dksX1_form_5 11 rfl rfl)
theorem dX1_form_127 : decode cX1_form 127 = .ok (.getfield 146, 3) := dk_180 0 146 (dk_at dksX1_form_5 12 rfl rfl)
theorem dX1_form_130 : decode cX1_form 130 = .ok (.invokevirtual 212, 3) := dk_182 0 212 (dk_at dksX1_form_5 15 rfl rfl)
theorem dX1_form_133 : decode cX1_form 133 = .ok (.iload_n 3, 1) := dk_29 (dk_at dksX1_form_5 18 rfl rfl)
theorem dX1_form_134 : decode cX1_form 134 = .ok (.ifCond .ne 7, 3) := dk_154 0 7 (dk_at dksX1_form_5 19 rfl rfl)
theorem dX1_form_137 : decode cX1_form 137 = .ok (.iconst (-1), 1) := dk_2 (dk_at dksX1_form_5 22 rfl rfl)
theorem dX1_form_138 : decode cX1_form 138 = .ok (.goto 7, 3) := dk_167 0 7 (dk_at dksX1_form_6 0 rfl rfl)
theorem dX1_form_141 : decode cX1_form 141 = .ok (.aload_n 0, 1) := dk_42 (dk_at dksX1_form_6 3 rfl rfl)
theorem dX1_form_142 : decode cX1_form 142 = .ok (.getfield 245, 3) := dk_180 0 245 (dk_at dksX1_form_6 4 rfl rfl)
theorem dX1_form_145 : decode cX1_form 145 = .ok (.ireturn, 1) := dk_172 (dk_at dksX1_form_6 7 rfl rfl)
abbrev cX1_write : ByteArray := prog_1_method_9_code
def yX1_write : MethodName := ⟨RX1, "write", "(II)V"⟩
def dkwX1_write_1 : List UInt8 := [181, 0, 245, 177]
abbrev dktX1_write_1 : List UInt8 := dkwX1_write_1 ++ []
def dkwX1_write_0 : List UInt8 := [42, 180, 0, 91, 42, 180, 0, 151, 3, 27, 28, 182, 0, 248, 42, 42, 180, 0, 91, 180, 0, 251]
abbrev dktX1_write_0 : List UInt8 := dkwX1_write_0 ++ dktX1_write_1
theorem dksX1_write_0 : cX1_write.data.toList.drop 0 = dktX1_write_0 := by decide +kernel
theorem dksX1_write_1 : cX1_write.data.toList.drop 22 = dktX1_write_1 := dk_seg dksX1_write_0 22 rfl rfl
theorem dX1_write_0 : decode cX1_write 0 = .ok (.aload_n 0, 1) := dk_42 (dk_at dksX1_write_0 0 rfl rfl)
theorem dX1_write_1 : decode cX1_write 1 = .ok (.getfield 91, 3) := dk_180 0 91 (dk_at dksX1_write_0 1 rfl rfl)
theorem dX1_write_4 : decode cX1_write 4 = .ok (.aload_n 0, 1) := dk_42 (dk_at dksX1_write_0 4 rfl rfl)
theorem dX1_write_5 : decode cX1_write 5 = .ok (.getfield 151, 3) := dk_180 0 151 (dk_at dksX1_write_0 5 rfl rfl)
theorem dX1_write_8 : decode cX1_write 8 = .ok (.iconst 0, 1) := dk_3 (dk_at dksX1_write_0 8 rfl rfl)
theorem dX1_write_9 : decode cX1_write 9 = .ok (.iload_n 1, 1) := dk_27 (dk_at dksX1_write_0 9 rfl rfl)
theorem dX1_write_10 : decode cX1_write 10 = .ok (.iload_n 2, 1) := dk_28 (dk_at dksX1_write_0 10 rfl rfl)
theorem dX1_write_11 : decode cX1_write 11 = .ok (.invokevirtual 248, 3) := dk_182 0 248 (dk_at dksX1_write_0 11 rfl rfl)
theorem dX1_write_14 : decode cX1_write 14 = .ok (.aload_n 0, 1) := dk_42 (dk_at dksX1_write_0 14 rfl rfl)
theorem dX1_write_15 : decode cX1_write 15 = .ok (.aload_n 0, 1) := dk_42 (dk_at dksX1_write_0 15 rfl rfl)
theorem dX1_write_16 : decode cX1_write 16 = .ok (.getfield 91, 3) := dk_180 0 91 (dk_at dksX1_write_0 16 rfl rfl)
theorem dX1_write_19 : decode cX1_write 19 = .ok (.getfield 251, 3) := dk_180 0 251 (dk_at dksX1_write_0 19 rfl rfl)
theorem dX1_write_22 : decode cX1_write 22 = .ok (.putfield 245, 3) := dk_181 0 245 (dk_at dksX1_write_1 0 rfl rfl)
theorem dX1_write_25 : decode cX1_write 25 = .ok (.return_, 1) := dk_177 (dk_at dksX1_write_1 3 rfl rfl)
abbrev cX1_account : ByteArray := prog_1_method_10_code
def yX1_account : MethodName := ⟨RX1, "account", "(J)I"⟩
def dkwX1_account_3 : List UInt8 := [42, 180, 0, 121, 89, 180, 1, 1, 31, 97, 181, 1, 1, 29, 172]
abbrev dktX1_account_3 : List UInt8 := dkwX1_account_3 ++ []
def dkwX1_account_2 : List UInt8 := [181, 0, 252, 62, 42, 180, 0, 121, 180, 1, 5, 29, 4, 84, 42, 180, 0, 121, 180, 1, 9, 29, 31, 80]
abbrev dktX1_account_2 : List UInt8 := dkwX1_account_2 ++ dktX1_account_3
def dkwX1_account_1 : List UInt8 := [180, 0, 121, 180, 1, 1, 101, 148, 158, 0, 5, 2, 172, 42, 180, 0, 121, 89, 180, 0, 252, 90, 4, 96]
abbrev dktX1_account_1 : List UInt8 := dkwX1_account_1 ++ dktX1_account_2
def dkwX1_account_0 : List UInt8 := [31, 9, 148, 155, 0, 31, 42, 180, 0, 121, 180, 0, 252, 16, 100, 159, 0, 19, 31, 20, 0, 255, 42]
abbrev dktX1_account_0 : List UInt8 := dkwX1_account_0 ++ dktX1_account_1
theorem dksX1_account_0 : cX1_account.data.toList.drop 0 = dktX1_account_0 := by decide +kernel
theorem dksX1_account_1 : cX1_account.data.toList.drop 23 = dktX1_account_1 := dk_seg dksX1_account_0 23 rfl rfl
theorem dksX1_account_2 : cX1_account.data.toList.drop 47 = dktX1_account_2 := dk_seg dksX1_account_1 24 rfl rfl
theorem dksX1_account_3 : cX1_account.data.toList.drop 71 = dktX1_account_3 := dk_seg dksX1_account_2 24 rfl rfl
theorem dX1_account_0 : decode cX1_account 0 = .ok (.lload_n 1, 1) := dk_31 (dk_at dksX1_account_0 0 rfl rfl)
theorem dX1_account_1 : decode cX1_account 1 = .ok (.lconst 0, 1) := dk_9 (dk_at dksX1_account_0 1 rfl rfl)
theorem dX1_account_2 : decode cX1_account 2 = .ok (.lcmp, 1) := dk_148 (dk_at dksX1_account_0 2 rfl rfl)
theorem dX1_account_3 : decode cX1_account 3 = .ok (.ifCond .lt 31, 3) := dk_155 0 31 (dk_at dksX1_account_0 3 rfl rfl)
theorem dX1_account_6 : decode cX1_account 6 = .ok (.aload_n 0, 1) := dk_42 (dk_at dksX1_account_0 6 rfl rfl)
theorem dX1_account_7 : decode cX1_account 7 = .ok (.getfield 121, 3) := dk_180 0 121 (dk_at dksX1_account_0 7 rfl rfl)
theorem dX1_account_10 : decode cX1_account 10 = .ok (.getfield 252, 3) := dk_180 0 252 (dk_at dksX1_account_0 10 rfl rfl)
theorem dX1_account_13 : decode cX1_account 13 = .ok (.bipush 100, 2) := dk_16 100 (dk_at dksX1_account_0 13 rfl rfl)
theorem dX1_account_15 : decode cX1_account 15 = .ok (.if_icmp .eq 19, 3) := dk_159 0 19 (dk_at dksX1_account_0 15 rfl rfl)
theorem dX1_account_18 : decode cX1_account 18 = .ok (.lload_n 1, 1) := dk_31 (dk_at dksX1_account_0 18 rfl rfl)
theorem dX1_account_19 : decode cX1_account 19 = .ok (.ldc2_w 255, 3) := dk_20 0 255 (dk_at dksX1_account_0 19 rfl rfl)
theorem dX1_account_22 : decode cX1_account 22 = .ok (.aload_n 0, 1) := dk_42 (dk_at dksX1_account_0 22 rfl rfl)
theorem dX1_account_23 : decode cX1_account 23 = .ok (.getfield 121, 3) := dk_180 0 121 (dk_at dksX1_account_1 0 rfl rfl)
theorem dX1_account_26 : decode cX1_account 26 = .ok (.getfield 257, 3) := dk_180 1 1 (dk_at dksX1_account_1 3 rfl rfl)
theorem dX1_account_29 : decode cX1_account 29 = .ok (.lsub, 1) := dk_101 (dk_at dksX1_account_1 6 rfl rfl)
theorem dX1_account_30 : decode cX1_account 30 = .ok (.lcmp, 1) := dk_148 (dk_at dksX1_account_1 7 rfl rfl)
theorem dX1_account_31 : decode cX1_account 31 = .ok (.ifCond .le 5, 3) := dk_158 0 5 (dk_at dksX1_account_1 8 rfl rfl)
theorem dX1_account_34 : decode cX1_account 34 = .ok (.iconst (-1), 1) := dk_2 (dk_at dksX1_account_1 11 rfl rfl)
theorem dX1_account_35 : decode cX1_account 35 = .ok (.ireturn, 1) := dk_172 (dk_at dksX1_account_1 12 rfl rfl)
theorem dX1_account_36 : decode cX1_account 36 = .ok (.aload_n 0, 1) := dk_42 (dk_at dksX1_account_1 13 rfl rfl)
theorem dX1_account_37 : decode cX1_account 37 = .ok (.getfield 121, 3) := dk_180 0 121 (dk_at dksX1_account_1 14 rfl rfl)
theorem dX1_account_40 : decode cX1_account 40 = .ok (.dup, 1) := dk_89 (dk_at dksX1_account_1 17 rfl rfl)
theorem dX1_account_41 : decode cX1_account 41 = .ok (.getfield 252, 3) := dk_180 0 252 (dk_at dksX1_account_1 18 rfl rfl)
theorem dX1_account_44 : decode cX1_account 44 = .ok (.dup_x1, 1) := dk_90 (dk_at dksX1_account_1 21 rfl rfl)
theorem dX1_account_45 : decode cX1_account 45 = .ok (.iconst 1, 1) := dk_4 (dk_at dksX1_account_1 22 rfl rfl)
theorem dX1_account_46 : decode cX1_account 46 = .ok (.iadd, 1) := dk_96 (dk_at dksX1_account_1 23 rfl rfl)
theorem dX1_account_47 : decode cX1_account 47 = .ok (.putfield 252, 3) := dk_181 0 252 (dk_at dksX1_account_2 0 rfl rfl)
theorem dX1_account_50 : decode cX1_account 50 = .ok (.istore_n 3, 1) := dk_62 (dk_at dksX1_account_2 3 rfl rfl)
theorem dX1_account_51 : decode cX1_account 51 = .ok (.aload_n 0, 1) := dk_42 (dk_at dksX1_account_2 4 rfl rfl)
theorem dX1_account_52 : decode cX1_account 52 = .ok (.getfield 121, 3) := dk_180 0 121 (dk_at dksX1_account_2 5 rfl rfl)
theorem dX1_account_55 : decode cX1_account 55 = .ok (.getfield 261, 3) := dk_180 1 5 (dk_at dksX1_account_2 8 rfl rfl)
theorem dX1_account_58 : decode cX1_account 58 = .ok (.iload_n 3, 1) := dk_29 (dk_at dksX1_account_2 11 rfl rfl)
theorem dX1_account_59 : decode cX1_account 59 = .ok (.iconst 1, 1) := dk_4 (dk_at dksX1_account_2 12 rfl rfl)
theorem dX1_account_60 : decode cX1_account 60 = .ok (.bastore, 1) := dk_84 (dk_at dksX1_account_2 13 rfl rfl)
theorem dX1_account_61 : decode cX1_account 61 = .ok (.aload_n 0, 1) := dk_42 (dk_at dksX1_account_2 14 rfl rfl)
theorem dX1_account_62 : decode cX1_account 62 = .ok (.getfield 121, 3) := dk_180 0 121 (dk_at dksX1_account_2 15 rfl rfl)
theorem dX1_account_65 : decode cX1_account 65 = .ok (.getfield 265, 3) := dk_180 1 9 (dk_at dksX1_account_2 18 rfl rfl)
theorem dX1_account_68 : decode cX1_account 68 = .ok (.iload_n 3, 1) := dk_29 (dk_at dksX1_account_2 21 rfl rfl)
theorem dX1_account_69 : decode cX1_account 69 = .ok (.lload_n 1, 1) := dk_31 (dk_at dksX1_account_2 22 rfl rfl)
theorem dX1_account_70 : decode cX1_account 70 = .ok (.lastore, 1) := dk_80 (dk_at dksX1_account_2 23 rfl rfl)
theorem dX1_account_71 : decode cX1_account 71 = .ok (.aload_n 0, 1) := dk_42 (dk_at dksX1_account_3 0 rfl rfl)
theorem dX1_account_72 : decode cX1_account 72 = .ok (.getfield 121, 3) := dk_180 0 121 (dk_at dksX1_account_3 1 rfl rfl)
theorem dX1_account_75 : decode cX1_account 75 = .ok (.dup, 1) := dk_89 (dk_at dksX1_account_3 4 rfl rfl)
theorem dX1_account_76 : decode cX1_account 76 = .ok (.getfield 257, 3) := dk_180 1 1 (dk_at dksX1_account_3 5 rfl rfl)
theorem dX1_account_79 : decode cX1_account 79 = .ok (.lload_n 1, 1) := dk_31 (dk_at dksX1_account_3 8 rfl rfl)
theorem dX1_account_80 : decode cX1_account 80 = .ok (.ladd, 1) := dk_97 (dk_at dksX1_account_3 9 rfl rfl)
theorem dX1_account_81 : decode cX1_account 81 = .ok (.putfield 257, 3) := dk_181 1 1 (dk_at dksX1_account_3 10 rfl rfl)
theorem dX1_account_84 : decode cX1_account 84 = .ok (.iload_n 3, 1) := dk_29 (dk_at dksX1_account_3 13 rfl rfl)
theorem dX1_account_85 : decode cX1_account 85 = .ok (.ireturn, 1) := dk_172 (dk_at dksX1_account_3 14 rfl rfl)
abbrev cX1_now : ByteArray := prog_1_method_11_code
def yX1_now : MethodName := ⟨RX1, "now", "(JI)Z"⟩
def dkwX1_now_1 : List UInt8 := [164, 0, 5, 3, 172, 42, 180, 0, 121, 31, 181, 1, 18, 42, 180, 0, 121, 29, 181, 1, 21, 4, 172]
abbrev dktX1_now_1 : List UInt8 := dkwX1_now_1 ++ []
def dkwX1_now_0 : List UInt8 := [31, 20, 1, 13, 148, 155, 0, 22, 31, 20, 1, 15, 148, 157, 0, 14, 29, 155, 0, 10, 29, 19, 1, 17]
abbrev dktX1_now_0 : List UInt8 := dkwX1_now_0 ++ dktX1_now_1
theorem dksX1_now_0 : cX1_now.data.toList.drop 0 = dktX1_now_0 := by decide +kernel
theorem dksX1_now_1 : cX1_now.data.toList.drop 24 = dktX1_now_1 := dk_seg dksX1_now_0 24 rfl rfl
theorem dX1_now_0 : decode cX1_now 0 = .ok (.lload_n 1, 1) := dk_31 (dk_at dksX1_now_0 0 rfl rfl)
theorem dX1_now_1 : decode cX1_now 1 = .ok (.ldc2_w 269, 3) := dk_20 1 13 (dk_at dksX1_now_0 1 rfl rfl)
theorem dX1_now_4 : decode cX1_now 4 = .ok (.lcmp, 1) := dk_148 (dk_at dksX1_now_0 4 rfl rfl)
theorem dX1_now_5 : decode cX1_now 5 = .ok (.ifCond .lt 22, 3) := dk_155 0 22 (dk_at dksX1_now_0 5 rfl rfl)
theorem dX1_now_8 : decode cX1_now 8 = .ok (.lload_n 1, 1) := dk_31 (dk_at dksX1_now_0 8 rfl rfl)
theorem dX1_now_9 : decode cX1_now 9 = .ok (.ldc2_w 271, 3) := dk_20 1 15 (dk_at dksX1_now_0 9 rfl rfl)
theorem dX1_now_12 : decode cX1_now 12 = .ok (.lcmp, 1) := dk_148 (dk_at dksX1_now_0 12 rfl rfl)
theorem dX1_now_13 : decode cX1_now 13 = .ok (.ifCond .gt 14, 3) := dk_157 0 14 (dk_at dksX1_now_0 13 rfl rfl)
theorem dX1_now_16 : decode cX1_now 16 = .ok (.iload_n 3, 1) := dk_29 (dk_at dksX1_now_0 16 rfl rfl)
theorem dX1_now_17 : decode cX1_now 17 = .ok (.ifCond .lt 10, 3) := dk_155 0 10 (dk_at dksX1_now_0 17 rfl rfl)
theorem dX1_now_20 : decode cX1_now 20 = .ok (.iload_n 3, 1) := dk_29 (dk_at dksX1_now_0 20 rfl rfl)
theorem dX1_now_21 : decode cX1_now 21 = .ok (.ldc_w 273, 3) := dk_19 1 17 (dk_at dksX1_now_0 21 rfl rfl)
theorem dX1_now_24 : decode cX1_now 24 = .ok (.if_icmp .le 5, 3) := dk_164 0 5 (dk_at dksX1_now_1 0 rfl rfl)
theorem dX1_now_27 : decode cX1_now 27 = .ok (.iconst 0, 1) := dk_3 (dk_at dksX1_now_1 3 rfl rfl)
theorem dX1_now_28 : decode cX1_now 28 = .ok (.ireturn, 1) := dk_172 (dk_at dksX1_now_1 4 rfl rfl)
theorem dX1_now_29 : decode cX1_now 29 = .ok (.aload_n 0, 1) := dk_42 (dk_at dksX1_now_1 5 rfl rfl)
theorem dX1_now_30 : decode cX1_now 30 = .ok (.getfield 121, 3) := dk_180 0 121 (dk_at dksX1_now_1 6 rfl rfl)
theorem dX1_now_33 : decode cX1_now 33 = .ok (.lload_n 1, 1) := dk_31 (dk_at dksX1_now_1 9 rfl rfl)
theorem dX1_now_34 : decode cX1_now 34 = .ok (.putfield 274, 3) := dk_181 1 18 (dk_at dksX1_now_1 10 rfl rfl)
theorem dX1_now_37 : decode cX1_now 37 = .ok (.aload_n 0, 1) := dk_42 (dk_at dksX1_now_1 13 rfl rfl)
theorem dX1_now_38 : decode cX1_now 38 = .ok (.getfield 121, 3) := dk_180 0 121 (dk_at dksX1_now_1 14 rfl rfl)
theorem dX1_now_41 : decode cX1_now 41 = .ok (.iload_n 3, 1) := dk_29 (dk_at dksX1_now_1 17 rfl rfl)
theorem dX1_now_42 : decode cX1_now 42 = .ok (.putfield 277, 3) := dk_181 1 21 (dk_at dksX1_now_1 18 rfl rfl)
theorem dX1_now_45 : decode cX1_now 45 = .ok (.iconst 1, 1) := dk_4 (dk_at dksX1_now_1 21 rfl rfl)
theorem dX1_now_46 : decode cX1_now 46 = .ok (.ireturn, 1) := dk_172 (dk_at dksX1_now_1 22 rfl rfl)
abbrev cX1_batch : ByteArray := prog_1_method_13_code
def yX1_batch : MethodName := ⟨RX1, "batch", "(II)Z"⟩
def dkwX1_batch_2 : List UInt8 := [3, 181, 1, 49, 4, 172]
abbrev dktX1_batch_2 : List UInt8 := dkwX1_batch_2 ++ []
def dkwX1_batch_1 : List UInt8 := [181, 1, 34, 42, 9, 181, 1, 37, 42, 3, 181, 1, 40, 42, 3, 181, 1, 43, 42, 3, 181, 1, 46, 42]
abbrev dktX1_batch_1 : List UInt8 := dkwX1_batch_1 ++ dktX1_batch_2
def dkwX1_batch_0 : List UInt8 := [42, 27, 182, 1, 24, 154, 0, 5, 3, 172, 42, 4, 181, 1, 27, 42, 27, 181, 1, 31, 42, 28]
abbrev dktX1_batch_0 : List UInt8 := dkwX1_batch_0 ++ dktX1_batch_1
theorem dksX1_batch_0 : cX1_batch.data.toList.drop 0 = dktX1_batch_0 := by decide +kernel
theorem dksX1_batch_1 : cX1_batch.data.toList.drop 22 = dktX1_batch_1 := dk_seg dksX1_batch_0 22 rfl rfl
theorem dksX1_batch_2 : cX1_batch.data.toList.drop 46 = dktX1_batch_2 := dk_seg dksX1_batch_1 24 rfl rfl
theorem dX1_batch_0 : decode cX1_batch 0 = .ok (.aload_n 0, 1) := dk_42 (dk_at dksX1_batch_0 0 rfl rfl)
theorem dX1_batch_1 : decode cX1_batch 1 = .ok (.iload_n 1, 1) := dk_27 (dk_at dksX1_batch_0 1 rfl rfl)
theorem dX1_batch_2 : decode cX1_batch 2 = .ok (.invokevirtual 280, 3) := dk_182 1 24 (dk_at dksX1_batch_0 2 rfl rfl)
theorem dX1_batch_5 : decode cX1_batch 5 = .ok (.ifCond .ne 5, 3) := dk_154 0 5 (dk_at dksX1_batch_0 5 rfl rfl)
theorem dX1_batch_8 : decode cX1_batch 8 = .ok (.iconst 0, 1) := dk_3 (dk_at dksX1_batch_0 8 rfl rfl)
theorem dX1_batch_9 : decode cX1_batch 9 = .ok (.ireturn, 1) := dk_172 (dk_at dksX1_batch_0 9 rfl rfl)
theorem dX1_batch_10 : decode cX1_batch 10 = .ok (.aload_n 0, 1) := dk_42 (dk_at dksX1_batch_0 10 rfl rfl)
theorem dX1_batch_11 : decode cX1_batch 11 = .ok (.iconst 1, 1) := dk_4 (dk_at dksX1_batch_0 11 rfl rfl)
theorem dX1_batch_12 : decode cX1_batch 12 = .ok (.putfield 283, 3) := dk_181 1 27 (dk_at dksX1_batch_0 12 rfl rfl)
theorem dX1_batch_15 : decode cX1_batch 15 = .ok (.aload_n 0, 1) := dk_42 (dk_at dksX1_batch_0 15 rfl rfl)
theorem dX1_batch_16 : decode cX1_batch 16 = .ok (.iload_n 1, 1) := dk_27 (dk_at dksX1_batch_0 16 rfl rfl)
theorem dX1_batch_17 : decode cX1_batch 17 = .ok (.putfield 287, 3) := dk_181 1 31 (dk_at dksX1_batch_0 17 rfl rfl)
theorem dX1_batch_20 : decode cX1_batch 20 = .ok (.aload_n 0, 1) := dk_42 (dk_at dksX1_batch_0 20 rfl rfl)
theorem dX1_batch_21 : decode cX1_batch 21 = .ok (.iload_n 2, 1) := dk_28 (dk_at dksX1_batch_0 21 rfl rfl)
theorem dX1_batch_22 : decode cX1_batch 22 = .ok (.putfield 290, 3) := dk_181 1 34 (dk_at dksX1_batch_1 0 rfl rfl)
theorem dX1_batch_25 : decode cX1_batch 25 = .ok (.aload_n 0, 1) := dk_42 (dk_at dksX1_batch_1 3 rfl rfl)
theorem dX1_batch_26 : decode cX1_batch 26 = .ok (.lconst 0, 1) := dk_9 (dk_at dksX1_batch_1 4 rfl rfl)
theorem dX1_batch_27 : decode cX1_batch 27 = .ok (.putfield 293, 3) := dk_181 1 37 (dk_at dksX1_batch_1 5 rfl rfl)
theorem dX1_batch_30 : decode cX1_batch 30 = .ok (.aload_n 0, 1) := dk_42 (dk_at dksX1_batch_1 8 rfl rfl)
theorem dX1_batch_31 : decode cX1_batch 31 = .ok (.iconst 0, 1) := dk_3 (dk_at dksX1_batch_1 9 rfl rfl)
theorem dX1_batch_32 : decode cX1_batch 32 = .ok (.putfield 296, 3) := dk_181 1 40 (dk_at dksX1_batch_1 10 rfl rfl)
theorem dX1_batch_35 : decode cX1_batch 35 = .ok (.aload_n 0, 1) := dk_42 (dk_at dksX1_batch_1 13 rfl rfl)
theorem dX1_batch_36 : decode cX1_batch 36 = .ok (.iconst 0, 1) := dk_3 (dk_at dksX1_batch_1 14 rfl rfl)
theorem dX1_batch_37 : decode cX1_batch 37 = .ok (.putfield 299, 3) := dk_181 1 43 (dk_at dksX1_batch_1 15 rfl rfl)
theorem dX1_batch_40 : decode cX1_batch 40 = .ok (.aload_n 0, 1) := dk_42 (dk_at dksX1_batch_1 18 rfl rfl)
theorem dX1_batch_41 : decode cX1_batch 41 = .ok (.iconst 0, 1) := dk_3 (dk_at dksX1_batch_1 19 rfl rfl)
theorem dX1_batch_42 : decode cX1_batch 42 = .ok (.putfield 302, 3) := dk_181 1 46 (dk_at dksX1_batch_1 20 rfl rfl)
theorem dX1_batch_45 : decode cX1_batch 45 = .ok (.aload_n 0, 1) := dk_42 (dk_at dksX1_batch_1 23 rfl rfl)
theorem dX1_batch_46 : decode cX1_batch 46 = .ok (.iconst 0, 1) := dk_3 (dk_at dksX1_batch_2 0 rfl rfl)
theorem dX1_batch_47 : decode cX1_batch 47 = .ok (.putfield 305, 3) := dk_181 1 49 (dk_at dksX1_batch_2 1 rfl rfl)
theorem dX1_batch_50 : decode cX1_batch 50 = .ok (.iconst 1, 1) := dk_4 (dk_at dksX1_batch_2 4 rfl rfl)
theorem dX1_batch_51 : decode cX1_batch 51 = .ok (.ireturn, 1) := dk_172 (dk_at dksX1_batch_2 5 rfl rfl)
abbrev cX1_isAccount : ByteArray := prog_1_method_12_code
def yX1_isAccount : MethodName := ⟨RX1, "isAccount", "(I)Z"⟩
def dkwX1_isAccount_0 : List UInt8 := [27, 155, 0, 18, 27, 42, 180, 0, 121, 180, 0, 252, 162, 0, 7, 4, 167, 0, 4, 3, 172]
abbrev dktX1_isAccount_0 : List UInt8 := dkwX1_isAccount_0 ++ []
theorem dksX1_isAccount_0 : cX1_isAccount.data.toList.drop 0 = dktX1_isAccount_0 := by decide +kernel
theorem dX1_isAccount_0 : decode cX1_isAccount 0 = .ok (.iload_n 1, 1) := dk_27 (dk_at dksX1_isAccount_0 0 rfl rfl)
theorem dX1_isAccount_1 : decode cX1_isAccount 1 = .ok (.ifCond .lt 18, 3) := dk_155 0 18 (dk_at dksX1_isAccount_0 1 rfl rfl)
theorem dX1_isAccount_4 : decode cX1_isAccount 4 = .ok (.iload_n 1, 1) := dk_27 (dk_at dksX1_isAccount_0 4 rfl rfl)
theorem dX1_isAccount_5 : decode cX1_isAccount 5 = .ok (.aload_n 0, 1) := dk_42 (dk_at dksX1_isAccount_0 5 rfl rfl)
theorem dX1_isAccount_6 : decode cX1_isAccount 6 = .ok (.getfield 121, 3) := dk_180 0 121 (dk_at dksX1_isAccount_0 6 rfl rfl)
theorem dX1_isAccount_9 : decode cX1_isAccount 9 = .ok (.getfield 252, 3) := dk_180 0 252 (dk_at dksX1_isAccount_0 9 rfl rfl)
theorem dX1_isAccount_12 : decode cX1_isAccount 12 = .ok (.if_icmp .ge 7, 3) := dk_162 0 7 (dk_at dksX1_isAccount_0 12 rfl rfl)
theorem dX1_isAccount_15 : decode cX1_isAccount 15 = .ok (.iconst 1, 1) := dk_4 (dk_at dksX1_isAccount_0 15 rfl rfl)
theorem dX1_isAccount_16 : decode cX1_isAccount 16 = .ok (.goto 4, 3) := dk_167 0 4 (dk_at dksX1_isAccount_0 16 rfl rfl)
theorem dX1_isAccount_19 : decode cX1_isAccount 19 = .ok (.iconst 0, 1) := dk_3 (dk_at dksX1_isAccount_0 19 rfl rfl)
theorem dX1_isAccount_20 : decode cX1_isAccount 20 = .ok (.ireturn, 1) := dk_172 (dk_at dksX1_isAccount_0 20 rfl rfl)
abbrev cX1_limits : ByteArray := prog_1_method_14_code
def yX1_limits : MethodName := ⟨RX1, "limits", "(JII)Z"⟩
def dkwX1_limits_2 : List UInt8 := [172, 42, 31, 181, 1, 37, 42, 29, 181, 1, 40, 42, 21, 4, 181, 1, 43, 4, 172]
abbrev dktX1_limits_2 : List UInt8 := dkwX1_limits_2 ++ []
def dkwX1_limits_1 : List UInt8 := [155, 0, 23, 29, 19, 1, 54, 163, 0, 16, 21, 4, 155, 0, 11, 21, 4, 19, 1, 54, 164, 0, 5, 3]
abbrev dktX1_limits_1 : List UInt8 := dkwX1_limits_1 ++ dktX1_limits_2
def dkwX1_limits_0 : List UInt8 := [42, 180, 1, 27, 153, 0, 41, 31, 9, 148, 155, 0, 35, 31, 20, 1, 52, 148, 157, 0, 27, 29]
abbrev dktX1_limits_0 : List UInt8 := dkwX1_limits_0 ++ dktX1_limits_1
theorem dksX1_limits_0 : cX1_limits.data.toList.drop 0 = dktX1_limits_0 := by decide +kernel
theorem dksX1_limits_1 : cX1_limits.data.toList.drop 22 = dktX1_limits_1 := dk_seg dksX1_limits_0 22 rfl rfl
theorem dksX1_limits_2 : cX1_limits.data.toList.drop 46 = dktX1_limits_2 := dk_seg dksX1_limits_1 24 rfl rfl
theorem dX1_limits_0 : decode cX1_limits 0 = .ok (.aload_n 0, 1) := dk_42 (dk_at dksX1_limits_0 0 rfl rfl)
theorem dX1_limits_1 : decode cX1_limits 1 = .ok (.getfield 283, 3) := dk_180 1 27 (dk_at dksX1_limits_0 1 rfl rfl)
theorem dX1_limits_4 : decode cX1_limits 4 = .ok (.ifCond .eq 41, 3) := dk_153 0 41 (dk_at dksX1_limits_0 4 rfl rfl)
theorem dX1_limits_7 : decode cX1_limits 7 = .ok (.lload_n 1, 1) := dk_31 (dk_at dksX1_limits_0 7 rfl rfl)
theorem dX1_limits_8 : decode cX1_limits 8 = .ok (.lconst 0, 1) := dk_9 (dk_at dksX1_limits_0 8 rfl rfl)
theorem dX1_limits_9 : decode cX1_limits 9 = .ok (.lcmp, 1) := dk_148 (dk_at dksX1_limits_0 9 rfl rfl)
theorem dX1_limits_10 : decode cX1_limits 10 = .ok (.ifCond .lt 35, 3) := dk_155 0 35 (dk_at dksX1_limits_0 10 rfl rfl)
theorem dX1_limits_13 : decode cX1_limits 13 = .ok (.lload_n 1, 1) := dk_31 (dk_at dksX1_limits_0 13 rfl rfl)
theorem dX1_limits_14 : decode cX1_limits 14 = .ok (.ldc2_w 308, 3) := dk_20 1 52 (dk_at dksX1_limits_0 14 rfl rfl)
theorem dX1_limits_17 : decode cX1_limits 17 = .ok (.lcmp, 1) := dk_148 (dk_at dksX1_limits_0 17 rfl rfl)
theorem dX1_limits_18 : decode cX1_limits 18 = .ok (.ifCond .gt 27, 3) := dk_157 0 27 (dk_at dksX1_limits_0 18 rfl rfl)
theorem dX1_limits_21 : decode cX1_limits 21 = .ok (.iload_n 3, 1) := dk_29 (dk_at dksX1_limits_0 21 rfl rfl)
theorem dX1_limits_22 : decode cX1_limits 22 = .ok (.ifCond .lt 23, 3) := dk_155 0 23 (dk_at dksX1_limits_1 0 rfl rfl)
theorem dX1_limits_25 : decode cX1_limits 25 = .ok (.iload_n 3, 1) := dk_29 (dk_at dksX1_limits_1 3 rfl rfl)
theorem dX1_limits_26 : decode cX1_limits 26 = .ok (.ldc_w 310, 3) := dk_19 1 54 (dk_at dksX1_limits_1 4 rfl rfl)
theorem dX1_limits_29 : decode cX1_limits 29 = .ok (.if_icmp .gt 16, 3) := dk_163 0 16 (dk_at dksX1_limits_1 7 rfl rfl)
theorem dX1_limits_32 : decode cX1_limits 32 = .ok (.iload 4, 2) := dk_21 4 (dk_at dksX1_limits_1 10 rfl rfl)
theorem dX1_limits_34 : decode cX1_limits 34 = .ok (.ifCond .lt 11, 3) := dk_155 0 11 (dk_at dksX1_limits_1 12 rfl rfl)
theorem dX1_limits_37 : decode cX1_limits 37 = .ok (.iload 4, 2) := dk_21 4 (dk_at dksX1_limits_1 15 rfl rfl)
theorem dX1_limits_39 : decode cX1_limits 39 = .ok (.ldc_w 310, 3) := dk_19 1 54 (dk_at dksX1_limits_1 17 rfl rfl)
theorem dX1_limits_42 : decode cX1_limits 42 = .ok (.if_icmp .le 5, 3) := dk_164 0 5 (dk_at dksX1_limits_1 20 rfl rfl)
theorem dX1_limits_45 : decode cX1_limits 45 = .ok (.iconst 0, 1) := dk_3 (dk_at dksX1_limits_1 23 rfl rfl)
theorem dX1_limits_46 : decode cX1_limits 46 = .ok (.ireturn, 1) := dk_172 (dk_at dksX1_limits_2 0 rfl rfl)
theorem dX1_limits_47 : decode cX1_limits 47 = .ok (.aload_n 0, 1) := dk_42 (dk_at dksX1_limits_2 1 rfl rfl)
theorem dX1_limits_48 : decode cX1_limits 48 = .ok (.lload_n 1, 1) := dk_31 (dk_at dksX1_limits_2 2 rfl rfl)
theorem dX1_limits_49 : decode cX1_limits 49 = .ok (.putfield 293, 3) := dk_181 1 37 (dk_at dksX1_limits_2 3 rfl rfl)
theorem dX1_limits_52 : decode cX1_limits 52 = .ok (.aload_n 0, 1) := dk_42 (dk_at dksX1_limits_2 6 rfl rfl)
theorem dX1_limits_53 : decode cX1_limits 53 = .ok (.iload_n 3, 1) := dk_29 (dk_at dksX1_limits_2 7 rfl rfl)
theorem dX1_limits_54 : decode cX1_limits 54 = .ok (.putfield 296, 3) := dk_181 1 40 (dk_at dksX1_limits_2 8 rfl rfl)
theorem dX1_limits_57 : decode cX1_limits 57 = .ok (.aload_n 0, 1) := dk_42 (dk_at dksX1_limits_2 11 rfl rfl)
theorem dX1_limits_58 : decode cX1_limits 58 = .ok (.iload 4, 2) := dk_21 4 (dk_at dksX1_limits_2 12 rfl rfl)
theorem dX1_limits_60 : decode cX1_limits 60 = .ok (.putfield 299, 3) := dk_181 1 43 (dk_at dksX1_limits_2 14 rfl rfl)
theorem dX1_limits_63 : decode cX1_limits 63 = .ok (.iconst 1, 1) := dk_4 (dk_at dksX1_limits_2 17 rfl rfl)
theorem dX1_limits_64 : decode cX1_limits 64 = .ok (.ireturn, 1) := dk_172 (dk_at dksX1_limits_2 18 rfl rfl)
abbrev cX1_content : ByteArray := prog_1_method_15_code
def yX1_content : MethodName := ⟨RX1, "content", "(ZJ)I"⟩
def dkwX1_content_6 : List UInt8 := [181, 1, 49, 25, 4, 42, 180, 1, 49, 181, 1, 76, 42, 3, 181, 0, 171, 42, 180, 1, 46, 172]
abbrev dktX1_content_6 : List UInt8 := dkwX1_content_6 ++ []
def dkwX1_content_5 : List UInt8 := [180, 0, 160, 42, 180, 1, 49, 42, 180, 0, 171, 184, 1, 70, 42, 89, 180, 1, 49, 42, 180, 0, 171, 96]
abbrev dktX1_content_5 : List UInt8 := dkwX1_content_5 ++ dktX1_content_6
def dkwX1_content_4 : List UInt8 := [181, 1, 61, 25, 4, 32, 181, 1, 64, 25, 4, 42, 180, 1, 49, 181, 1, 67, 42, 180, 0, 7, 3, 42]
abbrev dktX1_content_4 : List UInt8 := dkwX1_content_4 ++ dktX1_content_5
def dkwX1_content_3 : List UInt8 := [25, 4, 42, 180, 1, 37, 181, 1, 58, 25, 4, 42, 180, 1, 40, 181, 1, 59, 25, 4, 42, 180, 1, 43]
abbrev dktX1_content_3 : List UInt8 := dkwX1_content_3 ++ dktX1_content_4
def dkwX1_content_2 : List UInt8 := [42, 180, 0, 156, 42, 89, 180, 1, 46, 90, 4, 96, 181, 1, 46, 50, 58, 4, 25, 4, 27, 181, 1, 55]
abbrev dktX1_content_2 : List UInt8 := dkwX1_content_2 ++ dktX1_content_3
def dkwX1_content_1 : List UInt8 := [20, 0, 255, 148, 157, 0, 18, 42, 180, 1, 49, 42, 180, 0, 171, 96, 17, 64, 0, 164, 0, 5, 2, 172]
abbrev dktX1_content_1 : List UInt8 := dkwX1_content_1 ++ dktX1_content_2
def dkwX1_content_0 : List UInt8 := [42, 180, 1, 27, 153, 0, 41, 42, 180, 1, 46, 16, 16, 159, 0, 32, 32, 9, 148, 155, 0, 26, 32]
abbrev dktX1_content_0 : List UInt8 := dkwX1_content_0 ++ dktX1_content_1
theorem dksX1_content_0 : cX1_content.data.toList.drop 0 = dktX1_content_0 := by decide +kernel
theorem dksX1_content_1 : cX1_content.data.toList.drop 23 = dktX1_content_1 := dk_seg dksX1_content_0 23 rfl rfl
theorem dksX1_content_2 : cX1_content.data.toList.drop 47 = dktX1_content_2 := dk_seg dksX1_content_1 24 rfl rfl
theorem dksX1_content_3 : cX1_content.data.toList.drop 71 = dktX1_content_3 := dk_seg dksX1_content_2 24 rfl rfl
theorem dksX1_content_4 : cX1_content.data.toList.drop 95 = dktX1_content_4 := dk_seg dksX1_content_3 24 rfl rfl
theorem dksX1_content_5 : cX1_content.data.toList.drop 119 = dktX1_content_5 := dk_seg dksX1_content_4 24 rfl rfl
theorem dksX1_content_6 : cX1_content.data.toList.drop 143 = dktX1_content_6 := dk_seg dksX1_content_5 24 rfl rfl
theorem dX1_content_0 : decode cX1_content 0 = .ok (.aload_n 0, 1) := dk_42 (dk_at dksX1_content_0 0 rfl rfl)
theorem dX1_content_1 : decode cX1_content 1 = .ok (.getfield 283, 3) := dk_180 1 27 (dk_at dksX1_content_0 1 rfl rfl)
theorem dX1_content_4 : decode cX1_content 4 = .ok (.ifCond .eq 41, 3) := dk_153 0 41 (dk_at dksX1_content_0 4 rfl rfl)
theorem dX1_content_7 : decode cX1_content 7 = .ok (.aload_n 0, 1) := dk_42 (dk_at dksX1_content_0 7 rfl rfl)
theorem dX1_content_8 : decode cX1_content 8 = .ok (.getfield 302, 3) := dk_180 1 46 (dk_at dksX1_content_0 8 rfl rfl)
theorem dX1_content_11 : decode cX1_content 11 = .ok (.bipush 16, 2) := dk_16 16 (dk_at dksX1_content_0 11 rfl rfl)
theorem dX1_content_13 : decode cX1_content 13 = .ok (.if_icmp .eq 32, 3) := dk_159 0 32 (dk_at dksX1_content_0 13 rfl rfl)
theorem dX1_content_16 : decode cX1_content 16 = .ok (.lload_n 2, 1) := dk_32 (dk_at dksX1_content_0 16 rfl rfl)
theorem dX1_content_17 : decode cX1_content 17 = .ok (.lconst 0, 1) := dk_9 (dk_at dksX1_content_0 17 rfl rfl)
theorem dX1_content_18 : decode cX1_content 18 = .ok (.lcmp, 1) := dk_148 (dk_at dksX1_content_0 18 rfl rfl)
theorem dX1_content_19 : decode cX1_content 19 = .ok (.ifCond .lt 26, 3) := dk_155 0 26 (dk_at dksX1_content_0 19 rfl rfl)
theorem dX1_content_22 : decode cX1_content 22 = .ok (.lload_n 2, 1) := dk_32 (dk_at dksX1_content_0 22 rfl rfl)
theorem dX1_content_23 : decode cX1_content 23 = .ok (.ldc2_w 255, 3) := dk_20 0 255 (dk_at dksX1_content_1 0 rfl rfl)
theorem dX1_content_26 : decode cX1_content 26 = .ok (.lcmp, 1) := dk_148 (dk_at dksX1_content_1 3 rfl rfl)
theorem dX1_content_27 : decode cX1_content 27 = .ok (.ifCond .gt 18, 3) := dk_157 0 18 (dk_at dksX1_content_1 4 rfl rfl)
theorem dX1_content_30 : decode cX1_content 30 = .ok (.aload_n 0, 1) := dk_42 (dk_at dksX1_content_1 7 rfl rfl)
theorem dX1_content_31 : decode cX1_content 31 = .ok (.getfield 305, 3) := dk_180 1 49 (dk_at dksX1_content_1 8 rfl rfl)
theorem dX1_content_34 : decode cX1_content 34 = .ok (.aload_n 0, 1) := dk_42 (dk_at dksX1_content_1 11 rfl rfl)
theorem dX1_content_35 : decode cX1_content 35 = .ok (.getfield 171, 3) := dk_180 0 171 (dk_at dksX1_content_1 12 rfl rfl)
theorem dX1_content_38 : decode cX1_content 38 = .ok (.iadd, 1) := dk_96 (dk_at dksX1_content_1 15 rfl rfl)
theorem dX1_content_39 : decode cX1_content 39 = .ok (.sipush 16384, 3) := dk_17 64 0 (dk_at dksX1_content_1 16 rfl rfl)
theorem dX1_content_42 : decode cX1_content 42 = .ok (.if_icmp .le 5, 3) := dk_164 0 5 (dk_at dksX1_content_1 19 rfl rfl)
theorem dX1_content_45 : decode cX1_content 45 = .ok (.iconst (-1), 1) := dk_2 (dk_at dksX1_content_1 22 rfl rfl)
theorem dX1_content_46 : decode cX1_content 46 = .ok (.ireturn, 1) := dk_172 (dk_at dksX1_content_1 23 rfl rfl)
theorem dX1_content_47 : decode cX1_content 47 = .ok (.aload_n 0, 1) := dk_42 (dk_at dksX1_content_2 0 rfl rfl)
theorem dX1_content_48 : decode cX1_content 48 = .ok (.getfield 156, 3) := dk_180 0 156 (dk_at dksX1_content_2 1 rfl rfl)
theorem dX1_content_51 : decode cX1_content 51 = .ok (.aload_n 0, 1) := dk_42 (dk_at dksX1_content_2 4 rfl rfl)
theorem dX1_content_52 : decode cX1_content 52 = .ok (.dup, 1) := dk_89 (dk_at dksX1_content_2 5 rfl rfl)
theorem dX1_content_53 : decode cX1_content 53 = .ok (.getfield 302, 3) := dk_180 1 46 (dk_at dksX1_content_2 6 rfl rfl)
theorem dX1_content_56 : decode cX1_content 56 = .ok (.dup_x1, 1) := dk_90 (dk_at dksX1_content_2 9 rfl rfl)
theorem dX1_content_57 : decode cX1_content 57 = .ok (.iconst 1, 1) := dk_4 (dk_at dksX1_content_2 10 rfl rfl)
theorem dX1_content_58 : decode cX1_content 58 = .ok (.iadd, 1) := dk_96 (dk_at dksX1_content_2 11 rfl rfl)
theorem dX1_content_59 : decode cX1_content 59 = .ok (.putfield 302, 3) := dk_181 1 46 (dk_at dksX1_content_2 12 rfl rfl)
theorem dX1_content_62 : decode cX1_content 62 = .ok (.aaload, 1) := dk_50 (dk_at dksX1_content_2 15 rfl rfl)
theorem dX1_content_63 : decode cX1_content 63 = .ok (.astore 4, 2) := dk_58 4 (dk_at dksX1_content_2 16 rfl rfl)
theorem dX1_content_65 : decode cX1_content 65 = .ok (.aload 4, 2) := dk_25 4 (dk_at dksX1_content_2 18 rfl rfl)
theorem dX1_content_67 : decode cX1_content 67 = .ok (.iload_n 1, 1) := dk_27 (dk_at dksX1_content_2 20 rfl rfl)
theorem dX1_content_68 : decode cX1_content 68 = .ok (.putfield 311, 3) := dk_181 1 55 (dk_at dksX1_content_2 21 rfl rfl)
theorem dX1_content_71 : decode cX1_content 71 = .ok (.aload 4, 2) := dk_25 4 (dk_at dksX1_content_3 0 rfl rfl)
theorem dX1_content_73 : decode cX1_content 73 = .ok (.aload_n 0, 1) := dk_42 (dk_at dksX1_content_3 2 rfl rfl)
theorem dX1_content_74 : decode cX1_content 74 = .ok (.getfield 293, 3) := dk_180 1 37 (dk_at dksX1_content_3 3 rfl rfl)
theorem dX1_content_77 : decode cX1_content 77 = .ok (.putfield 314, 3) := dk_181 1 58 (dk_at dksX1_content_3 6 rfl rfl)
theorem dX1_content_80 : decode cX1_content 80 = .ok (.aload 4, 2) := dk_25 4 (dk_at dksX1_content_3 9 rfl rfl)
theorem dX1_content_82 : decode cX1_content 82 = .ok (.aload_n 0, 1) := dk_42 (dk_at dksX1_content_3 11 rfl rfl)
theorem dX1_content_83 : decode cX1_content 83 = .ok (.getfield 296, 3) := dk_180 1 40 (dk_at dksX1_content_3 12 rfl rfl)
theorem dX1_content_86 : decode cX1_content 86 = .ok (.putfield 315, 3) := dk_181 1 59 (dk_at dksX1_content_3 15 rfl rfl)
theorem dX1_content_89 : decode cX1_content 89 = .ok (.aload 4, 2) := dk_25 4 (dk_at dksX1_content_3 18 rfl rfl)
theorem dX1_content_91 : decode cX1_content 91 = .ok (.aload_n 0, 1) := dk_42 (dk_at dksX1_content_3 20 rfl rfl)
theorem dX1_content_92 : decode cX1_content 92 = .ok (.getfield 299, 3) := dk_180 1 43 (dk_at dksX1_content_3 21 rfl rfl)
theorem dX1_content_95 : decode cX1_content 95 = .ok (.putfield 317, 3) := dk_181 1 61 (dk_at dksX1_content_4 0 rfl rfl)
theorem dX1_content_98 : decode cX1_content 98 = .ok (.aload 4, 2) := dk_25 4 (dk_at dksX1_content_4 3 rfl rfl)
theorem dX1_content_100 : decode cX1_content 100 = .ok (.lload_n 2, 1) := dk_32 (dk_at dksX1_content_4 5 rfl rfl)
theorem dX1_content_101 : decode cX1_content 101 = .ok (.putfield 320, 3) := dk_181 1 64 (dk_at dksX1_content_4 6 rfl rfl)
theorem dX1_content_104 : decode cX1_content 104 = .ok (.aload 4, 2) := dk_25 4 (dk_at dksX1_content_4 9 rfl rfl)
theorem dX1_content_106 : decode cX1_content 106 = .ok (.aload_n 0, 1) := dk_42 (dk_at dksX1_content_4 11 rfl rfl)
theorem dX1_content_107 : decode cX1_content 107 = .ok (.getfield 305, 3) := dk_180 1 49 (dk_at dksX1_content_4 12 rfl rfl)
theorem dX1_content_110 : decode cX1_content 110 = .ok (.putfield 323, 3) := dk_181 1 67 (dk_at dksX1_content_4 15 rfl rfl)
theorem dX1_content_113 : decode cX1_content 113 = .ok (.aload_n 0, 1) := dk_42 (dk_at dksX1_content_4 18 rfl rfl)
theorem dX1_content_114 : decode cX1_content 114 = .ok (.getfield 7, 3) := dk_180 0 7 (dk_at dksX1_content_4 19 rfl rfl)
theorem dX1_content_117 : decode cX1_content 117 = .ok (.iconst 0, 1) := dk_3 (dk_at dksX1_content_4 22 rfl rfl)
theorem dX1_content_118 : decode cX1_content 118 = .ok (.aload_n 0, 1) := dk_42 (dk_at dksX1_content_4 23 rfl rfl)
theorem dX1_content_119 : decode cX1_content 119 = .ok (.getfield 160, 3) := dk_180 0 160 (dk_at dksX1_content_5 0 rfl rfl)
theorem dX1_content_122 : decode cX1_content 122 = .ok (.aload_n 0, 1) := dk_42 (dk_at dksX1_content_5 3 rfl rfl)
theorem dX1_content_123 : decode cX1_content 123 = .ok (.getfield 305, 3) := dk_180 1 49 (dk_at dksX1_content_5 4 rfl rfl)
theorem dX1_content_126 : decode cX1_content 126 = .ok (.aload_n 0, 1) := dk_42 (dk_at dksX1_content_5 7 rfl rfl)
theorem dX1_content_127 : decode cX1_content 127 = .ok (.getfield 171, 3) := dk_180 0 171 (dk_at dksX1_content_5 8 rfl rfl)
theorem dX1_content_130 : decode cX1_content 130 = .ok (.invokestatic 326, 3) := dk_184 1 70 (dk_at dksX1_content_5 11 rfl rfl)
theorem dX1_content_133 : decode cX1_content 133 = .ok (.aload_n 0, 1) := dk_42 (dk_at dksX1_content_5 14 rfl rfl)
theorem dX1_content_134 : decode cX1_content 134 = .ok (.dup, 1) := dk_89 (dk_at dksX1_content_5 15 rfl rfl)
theorem dX1_content_135 : decode cX1_content 135 = .ok (.getfield 305, 3) := dk_180 1 49 (dk_at dksX1_content_5 16 rfl rfl)
theorem dX1_content_138 : decode cX1_content 138 = .ok (.aload_n 0, 1) := dk_42 (dk_at dksX1_content_5 19 rfl rfl)
theorem dX1_content_139 : decode cX1_content 139 = .ok (.getfield 171, 3) := dk_180 0 171 (dk_at dksX1_content_5 20 rfl rfl)
theorem dX1_content_142 : decode cX1_content 142 = .ok (.iadd, 1) := dk_96 (dk_at dksX1_content_5 23 rfl rfl)
theorem dX1_content_143 : decode cX1_content 143 = .ok (.putfield 305, 3) := dk_181 1 49 (dk_at dksX1_content_6 0 rfl rfl)
theorem dX1_content_146 : decode cX1_content 146 = .ok (.aload 4, 2) := dk_25 4 (dk_at dksX1_content_6 3 rfl rfl)
theorem dX1_content_148 : decode cX1_content 148 = .ok (.aload_n 0, 1) := dk_42 (dk_at dksX1_content_6 5 rfl rfl)
theorem dX1_content_149 : decode cX1_content 149 = .ok (.getfield 305, 3) := dk_180 1 49 (dk_at dksX1_content_6 6 rfl rfl)
theorem dX1_content_152 : decode cX1_content 152 = .ok (.putfield 332, 3) := dk_181 1 76 (dk_at dksX1_content_6 9 rfl rfl)
theorem dX1_content_155 : decode cX1_content 155 = .ok (.aload_n 0, 1) := dk_42 (dk_at dksX1_content_6 12 rfl rfl)
theorem dX1_content_156 : decode cX1_content 156 = .ok (.iconst 0, 1) := dk_3 (dk_at dksX1_content_6 13 rfl rfl)
theorem dX1_content_157 : decode cX1_content 157 = .ok (.putfield 171, 3) := dk_181 0 171 (dk_at dksX1_content_6 14 rfl rfl)
theorem dX1_content_160 : decode cX1_content 160 = .ok (.aload_n 0, 1) := dk_42 (dk_at dksX1_content_6 17 rfl rfl)
theorem dX1_content_161 : decode cX1_content 161 = .ok (.getfield 302, 3) := dk_180 1 46 (dk_at dksX1_content_6 18 rfl rfl)
theorem dX1_content_164 : decode cX1_content 164 = .ok (.ireturn, 1) := dk_172 (dk_at dksX1_content_6 21 rfl rfl)
abbrev cX1_apply : ByteArray := prog_1_method_16_code
def yX1_apply : MethodName := ⟨RX1, "apply", "()I"⟩
def dkwX1_apply_6 : List UInt8 := [181, 1, 27, 42, 42, 180, 1, 46, 181, 1, 85, 42, 182, 1, 88, 172]
abbrev dktX1_apply_6 : List UInt8 := dkwX1_apply_6 ++ []
def dkwX1_apply_5 : List UInt8 := [181, 1, 82, 42, 180, 0, 121, 180, 1, 79, 42, 180, 1, 31, 92, 46, 42, 180, 1, 46, 96, 79, 42, 3]
abbrev dktX1_apply_5 : List UInt8 := dkwX1_apply_5 ++ dktX1_apply_6
def dkwX1_apply_4 : List UInt8 := [180, 1, 9, 42, 180, 1, 31, 92, 47, 31, 101, 80, 42, 180, 0, 121, 89, 180, 1, 82, 31, 97]
abbrev dktX1_apply_4 : List UInt8 := dkwX1_apply_4 ++ dktX1_apply_5
def dkwX1_apply_3 : List UInt8 := [180, 0, 121, 180, 1, 9, 42, 180, 1, 31, 47, 148, 158, 0, 6, 16, 253, 172, 42, 180, 0, 121]
abbrev dktX1_apply_3 : List UInt8 := dkwX1_apply_3 ++ dktX1_apply_4
def dkwX1_apply_2 : List UInt8 := [162, 0, 21, 31, 42, 180, 0, 156, 29, 50, 180, 1, 58, 97, 64, 132, 3, 1, 167, 255, 233, 31, 42]
abbrev dktX1_apply_2 : List UInt8 := dkwX1_apply_2 ++ dktX1_apply_3
def dkwX1_apply_1 : List UInt8 := [180, 1, 79, 42, 180, 1, 31, 46, 159, 0, 6, 16, 254, 172, 9, 64, 3, 62, 29, 42, 180, 1, 46]
abbrev dktX1_apply_1 : List UInt8 := dkwX1_apply_1 ++ dktX1_apply_2
def dkwX1_apply_0 : List UInt8 := [42, 180, 1, 27, 153, 0, 10, 42, 180, 1, 46, 154, 0, 5, 2, 172, 42, 180, 1, 34, 42, 180, 0, 121]
abbrev dktX1_apply_0 : List UInt8 := dkwX1_apply_0 ++ dktX1_apply_1
theorem dksX1_apply_0 : cX1_apply.data.toList.drop 0 = dktX1_apply_0 := by decide +kernel
theorem dksX1_apply_1 : cX1_apply.data.toList.drop 24 = dktX1_apply_1 := dk_seg dksX1_apply_0 24 rfl rfl
theorem dksX1_apply_2 : cX1_apply.data.toList.drop 47 = dktX1_apply_2 := dk_seg dksX1_apply_1 23 rfl rfl
theorem dksX1_apply_3 : cX1_apply.data.toList.drop 70 = dktX1_apply_3 := dk_seg dksX1_apply_2 23 rfl rfl
theorem dksX1_apply_4 : cX1_apply.data.toList.drop 92 = dktX1_apply_4 := dk_seg dksX1_apply_3 22 rfl rfl
theorem dksX1_apply_5 : cX1_apply.data.toList.drop 114 = dktX1_apply_5 := dk_seg dksX1_apply_4 22 rfl rfl
theorem dksX1_apply_6 : cX1_apply.data.toList.drop 138 = dktX1_apply_6 := dk_seg dksX1_apply_5 24 rfl rfl
theorem dX1_apply_0 : decode cX1_apply 0 = .ok (.aload_n 0, 1) := dk_42 (dk_at dksX1_apply_0 0 rfl rfl)
theorem dX1_apply_1 : decode cX1_apply 1 = .ok (.getfield 283, 3) := dk_180 1 27 (dk_at dksX1_apply_0 1 rfl rfl)
theorem dX1_apply_4 : decode cX1_apply 4 = .ok (.ifCond .eq 10, 3) := dk_153 0 10 (dk_at dksX1_apply_0 4 rfl rfl)
theorem dX1_apply_7 : decode cX1_apply 7 = .ok (.aload_n 0, 1) := dk_42 (dk_at dksX1_apply_0 7 rfl rfl)
theorem dX1_apply_8 : decode cX1_apply 8 = .ok (.getfield 302, 3) := dk_180 1 46 (dk_at dksX1_apply_0 8 rfl rfl)
theorem dX1_apply_11 : decode cX1_apply 11 = .ok (.ifCond .ne 5, 3) := dk_154 0 5 (dk_at dksX1_apply_0 11 rfl rfl)
theorem dX1_apply_14 : decode cX1_apply 14 = .ok (.iconst (-1), 1) := dk_2 (dk_at dksX1_apply_0 14 rfl rfl)
theorem dX1_apply_15 : decode cX1_apply 15 = .ok (.ireturn, 1) := dk_172 (dk_at dksX1_apply_0 15 rfl rfl)
theorem dX1_apply_16 : decode cX1_apply 16 = .ok (.aload_n 0, 1) := dk_42 (dk_at dksX1_apply_0 16 rfl rfl)
theorem dX1_apply_17 : decode cX1_apply 17 = .ok (.getfield 290, 3) := dk_180 1 34 (dk_at dksX1_apply_0 17 rfl rfl)
theorem dX1_apply_20 : decode cX1_apply 20 = .ok (.aload_n 0, 1) := dk_42 (dk_at dksX1_apply_0 20 rfl rfl)
theorem dX1_apply_21 : decode cX1_apply 21 = .ok (.getfield 121, 3) := dk_180 0 121 (dk_at dksX1_apply_0 21 rfl rfl)
theorem dX1_apply_24 : decode cX1_apply 24 = .ok (.getfield 335, 3) := dk_180 1 79 (dk_at dksX1_apply_1 0 rfl rfl)
theorem dX1_apply_27 : decode cX1_apply 27 = .ok (.aload_n 0, 1) := dk_42 (dk_at dksX1_apply_1 3 rfl rfl)
theorem dX1_apply_28 : decode cX1_apply 28 = .ok (.getfield 287, 3) := dk_180 1 31 (dk_at dksX1_apply_1 4 rfl rfl)
theorem dX1_apply_31 : decode cX1_apply 31 = .ok (.iaload, 1) := dk_46 (dk_at dksX1_apply_1 7 rfl rfl)
theorem dX1_apply_32 : decode cX1_apply 32 = .ok (.if_icmp .eq 6, 3) := dk_159 0 6 (dk_at dksX1_apply_1 8 rfl rfl)
theorem dX1_apply_35 : decode cX1_apply 35 = .ok (.bipush (-2), 2) := dk_16 254 (dk_at dksX1_apply_1 11 rfl rfl)
theorem dX1_apply_37 : decode cX1_apply 37 = .ok (.ireturn, 1) := dk_172 (dk_at dksX1_apply_1 13 rfl rfl)
theorem dX1_apply_38 : decode cX1_apply 38 = .ok (.lconst 0, 1) := dk_9 (dk_at dksX1_apply_1 14 rfl rfl)
theorem dX1_apply_39 : decode cX1_apply 39 = .ok (.lstore_n 1, 1) := dk_64 (dk_at dksX1_apply_1 15 rfl rfl)
theorem dX1_apply_40 : decode cX1_apply 40 = .ok (.iconst 0, 1) := dk_3 (dk_at dksX1_apply_1 16 rfl rfl)
theorem dX1_apply_41 : decode cX1_apply 41 = .ok (.istore_n 3, 1) := dk_62 (dk_at dksX1_apply_1 17 rfl rfl)
theorem dX1_apply_42 : decode cX1_apply 42 = .ok (.iload_n 3, 1) := dk_29 (dk_at dksX1_apply_1 18 rfl rfl)
theorem dX1_apply_43 : decode cX1_apply 43 = .ok (.aload_n 0, 1) := dk_42 (dk_at dksX1_apply_1 19 rfl rfl)
theorem dX1_apply_44 : decode cX1_apply 44 = .ok (.getfield 302, 3) := dk_180 1 46 (dk_at dksX1_apply_1 20 rfl rfl)
theorem dX1_apply_47 : decode cX1_apply 47 = .ok (.if_icmp .ge 21, 3) := dk_162 0 21 (dk_at dksX1_apply_2 0 rfl rfl)
theorem dX1_apply_50 : decode cX1_apply 50 = .ok (.lload_n 1, 1) := dk_31 (dk_at dksX1_apply_2 3 rfl rfl)
theorem dX1_apply_51 : decode cX1_apply 51 = .ok (.aload_n 0, 1) := dk_42 (dk_at dksX1_apply_2 4 rfl rfl)
theorem dX1_apply_52 : decode cX1_apply 52 = .ok (.getfield 156, 3) := dk_180 0 156 (dk_at dksX1_apply_2 5 rfl rfl)
theorem dX1_apply_55 : decode cX1_apply 55 = .ok (.iload_n 3, 1) := dk_29 (dk_at dksX1_apply_2 8 rfl rfl)
theorem dX1_apply_56 : decode cX1_apply 56 = .ok (.aaload, 1) := dk_50 (dk_at dksX1_apply_2 9 rfl rfl)
theorem dX1_apply_57 : decode cX1_apply 57 = .ok (.getfield 314, 3) := dk_180 1 58 (dk_at dksX1_apply_2 10 rfl rfl)
theorem dX1_apply_60 : decode cX1_apply 60 = .ok (.ladd, 1) := dk_97 (dk_at dksX1_apply_2 13 rfl rfl)
theorem dX1_apply_61 : decode cX1_apply 61 = .ok (.lstore_n 1, 1) := dk_64 (dk_at dksX1_apply_2 14 rfl rfl)
theorem dX1_apply_62 : decode cX1_apply 62 = .ok (.iinc 3 1, 3) := dk_132 3 1 (dk_at dksX1_apply_2 15 rfl rfl)
theorem dX1_apply_65 : decode cX1_apply 65 = .ok (.goto (-23), 3) := dk_167 255 233 (dk_at dksX1_apply_2 18 rfl rfl)
theorem dX1_apply_68 : decode cX1_apply 68 = .ok (.lload_n 1, 1) := dk_31 (dk_at dksX1_apply_2 21 rfl rfl)
theorem dX1_apply_69 : decode cX1_apply 69 = .ok (.aload_n 0, 1) := dk_42 (dk_at dksX1_apply_2 22 rfl rfl)
theorem dX1_apply_70 : decode cX1_apply 70 = .ok (.getfield 121, 3) := dk_180 0 121 (dk_at dksX1_apply_3 0 rfl rfl)
theorem dX1_apply_73 : decode cX1_apply 73 = .ok (.getfield 265, 3) := dk_180 1 9 (dk_at dksX1_apply_3 3 rfl rfl)
theorem dX1_apply_76 : decode cX1_apply 76 = .ok (.aload_n 0, 1) := dk_42 (dk_at dksX1_apply_3 6 rfl rfl)
theorem dX1_apply_77 : decode cX1_apply 77 = .ok (.getfield 287, 3) := dk_180 1 31 (dk_at dksX1_apply_3 7 rfl rfl)
theorem dX1_apply_80 : decode cX1_apply 80 = .ok (.laload, 1) := dk_47 (dk_at dksX1_apply_3 10 rfl rfl)
theorem dX1_apply_81 : decode cX1_apply 81 = .ok (.lcmp, 1) := dk_148 (dk_at dksX1_apply_3 11 rfl rfl)
theorem dX1_apply_82 : decode cX1_apply 82 = .ok (.ifCond .le 6, 3) := dk_158 0 6 (dk_at dksX1_apply_3 12 rfl rfl)
theorem dX1_apply_85 : decode cX1_apply 85 = .ok (.bipush (-3), 2) := dk_16 253 (dk_at dksX1_apply_3 15 rfl rfl)
theorem dX1_apply_87 : decode cX1_apply 87 = .ok (.ireturn, 1) := dk_172 (dk_at dksX1_apply_3 17 rfl rfl)
theorem dX1_apply_88 : decode cX1_apply 88 = .ok (.aload_n 0, 1) := dk_42 (dk_at dksX1_apply_3 18 rfl rfl)
theorem dX1_apply_89 : decode cX1_apply 89 = .ok (.getfield 121, 3) := dk_180 0 121 (dk_at dksX1_apply_3 19 rfl rfl)
theorem dX1_apply_92 : decode cX1_apply 92 = .ok (.getfield 265, 3) := dk_180 1 9 (dk_at dksX1_apply_4 0 rfl rfl)
theorem dX1_apply_95 : decode cX1_apply 95 = .ok (.aload_n 0, 1) := dk_42 (dk_at dksX1_apply_4 3 rfl rfl)
theorem dX1_apply_96 : decode cX1_apply 96 = .ok (.getfield 287, 3) := dk_180 1 31 (dk_at dksX1_apply_4 4 rfl rfl)
theorem dX1_apply_99 : decode cX1_apply 99 = .ok (.dup2, 1) := dk_92 (dk_at dksX1_apply_4 7 rfl rfl)
theorem dX1_apply_100 : decode cX1_apply 100 = .ok (.laload, 1) := dk_47 (dk_at dksX1_apply_4 8 rfl rfl)
theorem dX1_apply_101 : decode cX1_apply 101 = .ok (.lload_n 1, 1) := dk_31 (dk_at dksX1_apply_4 9 rfl rfl)
theorem dX1_apply_102 : decode cX1_apply 102 = .ok (.lsub, 1) := dk_101 (dk_at dksX1_apply_4 10 rfl rfl)
theorem dX1_apply_103 : decode cX1_apply 103 = .ok (.lastore, 1) := dk_80 (dk_at dksX1_apply_4 11 rfl rfl)
theorem dX1_apply_104 : decode cX1_apply 104 = .ok (.aload_n 0, 1) := dk_42 (dk_at dksX1_apply_4 12 rfl rfl)
theorem dX1_apply_105 : decode cX1_apply 105 = .ok (.getfield 121, 3) := dk_180 0 121 (dk_at dksX1_apply_4 13 rfl rfl)
theorem dX1_apply_108 : decode cX1_apply 108 = .ok (.dup, 1) := dk_89 (dk_at dksX1_apply_4 16 rfl rfl)
theorem dX1_apply_109 : decode cX1_apply 109 = .ok (.getfield 338, 3) := dk_180 1 82 (dk_at dksX1_apply_4 17 rfl rfl)
theorem dX1_apply_112 : decode cX1_apply 112 = .ok (.lload_n 1, 1) := dk_31 (dk_at dksX1_apply_4 20 rfl rfl)
theorem dX1_apply_113 : decode cX1_apply 113 = .ok (.ladd, 1) := dk_97 (dk_at dksX1_apply_4 21 rfl rfl)
theorem dX1_apply_114 : decode cX1_apply 114 = .ok (.putfield 338, 3) := dk_181 1 82 (dk_at dksX1_apply_5 0 rfl rfl)
theorem dX1_apply_117 : decode cX1_apply 117 = .ok (.aload_n 0, 1) := dk_42 (dk_at dksX1_apply_5 3 rfl rfl)
theorem dX1_apply_118 : decode cX1_apply 118 = .ok (.getfield 121, 3) := dk_180 0 121 (dk_at dksX1_apply_5 4 rfl rfl)
theorem dX1_apply_121 : decode cX1_apply 121 = .ok (.getfield 335, 3) := dk_180 1 79 (dk_at dksX1_apply_5 7 rfl rfl)
theorem dX1_apply_124 : decode cX1_apply 124 = .ok (.aload_n 0, 1) := dk_42 (dk_at dksX1_apply_5 10 rfl rfl)
theorem dX1_apply_125 : decode cX1_apply 125 = .ok (.getfield 287, 3) := dk_180 1 31 (dk_at dksX1_apply_5 11 rfl rfl)
theorem dX1_apply_128 : decode cX1_apply 128 = .ok (.dup2, 1) := dk_92 (dk_at dksX1_apply_5 14 rfl rfl)
theorem dX1_apply_129 : decode cX1_apply 129 = .ok (.iaload, 1) := dk_46 (dk_at dksX1_apply_5 15 rfl rfl)
theorem dX1_apply_130 : decode cX1_apply 130 = .ok (.aload_n 0, 1) := dk_42 (dk_at dksX1_apply_5 16 rfl rfl)
theorem dX1_apply_131 : decode cX1_apply 131 = .ok (.getfield 302, 3) := dk_180 1 46 (dk_at dksX1_apply_5 17 rfl rfl)
theorem dX1_apply_134 : decode cX1_apply 134 = .ok (.iadd, 1) := dk_96 (dk_at dksX1_apply_5 20 rfl rfl)
theorem dX1_apply_135 : decode cX1_apply 135 = .ok (.iastore, 1) := dk_79 (dk_at dksX1_apply_5 21 rfl rfl)
theorem dX1_apply_136 : decode cX1_apply 136 = .ok (.aload_n 0, 1) := dk_42 (dk_at dksX1_apply_5 22 rfl rfl)
theorem dX1_apply_137 : decode cX1_apply 137 = .ok (.iconst 0, 1) := dk_3 (dk_at dksX1_apply_5 23 rfl rfl)
theorem dX1_apply_138 : decode cX1_apply 138 = .ok (.putfield 283, 3) := dk_181 1 27 (dk_at dksX1_apply_6 0 rfl rfl)
theorem dX1_apply_141 : decode cX1_apply 141 = .ok (.aload_n 0, 1) := dk_42 (dk_at dksX1_apply_6 3 rfl rfl)
theorem dX1_apply_142 : decode cX1_apply 142 = .ok (.aload_n 0, 1) := dk_42 (dk_at dksX1_apply_6 4 rfl rfl)
theorem dX1_apply_143 : decode cX1_apply 143 = .ok (.getfield 302, 3) := dk_180 1 46 (dk_at dksX1_apply_6 5 rfl rfl)
theorem dX1_apply_146 : decode cX1_apply 146 = .ok (.putfield 341, 3) := dk_181 1 85 (dk_at dksX1_apply_6 8 rfl rfl)
theorem dX1_apply_149 : decode cX1_apply 149 = .ok (.aload_n 0, 1) := dk_42 (dk_at dksX1_apply_6 11 rfl rfl)
theorem dX1_apply_150 : decode cX1_apply 150 = .ok (.invokevirtual 344, 3) := dk_182 1 88 (dk_at dksX1_apply_6 12 rfl rfl)
theorem dX1_apply_153 : decode cX1_apply 153 = .ok (.ireturn, 1) := dk_172 (dk_at dksX1_apply_6 15 rfl rfl)
abbrev cX1_doContents : ByteArray := prog_1_method_17_code
def yX1_doContents : MethodName := ⟨RX1, "doContents", "()I"⟩
def dkwX1_doContents_6 : List UInt8 := [42, 180, 0, 165, 29, 50, 5, 181, 1, 102, 132, 3, 1, 167, 255, 238, 27, 172]
abbrev dktX1_doContents_6 : List UInt8 := dkwX1_doContents_6 ++ []
def dkwX1_doContents_5 : List UInt8 := [154, 0, 40, 42, 180, 0, 121, 182, 1, 105, 42, 180, 0, 146, 182, 0, 212, 3, 62, 29, 27, 162, 0, 19]
abbrev dktX1_doContents_5 : List UInt8 := dkwX1_doContents_5 ++ dktX1_doContents_6
def dkwX1_doContents_4 : List UInt8 := [4, 167, 0, 4, 3, 61, 27, 28, 153, 0, 7, 4, 167, 0, 4, 3, 96, 60, 167, 255, 187, 28]
abbrev dktX1_doContents_4 : List UInt8 := dkwX1_doContents_4 ++ dktX1_doContents_5
def dkwX1_doContents_3 : List UInt8 := [180, 0, 160, 42, 180, 0, 165, 27, 50, 182, 1, 98, 42, 180, 0, 165, 27, 50, 180, 1, 102, 154, 0, 7]
abbrev dktX1_doContents_3 : List UInt8 := dkwX1_doContents_3 ++ dktX1_doContents_4
def dkwX1_doContents_2 : List UInt8 := [162, 0, 67, 28, 153, 0, 63, 42, 180, 0, 146, 42, 180, 1, 31, 42, 180, 0, 156, 27, 50, 42]
abbrev dktX1_doContents_2 : List UInt8 := dkwX1_doContents_2 ++ dktX1_doContents_3
def dkwX1_doContents_1 : List UInt8 := [42, 180, 0, 165, 27, 50, 182, 1, 95, 132, 1, 1, 167, 255, 236, 3, 60, 4, 61, 27, 42, 180, 1, 46]
abbrev dktX1_doContents_1 : List UInt8 := dkwX1_doContents_1 ++ dktX1_doContents_2
def dkwX1_doContents_0 : List UInt8 := [42, 180, 0, 121, 182, 1, 92, 42, 180, 0, 146, 182, 0, 205, 3, 60, 27, 42, 180, 1, 46, 162, 0, 18]
abbrev dktX1_doContents_0 : List UInt8 := dkwX1_doContents_0 ++ dktX1_doContents_1
theorem dksX1_doContents_0 : cX1_doContents.data.toList.drop 0 = dktX1_doContents_0 := by decide +kernel
theorem dksX1_doContents_1 : cX1_doContents.data.toList.drop 24 = dktX1_doContents_1 := dk_seg dksX1_doContents_0 24 rfl rfl
theorem dksX1_doContents_2 : cX1_doContents.data.toList.drop 48 = dktX1_doContents_2 := dk_seg dksX1_doContents_1 24 rfl rfl
theorem dksX1_doContents_3 : cX1_doContents.data.toList.drop 70 = dktX1_doContents_3 := dk_seg dksX1_doContents_2 22 rfl rfl
theorem dksX1_doContents_4 : cX1_doContents.data.toList.drop 94 = dktX1_doContents_4 := dk_seg dksX1_doContents_3 24 rfl rfl
theorem dksX1_doContents_5 : cX1_doContents.data.toList.drop 116 = dktX1_doContents_5 := dk_seg dksX1_doContents_4 22 rfl rfl
theorem dksX1_doContents_6 : cX1_doContents.data.toList.drop 140 = dktX1_doContents_6 := dk_seg dksX1_doContents_5 24 rfl rfl
theorem dX1_doContents_0 : decode cX1_doContents 0 = .ok (.aload_n 0, 1) := dk_42 (dk_at dksX1_doContents_0 0 rfl rfl)
theorem dX1_doContents_1 : decode cX1_doContents 1 = .ok (.getfield 121, 3) := dk_180 0 121 (dk_at dksX1_doContents_0 1 rfl rfl)
theorem dX1_doContents_4 : decode cX1_doContents 4 = .ok (.invokevirtual 348, 3) := dk_182 1 92 (dk_at dksX1_doContents_0 4 rfl rfl)
theorem dX1_doContents_7 : decode cX1_doContents 7 = .ok (.aload_n 0, 1) := dk_42 (dk_at dksX1_doContents_0 7 rfl rfl)
theorem dX1_doContents_8 : decode cX1_doContents 8 = .ok (.getfield 146, 3) := dk_180 0 146 (dk_at dksX1_doContents_0 8 rfl rfl)
theorem dX1_doContents_11 : decode cX1_doContents 11 = .ok (.invokevirtual 205, 3) := dk_182 0 205 (dk_at dksX1_doContents_0 11 rfl rfl)
theorem dX1_doContents_14 : decode cX1_doContents 14 = .ok (.iconst 0, 1) := dk_3 (dk_at dksX1_doContents_0 14 rfl rfl)
theorem dX1_doContents_15 : decode cX1_doContents 15 = .ok (.istore_n 1, 1) := dk_60 (dk_at dksX1_doContents_0 15 rfl rfl)
theorem dX1_doContents_16 : decode cX1_doContents 16 = .ok (.iload_n 1, 1) := dk_27 (dk_at dksX1_doContents_0 16 rfl rfl)
theorem dX1_doContents_17 : decode cX1_doContents 17 = .ok (.aload_n 0, 1) := dk_42 (dk_at dksX1_doContents_0 17 rfl rfl)
theorem dX1_doContents_18 : decode cX1_doContents 18 = .ok (.getfield 302, 3) := dk_180 1 46 (dk_at dksX1_doContents_0 18 rfl rfl)
theorem dX1_doContents_21 : decode cX1_doContents 21 = .ok (.if_icmp .ge 18, 3) := dk_162 0 18 (dk_at dksX1_doContents_0 21 rfl rfl)
theorem dX1_doContents_24 : decode cX1_doContents 24 = .ok (.aload_n 0, 1) := dk_42 (dk_at dksX1_doContents_1 0 rfl rfl)
theorem dX1_doContents_25 : decode cX1_doContents 25 = .ok (.getfield 165, 3) := dk_180 0 165 (dk_at dksX1_doContents_1 1 rfl rfl)
theorem dX1_doContents_28 : decode cX1_doContents 28 = .ok (.iload_n 1, 1) := dk_27 (dk_at dksX1_doContents_1 4 rfl rfl)
theorem dX1_doContents_29 : decode cX1_doContents 29 = .ok (.aaload, 1) := dk_50 (dk_at dksX1_doContents_1 5 rfl rfl)
theorem dX1_doContents_30 : decode cX1_doContents 30 = .ok (.invokevirtual 351, 3) := dk_182 1 95 (dk_at dksX1_doContents_1 6 rfl rfl)
theorem dX1_doContents_33 : decode cX1_doContents 33 = .ok (.iinc 1 1, 3) := dk_132 1 1 (dk_at dksX1_doContents_1 9 rfl rfl)
theorem dX1_doContents_36 : decode cX1_doContents 36 = .ok (.goto (-20), 3) := dk_167 255 236 (dk_at dksX1_doContents_1 12 rfl rfl)
theorem dX1_doContents_39 : decode cX1_doContents 39 = .ok (.iconst 0, 1) := dk_3 (dk_at dksX1_doContents_1 15 rfl rfl)
theorem dX1_doContents_40 : decode cX1_doContents 40 = .ok (.istore_n 1, 1) := dk_60 (dk_at dksX1_doContents_1 16 rfl rfl)
theorem dX1_doContents_41 : decode cX1_doContents 41 = .ok (.iconst 1, 1) := dk_4 (dk_at dksX1_doContents_1 17 rfl rfl)
theorem dX1_doContents_42 : decode cX1_doContents 42 = .ok (.istore_n 2, 1) := dk_61 (dk_at dksX1_doContents_1 18 rfl rfl)
theorem dX1_doContents_43 : decode cX1_doContents 43 = .ok (.iload_n 1, 1) := dk_27 (dk_at dksX1_doContents_1 19 rfl rfl)
theorem dX1_doContents_44 : decode cX1_doContents 44 = .ok (.aload_n 0, 1) := dk_42 (dk_at dksX1_doContents_1 20 rfl rfl)
theorem dX1_doContents_45 : decode cX1_doContents 45 = .ok (.getfield 302, 3) := dk_180 1 46 (dk_at dksX1_doContents_1 21 rfl rfl)
theorem dX1_doContents_48 : decode cX1_doContents 48 = .ok (.if_icmp .ge 67, 3) := dk_162 0 67 (dk_at dksX1_doContents_2 0 rfl rfl)
theorem dX1_doContents_51 : decode cX1_doContents 51 = .ok (.iload_n 2, 1) := dk_28 (dk_at dksX1_doContents_2 3 rfl rfl)
theorem dX1_doContents_52 : decode cX1_doContents 52 = .ok (.ifCond .eq 63, 3) := dk_153 0 63 (dk_at dksX1_doContents_2 4 rfl rfl)
theorem dX1_doContents_55 : decode cX1_doContents 55 = .ok (.aload_n 0, 1) := dk_42 (dk_at dksX1_doContents_2 7 rfl rfl)
theorem dX1_doContents_56 : decode cX1_doContents 56 = .ok (.getfield 146, 3) := dk_180 0 146 (dk_at dksX1_doContents_2 8 rfl rfl)
theorem dX1_doContents_59 : decode cX1_doContents 59 = .ok (.aload_n 0, 1) := dk_42 (dk_at dksX1_doContents_2 11 rfl rfl)
theorem dX1_doContents_60 : decode cX1_doContents 60 = .ok (.getfield 287, 3) := dk_180 1 31 (dk_at dksX1_doContents_2 12 rfl rfl)
theorem dX1_doContents_63 : decode cX1_doContents 63 = .ok (.aload_n 0, 1) := dk_42 (dk_at dksX1_doContents_2 15 rfl rfl)
theorem dX1_doContents_64 : decode cX1_doContents 64 = .ok (.getfield 156, 3) := dk_180 0 156 (dk_at dksX1_doContents_2 16 rfl rfl)
theorem dX1_doContents_67 : decode cX1_doContents 67 = .ok (.iload_n 1, 1) := dk_27 (dk_at dksX1_doContents_2 19 rfl rfl)
theorem dX1_doContents_68 : decode cX1_doContents 68 = .ok (.aaload, 1) := dk_50 (dk_at dksX1_doContents_2 20 rfl rfl)
theorem dX1_doContents_69 : decode cX1_doContents 69 = .ok (.aload_n 0, 1) := dk_42 (dk_at dksX1_doContents_2 21 rfl rfl)
theorem dX1_doContents_70 : decode cX1_doContents 70 = .ok (.getfield 160, 3) := dk_180 0 160 (dk_at dksX1_doContents_3 0 rfl rfl)
theorem dX1_doContents_73 : decode cX1_doContents 73 = .ok (.aload_n 0, 1) := dk_42 (dk_at dksX1_doContents_3 3 rfl rfl)
theorem dX1_doContents_74 : decode cX1_doContents 74 = .ok (.getfield 165, 3) := dk_180 0 165 (dk_at dksX1_doContents_3 4 rfl rfl)
theorem dX1_doContents_77 : decode cX1_doContents 77 = .ok (.iload_n 1, 1) := dk_27 (dk_at dksX1_doContents_3 7 rfl rfl)
theorem dX1_doContents_78 : decode cX1_doContents 78 = .ok (.aaload, 1) := dk_50 (dk_at dksX1_doContents_3 8 rfl rfl)
theorem dX1_doContents_79 : decode cX1_doContents 79 = .ok (.invokevirtual 354, 3) := dk_182 1 98 (dk_at dksX1_doContents_3 9 rfl rfl)
theorem dX1_doContents_82 : decode cX1_doContents 82 = .ok (.aload_n 0, 1) := dk_42 (dk_at dksX1_doContents_3 12 rfl rfl)
theorem dX1_doContents_83 : decode cX1_doContents 83 = .ok (.getfield 165, 3) := dk_180 0 165 (dk_at dksX1_doContents_3 13 rfl rfl)
theorem dX1_doContents_86 : decode cX1_doContents 86 = .ok (.iload_n 1, 1) := dk_27 (dk_at dksX1_doContents_3 16 rfl rfl)
theorem dX1_doContents_87 : decode cX1_doContents 87 = .ok (.aaload, 1) := dk_50 (dk_at dksX1_doContents_3 17 rfl rfl)
theorem dX1_doContents_88 : decode cX1_doContents 88 = .ok (.getfield 358, 3) := dk_180 1 102 (dk_at dksX1_doContents_3 18 rfl rfl)
theorem dX1_doContents_91 : decode cX1_doContents 91 = .ok (.ifCond .ne 7, 3) := dk_154 0 7 (dk_at dksX1_doContents_3 21 rfl rfl)
theorem dX1_doContents_94 : decode cX1_doContents 94 = .ok (.iconst 1, 1) := dk_4 (dk_at dksX1_doContents_4 0 rfl rfl)
theorem dX1_doContents_95 : decode cX1_doContents 95 = .ok (.goto 4, 3) := dk_167 0 4 (dk_at dksX1_doContents_4 1 rfl rfl)
theorem dX1_doContents_98 : decode cX1_doContents 98 = .ok (.iconst 0, 1) := dk_3 (dk_at dksX1_doContents_4 4 rfl rfl)
theorem dX1_doContents_99 : decode cX1_doContents 99 = .ok (.istore_n 2, 1) := dk_61 (dk_at dksX1_doContents_4 5 rfl rfl)
theorem dX1_doContents_100 : decode cX1_doContents 100 = .ok (.iload_n 1, 1) := dk_27 (dk_at dksX1_doContents_4 6 rfl rfl)
theorem dX1_doContents_101 : decode cX1_doContents 101 = .ok (.iload_n 2, 1) := dk_28 (dk_at dksX1_doContents_4 7 rfl rfl)
theorem dX1_doContents_102 : decode cX1_doContents 102 = .ok (.ifCond .eq 7, 3) := dk_153 0 7 (dk_at dksX1_doContents_4 8 rfl rfl)
theorem dX1_doContents_105 : decode cX1_doContents 105 = .ok (.iconst 1, 1) := dk_4 (dk_at dksX1_doContents_4 11 rfl rfl)
theorem dX1_doContents_106 : decode cX1_doContents 106 = .ok (.goto 4, 3) := dk_167 0 4 (dk_at dksX1_doContents_4 12 rfl rfl)
theorem dX1_doContents_109 : decode cX1_doContents 109 = .ok (.iconst 0, 1) := dk_3 (dk_at dksX1_doContents_4 15 rfl rfl)
theorem dX1_doContents_110 : decode cX1_doContents 110 = .ok (.iadd, 1) := dk_96 (dk_at dksX1_doContents_4 16 rfl rfl)
theorem dX1_doContents_111 : decode cX1_doContents 111 = .ok (.istore_n 1, 1) := dk_60 (dk_at dksX1_doContents_4 17 rfl rfl)
theorem dX1_doContents_112 : decode cX1_doContents 112 = .ok (.goto (-69), 3) := dk_167 255 187 (dk_at dksX1_doContents_4 18 rfl rfl)
theorem dX1_doContents_115 : decode cX1_doContents 115 = .ok (.iload_n 2, 1) := dk_28 (dk_at dksX1_doContents_4 21 rfl rfl)
theorem dX1_doContents_116 : decode cX1_doContents 116 = .ok (.ifCond .ne 40, 3) := dk_154 0 40 (dk_at dksX1_doContents_5 0 rfl rfl)
theorem dX1_doContents_119 : decode cX1_doContents 119 = .ok (.aload_n 0, 1) := dk_42 (dk_at dksX1_doContents_5 3 rfl rfl)
theorem dX1_doContents_120 : decode cX1_doContents 120 = .ok (.getfield 121, 3) := dk_180 0 121 (dk_at dksX1_doContents_5 4 rfl rfl)
theorem dX1_doContents_123 : decode cX1_doContents 123 = .ok (.invokevirtual 361, 3) := dk_182 1 105 (dk_at dksX1_doContents_5 7 rfl rfl)
theorem dX1_doContents_126 : decode cX1_doContents 126 = .ok (.aload_n 0, 1) := dk_42 (dk_at dksX1_doContents_5 10 rfl rfl)
theorem dX1_doContents_127 : decode cX1_doContents 127 = .ok (.getfield 146, 3) := dk_180 0 146 (dk_at dksX1_doContents_5 11 rfl rfl)
theorem dX1_doContents_130 : decode cX1_doContents 130 = .ok (.invokevirtual 212, 3) := dk_182 0 212 (dk_at dksX1_doContents_5 14 rfl rfl)
theorem dX1_doContents_133 : decode cX1_doContents 133 = .ok (.iconst 0, 1) := dk_3 (dk_at dksX1_doContents_5 17 rfl rfl)
theorem dX1_doContents_134 : decode cX1_doContents 134 = .ok (.istore_n 3, 1) := dk_62 (dk_at dksX1_doContents_5 18 rfl rfl)
theorem dX1_doContents_135 : decode cX1_doContents 135 = .ok (.iload_n 3, 1) := dk_29 (dk_at dksX1_doContents_5 19 rfl rfl)
theorem dX1_doContents_136 : decode cX1_doContents 136 = .ok (.iload_n 1, 1) := dk_27 (dk_at dksX1_doContents_5 20 rfl rfl)
theorem dX1_doContents_137 : decode cX1_doContents 137 = .ok (.if_icmp .ge 19, 3) := dk_162 0 19 (dk_at dksX1_doContents_5 21 rfl rfl)
theorem dX1_doContents_140 : decode cX1_doContents 140 = .ok (.aload_n 0, 1) := dk_42 (dk_at dksX1_doContents_6 0 rfl rfl)
theorem dX1_doContents_141 : decode cX1_doContents 141 = .ok (.getfield 165, 3) := dk_180 0 165 (dk_at dksX1_doContents_6 1 rfl rfl)
theorem dX1_doContents_144 : decode cX1_doContents 144 = .ok (.iload_n 3, 1) := dk_29 (dk_at dksX1_doContents_6 4 rfl rfl)
theorem dX1_doContents_145 : decode cX1_doContents 145 = .ok (.aaload, 1) := dk_50 (dk_at dksX1_doContents_6 5 rfl rfl)
theorem dX1_doContents_146 : decode cX1_doContents 146 = .ok (.iconst 2, 1) := dk_5 (dk_at dksX1_doContents_6 6 rfl rfl)
theorem dX1_doContents_147 : decode cX1_doContents 147 = .ok (.putfield 358, 3) := dk_181 1 102 (dk_at dksX1_doContents_6 7 rfl rfl)
theorem dX1_doContents_150 : decode cX1_doContents 150 = .ok (.iinc 3 1, 3) := dk_132 3 1 (dk_at dksX1_doContents_6 10 rfl rfl)
theorem dX1_doContents_153 : decode cX1_doContents 153 = .ok (.goto (-18), 3) := dk_167 255 238 (dk_at dksX1_doContents_6 13 rfl rfl)
theorem dX1_doContents_156 : decode cX1_doContents 156 = .ok (.iload_n 1, 1) := dk_27 (dk_at dksX1_doContents_6 16 rfl rfl)
theorem dX1_doContents_157 : decode cX1_doContents 157 = .ok (.ireturn, 1) := dk_172 (dk_at dksX1_doContents_6 17 rfl rfl)
abbrev cX1_receipt : ByteArray := prog_1_method_18_code
def yX1_receipt : MethodName := ⟨RX1, "receipt", "(II)I"⟩
def dkwX1_receipt_3 : List UInt8 := [172, 45, 180, 1, 116, 172, 2, 172]
abbrev dktX1_receipt_3 : List UInt8 := dkwX1_receipt_3 ++ []
def dkwX1_receipt_2 : List UInt8 := [45, 180, 1, 102, 172, 45, 180, 1, 108, 172, 45, 180, 1, 111, 172, 45, 180, 1, 112, 172, 45, 180, 1, 115]
abbrev dktX1_receipt_2 : List UInt8 := dkwX1_receipt_2 ++ dktX1_receipt_3
def dkwX1_receipt_1 : List UInt8 := [170, 0, 0, 0, 0, 68, 0, 0, 0, 0, 0, 0, 0, 5, 0, 0, 0, 38, 0, 0, 0, 43, 0, 0, 0, 48, 0, 0, 0, 53, 0, 0, 0, 58, 0, 0, 0, 63]
abbrev dktX1_receipt_1 : List UInt8 := dkwX1_receipt_1 ++ dktX1_receipt_2
def dkwX1_receipt_0 : List UInt8 := [27, 155, 0, 11, 27, 42, 180, 1, 85, 161, 0, 5, 2, 172, 42, 180, 0, 165, 27, 50, 78, 28]
abbrev dktX1_receipt_0 : List UInt8 := dkwX1_receipt_0 ++ dktX1_receipt_1
theorem dksX1_receipt_0 : cX1_receipt.data.toList.drop 0 = dktX1_receipt_0 := by decide +kernel
theorem dksX1_receipt_1 : cX1_receipt.data.toList.drop 22 = dktX1_receipt_1 := dk_seg dksX1_receipt_0 22 rfl rfl
theorem dksX1_receipt_2 : cX1_receipt.data.toList.drop 60 = dktX1_receipt_2 := dk_seg dksX1_receipt_1 38 rfl rfl
theorem dksX1_receipt_3 : cX1_receipt.data.toList.drop 84 = dktX1_receipt_3 := dk_seg dksX1_receipt_2 24 rfl rfl
theorem dX1_receipt_0 : decode cX1_receipt 0 = .ok (.iload_n 1, 1) := dk_27 (dk_at dksX1_receipt_0 0 rfl rfl)
theorem dX1_receipt_1 : decode cX1_receipt 1 = .ok (.ifCond .lt 11, 3) := dk_155 0 11 (dk_at dksX1_receipt_0 1 rfl rfl)
theorem dX1_receipt_4 : decode cX1_receipt 4 = .ok (.iload_n 1, 1) := dk_27 (dk_at dksX1_receipt_0 4 rfl rfl)
theorem dX1_receipt_5 : decode cX1_receipt 5 = .ok (.aload_n 0, 1) := dk_42 (dk_at dksX1_receipt_0 5 rfl rfl)
theorem dX1_receipt_6 : decode cX1_receipt 6 = .ok (.getfield 341, 3) := dk_180 1 85 (dk_at dksX1_receipt_0 6 rfl rfl)
theorem dX1_receipt_9 : decode cX1_receipt 9 = .ok (.if_icmp .lt 5, 3) := dk_161 0 5 (dk_at dksX1_receipt_0 9 rfl rfl)
theorem dX1_receipt_12 : decode cX1_receipt 12 = .ok (.iconst (-1), 1) := dk_2 (dk_at dksX1_receipt_0 12 rfl rfl)
theorem dX1_receipt_13 : decode cX1_receipt 13 = .ok (.ireturn, 1) := dk_172 (dk_at dksX1_receipt_0 13 rfl rfl)
theorem dX1_receipt_14 : decode cX1_receipt 14 = .ok (.aload_n 0, 1) := dk_42 (dk_at dksX1_receipt_0 14 rfl rfl)
theorem dX1_receipt_15 : decode cX1_receipt 15 = .ok (.getfield 165, 3) := dk_180 0 165 (dk_at dksX1_receipt_0 15 rfl rfl)
theorem dX1_receipt_18 : decode cX1_receipt 18 = .ok (.iload_n 1, 1) := dk_27 (dk_at dksX1_receipt_0 18 rfl rfl)
theorem dX1_receipt_19 : decode cX1_receipt 19 = .ok (.aaload, 1) := dk_50 (dk_at dksX1_receipt_0 19 rfl rfl)
theorem dX1_receipt_20 : decode cX1_receipt 20 = .ok (.astore_n 3, 1) := dk_78 (dk_at dksX1_receipt_0 20 rfl rfl)
theorem dX1_receipt_21 : decode cX1_receipt 21 = .ok (.iload_n 2, 1) := dk_28 (dk_at dksX1_receipt_0 21 rfl rfl)
theorem dX1_receipt_22 : decode cX1_receipt 22 = .ok (.tableswitch 68 0 5 #[38, 43, 48, 53, 58, 63], 38) := by decide +kernel
theorem dX1_receipt_60 : decode cX1_receipt 60 = .ok (.aload_n 3, 1) := dk_45 (dk_at dksX1_receipt_2 0 rfl rfl)
theorem dX1_receipt_61 : decode cX1_receipt 61 = .ok (.getfield 358, 3) := dk_180 1 102 (dk_at dksX1_receipt_2 1 rfl rfl)
theorem dX1_receipt_64 : decode cX1_receipt 64 = .ok (.ireturn, 1) := dk_172 (dk_at dksX1_receipt_2 4 rfl rfl)
theorem dX1_receipt_65 : decode cX1_receipt 65 = .ok (.aload_n 3, 1) := dk_45 (dk_at dksX1_receipt_2 5 rfl rfl)
theorem dX1_receipt_66 : decode cX1_receipt 66 = .ok (.getfield 364, 3) := dk_180 1 108 (dk_at dksX1_receipt_2 6 rfl rfl)
theorem dX1_receipt_69 : decode cX1_receipt 69 = .ok (.ireturn, 1) := dk_172 (dk_at dksX1_receipt_2 9 rfl rfl)
theorem dX1_receipt_70 : decode cX1_receipt 70 = .ok (.aload_n 3, 1) := dk_45 (dk_at dksX1_receipt_2 10 rfl rfl)
theorem dX1_receipt_71 : decode cX1_receipt 71 = .ok (.getfield 367, 3) := dk_180 1 111 (dk_at dksX1_receipt_2 11 rfl rfl)
theorem dX1_receipt_74 : decode cX1_receipt 74 = .ok (.ireturn, 1) := dk_172 (dk_at dksX1_receipt_2 14 rfl rfl)
theorem dX1_receipt_75 : decode cX1_receipt 75 = .ok (.aload_n 3, 1) := dk_45 (dk_at dksX1_receipt_2 15 rfl rfl)
theorem dX1_receipt_76 : decode cX1_receipt 76 = .ok (.getfield 368, 3) := dk_180 1 112 (dk_at dksX1_receipt_2 16 rfl rfl)
theorem dX1_receipt_79 : decode cX1_receipt 79 = .ok (.ireturn, 1) := dk_172 (dk_at dksX1_receipt_2 19 rfl rfl)
theorem dX1_receipt_80 : decode cX1_receipt 80 = .ok (.aload_n 3, 1) := dk_45 (dk_at dksX1_receipt_2 20 rfl rfl)
theorem dX1_receipt_81 : decode cX1_receipt 81 = .ok (.getfield 371, 3) := dk_180 1 115 (dk_at dksX1_receipt_2 21 rfl rfl)
theorem dX1_receipt_84 : decode cX1_receipt 84 = .ok (.ireturn, 1) := dk_172 (dk_at dksX1_receipt_3 0 rfl rfl)
theorem dX1_receipt_85 : decode cX1_receipt 85 = .ok (.aload_n 3, 1) := dk_45 (dk_at dksX1_receipt_3 1 rfl rfl)
theorem dX1_receipt_86 : decode cX1_receipt 86 = .ok (.getfield 372, 3) := dk_180 1 116 (dk_at dksX1_receipt_3 2 rfl rfl)
theorem dX1_receipt_89 : decode cX1_receipt 89 = .ok (.ireturn, 1) := dk_172 (dk_at dksX1_receipt_3 5 rfl rfl)
theorem dX1_receipt_90 : decode cX1_receipt 90 = .ok (.iconst (-1), 1) := dk_2 (dk_at dksX1_receipt_3 6 rfl rfl)
theorem dX1_receipt_91 : decode cX1_receipt 91 = .ok (.ireturn, 1) := dk_172 (dk_at dksX1_receipt_3 7 rfl rfl)
abbrev cX1_accounts : ByteArray := prog_1_method_19_code
def yX1_accounts : MethodName := ⟨RX1, "accounts", "()I"⟩
def dkwX1_accounts_0 : List UInt8 := [42, 180, 0, 121, 180, 0, 252, 172]
abbrev dktX1_accounts_0 : List UInt8 := dkwX1_accounts_0 ++ []
theorem dksX1_accounts_0 : cX1_accounts.data.toList.drop 0 = dktX1_accounts_0 := by decide +kernel
theorem dX1_accounts_0 : decode cX1_accounts 0 = .ok (.aload_n 0, 1) := dk_42 (dk_at dksX1_accounts_0 0 rfl rfl)
theorem dX1_accounts_1 : decode cX1_accounts 1 = .ok (.getfield 121, 3) := dk_180 0 121 (dk_at dksX1_accounts_0 1 rfl rfl)
theorem dX1_accounts_4 : decode cX1_accounts 4 = .ok (.getfield 252, 3) := dk_180 0 252 (dk_at dksX1_accounts_0 4 rfl rfl)
theorem dX1_accounts_7 : decode cX1_accounts 7 = .ok (.ireturn, 1) := dk_172 (dk_at dksX1_accounts_0 7 rfl rfl)
abbrev cX1_contracts : ByteArray := prog_1_method_20_code
def yX1_contracts : MethodName := ⟨RX1, "contracts", "()I"⟩
def dkwX1_contracts_0 : List UInt8 := [42, 180, 0, 121, 180, 1, 119, 172]
abbrev dktX1_contracts_0 : List UInt8 := dkwX1_contracts_0 ++ []
theorem dksX1_contracts_0 : cX1_contracts.data.toList.drop 0 = dktX1_contracts_0 := by decide +kernel
theorem dX1_contracts_0 : decode cX1_contracts 0 = .ok (.aload_n 0, 1) := dk_42 (dk_at dksX1_contracts_0 0 rfl rfl)
theorem dX1_contracts_1 : decode cX1_contracts 1 = .ok (.getfield 121, 3) := dk_180 0 121 (dk_at dksX1_contracts_0 1 rfl rfl)
theorem dX1_contracts_4 : decode cX1_contracts 4 = .ok (.getfield 375, 3) := dk_180 1 119 (dk_at dksX1_contracts_0 4 rfl rfl)
theorem dX1_contracts_7 : decode cX1_contracts 7 = .ok (.ireturn, 1) := dk_172 (dk_at dksX1_contracts_0 7 rfl rfl)
abbrev cX1_balance : ByteArray := prog_1_method_22_code
def yX1_balance : MethodName := ⟨RX1, "balance", "(ZI)J"⟩
def dkwX1_balance_1 : List UInt8 := [2, 62, 29, 156, 0, 9, 20, 1, 125, 167, 0, 12, 42, 180, 0, 121, 180, 1, 9, 29, 47, 173]
abbrev dktX1_balance_1 : List UInt8 := dkwX1_balance_1 ++ []
def dkwX1_balance_0 : List UInt8 := [27, 153, 0, 11, 42, 28, 182, 1, 122, 167, 0, 16, 42, 28, 182, 1, 24, 153, 0, 7, 28, 167, 0, 4]
abbrev dktX1_balance_0 : List UInt8 := dkwX1_balance_0 ++ dktX1_balance_1
theorem dksX1_balance_0 : cX1_balance.data.toList.drop 0 = dktX1_balance_0 := by decide +kernel
theorem dksX1_balance_1 : cX1_balance.data.toList.drop 24 = dktX1_balance_1 := dk_seg dksX1_balance_0 24 rfl rfl
theorem dX1_balance_0 : decode cX1_balance 0 = .ok (.iload_n 1, 1) := dk_27 (dk_at dksX1_balance_0 0 rfl rfl)
theorem dX1_balance_1 : decode cX1_balance 1 = .ok (.ifCond .eq 11, 3) := dk_153 0 11 (dk_at dksX1_balance_0 1 rfl rfl)
theorem dX1_balance_4 : decode cX1_balance 4 = .ok (.aload_n 0, 1) := dk_42 (dk_at dksX1_balance_0 4 rfl rfl)
theorem dX1_balance_5 : decode cX1_balance 5 = .ok (.iload_n 2, 1) := dk_28 (dk_at dksX1_balance_0 5 rfl rfl)
theorem dX1_balance_6 : decode cX1_balance 6 = .ok (.invokevirtual 378, 3) := dk_182 1 122 (dk_at dksX1_balance_0 6 rfl rfl)
theorem dX1_balance_9 : decode cX1_balance 9 = .ok (.goto 16, 3) := dk_167 0 16 (dk_at dksX1_balance_0 9 rfl rfl)
theorem dX1_balance_12 : decode cX1_balance 12 = .ok (.aload_n 0, 1) := dk_42 (dk_at dksX1_balance_0 12 rfl rfl)
theorem dX1_balance_13 : decode cX1_balance 13 = .ok (.iload_n 2, 1) := dk_28 (dk_at dksX1_balance_0 13 rfl rfl)
theorem dX1_balance_14 : decode cX1_balance 14 = .ok (.invokevirtual 280, 3) := dk_182 1 24 (dk_at dksX1_balance_0 14 rfl rfl)
theorem dX1_balance_17 : decode cX1_balance 17 = .ok (.ifCond .eq 7, 3) := dk_153 0 7 (dk_at dksX1_balance_0 17 rfl rfl)
theorem dX1_balance_20 : decode cX1_balance 20 = .ok (.iload_n 2, 1) := dk_28 (dk_at dksX1_balance_0 20 rfl rfl)
theorem dX1_balance_21 : decode cX1_balance 21 = .ok (.goto 4, 3) := dk_167 0 4 (dk_at dksX1_balance_0 21 rfl rfl)
theorem dX1_balance_24 : decode cX1_balance 24 = .ok (.iconst (-1), 1) := dk_2 (dk_at dksX1_balance_1 0 rfl rfl)
theorem dX1_balance_25 : decode cX1_balance 25 = .ok (.istore_n 3, 1) := dk_62 (dk_at dksX1_balance_1 1 rfl rfl)
theorem dX1_balance_26 : decode cX1_balance 26 = .ok (.iload_n 3, 1) := dk_29 (dk_at dksX1_balance_1 2 rfl rfl)
theorem dX1_balance_27 : decode cX1_balance 27 = .ok (.ifCond .ge 9, 3) := dk_156 0 9 (dk_at dksX1_balance_1 3 rfl rfl)
theorem dX1_balance_30 : decode cX1_balance 30 = .ok (.ldc2_w 381, 3) := dk_20 1 125 (dk_at dksX1_balance_1 6 rfl rfl)
theorem dX1_balance_33 : decode cX1_balance 33 = .ok (.goto 12, 3) := dk_167 0 12 (dk_at dksX1_balance_1 9 rfl rfl)
theorem dX1_balance_36 : decode cX1_balance 36 = .ok (.aload_n 0, 1) := dk_42 (dk_at dksX1_balance_1 12 rfl rfl)
theorem dX1_balance_37 : decode cX1_balance 37 = .ok (.getfield 121, 3) := dk_180 0 121 (dk_at dksX1_balance_1 13 rfl rfl)
theorem dX1_balance_40 : decode cX1_balance 40 = .ok (.getfield 265, 3) := dk_180 1 9 (dk_at dksX1_balance_1 16 rfl rfl)
theorem dX1_balance_43 : decode cX1_balance 43 = .ok (.iload_n 3, 1) := dk_29 (dk_at dksX1_balance_1 19 rfl rfl)
theorem dX1_balance_44 : decode cX1_balance 44 = .ok (.laload, 1) := dk_47 (dk_at dksX1_balance_1 20 rfl rfl)
theorem dX1_balance_45 : decode cX1_balance 45 = .ok (.lreturn, 1) := dk_173 (dk_at dksX1_balance_1 21 rfl rfl)
abbrev cX1_contractAt : ByteArray := prog_1_method_21_code
def yX1_contractAt : MethodName := ⟨RX1, "contractAt", "(I)I"⟩
def dkwX1_contractAt_1 : List UInt8 := [153, 0, 10, 16, 100, 27, 96, 167, 0, 4, 2, 172]
abbrev dktX1_contractAt_1 : List UInt8 := dkwX1_contractAt_1 ++ []
def dkwX1_contractAt_0 : List UInt8 := [27, 155, 0, 31, 27, 16, 100, 162, 0, 25, 42, 180, 0, 121, 180, 1, 5, 16, 100, 27, 96, 51]
abbrev dktX1_contractAt_0 : List UInt8 := dkwX1_contractAt_0 ++ dktX1_contractAt_1
theorem dksX1_contractAt_0 : cX1_contractAt.data.toList.drop 0 = dktX1_contractAt_0 := by decide +kernel
theorem dksX1_contractAt_1 : cX1_contractAt.data.toList.drop 22 = dktX1_contractAt_1 := dk_seg dksX1_contractAt_0 22 rfl rfl
theorem dX1_contractAt_0 : decode cX1_contractAt 0 = .ok (.iload_n 1, 1) := dk_27 (dk_at dksX1_contractAt_0 0 rfl rfl)
theorem dX1_contractAt_1 : decode cX1_contractAt 1 = .ok (.ifCond .lt 31, 3) := dk_155 0 31 (dk_at dksX1_contractAt_0 1 rfl rfl)
theorem dX1_contractAt_4 : decode cX1_contractAt 4 = .ok (.iload_n 1, 1) := dk_27 (dk_at dksX1_contractAt_0 4 rfl rfl)
theorem dX1_contractAt_5 : decode cX1_contractAt 5 = .ok (.bipush 100, 2) := dk_16 100 (dk_at dksX1_contractAt_0 5 rfl rfl)
theorem dX1_contractAt_7 : decode cX1_contractAt 7 = .ok (.if_icmp .ge 25, 3) := dk_162 0 25 (dk_at dksX1_contractAt_0 7 rfl rfl)
theorem dX1_contractAt_10 : decode cX1_contractAt 10 = .ok (.aload_n 0, 1) := dk_42 (dk_at dksX1_contractAt_0 10 rfl rfl)
theorem dX1_contractAt_11 : decode cX1_contractAt 11 = .ok (.getfield 121, 3) := dk_180 0 121 (dk_at dksX1_contractAt_0 11 rfl rfl)
theorem dX1_contractAt_14 : decode cX1_contractAt 14 = .ok (.getfield 261, 3) := dk_180 1 5 (dk_at dksX1_contractAt_0 14 rfl rfl)
theorem dX1_contractAt_17 : decode cX1_contractAt 17 = .ok (.bipush 100, 2) := dk_16 100 (dk_at dksX1_contractAt_0 17 rfl rfl)
theorem dX1_contractAt_19 : decode cX1_contractAt 19 = .ok (.iload_n 1, 1) := dk_27 (dk_at dksX1_contractAt_0 19 rfl rfl)
theorem dX1_contractAt_20 : decode cX1_contractAt 20 = .ok (.iadd, 1) := dk_96 (dk_at dksX1_contractAt_0 20 rfl rfl)
theorem dX1_contractAt_21 : decode cX1_contractAt 21 = .ok (.baload, 1) := dk_51 (dk_at dksX1_contractAt_0 21 rfl rfl)
theorem dX1_contractAt_22 : decode cX1_contractAt 22 = .ok (.ifCond .eq 10, 3) := dk_153 0 10 (dk_at dksX1_contractAt_1 0 rfl rfl)
theorem dX1_contractAt_25 : decode cX1_contractAt 25 = .ok (.bipush 100, 2) := dk_16 100 (dk_at dksX1_contractAt_1 3 rfl rfl)
theorem dX1_contractAt_27 : decode cX1_contractAt 27 = .ok (.iload_n 1, 1) := dk_27 (dk_at dksX1_contractAt_1 5 rfl rfl)
theorem dX1_contractAt_28 : decode cX1_contractAt 28 = .ok (.iadd, 1) := dk_96 (dk_at dksX1_contractAt_1 6 rfl rfl)
theorem dX1_contractAt_29 : decode cX1_contractAt 29 = .ok (.goto 4, 3) := dk_167 0 4 (dk_at dksX1_contractAt_1 7 rfl rfl)
theorem dX1_contractAt_32 : decode cX1_contractAt 32 = .ok (.iconst (-1), 1) := dk_2 (dk_at dksX1_contractAt_1 10 rfl rfl)
theorem dX1_contractAt_33 : decode cX1_contractAt 33 = .ok (.ireturn, 1) := dk_172 (dk_at dksX1_contractAt_1 11 rfl rfl)
abbrev cX1_counter : ByteArray := prog_1_method_23_code
def yX1_counter : MethodName := ⟨RX1, "counter", "(I)I"⟩
def dkwX1_counter_0 : List UInt8 := [42, 27, 182, 1, 24, 153, 0, 15, 42, 180, 0, 121, 180, 1, 79, 27, 46, 167, 0, 4, 2, 172]
abbrev dktX1_counter_0 : List UInt8 := dkwX1_counter_0 ++ []
theorem dksX1_counter_0 : cX1_counter.data.toList.drop 0 = dktX1_counter_0 := by decide +kernel
theorem dX1_counter_0 : decode cX1_counter 0 = .ok (.aload_n 0, 1) := dk_42 (dk_at dksX1_counter_0 0 rfl rfl)
theorem dX1_counter_1 : decode cX1_counter 1 = .ok (.iload_n 1, 1) := dk_27 (dk_at dksX1_counter_0 1 rfl rfl)
theorem dX1_counter_2 : decode cX1_counter 2 = .ok (.invokevirtual 280, 3) := dk_182 1 24 (dk_at dksX1_counter_0 2 rfl rfl)
theorem dX1_counter_5 : decode cX1_counter 5 = .ok (.ifCond .eq 15, 3) := dk_153 0 15 (dk_at dksX1_counter_0 5 rfl rfl)
theorem dX1_counter_8 : decode cX1_counter 8 = .ok (.aload_n 0, 1) := dk_42 (dk_at dksX1_counter_0 8 rfl rfl)
theorem dX1_counter_9 : decode cX1_counter 9 = .ok (.getfield 121, 3) := dk_180 0 121 (dk_at dksX1_counter_0 9 rfl rfl)
theorem dX1_counter_12 : decode cX1_counter 12 = .ok (.getfield 335, 3) := dk_180 1 79 (dk_at dksX1_counter_0 12 rfl rfl)
theorem dX1_counter_15 : decode cX1_counter 15 = .ok (.iload_n 1, 1) := dk_27 (dk_at dksX1_counter_0 15 rfl rfl)
theorem dX1_counter_16 : decode cX1_counter 16 = .ok (.iaload, 1) := dk_46 (dk_at dksX1_counter_0 16 rfl rfl)
theorem dX1_counter_17 : decode cX1_counter 17 = .ok (.goto 4, 3) := dk_167 0 4 (dk_at dksX1_counter_0 17 rfl rfl)
theorem dX1_counter_20 : decode cX1_counter 20 = .ok (.iconst (-1), 1) := dk_2 (dk_at dksX1_counter_0 20 rfl rfl)
theorem dX1_counter_21 : decode cX1_counter 21 = .ok (.ireturn, 1) := dk_172 (dk_at dksX1_counter_0 21 rfl rfl)
abbrev cX1_paid : ByteArray := prog_1_method_24_code
def yX1_paid : MethodName := ⟨RX1, "paid", "(I)I"⟩
def dkwX1_paid_0 : List UInt8 := [42, 27, 182, 1, 122, 61, 28, 156, 0, 7, 2, 167, 0, 12, 42, 180, 0, 121, 180, 1, 127, 28, 46, 172]
abbrev dktX1_paid_0 : List UInt8 := dkwX1_paid_0 ++ []
theorem dksX1_paid_0 : cX1_paid.data.toList.drop 0 = dktX1_paid_0 := by decide +kernel
theorem dX1_paid_0 : decode cX1_paid 0 = .ok (.aload_n 0, 1) := dk_42 (dk_at dksX1_paid_0 0 rfl rfl)
theorem dX1_paid_1 : decode cX1_paid 1 = .ok (.iload_n 1, 1) := dk_27 (dk_at dksX1_paid_0 1 rfl rfl)
theorem dX1_paid_2 : decode cX1_paid 2 = .ok (.invokevirtual 378, 3) := dk_182 1 122 (dk_at dksX1_paid_0 2 rfl rfl)
theorem dX1_paid_5 : decode cX1_paid 5 = .ok (.istore_n 2, 1) := dk_61 (dk_at dksX1_paid_0 5 rfl rfl)
theorem dX1_paid_6 : decode cX1_paid 6 = .ok (.iload_n 2, 1) := dk_28 (dk_at dksX1_paid_0 6 rfl rfl)
theorem dX1_paid_7 : decode cX1_paid 7 = .ok (.ifCond .ge 7, 3) := dk_156 0 7 (dk_at dksX1_paid_0 7 rfl rfl)
theorem dX1_paid_10 : decode cX1_paid 10 = .ok (.iconst (-1), 1) := dk_2 (dk_at dksX1_paid_0 10 rfl rfl)
theorem dX1_paid_11 : decode cX1_paid 11 = .ok (.goto 12, 3) := dk_167 0 12 (dk_at dksX1_paid_0 11 rfl rfl)
theorem dX1_paid_14 : decode cX1_paid 14 = .ok (.aload_n 0, 1) := dk_42 (dk_at dksX1_paid_0 14 rfl rfl)
theorem dX1_paid_15 : decode cX1_paid 15 = .ok (.getfield 121, 3) := dk_180 0 121 (dk_at dksX1_paid_0 15 rfl rfl)
theorem dX1_paid_18 : decode cX1_paid 18 = .ok (.getfield 383, 3) := dk_180 1 127 (dk_at dksX1_paid_0 18 rfl rfl)
theorem dX1_paid_21 : decode cX1_paid 21 = .ok (.iload_n 2, 1) := dk_28 (dk_at dksX1_paid_0 21 rfl rfl)
theorem dX1_paid_22 : decode cX1_paid 22 = .ok (.iaload, 1) := dk_46 (dk_at dksX1_paid_0 22 rfl rfl)
theorem dX1_paid_23 : decode cX1_paid 23 = .ok (.ireturn, 1) := dk_172 (dk_at dksX1_paid_0 23 rfl rfl)
abbrev cX1_money : ByteArray := prog_1_method_25_code
def yX1_money : MethodName := ⟨RX1, "money", "(I)J"⟩
def dkwX1_money_2 : List UInt8 := [173]
abbrev dktX1_money_2 : List UInt8 := dkwX1_money_2 ++ []
def dkwX1_money_1 : List UInt8 := [180, 1, 82, 167, 0, 21, 27, 5, 160, 0, 13, 42, 180, 0, 121, 180, 1, 130, 167, 0, 6, 20, 1, 125]
abbrev dktX1_money_1 : List UInt8 := dkwX1_money_1 ++ dktX1_money_2
def dkwX1_money_0 : List UInt8 := [27, 154, 0, 13, 42, 180, 0, 121, 180, 1, 1, 167, 0, 36, 27, 4, 160, 0, 13, 42, 180, 0, 121]
abbrev dktX1_money_0 : List UInt8 := dkwX1_money_0 ++ dktX1_money_1
theorem dksX1_money_0 : cX1_money.data.toList.drop 0 = dktX1_money_0 := by decide +kernel
theorem dksX1_money_1 : cX1_money.data.toList.drop 23 = dktX1_money_1 := dk_seg dksX1_money_0 23 rfl rfl
theorem dksX1_money_2 : cX1_money.data.toList.drop 47 = dktX1_money_2 := dk_seg dksX1_money_1 24 rfl rfl
theorem dX1_money_0 : decode cX1_money 0 = .ok (.iload_n 1, 1) := dk_27 (dk_at dksX1_money_0 0 rfl rfl)
theorem dX1_money_1 : decode cX1_money 1 = .ok (.ifCond .ne 13, 3) := dk_154 0 13 (dk_at dksX1_money_0 1 rfl rfl)
theorem dX1_money_4 : decode cX1_money 4 = .ok (.aload_n 0, 1) := dk_42 (dk_at dksX1_money_0 4 rfl rfl)
theorem dX1_money_5 : decode cX1_money 5 = .ok (.getfield 121, 3) := dk_180 0 121 (dk_at dksX1_money_0 5 rfl rfl)
theorem dX1_money_8 : decode cX1_money 8 = .ok (.getfield 257, 3) := dk_180 1 1 (dk_at dksX1_money_0 8 rfl rfl)
theorem dX1_money_11 : decode cX1_money 11 = .ok (.goto 36, 3) := dk_167 0 36 (dk_at dksX1_money_0 11 rfl rfl)
theorem dX1_money_14 : decode cX1_money 14 = .ok (.iload_n 1, 1) := dk_27 (dk_at dksX1_money_0 14 rfl rfl)
theorem dX1_money_15 : decode cX1_money 15 = .ok (.iconst 1, 1) := dk_4 (dk_at dksX1_money_0 15 rfl rfl)
theorem dX1_money_16 : decode cX1_money 16 = .ok (.if_icmp .ne 13, 3) := dk_160 0 13 (dk_at dksX1_money_0 16 rfl rfl)
theorem dX1_money_19 : decode cX1_money 19 = .ok (.aload_n 0, 1) := dk_42 (dk_at dksX1_money_0 19 rfl rfl)
theorem dX1_money_20 : decode cX1_money 20 = .ok (.getfield 121, 3) := dk_180 0 121 (dk_at dksX1_money_0 20 rfl rfl)
theorem dX1_money_23 : decode cX1_money 23 = .ok (.getfield 338, 3) := dk_180 1 82 (dk_at dksX1_money_1 0 rfl rfl)
theorem dX1_money_26 : decode cX1_money 26 = .ok (.goto 21, 3) := dk_167 0 21 (dk_at dksX1_money_1 3 rfl rfl)
theorem dX1_money_29 : decode cX1_money 29 = .ok (.iload_n 1, 1) := dk_27 (dk_at dksX1_money_1 6 rfl rfl)
theorem dX1_money_30 : decode cX1_money 30 = .ok (.iconst 2, 1) := dk_5 (dk_at dksX1_money_1 7 rfl rfl)
theorem dX1_money_31 : decode cX1_money 31 = .ok (.if_icmp .ne 13, 3) := dk_160 0 13 (dk_at dksX1_money_1 8 rfl rfl)
theorem dX1_money_34 : decode cX1_money 34 = .ok (.aload_n 0, 1) := dk_42 (dk_at dksX1_money_1 11 rfl rfl)
theorem dX1_money_35 : decode cX1_money 35 = .ok (.getfield 121, 3) := dk_180 0 121 (dk_at dksX1_money_1 12 rfl rfl)
theorem dX1_money_38 : decode cX1_money 38 = .ok (.getfield 386, 3) := dk_180 1 130 (dk_at dksX1_money_1 15 rfl rfl)
theorem dX1_money_41 : decode cX1_money 41 = .ok (.goto 6, 3) := dk_167 0 6 (dk_at dksX1_money_1 18 rfl rfl)
theorem dX1_money_44 : decode cX1_money 44 = .ok (.ldc2_w 381, 3) := dk_20 1 125 (dk_at dksX1_money_1 21 rfl rfl)
theorem dX1_money_47 : decode cX1_money 47 = .ok (.lreturn, 1) := dk_173 (dk_at dksX1_money_2 0 rfl rfl)
abbrev cX1_stored : ByteArray := prog_1_method_26_code
def yX1_stored : MethodName := ⟨RX1, "stored", "()I"⟩
def dkwX1_stored_0 : List UInt8 := [42, 180, 0, 121, 180, 1, 133, 172]
abbrev dktX1_stored_0 : List UInt8 := dkwX1_stored_0 ++ []
theorem dksX1_stored_0 : cX1_stored.data.toList.drop 0 = dktX1_stored_0 := by decide +kernel
theorem dX1_stored_0 : decode cX1_stored 0 = .ok (.aload_n 0, 1) := dk_42 (dk_at dksX1_stored_0 0 rfl rfl)
theorem dX1_stored_1 : decode cX1_stored 1 = .ok (.getfield 121, 3) := dk_180 0 121 (dk_at dksX1_stored_0 1 rfl rfl)
theorem dX1_stored_4 : decode cX1_stored 4 = .ok (.getfield 389, 3) := dk_180 1 133 (dk_at dksX1_stored_0 4 rfl rfl)
theorem dX1_stored_7 : decode cX1_stored 7 = .ok (.ireturn, 1) := dk_172 (dk_at dksX1_stored_0 7 rfl rfl)
abbrev cX1_storage : ByteArray := prog_1_method_27_code
def yX1_storage : MethodName := ⟨RX1, "storage", "(I)I"⟩
def dkwX1_storage_1 : List UInt8 := [180, 0, 105, 180, 1, 139, 42, 180, 0, 121, 180, 1, 140, 28, 46, 46, 182, 0, 241, 42, 180, 0, 245, 172]
abbrev dktX1_storage_1 : List UInt8 := dkwX1_storage_1 ++ []
def dkwX1_storage_0 : List UInt8 := [42, 27, 182, 1, 122, 61, 28, 156, 0, 5, 2, 172, 42, 42, 180, 0, 121, 180, 1, 136, 28, 46, 42]
abbrev dktX1_storage_0 : List UInt8 := dkwX1_storage_0 ++ dktX1_storage_1
theorem dksX1_storage_0 : cX1_storage.data.toList.drop 0 = dktX1_storage_0 := by decide +kernel
theorem dksX1_storage_1 : cX1_storage.data.toList.drop 23 = dktX1_storage_1 := dk_seg dksX1_storage_0 23 rfl rfl
theorem dX1_storage_0 : decode cX1_storage 0 = .ok (.aload_n 0, 1) := dk_42 (dk_at dksX1_storage_0 0 rfl rfl)
theorem dX1_storage_1 : decode cX1_storage 1 = .ok (.iload_n 1, 1) := dk_27 (dk_at dksX1_storage_0 1 rfl rfl)
theorem dX1_storage_2 : decode cX1_storage 2 = .ok (.invokevirtual 378, 3) := dk_182 1 122 (dk_at dksX1_storage_0 2 rfl rfl)
theorem dX1_storage_5 : decode cX1_storage 5 = .ok (.istore_n 2, 1) := dk_61 (dk_at dksX1_storage_0 5 rfl rfl)
theorem dX1_storage_6 : decode cX1_storage 6 = .ok (.iload_n 2, 1) := dk_28 (dk_at dksX1_storage_0 6 rfl rfl)
theorem dX1_storage_7 : decode cX1_storage 7 = .ok (.ifCond .ge 5, 3) := dk_156 0 5 (dk_at dksX1_storage_0 7 rfl rfl)
theorem dX1_storage_10 : decode cX1_storage 10 = .ok (.iconst (-1), 1) := dk_2 (dk_at dksX1_storage_0 10 rfl rfl)
theorem dX1_storage_11 : decode cX1_storage 11 = .ok (.ireturn, 1) := dk_172 (dk_at dksX1_storage_0 11 rfl rfl)
theorem dX1_storage_12 : decode cX1_storage 12 = .ok (.aload_n 0, 1) := dk_42 (dk_at dksX1_storage_0 12 rfl rfl)
theorem dX1_storage_13 : decode cX1_storage 13 = .ok (.aload_n 0, 1) := dk_42 (dk_at dksX1_storage_0 13 rfl rfl)
theorem dX1_storage_14 : decode cX1_storage 14 = .ok (.getfield 121, 3) := dk_180 0 121 (dk_at dksX1_storage_0 14 rfl rfl)
theorem dX1_storage_17 : decode cX1_storage 17 = .ok (.getfield 392, 3) := dk_180 1 136 (dk_at dksX1_storage_0 17 rfl rfl)
theorem dX1_storage_20 : decode cX1_storage 20 = .ok (.iload_n 2, 1) := dk_28 (dk_at dksX1_storage_0 20 rfl rfl)
theorem dX1_storage_21 : decode cX1_storage 21 = .ok (.iaload, 1) := dk_46 (dk_at dksX1_storage_0 21 rfl rfl)
theorem dX1_storage_22 : decode cX1_storage 22 = .ok (.aload_n 0, 1) := dk_42 (dk_at dksX1_storage_0 22 rfl rfl)
theorem dX1_storage_23 : decode cX1_storage 23 = .ok (.getfield 105, 3) := dk_180 0 105 (dk_at dksX1_storage_1 0 rfl rfl)
theorem dX1_storage_26 : decode cX1_storage 26 = .ok (.getfield 395, 3) := dk_180 1 139 (dk_at dksX1_storage_1 3 rfl rfl)
theorem dX1_storage_29 : decode cX1_storage 29 = .ok (.aload_n 0, 1) := dk_42 (dk_at dksX1_storage_1 6 rfl rfl)
theorem dX1_storage_30 : decode cX1_storage 30 = .ok (.getfield 121, 3) := dk_180 0 121 (dk_at dksX1_storage_1 7 rfl rfl)
theorem dX1_storage_33 : decode cX1_storage 33 = .ok (.getfield 396, 3) := dk_180 1 140 (dk_at dksX1_storage_1 10 rfl rfl)
theorem dX1_storage_36 : decode cX1_storage 36 = .ok (.iload_n 2, 1) := dk_28 (dk_at dksX1_storage_1 13 rfl rfl)
theorem dX1_storage_37 : decode cX1_storage 37 = .ok (.iaload, 1) := dk_46 (dk_at dksX1_storage_1 14 rfl rfl)
theorem dX1_storage_38 : decode cX1_storage 38 = .ok (.iaload, 1) := dk_46 (dk_at dksX1_storage_1 15 rfl rfl)
theorem dX1_storage_39 : decode cX1_storage 39 = .ok (.invokevirtual 241, 3) := dk_182 0 241 (dk_at dksX1_storage_1 16 rfl rfl)
theorem dX1_storage_42 : decode cX1_storage 42 = .ok (.aload_n 0, 1) := dk_42 (dk_at dksX1_storage_1 19 rfl rfl)
theorem dX1_storage_43 : decode cX1_storage 43 = .ok (.getfield 245, 3) := dk_180 0 245 (dk_at dksX1_storage_1 20 rfl rfl)
theorem dX1_storage_46 : decode cX1_storage 46 = .ok (.ireturn, 1) := dk_172 (dk_at dksX1_storage_1 23 rfl rfl)
abbrev cX1_failure : ByteArray := prog_1_method_28_code
def yX1_failure : MethodName := ⟨RX1, "failure", "()I"⟩
def dkwX1_failure_2 : List UInt8 := [180, 0, 245, 172]
abbrev dktX1_failure_2 : List UInt8 := dkwX1_failure_2 ++ []
def dkwX1_failure_1 : List UInt8 := [3, 42, 180, 0, 146, 180, 1, 142, 184, 1, 70, 42, 42, 180, 0, 146, 180, 1, 142, 181, 0, 245, 42]
abbrev dktX1_failure_1 : List UInt8 := dkwX1_failure_1 ++ dktX1_failure_2
def dkwX1_failure_0 : List UInt8 := [42, 180, 0, 146, 180, 1, 142, 156, 0, 5, 2, 172, 42, 180, 0, 146, 180, 1, 145, 3, 42, 180, 0, 151]
abbrev dktX1_failure_0 : List UInt8 := dkwX1_failure_0 ++ dktX1_failure_1
theorem dksX1_failure_0 : cX1_failure.data.toList.drop 0 = dktX1_failure_0 := by decide +kernel
theorem dksX1_failure_1 : cX1_failure.data.toList.drop 24 = dktX1_failure_1 := dk_seg dksX1_failure_0 24 rfl rfl
theorem dksX1_failure_2 : cX1_failure.data.toList.drop 47 = dktX1_failure_2 := dk_seg dksX1_failure_1 23 rfl rfl
theorem dX1_failure_0 : decode cX1_failure 0 = .ok (.aload_n 0, 1) := dk_42 (dk_at dksX1_failure_0 0 rfl rfl)
theorem dX1_failure_1 : decode cX1_failure 1 = .ok (.getfield 146, 3) := dk_180 0 146 (dk_at dksX1_failure_0 1 rfl rfl)
theorem dX1_failure_4 : decode cX1_failure 4 = .ok (.getfield 398, 3) := dk_180 1 142 (dk_at dksX1_failure_0 4 rfl rfl)
theorem dX1_failure_7 : decode cX1_failure 7 = .ok (.ifCond .ge 5, 3) := dk_156 0 5 (dk_at dksX1_failure_0 7 rfl rfl)
theorem dX1_failure_10 : decode cX1_failure 10 = .ok (.iconst (-1), 1) := dk_2 (dk_at dksX1_failure_0 10 rfl rfl)
theorem dX1_failure_11 : decode cX1_failure 11 = .ok (.ireturn, 1) := dk_172 (dk_at dksX1_failure_0 11 rfl rfl)
theorem dX1_failure_12 : decode cX1_failure 12 = .ok (.aload_n 0, 1) := dk_42 (dk_at dksX1_failure_0 12 rfl rfl)
theorem dX1_failure_13 : decode cX1_failure 13 = .ok (.getfield 146, 3) := dk_180 0 146 (dk_at dksX1_failure_0 13 rfl rfl)
theorem dX1_failure_16 : decode cX1_failure 16 = .ok (.getfield 401, 3) := dk_180 1 145 (dk_at dksX1_failure_0 16 rfl rfl)
theorem dX1_failure_19 : decode cX1_failure 19 = .ok (.iconst 0, 1) := dk_3 (dk_at dksX1_failure_0 19 rfl rfl)
theorem dX1_failure_20 : decode cX1_failure 20 = .ok (.aload_n 0, 1) := dk_42 (dk_at dksX1_failure_0 20 rfl rfl)
theorem dX1_failure_21 : decode cX1_failure 21 = .ok (.getfield 151, 3) := dk_180 0 151 (dk_at dksX1_failure_0 21 rfl rfl)
theorem dX1_failure_24 : decode cX1_failure 24 = .ok (.iconst 0, 1) := dk_3 (dk_at dksX1_failure_1 0 rfl rfl)
theorem dX1_failure_25 : decode cX1_failure 25 = .ok (.aload_n 0, 1) := dk_42 (dk_at dksX1_failure_1 1 rfl rfl)
theorem dX1_failure_26 : decode cX1_failure 26 = .ok (.getfield 146, 3) := dk_180 0 146 (dk_at dksX1_failure_1 2 rfl rfl)
theorem dX1_failure_29 : decode cX1_failure 29 = .ok (.getfield 398, 3) := dk_180 1 142 (dk_at dksX1_failure_1 5 rfl rfl)
theorem dX1_failure_32 : decode cX1_failure 32 = .ok (.invokestatic 326, 3) := dk_184 1 70 (dk_at dksX1_failure_1 8 rfl rfl)
theorem dX1_failure_35 : decode cX1_failure 35 = .ok (.aload_n 0, 1) := dk_42 (dk_at dksX1_failure_1 11 rfl rfl)
theorem dX1_failure_36 : decode cX1_failure 36 = .ok (.aload_n 0, 1) := dk_42 (dk_at dksX1_failure_1 12 rfl rfl)
theorem dX1_failure_37 : decode cX1_failure 37 = .ok (.getfield 146, 3) := dk_180 0 146 (dk_at dksX1_failure_1 13 rfl rfl)
theorem dX1_failure_40 : decode cX1_failure 40 = .ok (.getfield 398, 3) := dk_180 1 142 (dk_at dksX1_failure_1 16 rfl rfl)
theorem dX1_failure_43 : decode cX1_failure 43 = .ok (.putfield 245, 3) := dk_181 0 245 (dk_at dksX1_failure_1 19 rfl rfl)
theorem dX1_failure_46 : decode cX1_failure 46 = .ok (.aload_n 0, 1) := dk_42 (dk_at dksX1_failure_1 22 rfl rfl)
theorem dX1_failure_47 : decode cX1_failure 47 = .ok (.getfield 245, 3) := dk_180 0 245 (dk_at dksX1_failure_2 0 rfl rfl)
theorem dX1_failure_50 : decode cX1_failure 50 = .ok (.ireturn, 1) := dk_172 (dk_at dksX1_failure_2 3 rfl rfl)
abbrev cX1_out : ByteArray := prog_1_method_29_code
def yX1_out : MethodName := ⟨RX1, "out", "(I)I"⟩
def dkwX1_out_1 : List UInt8 := [167, 0, 4, 2, 172]
abbrev dktX1_out_1 : List UInt8 := dkwX1_out_1 ++ []
def dkwX1_out_0 : List UInt8 := [27, 155, 0, 24, 27, 42, 180, 0, 245, 162, 0, 16, 42, 180, 0, 151, 27, 51, 17, 0, 255, 126]
abbrev dktX1_out_0 : List UInt8 := dkwX1_out_0 ++ dktX1_out_1
theorem dksX1_out_0 : cX1_out.data.toList.drop 0 = dktX1_out_0 := by decide +kernel
theorem dksX1_out_1 : cX1_out.data.toList.drop 22 = dktX1_out_1 := dk_seg dksX1_out_0 22 rfl rfl
theorem dX1_out_0 : decode cX1_out 0 = .ok (.iload_n 1, 1) := dk_27 (dk_at dksX1_out_0 0 rfl rfl)
theorem dX1_out_1 : decode cX1_out 1 = .ok (.ifCond .lt 24, 3) := dk_155 0 24 (dk_at dksX1_out_0 1 rfl rfl)
theorem dX1_out_4 : decode cX1_out 4 = .ok (.iload_n 1, 1) := dk_27 (dk_at dksX1_out_0 4 rfl rfl)
theorem dX1_out_5 : decode cX1_out 5 = .ok (.aload_n 0, 1) := dk_42 (dk_at dksX1_out_0 5 rfl rfl)
theorem dX1_out_6 : decode cX1_out 6 = .ok (.getfield 245, 3) := dk_180 0 245 (dk_at dksX1_out_0 6 rfl rfl)
theorem dX1_out_9 : decode cX1_out 9 = .ok (.if_icmp .ge 16, 3) := dk_162 0 16 (dk_at dksX1_out_0 9 rfl rfl)
theorem dX1_out_12 : decode cX1_out 12 = .ok (.aload_n 0, 1) := dk_42 (dk_at dksX1_out_0 12 rfl rfl)
theorem dX1_out_13 : decode cX1_out 13 = .ok (.getfield 151, 3) := dk_180 0 151 (dk_at dksX1_out_0 13 rfl rfl)
theorem dX1_out_16 : decode cX1_out 16 = .ok (.iload_n 1, 1) := dk_27 (dk_at dksX1_out_0 16 rfl rfl)
theorem dX1_out_17 : decode cX1_out 17 = .ok (.baload, 1) := dk_51 (dk_at dksX1_out_0 17 rfl rfl)
theorem dX1_out_18 : decode cX1_out 18 = .ok (.sipush 255, 3) := dk_17 0 255 (dk_at dksX1_out_0 18 rfl rfl)
theorem dX1_out_21 : decode cX1_out 21 = .ok (.iand, 1) := dk_126 (dk_at dksX1_out_0 21 rfl rfl)
theorem dX1_out_22 : decode cX1_out 22 = .ok (.goto 4, 3) := dk_167 0 4 (dk_at dksX1_out_1 0 rfl rfl)
theorem dX1_out_25 : decode cX1_out 25 = .ok (.iconst (-1), 1) := dk_2 (dk_at dksX1_out_1 3 rfl rfl)
theorem dX1_out_26 : decode cX1_out 26 = .ok (.ireturn, 1) := dk_172 (dk_at dksX1_out_1 4 rfl rfl)
abbrev cX1_wrongs : ByteArray := prog_1_method_30_code
def yX1_wrongs : MethodName := ⟨RX1, "wrongs", "()I"⟩
theorem dX1_wrongs_0 : decode cX1_wrongs 0 = .ok (.iconst 0, 1) := by decide +kernel
theorem dX1_wrongs_1 : decode cX1_wrongs 1 = .ok (.ireturn, 1) := by decide +kernel
abbrev cX1_isWhole : ByteArray := prog_1_method_31_code
def yX1_isWhole : MethodName := ⟨RX1, "isWhole", "()Z"⟩
theorem dX1_isWhole_0 : decode cX1_isWhole 0 = .ok (.iconst 1, 1) := by decide +kernel
theorem dX1_isWhole_1 : decode cX1_isWhole 1 = .ok (.ireturn, 1) := by decide +kernel
abbrev cX1_feed : ByteArray := prog_1_method_3_code
def yX1_feed : MethodName := ⟨RX1, "feed", "(IIIII)V"⟩
def dkwX1_feed_2 : List UInt8 := [182, 0, 182, 177]
abbrev dktX1_feed_2 : List UInt8 := dkwX1_feed_2 ++ []
def dkwX1_feed_1 : List UInt8 := [27, 182, 0, 182, 42, 28, 182, 0, 182, 42, 29, 182, 0, 182, 42, 21, 4, 182, 0, 182, 42, 21, 5]
abbrev dktX1_feed_1 : List UInt8 := dkwX1_feed_1 ++ dktX1_feed_2
def dkwX1_feed_0 : List UInt8 := [42, 180, 0, 171, 16, 20, 96, 17, 64, 0, 164, 0, 13, 187, 0, 175, 89, 18, 177, 183, 0, 179, 191, 42]
abbrev dktX1_feed_0 : List UInt8 := dkwX1_feed_0 ++ dktX1_feed_1
theorem dksX1_feed_0 : cX1_feed.data.toList.drop 0 = dktX1_feed_0 := by decide +kernel
theorem dksX1_feed_1 : cX1_feed.data.toList.drop 24 = dktX1_feed_1 := dk_seg dksX1_feed_0 24 rfl rfl
theorem dksX1_feed_2 : cX1_feed.data.toList.drop 47 = dktX1_feed_2 := dk_seg dksX1_feed_1 23 rfl rfl
theorem dX1_feed_0 : decode cX1_feed 0 = .ok (.aload_n 0, 1) := dk_42 (dk_at dksX1_feed_0 0 rfl rfl)
theorem dX1_feed_1 : decode cX1_feed 1 = .ok (.getfield 171, 3) := dk_180 0 171 (dk_at dksX1_feed_0 1 rfl rfl)
theorem dX1_feed_4 : decode cX1_feed 4 = .ok (.bipush 20, 2) := dk_16 20 (dk_at dksX1_feed_0 4 rfl rfl)
theorem dX1_feed_6 : decode cX1_feed 6 = .ok (.iadd, 1) := dk_96 (dk_at dksX1_feed_0 6 rfl rfl)
theorem dX1_feed_7 : decode cX1_feed 7 = .ok (.sipush 16384, 3) := dk_17 64 0 (dk_at dksX1_feed_0 7 rfl rfl)
theorem dX1_feed_10 : decode cX1_feed 10 = .ok (.if_icmp .le 13, 3) := dk_164 0 13 (dk_at dksX1_feed_0 10 rfl rfl)
theorem dX1_feed_13 : decode cX1_feed 13 = .ok (.new 175, 3) := dk_187 0 175 (dk_at dksX1_feed_0 13 rfl rfl)
theorem dX1_feed_16 : decode cX1_feed 16 = .ok (.dup, 1) := dk_89 (dk_at dksX1_feed_0 16 rfl rfl)
theorem dX1_feed_17 : decode cX1_feed 17 = .ok (.ldc 177, 2) := dk_18 177 (dk_at dksX1_feed_0 17 rfl rfl)
theorem dX1_feed_19 : decode cX1_feed 19 = .ok (.invokespecial 179, 3) := dk_183 0 179 (dk_at dksX1_feed_0 19 rfl rfl)
theorem dX1_feed_22 : decode cX1_feed 22 = .ok (.athrow, 1) := dk_191 (dk_at dksX1_feed_0 22 rfl rfl)
theorem dX1_feed_23 : decode cX1_feed 23 = .ok (.aload_n 0, 1) := dk_42 (dk_at dksX1_feed_0 23 rfl rfl)
theorem dX1_feed_24 : decode cX1_feed 24 = .ok (.iload_n 1, 1) := dk_27 (dk_at dksX1_feed_1 0 rfl rfl)
theorem dX1_feed_25 : decode cX1_feed 25 = .ok (.invokevirtual 182, 3) := dk_182 0 182 (dk_at dksX1_feed_1 1 rfl rfl)
theorem dX1_feed_28 : decode cX1_feed 28 = .ok (.aload_n 0, 1) := dk_42 (dk_at dksX1_feed_1 4 rfl rfl)
theorem dX1_feed_29 : decode cX1_feed 29 = .ok (.iload_n 2, 1) := dk_28 (dk_at dksX1_feed_1 5 rfl rfl)
theorem dX1_feed_30 : decode cX1_feed 30 = .ok (.invokevirtual 182, 3) := dk_182 0 182 (dk_at dksX1_feed_1 6 rfl rfl)
theorem dX1_feed_33 : decode cX1_feed 33 = .ok (.aload_n 0, 1) := dk_42 (dk_at dksX1_feed_1 9 rfl rfl)
theorem dX1_feed_34 : decode cX1_feed 34 = .ok (.iload_n 3, 1) := dk_29 (dk_at dksX1_feed_1 10 rfl rfl)
theorem dX1_feed_35 : decode cX1_feed 35 = .ok (.invokevirtual 182, 3) := dk_182 0 182 (dk_at dksX1_feed_1 11 rfl rfl)
theorem dX1_feed_38 : decode cX1_feed 38 = .ok (.aload_n 0, 1) := dk_42 (dk_at dksX1_feed_1 14 rfl rfl)
theorem dX1_feed_39 : decode cX1_feed 39 = .ok (.iload 4, 2) := dk_21 4 (dk_at dksX1_feed_1 15 rfl rfl)
theorem dX1_feed_41 : decode cX1_feed 41 = .ok (.invokevirtual 182, 3) := dk_182 0 182 (dk_at dksX1_feed_1 17 rfl rfl)
theorem dX1_feed_44 : decode cX1_feed 44 = .ok (.aload_n 0, 1) := dk_42 (dk_at dksX1_feed_1 20 rfl rfl)
theorem dX1_feed_45 : decode cX1_feed 45 = .ok (.iload 5, 2) := dk_21 5 (dk_at dksX1_feed_1 21 rfl rfl)
theorem dX1_feed_47 : decode cX1_feed 47 = .ok (.invokevirtual 182, 3) := dk_182 0 182 (dk_at dksX1_feed_2 0 rfl rfl)
theorem dX1_feed_50 : decode cX1_feed 50 = .ok (.return_, 1) := dk_177 (dk_at dksX1_feed_2 3 rfl rfl)
abbrev cX1_take : ByteArray := prog_1_method_2_code
def yX1_take : MethodName := ⟨RX1, "take", "(I)V"⟩
def dkwX1_take_1 : List UInt8 := [122, 145, 84, 132, 2, 248, 167, 255, 229, 177]
abbrev dktX1_take_1 : List UInt8 := dkwX1_take_1 ++ []
def dkwX1_take_0 : List UInt8 := [16, 24, 61, 28, 155, 0, 29, 42, 180, 0, 7, 42, 89, 180, 0, 171, 90, 4, 96, 181, 0, 171, 27, 28]
abbrev dktX1_take_0 : List UInt8 := dkwX1_take_0 ++ dktX1_take_1
theorem dksX1_take_0 : cX1_take.data.toList.drop 0 = dktX1_take_0 := by decide +kernel
theorem dksX1_take_1 : cX1_take.data.toList.drop 24 = dktX1_take_1 := dk_seg dksX1_take_0 24 rfl rfl
theorem dX1_take_0 : decode cX1_take 0 = .ok (.bipush 24, 2) := dk_16 24 (dk_at dksX1_take_0 0 rfl rfl)
theorem dX1_take_2 : decode cX1_take 2 = .ok (.istore_n 2, 1) := dk_61 (dk_at dksX1_take_0 2 rfl rfl)
theorem dX1_take_3 : decode cX1_take 3 = .ok (.iload_n 2, 1) := dk_28 (dk_at dksX1_take_0 3 rfl rfl)
theorem dX1_take_4 : decode cX1_take 4 = .ok (.ifCond .lt 29, 3) := dk_155 0 29 (dk_at dksX1_take_0 4 rfl rfl)
theorem dX1_take_7 : decode cX1_take 7 = .ok (.aload_n 0, 1) := dk_42 (dk_at dksX1_take_0 7 rfl rfl)
theorem dX1_take_8 : decode cX1_take 8 = .ok (.getfield 7, 3) := dk_180 0 7 (dk_at dksX1_take_0 8 rfl rfl)
theorem dX1_take_11 : decode cX1_take 11 = .ok (.aload_n 0, 1) := dk_42 (dk_at dksX1_take_0 11 rfl rfl)
theorem dX1_take_12 : decode cX1_take 12 = .ok (.dup, 1) := dk_89 (dk_at dksX1_take_0 12 rfl rfl)
theorem dX1_take_13 : decode cX1_take 13 = .ok (.getfield 171, 3) := dk_180 0 171 (dk_at dksX1_take_0 13 rfl rfl)
theorem dX1_take_16 : decode cX1_take 16 = .ok (.dup_x1, 1) := dk_90 (dk_at dksX1_take_0 16 rfl rfl)
theorem dX1_take_17 : decode cX1_take 17 = .ok (.iconst 1, 1) := dk_4 (dk_at dksX1_take_0 17 rfl rfl)
theorem dX1_take_18 : decode cX1_take 18 = .ok (.iadd, 1) := dk_96 (dk_at dksX1_take_0 18 rfl rfl)
theorem dX1_take_19 : decode cX1_take 19 = .ok (.putfield 171, 3) := dk_181 0 171 (dk_at dksX1_take_0 19 rfl rfl)
theorem dX1_take_22 : decode cX1_take 22 = .ok (.iload_n 1, 1) := dk_27 (dk_at dksX1_take_0 22 rfl rfl)
theorem dX1_take_23 : decode cX1_take 23 = .ok (.iload_n 2, 1) := dk_28 (dk_at dksX1_take_0 23 rfl rfl)
theorem dX1_take_24 : decode cX1_take 24 = .ok (.ishr, 1) := dk_122 (dk_at dksX1_take_1 0 rfl rfl)
theorem dX1_take_25 : decode cX1_take 25 = .ok (.i2b, 1) := dk_145 (dk_at dksX1_take_1 1 rfl rfl)
theorem dX1_take_26 : decode cX1_take 26 = .ok (.bastore, 1) := dk_84 (dk_at dksX1_take_1 2 rfl rfl)
theorem dX1_take_27 : decode cX1_take 27 = .ok (.iinc 2 (-8), 3) := dk_132 2 248 (dk_at dksX1_take_1 3 rfl rfl)
theorem dX1_take_30 : decode cX1_take 30 = .ok (.goto (-27), 3) := dk_167 255 229 (dk_at dksX1_take_1 6 rfl rfl)
theorem dX1_take_33 : decode cX1_take 33 = .ok (.return_, 1) := dk_177 (dk_at dksX1_take_1 9 rfl rfl)
abbrev cX1_end : ByteArray := prog_1_method_4_code
def yX1_end : MethodName := ⟨RX1, "end", "(I)I"⟩
def dkwX1_end_1 : List UInt8 := [180, 0, 171, 61, 42, 27, 181, 0, 171, 28, 172]
abbrev dktX1_end_1 : List UInt8 := dkwX1_end_1 ++ []
def dkwX1_end_0 : List UInt8 := [27, 155, 0, 11, 27, 42, 180, 0, 171, 164, 0, 13, 187, 0, 186, 89, 18, 188, 183, 0, 190, 191, 42]
abbrev dktX1_end_0 : List UInt8 := dkwX1_end_0 ++ dktX1_end_1
theorem dksX1_end_0 : cX1_end.data.toList.drop 0 = dktX1_end_0 := by decide +kernel
theorem dksX1_end_1 : cX1_end.data.toList.drop 23 = dktX1_end_1 := dk_seg dksX1_end_0 23 rfl rfl
theorem dX1_end_0 : decode cX1_end 0 = .ok (.iload_n 1, 1) := dk_27 (dk_at dksX1_end_0 0 rfl rfl)
theorem dX1_end_1 : decode cX1_end 1 = .ok (.ifCond .lt 11, 3) := dk_155 0 11 (dk_at dksX1_end_0 1 rfl rfl)
theorem dX1_end_4 : decode cX1_end 4 = .ok (.iload_n 1, 1) := dk_27 (dk_at dksX1_end_0 4 rfl rfl)
theorem dX1_end_5 : decode cX1_end 5 = .ok (.aload_n 0, 1) := dk_42 (dk_at dksX1_end_0 5 rfl rfl)
theorem dX1_end_6 : decode cX1_end 6 = .ok (.getfield 171, 3) := dk_180 0 171 (dk_at dksX1_end_0 6 rfl rfl)
theorem dX1_end_9 : decode cX1_end 9 = .ok (.if_icmp .le 13, 3) := dk_164 0 13 (dk_at dksX1_end_0 9 rfl rfl)
theorem dX1_end_12 : decode cX1_end 12 = .ok (.new 186, 3) := dk_187 0 186 (dk_at dksX1_end_0 12 rfl rfl)
theorem dX1_end_15 : decode cX1_end 15 = .ok (.dup, 1) := dk_89 (dk_at dksX1_end_0 15 rfl rfl)
theorem dX1_end_16 : decode cX1_end 16 = .ok (.ldc 188, 2) := dk_18 188 (dk_at dksX1_end_0 16 rfl rfl)
theorem dX1_end_18 : decode cX1_end 18 = .ok (.invokespecial 190, 3) := dk_183 0 190 (dk_at dksX1_end_0 18 rfl rfl)
theorem dX1_end_21 : decode cX1_end 21 = .ok (.athrow, 1) := dk_191 (dk_at dksX1_end_0 21 rfl rfl)
theorem dX1_end_22 : decode cX1_end 22 = .ok (.aload_n 0, 1) := dk_42 (dk_at dksX1_end_0 22 rfl rfl)
theorem dX1_end_23 : decode cX1_end 23 = .ok (.getfield 171, 3) := dk_180 0 171 (dk_at dksX1_end_1 0 rfl rfl)
theorem dX1_end_26 : decode cX1_end 26 = .ok (.istore_n 2, 1) := dk_61 (dk_at dksX1_end_1 3 rfl rfl)
theorem dX1_end_27 : decode cX1_end 27 = .ok (.aload_n 0, 1) := dk_42 (dk_at dksX1_end_1 4 rfl rfl)
theorem dX1_end_28 : decode cX1_end 28 = .ok (.iload_n 1, 1) := dk_27 (dk_at dksX1_end_1 5 rfl rfl)
theorem dX1_end_29 : decode cX1_end 29 = .ok (.putfield 171, 3) := dk_181 0 171 (dk_at dksX1_end_1 6 rfl rfl)
theorem dX1_end_32 : decode cX1_end 32 = .ok (.iload_n 2, 1) := dk_28 (dk_at dksX1_end_1 9 rfl rfl)
theorem dX1_end_33 : decode cX1_end 33 = .ok (.ireturn, 1) := dk_172 (dk_at dksX1_end_1 10 rfl rfl)
theorem q358 : (Jvm.Cond.initialized "ContractLedger") ∈ lw_all := lw_g (lw_at lw_m1 1 rfl) rfl
theorem q402 : (Jvm.Cond.instantiable "ContractLedger" (33 : Nat)) ∈ lw_all := lw_g (lw_at lw_m1 45 rfl) rfl
theorem q404 : (Jvm.Cond.instanceMethod ({ cls := "ContractLedger", name := "<init>", desc := "()V" } : Jvm.MethodName)) ∈ lw_all := lw_g (lw_at lw_m1 47 rfl) rfl
theorem q405 : (Jvm.Cond.code ({ cls := "ContractLedger", name := "<init>", desc := "()V" } : Jvm.MethodName) prog_1_method_1_code (2 : Nat) (Option.none : Option Jvm.ClassFile.FieldType)) ∈ lw_all := lw_g (lw_at lw_m1 48 rfl) rfl
theorem q406 : (Jvm.Cond.methodLink "ContractLedger" (1 : Nat) ({ cls := "java/lang/Object", name := "<init>", desc := "()V" } : Jvm.MethodName)) ∈ lw_all := lw_g (lw_at lw_m1 49 rfl) rfl
theorem q409 : (Jvm.Cond.classLink "ContractLedger" (13 : Nat) "ContractLedger$Failing") ∈ lw_all := lw_g (lw_at lw_m1 52 rfl) rfl
theorem q411 : (Jvm.Cond.methodLinkNest "ContractLedger" (15 : Nat) ({ cls := "ContractLedger$Failing", name := "<init>", desc := "()V" } : Jvm.MethodName) "ContractLedger") ∈ lw_tbl := lw_at lw_m1 54 rfl
theorem q490 : (Jvm.Cond.classLink "ContractLedger" (20 : Nat) "ContractLedger$Word") ∈ lw_all := lw_g (lw_at lw_m1 133 rfl) rfl
theorem q492 : (Jvm.Cond.methodLink "ContractLedger" (22 : Nat) ({ cls := "ContractLedger$Word", name := "<init>", desc := "()V" } : Jvm.MethodName)) ∈ lw_all := lw_g (lw_at lw_m1 135 rfl) rfl
theorem q588 : (Jvm.Cond.classLink "ContractLedger" (27 : Nat) "ContractLedger$Terms") ∈ lw_all := lw_g (lw_at lw_m1 231 rfl) rfl
theorem q590 : (Jvm.Cond.methodLink "ContractLedger" (29 : Nat) ({ cls := "ContractLedger$Terms", name := "<init>", desc := "(LContractLedger$Word;)V" } : Jvm.MethodName)) ∈ lw_all := lw_g (lw_at lw_m1 233 rfl) rfl
theorem q683 : (Jvm.Cond.fieldLink "ContractLedger" (220 : Nat) "ContractLedger$Terms" "counts" "[I") ∈ lw_all := lw_g (lw_at lw_m2 86 rfl) rfl
theorem q689 : (Jvm.Cond.fieldLink "ContractLedger" (199 : Nat) "ContractLedger$Terms" "wrong" "I") ∈ lw_all := lw_g (lw_at lw_m2 92 rfl) rfl
theorem q720 : (Jvm.Cond.classLink "ContractLedger" (36 : Nat) "ContractLedger$Types") ∈ lw_all := lw_g (lw_at lw_m2 123 rfl) rfl
theorem q722 : (Jvm.Cond.methodLink "ContractLedger" (38 : Nat) ({ cls := "ContractLedger$Types", name := "<init>", desc := "()V" } : Jvm.MethodName)) ∈ lw_all := lw_g (lw_at lw_m2 125 rfl) rfl
theorem q793 : (Jvm.Cond.classLink "ContractLedger" (43 : Nat) "ContractLedger$Memory") ∈ lw_all := lw_g (lw_at lw_m2 196 rfl) rfl
theorem q795 : (Jvm.Cond.methodLink "ContractLedger" (45 : Nat) ({ cls := "ContractLedger$Memory", name := "<init>", desc := "(LContractLedger$Failing;)V" } : Jvm.MethodName)) ∈ lw_all := lw_g (lw_at lw_m2 198 rfl) rfl
theorem q830 : (Jvm.Cond.classLink "ContractLedger" (52 : Nat) "ContractLedger$Order") ∈ lw_all := lw_g (lw_at lw_m2 233 rfl) rfl
theorem q832 : (Jvm.Cond.methodLink "ContractLedger" (54 : Nat) ({ cls := "ContractLedger$Order", name := "<init>", desc := "(LContractLedger$Memory;LContractLedger$Types;)V" } : Jvm.MethodName)) ∈ lw_all := lw_g (lw_at lw_m2 235 rfl) rfl
theorem q851 : (Jvm.Cond.classLink "ContractLedger" (61 : Nat) "ContractLedger$Trees") ∈ lw_all := lw_g (lw_at lw_m3 14 rfl) rfl
theorem q853 : (Jvm.Cond.methodLink "ContractLedger" (63 : Nat) ({ cls := "ContractLedger$Trees", name := "<init>", desc := "(LContractLedger$Memory;LContractLedger$Order;)V" } : Jvm.MethodName)) ∈ lw_all := lw_g (lw_at lw_m3 16 rfl) rfl
theorem q864 : (Jvm.Cond.classLink "ContractLedger" (70 : Nat) "ContractLedger$Addresses") ∈ lw_all := lw_g (lw_at lw_m3 27 rfl) rfl
theorem q866 : (Jvm.Cond.methodLinkNest "ContractLedger" (72 : Nat) ({ cls := "ContractLedger$Addresses", name := "<init>", desc := "()V" } : Jvm.MethodName) "ContractLedger") ∈ lw_tbl := lw_at lw_m3 29 rfl
theorem q879 : (Jvm.Cond.classLink "ContractLedger" (77 : Nat) "ContractLedger$Data") ∈ lw_all := lw_g (lw_at lw_m3 42 rfl) rfl
theorem q881 : (Jvm.Cond.methodLink "ContractLedger" (79 : Nat) ({ cls := "ContractLedger$Data", name := "<init>", desc := "(LContractLedger$Terms;LContractLedger$Types;LContractLedger$Memory;LContractLedger$Order;LContractLedger$Trees;LContractLedger$Addresses;)V" } : Jvm.MethodName)) ∈ lw_all := lw_g (lw_at lw_m3 44 rfl) rfl
theorem q921 : (Jvm.Cond.classLink "ContractLedger" (86 : Nat) "ContractLedger$Forms") ∈ lw_all := lw_g (lw_at lw_m3 84 rfl) rfl
theorem q923 : (Jvm.Cond.methodLink "ContractLedger" (88 : Nat) ({ cls := "ContractLedger$Forms", name := "<init>", desc := "(LContractLedger$Types;LContractLedger$Memory;LContractLedger$Order;LContractLedger$Trees;LContractLedger$Addresses;)V" } : Jvm.MethodName)) ∈ lw_all := lw_g (lw_at lw_m3 86 rfl) rfl
theorem q938 : (Jvm.Cond.fieldLink "ContractLedger" (251 : Nat) "ContractLedger$Forms" "size" "I") ∈ lw_all := lw_g (lw_at lw_m3 101 rfl) rfl
theorem q971 : (Jvm.Cond.classLink "ContractLedger" (95 : Nat) "ContractLedger$Names") ∈ lw_all := lw_g (lw_at lw_m3 134 rfl) rfl
theorem q973 : (Jvm.Cond.methodLink "ContractLedger" (97 : Nat) ({ cls := "ContractLedger$Names", name := "<init>", desc := "()V" } : Jvm.MethodName)) ∈ lw_all := lw_g (lw_at lw_m3 136 rfl) rfl
theorem q1013 : (Jvm.Cond.classLink "ContractLedger" (102 : Nat) "ContractLedger$Scripts") ∈ lw_all := lw_g (lw_at lw_m3 176 rfl) rfl
theorem q1015 : (Jvm.Cond.methodLinkNest "ContractLedger" (104 : Nat) ({ cls := "ContractLedger$Scripts", name := "<init>", desc := "()V" } : Jvm.MethodName) "ContractLedger") ∈ lw_tbl := lw_at lw_m3 178 rfl
theorem q1025 : (Jvm.Cond.fieldLink "ContractLedger" (395 : Nat) "ContractLedger$Scripts" "storages" "[I") ∈ lw_all := lw_g (lw_at lw_m3 188 rfl) rfl
theorem q1090 : (Jvm.Cond.classLink "ContractLedger" (109 : Nat) "ContractLedger$Typer") ∈ lw_all := lw_g (lw_at lw_m4 13 rfl) rfl
theorem q1092 : (Jvm.Cond.methodLink "ContractLedger" (111 : Nat) ({ cls := "ContractLedger$Typer", name := "<init>", desc := "(LContractLedger$Terms;LContractLedger$Types;LContractLedger$Names;LContractLedger$Scripts;LContractLedger$Data;LContractLedger$Memory;)V" } : Jvm.MethodName)) ∈ lw_all := lw_g (lw_at lw_m4 15 rfl) rfl
theorem q1115 : (Jvm.Cond.fieldLink "ContractLedger" (215 : Nat) "ContractLedger$Typer" "place" "I") ∈ lw_all := lw_g (lw_at lw_m4 38 rfl) rfl
theorem q1153 : (Jvm.Cond.classLink "ContractLedger" (118 : Nat) "ContractLedger$World") ∈ lw_all := lw_g (lw_at lw_m4 76 rfl) rfl
theorem q1155 : (Jvm.Cond.methodLinkNest "ContractLedger" (120 : Nat) ({ cls := "ContractLedger$World", name := "<init>", desc := "()V" } : Jvm.MethodName) "ContractLedger") ∈ lw_tbl := lw_at lw_m4 78 rfl
theorem q1161 : (Jvm.Cond.fieldLink "ContractLedger" (265 : Nat) "ContractLedger$World" "balances" "[J") ∈ lw_all := lw_g (lw_at lw_m4 84 rfl) rfl
theorem q1164 : (Jvm.Cond.fieldLink "ContractLedger" (261 : Nat) "ContractLedger$World" "exists" "[Z") ∈ lw_all := lw_g (lw_at lw_m4 87 rfl) rfl
theorem q1168 : (Jvm.Cond.fieldLink "ContractLedger" (396 : Nat) "ContractLedger$World" "scripts" "[I") ∈ lw_all := lw_g (lw_at lw_m4 91 rfl) rfl
theorem q1172 : (Jvm.Cond.fieldLink "ContractLedger" (392 : Nat) "ContractLedger$World" "storages" "[I") ∈ lw_all := lw_g (lw_at lw_m4 95 rfl) rfl
theorem q1175 : (Jvm.Cond.fieldLink "ContractLedger" (383 : Nat) "ContractLedger$World" "paid" "[I") ∈ lw_all := lw_g (lw_at lw_m4 98 rfl) rfl
theorem q1177 : (Jvm.Cond.fieldLink "ContractLedger" (335 : Nat) "ContractLedger$World" "counters" "[I") ∈ lw_all := lw_g (lw_at lw_m4 100 rfl) rfl
theorem q1178 : (Jvm.Cond.fieldLink "ContractLedger" (252 : Nat) "ContractLedger$World" "accounts" "I") ∈ lw_all := lw_g (lw_at lw_m4 101 rfl) rfl
theorem q1181 : (Jvm.Cond.fieldLink "ContractLedger" (375 : Nat) "ContractLedger$World" "next" "I") ∈ lw_all := lw_g (lw_at lw_m4 104 rfl) rfl
theorem q1185 : (Jvm.Cond.fieldLink "ContractLedger" (389 : Nat) "ContractLedger$World" "stored" "I") ∈ lw_all := lw_g (lw_at lw_m4 108 rfl) rfl
theorem q1186 : (Jvm.Cond.fieldLink "ContractLedger" (338 : Nat) "ContractLedger$World" "collected" "J") ∈ lw_all := lw_g (lw_at lw_m4 109 rfl) rfl
theorem q1189 : (Jvm.Cond.fieldLink "ContractLedger" (386 : Nat) "ContractLedger$World" "burnt" "J") ∈ lw_all := lw_g (lw_at lw_m4 112 rfl) rfl
theorem q1190 : (Jvm.Cond.fieldLink "ContractLedger" (257 : Nat) "ContractLedger$World" "made" "J") ∈ lw_all := lw_g (lw_at lw_m4 113 rfl) rfl
theorem q1191 : (Jvm.Cond.fieldLink "ContractLedger" (274 : Nat) "ContractLedger$World" "time" "J") ∈ lw_all := lw_g (lw_at lw_m4 114 rfl) rfl
theorem q1193 : (Jvm.Cond.fieldLink "ContractLedger" (277 : Nat) "ContractLedger$World" "level" "I") ∈ lw_all := lw_g (lw_at lw_m4 116 rfl) rfl
theorem q1249 : (Jvm.Cond.classLink "ContractLedger" (125 : Nat) "ContractLedger$Gas") ∈ lw_all := lw_g (lw_at lw_m4 172 rfl) rfl
theorem q1251 : (Jvm.Cond.methodLink "ContractLedger" (127 : Nat) ({ cls := "ContractLedger$Gas", name := "<init>", desc := "(LContractLedger$Failing;)V" } : Jvm.MethodName)) ∈ lw_all := lw_g (lw_at lw_m4 174 rfl) rfl
theorem q1265 : (Jvm.Cond.classLink "ContractLedger" (132 : Nat) "ContractLedger$Machine") ∈ lw_all := lw_g (lw_at lw_m4 188 rfl) rfl
theorem q1267 : (Jvm.Cond.methodLink "ContractLedger" (134 : Nat) ({ cls := "ContractLedger$Machine", name := "<init>", desc := "(LContractLedger$Memory;LContractLedger$Types;LContractLedger$Scripts;LContractLedger$Names;LContractLedger$Order;LContractLedger$Trees;LContractLedger$Forms;LContractLedger$Addresses;LContractLedger$World;LContractLedger$Failing;LContractLedger$Gas;)V" } : Jvm.MethodName)) ∈ lw_all := lw_g (lw_at lw_m4 190 rfl) rfl
theorem q1396 : (Jvm.Cond.classLink "ContractLedger" (141 : Nat) "ContractLedger$Doing") ∈ lw_all := lw_g (lw_at lw_m5 79 rfl) rfl
theorem q1398 : (Jvm.Cond.methodLink "ContractLedger" (143 : Nat) ({ cls := "ContractLedger$Doing", name := "<init>", desc := "(LContractLedger$Terms;LContractLedger$Types;LContractLedger$Names;LContractLedger$Scripts;LContractLedger$Typer;LContractLedger$Data;LContractLedger$Memory;LContractLedger$Forms;LContractLedger$World;LContractLedger$Failing;LContractLedger$Gas;LContractLedger$Machine;)V" } : Jvm.MethodName)) ∈ lw_all := lw_g (lw_at lw_m5 81 rfl) rfl
theorem q1419 : (Jvm.Cond.fieldLink "ContractLedger" (401 : Nat) "ContractLedger$Doing" "failed" "[B") ∈ lw_all := lw_g (lw_at lw_m5 102 rfl) rfl
theorem q1421 : (Jvm.Cond.fieldLink "ContractLedger" (398 : Nat) "ContractLedger$Doing" "failedSize" "I") ∈ lw_all := lw_g (lw_at lw_m5 104 rfl) rfl
theorem q1423 : (Jvm.Cond.fieldLink "ContractLedger" (202 : Nat) "ContractLedger$Doing" "place" "I") ∈ lw_all := lw_g (lw_at lw_m5 106 rfl) rfl
theorem q1493 : (Jvm.Cond.constant "ContractLedger" (150 : Nat) (65536 : Int32)) ∈ lw_all := lw_g (lw_at lw_m5 176 rfl) rfl
theorem q1494 : (Jvm.Cond.classLink "ContractLedger" (154 : Nat) "ContractLedger$Content") ∈ lw_all := lw_g (lw_at lw_m5 177 rfl) rfl
theorem q1496 : (Jvm.Cond.classLink "ContractLedger" (163 : Nat) "ContractLedger$Receipt") ∈ lw_all := lw_g (lw_at lw_m5 179 rfl) rfl
theorem q1499 : (Jvm.Cond.methodLinkNest "ContractLedger" (169 : Nat) ({ cls := "ContractLedger$Content", name := "<init>", desc := "()V" } : Jvm.MethodName) "ContractLedger") ∈ lw_tbl := lw_at lw_m5 182 rfl
theorem q1504 : (Jvm.Cond.fieldLink "ContractLedger" (311 : Nat) "ContractLedger$Content" "origination" "Z") ∈ lw_all := lw_g (lw_at lw_m5 187 rfl) rfl
theorem q1505 : (Jvm.Cond.fieldLink "ContractLedger" (314 : Nat) "ContractLedger$Content" "fee" "J") ∈ lw_all := lw_g (lw_at lw_m5 188 rfl) rfl
theorem q1507 : (Jvm.Cond.fieldLink "ContractLedger" (315 : Nat) "ContractLedger$Content" "gas" "I") ∈ lw_all := lw_g (lw_at lw_m5 190 rfl) rfl
theorem q1509 : (Jvm.Cond.fieldLink "ContractLedger" (317 : Nat) "ContractLedger$Content" "bytes" "I") ∈ lw_all := lw_g (lw_at lw_m5 192 rfl) rfl
theorem q1511 : (Jvm.Cond.fieldLink "ContractLedger" (320 : Nat) "ContractLedger$Content" "amount" "J") ∈ lw_all := lw_g (lw_at lw_m5 194 rfl) rfl
theorem q1513 : (Jvm.Cond.fieldLink "ContractLedger" (323 : Nat) "ContractLedger$Content" "start" "I") ∈ lw_all := lw_g (lw_at lw_m5 196 rfl) rfl
theorem q1515 : (Jvm.Cond.fieldLink "ContractLedger" (332 : Nat) "ContractLedger$Content" "end" "I") ∈ lw_all := lw_g (lw_at lw_m5 198 rfl) rfl
theorem q1532 : (Jvm.Cond.methodLinkNest "ContractLedger" (170 : Nat) ({ cls := "ContractLedger$Receipt", name := "<init>", desc := "()V" } : Jvm.MethodName) "ContractLedger") ∈ lw_tbl := lw_at lw_m5 215 rfl
theorem q1538 : (Jvm.Cond.fieldLink "ContractLedger" (358 : Nat) "ContractLedger$Receipt" "what" "I") ∈ lw_all := lw_g (lw_at lw_m5 221 rfl) rfl
theorem q1541 : (Jvm.Cond.fieldLink "ContractLedger" (364 : Nat) "ContractLedger$Receipt" "why" "I") ∈ lw_all := lw_g (lw_at lw_m5 224 rfl) rfl
theorem q1544 : (Jvm.Cond.fieldLink "ContractLedger" (367 : Nat) "ContractLedger$Receipt" "gas" "I") ∈ lw_all := lw_g (lw_at lw_m5 227 rfl) rfl
theorem q1547 : (Jvm.Cond.fieldLink "ContractLedger" (368 : Nat) "ContractLedger$Receipt" "operations" "I") ∈ lw_all := lw_g (lw_at lw_m5 230 rfl) rfl
theorem q1550 : (Jvm.Cond.fieldLink "ContractLedger" (371 : Nat) "ContractLedger$Receipt" "bytes" "I") ∈ lw_all := lw_g (lw_at lw_m5 233 rfl) rfl
theorem q1553 : (Jvm.Cond.fieldLink "ContractLedger" (372 : Nat) "ContractLedger$Receipt" "contract" "I") ∈ lw_all := lw_g (lw_at lw_m5 236 rfl) rfl
theorem q1567 : (Jvm.Cond.fieldLink "ContractLedger" (7 : Nat) "ContractLedger" "coming" "[B") ∈ lw_all := lw_g (lw_at lw_m6 10 rfl) rfl
theorem q1568 : (Jvm.Cond.fieldLink "ContractLedger" (171 : Nat) "ContractLedger" "size" "I") ∈ lw_all := lw_g (lw_at lw_m6 11 rfl) rfl
theorem q1569 : (Jvm.Cond.fieldLink "ContractLedger" (16 : Nat) "ContractLedger" "failing" "LContractLedger$Failing;") ∈ lw_all := lw_g (lw_at lw_m6 12 rfl) rfl
theorem q1570 : (Jvm.Cond.fieldLink "ContractLedger" (23 : Nat) "ContractLedger" "words" "LContractLedger$Word;") ∈ lw_all := lw_g (lw_at lw_m6 13 rfl) rfl
theorem q1571 : (Jvm.Cond.fieldLink "ContractLedger" (32 : Nat) "ContractLedger" "terms" "LContractLedger$Terms;") ∈ lw_all := lw_g (lw_at lw_m6 14 rfl) rfl
theorem q1572 : (Jvm.Cond.fieldLink "ContractLedger" (39 : Nat) "ContractLedger" "types" "LContractLedger$Types;") ∈ lw_all := lw_g (lw_at lw_m6 15 rfl) rfl
theorem q1573 : (Jvm.Cond.fieldLink "ContractLedger" (48 : Nat) "ContractLedger" "memory" "LContractLedger$Memory;") ∈ lw_all := lw_g (lw_at lw_m6 16 rfl) rfl
theorem q1574 : (Jvm.Cond.fieldLink "ContractLedger" (57 : Nat) "ContractLedger" "order" "LContractLedger$Order;") ∈ lw_all := lw_g (lw_at lw_m6 17 rfl) rfl
theorem q1575 : (Jvm.Cond.fieldLink "ContractLedger" (66 : Nat) "ContractLedger" "trees" "LContractLedger$Trees;") ∈ lw_all := lw_g (lw_at lw_m6 18 rfl) rfl
theorem q1576 : (Jvm.Cond.fieldLink "ContractLedger" (73 : Nat) "ContractLedger" "addresses" "LContractLedger$Addresses;") ∈ lw_all := lw_g (lw_at lw_m6 19 rfl) rfl
theorem q1577 : (Jvm.Cond.fieldLink "ContractLedger" (82 : Nat) "ContractLedger" "data" "LContractLedger$Data;") ∈ lw_all := lw_g (lw_at lw_m6 20 rfl) rfl
theorem q1578 : (Jvm.Cond.fieldLink "ContractLedger" (91 : Nat) "ContractLedger" "forms" "LContractLedger$Forms;") ∈ lw_all := lw_g (lw_at lw_m6 21 rfl) rfl
theorem q1579 : (Jvm.Cond.fieldLink "ContractLedger" (98 : Nat) "ContractLedger" "names" "LContractLedger$Names;") ∈ lw_all := lw_g (lw_at lw_m6 22 rfl) rfl
theorem q1580 : (Jvm.Cond.fieldLink "ContractLedger" (105 : Nat) "ContractLedger" "scripts" "LContractLedger$Scripts;") ∈ lw_all := lw_g (lw_at lw_m6 23 rfl) rfl
theorem q1581 : (Jvm.Cond.fieldLink "ContractLedger" (114 : Nat) "ContractLedger" "typer" "LContractLedger$Typer;") ∈ lw_all := lw_g (lw_at lw_m6 24 rfl) rfl
theorem q1582 : (Jvm.Cond.fieldLink "ContractLedger" (121 : Nat) "ContractLedger" "world" "LContractLedger$World;") ∈ lw_all := lw_g (lw_at lw_m6 25 rfl) rfl
theorem q1583 : (Jvm.Cond.fieldLink "ContractLedger" (128 : Nat) "ContractLedger" "gas" "LContractLedger$Gas;") ∈ lw_all := lw_g (lw_at lw_m6 26 rfl) rfl
theorem q1584 : (Jvm.Cond.fieldLink "ContractLedger" (137 : Nat) "ContractLedger" "machine" "LContractLedger$Machine;") ∈ lw_all := lw_g (lw_at lw_m6 27 rfl) rfl
theorem q1585 : (Jvm.Cond.fieldLink "ContractLedger" (146 : Nat) "ContractLedger" "doing" "LContractLedger$Doing;") ∈ lw_all := lw_g (lw_at lw_m6 28 rfl) rfl
theorem q1586 : (Jvm.Cond.fieldLink "ContractLedger" (151 : Nat) "ContractLedger" "product" "[B") ∈ lw_all := lw_g (lw_at lw_m6 29 rfl) rfl
theorem q1587 : (Jvm.Cond.fieldLink "ContractLedger" (245 : Nat) "ContractLedger" "produced" "I") ∈ lw_all := lw_g (lw_at lw_m6 30 rfl) rfl
theorem q1588 : (Jvm.Cond.fieldLink "ContractLedger" (283 : Nat) "ContractLedger" "hasBatch" "Z") ∈ lw_all := lw_g (lw_at lw_m6 31 rfl) rfl
theorem q1589 : (Jvm.Cond.fieldLink "ContractLedger" (287 : Nat) "ContractLedger" "account" "I") ∈ lw_all := lw_g (lw_at lw_m6 32 rfl) rfl
theorem q1590 : (Jvm.Cond.fieldLink "ContractLedger" (290 : Nat) "ContractLedger" "counter" "I") ∈ lw_all := lw_g (lw_at lw_m6 33 rfl) rfl
theorem q1591 : (Jvm.Cond.fieldLink "ContractLedger" (293 : Nat) "ContractLedger" "fee" "J") ∈ lw_all := lw_g (lw_at lw_m6 34 rfl) rfl
theorem q1592 : (Jvm.Cond.fieldLink "ContractLedger" (296 : Nat) "ContractLedger" "gasLimit" "I") ∈ lw_all := lw_g (lw_at lw_m6 35 rfl) rfl
theorem q1593 : (Jvm.Cond.fieldLink "ContractLedger" (299 : Nat) "ContractLedger" "bytesLimit" "I") ∈ lw_all := lw_g (lw_at lw_m6 36 rfl) rfl
theorem q1594 : (Jvm.Cond.fieldLink "ContractLedger" (156 : Nat) "ContractLedger" "contents" "[LContractLedger$Content;") ∈ lw_all := lw_g (lw_at lw_m6 37 rfl) rfl
theorem q1595 : (Jvm.Cond.fieldLink "ContractLedger" (302 : Nat) "ContractLedger" "count" "I") ∈ lw_all := lw_g (lw_at lw_m6 38 rfl) rfl
theorem q1596 : (Jvm.Cond.fieldLink "ContractLedger" (160 : Nat) "ContractLedger" "texts" "[B") ∈ lw_all := lw_g (lw_at lw_m6 39 rfl) rfl
theorem q1597 : (Jvm.Cond.fieldLink "ContractLedger" (305 : Nat) "ContractLedger" "textTop" "I") ∈ lw_all := lw_g (lw_at lw_m6 40 rfl) rfl
theorem q1598 : (Jvm.Cond.fieldLink "ContractLedger" (165 : Nat) "ContractLedger" "receipts" "[LContractLedger$Receipt;") ∈ lw_all := lw_g (lw_at lw_m6 41 rfl) rfl
theorem q1599 : (Jvm.Cond.fieldLink "ContractLedger" (341 : Nat) "ContractLedger" "receiptCount" "I") ∈ lw_all := lw_g (lw_at lw_m6 42 rfl) rfl
theorem q1600 : (Jvm.Cond.laysFinal "ContractLedger" "ContractLedger" "coming" "[B") ∈ lw_all := lw_g (lw_at lw_m6 43 rfl) rfl
theorem q1601 : (Jvm.Cond.soleField "ContractLedger" "coming") ∈ lw_all := lw_g (lw_at lw_m6 44 rfl) rfl
theorem q1602 : (Jvm.Cond.lays "ContractLedger" "ContractLedger" "size" "I") ∈ lw_all := lw_g (lw_at lw_m6 45 rfl) rfl
theorem q1603 : (Jvm.Cond.soleField "ContractLedger" "size") ∈ lw_all := lw_g (lw_at lw_m6 46 rfl) rfl
theorem q1604 : (Jvm.Cond.laysFinal "ContractLedger" "ContractLedger" "failing" "LContractLedger$Failing;") ∈ lw_all := lw_g (lw_at lw_m6 47 rfl) rfl
theorem q1605 : (Jvm.Cond.soleField "ContractLedger" "failing") ∈ lw_all := lw_g (lw_at lw_m6 48 rfl) rfl
theorem q1606 : (Jvm.Cond.laysFinal "ContractLedger" "ContractLedger" "words" "LContractLedger$Word;") ∈ lw_all := lw_g (lw_at lw_m6 49 rfl) rfl
theorem q1607 : (Jvm.Cond.soleField "ContractLedger" "words") ∈ lw_all := lw_g (lw_at lw_m6 50 rfl) rfl
theorem q1608 : (Jvm.Cond.laysFinal "ContractLedger" "ContractLedger" "terms" "LContractLedger$Terms;") ∈ lw_all := lw_g (lw_at lw_m6 51 rfl) rfl
theorem q1609 : (Jvm.Cond.soleField "ContractLedger" "terms") ∈ lw_all := lw_g (lw_at lw_m6 52 rfl) rfl
theorem q1610 : (Jvm.Cond.laysFinal "ContractLedger" "ContractLedger" "types" "LContractLedger$Types;") ∈ lw_all := lw_g (lw_at lw_m6 53 rfl) rfl
theorem q1611 : (Jvm.Cond.soleField "ContractLedger" "types") ∈ lw_all := lw_g (lw_at lw_m6 54 rfl) rfl
theorem q1612 : (Jvm.Cond.laysFinal "ContractLedger" "ContractLedger" "memory" "LContractLedger$Memory;") ∈ lw_all := lw_g (lw_at lw_m6 55 rfl) rfl
theorem q1613 : (Jvm.Cond.soleField "ContractLedger" "memory") ∈ lw_all := lw_g (lw_at lw_m6 56 rfl) rfl
theorem q1614 : (Jvm.Cond.laysFinal "ContractLedger" "ContractLedger" "order" "LContractLedger$Order;") ∈ lw_all := lw_g (lw_at lw_m6 57 rfl) rfl
theorem q1615 : (Jvm.Cond.soleField "ContractLedger" "order") ∈ lw_all := lw_g (lw_at lw_m6 58 rfl) rfl
theorem q1616 : (Jvm.Cond.laysFinal "ContractLedger" "ContractLedger" "trees" "LContractLedger$Trees;") ∈ lw_all := lw_g (lw_at lw_m6 59 rfl) rfl
theorem q1617 : (Jvm.Cond.soleField "ContractLedger" "trees") ∈ lw_all := lw_g (lw_at lw_m6 60 rfl) rfl
theorem q1618 : (Jvm.Cond.laysFinal "ContractLedger" "ContractLedger" "addresses" "LContractLedger$Addresses;") ∈ lw_all := lw_g (lw_at lw_m6 61 rfl) rfl
theorem q1619 : (Jvm.Cond.soleField "ContractLedger" "addresses") ∈ lw_all := lw_g (lw_at lw_m6 62 rfl) rfl
theorem q1620 : (Jvm.Cond.laysFinal "ContractLedger" "ContractLedger" "data" "LContractLedger$Data;") ∈ lw_all := lw_g (lw_at lw_m6 63 rfl) rfl
theorem q1621 : (Jvm.Cond.soleField "ContractLedger" "data") ∈ lw_all := lw_g (lw_at lw_m6 64 rfl) rfl
theorem q1622 : (Jvm.Cond.laysFinal "ContractLedger" "ContractLedger" "forms" "LContractLedger$Forms;") ∈ lw_all := lw_g (lw_at lw_m6 65 rfl) rfl
theorem q1623 : (Jvm.Cond.soleField "ContractLedger" "forms") ∈ lw_all := lw_g (lw_at lw_m6 66 rfl) rfl
theorem q1624 : (Jvm.Cond.laysFinal "ContractLedger" "ContractLedger" "names" "LContractLedger$Names;") ∈ lw_all := lw_g (lw_at lw_m6 67 rfl) rfl
theorem q1625 : (Jvm.Cond.soleField "ContractLedger" "names") ∈ lw_all := lw_g (lw_at lw_m6 68 rfl) rfl
theorem q1626 : (Jvm.Cond.laysFinal "ContractLedger" "ContractLedger" "scripts" "LContractLedger$Scripts;") ∈ lw_all := lw_g (lw_at lw_m6 69 rfl) rfl
theorem q1627 : (Jvm.Cond.soleField "ContractLedger" "scripts") ∈ lw_all := lw_g (lw_at lw_m6 70 rfl) rfl
theorem q1628 : (Jvm.Cond.laysFinal "ContractLedger" "ContractLedger" "typer" "LContractLedger$Typer;") ∈ lw_all := lw_g (lw_at lw_m6 71 rfl) rfl
theorem q1629 : (Jvm.Cond.soleField "ContractLedger" "typer") ∈ lw_all := lw_g (lw_at lw_m6 72 rfl) rfl
theorem q1630 : (Jvm.Cond.laysFinal "ContractLedger" "ContractLedger" "world" "LContractLedger$World;") ∈ lw_all := lw_g (lw_at lw_m6 73 rfl) rfl
theorem q1631 : (Jvm.Cond.soleField "ContractLedger" "world") ∈ lw_all := lw_g (lw_at lw_m6 74 rfl) rfl
theorem q1632 : (Jvm.Cond.laysFinal "ContractLedger" "ContractLedger" "gas" "LContractLedger$Gas;") ∈ lw_all := lw_g (lw_at lw_m6 75 rfl) rfl
theorem q1633 : (Jvm.Cond.soleField "ContractLedger" "gas") ∈ lw_all := lw_g (lw_at lw_m6 76 rfl) rfl
theorem q1634 : (Jvm.Cond.laysFinal "ContractLedger" "ContractLedger" "machine" "LContractLedger$Machine;") ∈ lw_all := lw_g (lw_at lw_m6 77 rfl) rfl
theorem q1635 : (Jvm.Cond.soleField "ContractLedger" "machine") ∈ lw_all := lw_g (lw_at lw_m6 78 rfl) rfl
theorem q1636 : (Jvm.Cond.laysFinal "ContractLedger" "ContractLedger" "doing" "LContractLedger$Doing;") ∈ lw_all := lw_g (lw_at lw_m6 79 rfl) rfl
theorem q1637 : (Jvm.Cond.soleField "ContractLedger" "doing") ∈ lw_all := lw_g (lw_at lw_m6 80 rfl) rfl
theorem q1638 : (Jvm.Cond.laysFinal "ContractLedger" "ContractLedger" "product" "[B") ∈ lw_all := lw_g (lw_at lw_m6 81 rfl) rfl
theorem q1639 : (Jvm.Cond.soleField "ContractLedger" "product") ∈ lw_all := lw_g (lw_at lw_m6 82 rfl) rfl
theorem q1640 : (Jvm.Cond.lays "ContractLedger" "ContractLedger" "produced" "I") ∈ lw_all := lw_g (lw_at lw_m6 83 rfl) rfl
theorem q1641 : (Jvm.Cond.soleField "ContractLedger" "produced") ∈ lw_all := lw_g (lw_at lw_m6 84 rfl) rfl
theorem q1642 : (Jvm.Cond.lays "ContractLedger" "ContractLedger" "hasBatch" "Z") ∈ lw_all := lw_g (lw_at lw_m6 85 rfl) rfl
theorem q1643 : (Jvm.Cond.soleField "ContractLedger" "hasBatch") ∈ lw_all := lw_g (lw_at lw_m6 86 rfl) rfl
theorem q1644 : (Jvm.Cond.lays "ContractLedger" "ContractLedger" "account" "I") ∈ lw_all := lw_g (lw_at lw_m6 87 rfl) rfl
theorem q1645 : (Jvm.Cond.soleField "ContractLedger" "account") ∈ lw_all := lw_g (lw_at lw_m6 88 rfl) rfl
theorem q1646 : (Jvm.Cond.lays "ContractLedger" "ContractLedger" "counter" "I") ∈ lw_all := lw_g (lw_at lw_m6 89 rfl) rfl
theorem q1647 : (Jvm.Cond.soleField "ContractLedger" "counter") ∈ lw_all := lw_g (lw_at lw_m6 90 rfl) rfl
theorem q1648 : (Jvm.Cond.lays "ContractLedger" "ContractLedger" "fee" "J") ∈ lw_all := lw_g (lw_at lw_m6 91 rfl) rfl
theorem q1649 : (Jvm.Cond.soleField "ContractLedger" "fee") ∈ lw_all := lw_g (lw_at lw_m6 92 rfl) rfl
theorem q1650 : (Jvm.Cond.lays "ContractLedger" "ContractLedger" "gasLimit" "I") ∈ lw_all := lw_g (lw_at lw_m6 93 rfl) rfl
theorem q1651 : (Jvm.Cond.soleField "ContractLedger" "gasLimit") ∈ lw_all := lw_g (lw_at lw_m6 94 rfl) rfl
theorem q1652 : (Jvm.Cond.lays "ContractLedger" "ContractLedger" "bytesLimit" "I") ∈ lw_all := lw_g (lw_at lw_m6 95 rfl) rfl
theorem q1653 : (Jvm.Cond.soleField "ContractLedger" "bytesLimit") ∈ lw_all := lw_g (lw_at lw_m6 96 rfl) rfl
theorem q1654 : (Jvm.Cond.laysFinal "ContractLedger" "ContractLedger" "contents" "[LContractLedger$Content;") ∈ lw_all := lw_g (lw_at lw_m6 97 rfl) rfl
theorem q1655 : (Jvm.Cond.soleField "ContractLedger" "contents") ∈ lw_all := lw_g (lw_at lw_m6 98 rfl) rfl
theorem q1656 : (Jvm.Cond.lays "ContractLedger" "ContractLedger" "count" "I") ∈ lw_all := lw_g (lw_at lw_m6 99 rfl) rfl
theorem q1657 : (Jvm.Cond.soleField "ContractLedger" "count") ∈ lw_all := lw_g (lw_at lw_m6 100 rfl) rfl
theorem q1658 : (Jvm.Cond.laysFinal "ContractLedger" "ContractLedger" "texts" "[B") ∈ lw_all := lw_g (lw_at lw_m6 101 rfl) rfl
theorem q1659 : (Jvm.Cond.soleField "ContractLedger" "texts") ∈ lw_all := lw_g (lw_at lw_m6 102 rfl) rfl
theorem q1660 : (Jvm.Cond.lays "ContractLedger" "ContractLedger" "textTop" "I") ∈ lw_all := lw_g (lw_at lw_m6 103 rfl) rfl
theorem q1661 : (Jvm.Cond.soleField "ContractLedger" "textTop") ∈ lw_all := lw_g (lw_at lw_m6 104 rfl) rfl
theorem q1662 : (Jvm.Cond.laysFinal "ContractLedger" "ContractLedger" "receipts" "[LContractLedger$Receipt;") ∈ lw_all := lw_g (lw_at lw_m6 105 rfl) rfl
theorem q1663 : (Jvm.Cond.soleField "ContractLedger" "receipts") ∈ lw_all := lw_g (lw_at lw_m6 106 rfl) rfl
theorem q1664 : (Jvm.Cond.lays "ContractLedger" "ContractLedger" "receiptCount" "I") ∈ lw_all := lw_g (lw_at lw_m6 107 rfl) rfl
theorem q1665 : (Jvm.Cond.soleField "ContractLedger" "receiptCount") ∈ lw_all := lw_g (lw_at lw_m6 108 rfl) rfl
theorem q1666 : (Jvm.Cond.superclass "ContractLedger" "java/lang/Object") ∈ lw_all := lw_g (lw_at lw_m6 109 rfl) rfl
theorem q1668 : (Jvm.Cond.instanceMethod ({ cls := "ContractLedger", name := "check", desc := "()I" } : Jvm.MethodName)) ∈ lw_all := lw_g (lw_at lw_m6 111 rfl) rfl
theorem q1669 : (Jvm.Cond.selects "ContractLedger" ({ cls := "ContractLedger", name := "check", desc := "()I" } : Jvm.MethodName) ({ cls := "ContractLedger", name := "check", desc := "()I" } : Jvm.MethodName)) ∈ lw_all := lw_g (lw_at lw_m6 112 rfl) rfl
theorem q1670 : (Jvm.Cond.code ({ cls := "ContractLedger", name := "check", desc := "()I" } : Jvm.MethodName) prog_1_method_6_code (2 : Nat) (Option.some Jvm.ClassFile.FieldType.int)) ∈ lw_all := lw_g (lw_at lw_m6 113 rfl) rfl
theorem q1671 : (Jvm.Cond.methodLink "ContractLedger" (195 : Nat) ({ cls := "ContractLedger", name := "reads", desc := "()Z" } : Jvm.MethodName)) ∈ lw_all := lw_g (lw_at lw_m6 114 rfl) rfl
theorem q1672 : (Jvm.Cond.privateMethod ({ cls := "ContractLedger", name := "reads", desc := "()Z" } : Jvm.MethodName)) ∈ lw_tbl := lw_at lw_m6 115 rfl
theorem q1673 : (Jvm.Cond.instanceMethod ({ cls := "ContractLedger", name := "reads", desc := "()Z" } : Jvm.MethodName)) ∈ lw_all := lw_g (lw_at lw_m6 116 rfl) rfl
theorem q1674 : (Jvm.Cond.code ({ cls := "ContractLedger", name := "reads", desc := "()Z" } : Jvm.MethodName) prog_1_method_5_code (2 : Nat) (Option.some Jvm.ClassFile.FieldType.boolean)) ∈ lw_all := lw_g (lw_at lw_m6 117 rfl) rfl
theorem q1675 : (Jvm.Cond.methodLink "ContractLedger" (191 : Nat) ({ cls := "ContractLedger$Terms", name := "read", desc := "([BI)Z" } : Jvm.MethodName)) ∈ lw_all := lw_g (lw_at lw_m6 118 rfl) rfl
theorem q1809 : (Jvm.Cond.methodLink "ContractLedger" (205 : Nat) ({ cls := "ContractLedger$Doing", name := "mark", desc := "()V" } : Jvm.MethodName)) ∈ lw_all := lw_g (lw_at lw_m7 12 rfl) rfl
theorem q1817 : (Jvm.Cond.methodLink "ContractLedger" (208 : Nat) ({ cls := "ContractLedger$Typer", name := "type", desc := "(I)I" } : Jvm.MethodName)) ∈ lw_all := lw_g (lw_at lw_m7 20 rfl) rfl
theorem q2310 : (Jvm.Cond.methodLink "ContractLedger" (212 : Nat) ({ cls := "ContractLedger$Doing", name := "drop", desc := "()V" } : Jvm.MethodName)) ∈ lw_all := lw_g (lw_at lw_m9 33 rfl) rfl
theorem q2327 : (Jvm.Cond.instanceMethod ({ cls := "ContractLedger", name := "place", desc := "()I" } : Jvm.MethodName)) ∈ lw_all := lw_g (lw_at lw_m9 50 rfl) rfl
theorem q2328 : (Jvm.Cond.selects "ContractLedger" ({ cls := "ContractLedger", name := "place", desc := "()I" } : Jvm.MethodName) ({ cls := "ContractLedger", name := "place", desc := "()I" } : Jvm.MethodName)) ∈ lw_all := lw_g (lw_at lw_m9 51 rfl) rfl
theorem q2329 : (Jvm.Cond.code ({ cls := "ContractLedger", name := "place", desc := "()I" } : Jvm.MethodName) prog_1_method_7_code (1 : Nat) (Option.some Jvm.ClassFile.FieldType.int)) ∈ lw_all := lw_g (lw_at lw_m9 52 rfl) rfl
theorem q2331 : (Jvm.Cond.instanceMethod ({ cls := "ContractLedger", name := "form", desc := "()I" } : Jvm.MethodName)) ∈ lw_all := lw_g (lw_at lw_m9 54 rfl) rfl
theorem q2332 : (Jvm.Cond.selects "ContractLedger" ({ cls := "ContractLedger", name := "form", desc := "()I" } : Jvm.MethodName) ({ cls := "ContractLedger", name := "form", desc := "()I" } : Jvm.MethodName)) ∈ lw_all := lw_g (lw_at lw_m9 55 rfl) rfl
theorem q2333 : (Jvm.Cond.code ({ cls := "ContractLedger", name := "form", desc := "()I" } : Jvm.MethodName) prog_1_method_8_code (4 : Nat) (Option.some Jvm.ClassFile.FieldType.int)) ∈ lw_all := lw_g (lw_at lw_m9 56 rfl) rfl
theorem q2334 : (Jvm.Cond.methodLink "ContractLedger" (216 : Nat) ({ cls := "ContractLedger$Terms", name := "isSequence", desc := "(I)Z" } : Jvm.MethodName)) ∈ lw_all := lw_g (lw_at lw_m9 57 rfl) rfl
theorem q2335 : (Jvm.Cond.methodLink "ContractLedger" (224 : Nat) ({ cls := "ContractLedger$Doing", name := "tidy", desc := "()V" } : Jvm.MethodName)) ∈ lw_all := lw_g (lw_at lw_m9 58 rfl) rfl
theorem q2374 : (Jvm.Cond.methodLink "ContractLedger" (227 : Nat) ({ cls := "ContractLedger$Terms", name := "child", desc := "(II)I" } : Jvm.MethodName)) ∈ lw_all := lw_g (lw_at lw_m9 97 rfl) rfl
theorem q2375 : (Jvm.Cond.methodLink "ContractLedger" (231 : Nat) ({ cls := "ContractLedger$Types", name := "of", desc := "(LContractLedger$Terms;I)I" } : Jvm.MethodName)) ∈ lw_all := lw_g (lw_at lw_m9 98 rfl) rfl
theorem q2376 : (Jvm.Cond.methodLink "ContractLedger" (235 : Nat) ({ cls := "ContractLedger$Types", name := "is", desc := "(II)Z" } : Jvm.MethodName)) ∈ lw_all := lw_g (lw_at lw_m9 99 rfl) rfl
theorem q2377 : (Jvm.Cond.methodLink "ContractLedger" (239 : Nat) ({ cls := "ContractLedger$Data", name := "read", desc := "(II)I" } : Jvm.MethodName)) ∈ lw_all := lw_g (lw_at lw_m9 100 rfl) rfl
theorem q2378 : (Jvm.Cond.methodLink "ContractLedger" (241 : Nat) ({ cls := "ContractLedger", name := "write", desc := "(II)V" } : Jvm.MethodName)) ∈ lw_all := lw_g (lw_at lw_m9 101 rfl) rfl
theorem q2379 : (Jvm.Cond.privateMethod ({ cls := "ContractLedger", name := "write", desc := "(II)V" } : Jvm.MethodName)) ∈ lw_tbl := lw_at lw_m9 102 rfl
theorem q2380 : (Jvm.Cond.instanceMethod ({ cls := "ContractLedger", name := "write", desc := "(II)V" } : Jvm.MethodName)) ∈ lw_all := lw_g (lw_at lw_m9 103 rfl) rfl
theorem q2381 : (Jvm.Cond.code ({ cls := "ContractLedger", name := "write", desc := "(II)V" } : Jvm.MethodName) prog_1_method_9_code (3 : Nat) (Option.none : Option Jvm.ClassFile.FieldType)) ∈ lw_all := lw_g (lw_at lw_m9 104 rfl) rfl
theorem q2382 : (Jvm.Cond.methodLink "ContractLedger" (248 : Nat) ({ cls := "ContractLedger$Forms", name := "write", desc := "([BIII)V" } : Jvm.MethodName)) ∈ lw_all := lw_g (lw_at lw_m9 105 rfl) rfl
theorem q2435 : (Jvm.Cond.instanceMethod ({ cls := "ContractLedger", name := "account", desc := "(J)I" } : Jvm.MethodName)) ∈ lw_all := lw_g (lw_at lw_m9 158 rfl) rfl
theorem q2436 : (Jvm.Cond.selects "ContractLedger" ({ cls := "ContractLedger", name := "account", desc := "(J)I" } : Jvm.MethodName) ({ cls := "ContractLedger", name := "account", desc := "(J)I" } : Jvm.MethodName)) ∈ lw_all := lw_g (lw_at lw_m9 159 rfl) rfl
theorem q2437 : (Jvm.Cond.code ({ cls := "ContractLedger", name := "account", desc := "(J)I" } : Jvm.MethodName) prog_1_method_10_code (4 : Nat) (Option.some Jvm.ClassFile.FieldType.int)) ∈ lw_all := lw_g (lw_at lw_m9 160 rfl) rfl
theorem q2438 : (Jvm.Cond.constantLong "ContractLedger" (255 : Nat) (4611686018427387904 : Int64)) ∈ lw_all := lw_g (lw_at lw_m9 161 rfl) rfl
theorem q2440 : (Jvm.Cond.instanceMethod ({ cls := "ContractLedger", name := "now", desc := "(JI)Z" } : Jvm.MethodName)) ∈ lw_all := lw_g (lw_at lw_m9 163 rfl) rfl
theorem q2441 : (Jvm.Cond.selects "ContractLedger" ({ cls := "ContractLedger", name := "now", desc := "(JI)Z" } : Jvm.MethodName) ({ cls := "ContractLedger", name := "now", desc := "(JI)Z" } : Jvm.MethodName)) ∈ lw_all := lw_g (lw_at lw_m9 164 rfl) rfl
theorem q2442 : (Jvm.Cond.code ({ cls := "ContractLedger", name := "now", desc := "(JI)Z" } : Jvm.MethodName) prog_1_method_11_code (4 : Nat) (Option.some Jvm.ClassFile.FieldType.boolean)) ∈ lw_all := lw_g (lw_at lw_m9 165 rfl) rfl
theorem q2443 : (Jvm.Cond.constantLong "ContractLedger" (269 : Nat) (-1152921504606846976 : Int64)) ∈ lw_all := lw_g (lw_at lw_m9 166 rfl) rfl
theorem q2444 : (Jvm.Cond.constantLong "ContractLedger" (271 : Nat) (1152921504606846976 : Int64)) ∈ lw_all := lw_g (lw_at lw_m9 167 rfl) rfl
theorem q2445 : (Jvm.Cond.constant "ContractLedger" (273 : Nat) (1073741824 : Int32)) ∈ lw_all := lw_g (lw_at lw_m9 168 rfl) rfl
theorem q2447 : (Jvm.Cond.instanceMethod ({ cls := "ContractLedger", name := "batch", desc := "(II)Z" } : Jvm.MethodName)) ∈ lw_all := lw_g (lw_at lw_m9 170 rfl) rfl
theorem q2448 : (Jvm.Cond.selects "ContractLedger" ({ cls := "ContractLedger", name := "batch", desc := "(II)Z" } : Jvm.MethodName) ({ cls := "ContractLedger", name := "batch", desc := "(II)Z" } : Jvm.MethodName)) ∈ lw_all := lw_g (lw_at lw_m9 171 rfl) rfl
theorem q2449 : (Jvm.Cond.code ({ cls := "ContractLedger", name := "batch", desc := "(II)Z" } : Jvm.MethodName) prog_1_method_13_code (3 : Nat) (Option.some Jvm.ClassFile.FieldType.boolean)) ∈ lw_all := lw_g (lw_at lw_m9 172 rfl) rfl
theorem q2450 : (Jvm.Cond.methodLink "ContractLedger" (280 : Nat) ({ cls := "ContractLedger", name := "isAccount", desc := "(I)Z" } : Jvm.MethodName)) ∈ lw_all := lw_g (lw_at lw_m9 173 rfl) rfl
theorem q2451 : (Jvm.Cond.privateMethod ({ cls := "ContractLedger", name := "isAccount", desc := "(I)Z" } : Jvm.MethodName)) ∈ lw_tbl := lw_at lw_m9 174 rfl
theorem q2452 : (Jvm.Cond.instanceMethod ({ cls := "ContractLedger", name := "isAccount", desc := "(I)Z" } : Jvm.MethodName)) ∈ lw_all := lw_g (lw_at lw_m9 175 rfl) rfl
theorem q2453 : (Jvm.Cond.code ({ cls := "ContractLedger", name := "isAccount", desc := "(I)Z" } : Jvm.MethodName) prog_1_method_12_code (2 : Nat) (Option.some Jvm.ClassFile.FieldType.boolean)) ∈ lw_all := lw_g (lw_at lw_m9 176 rfl) rfl
theorem q2455 : (Jvm.Cond.instanceMethod ({ cls := "ContractLedger", name := "limits", desc := "(JII)Z" } : Jvm.MethodName)) ∈ lw_all := lw_g (lw_at lw_m9 178 rfl) rfl
theorem q2456 : (Jvm.Cond.selects "ContractLedger" ({ cls := "ContractLedger", name := "limits", desc := "(JII)Z" } : Jvm.MethodName) ({ cls := "ContractLedger", name := "limits", desc := "(JII)Z" } : Jvm.MethodName)) ∈ lw_all := lw_g (lw_at lw_m9 179 rfl) rfl
theorem q2457 : (Jvm.Cond.code ({ cls := "ContractLedger", name := "limits", desc := "(JII)Z" } : Jvm.MethodName) prog_1_method_14_code (5 : Nat) (Option.some Jvm.ClassFile.FieldType.boolean)) ∈ lw_all := lw_g (lw_at lw_m9 180 rfl) rfl
theorem q2458 : (Jvm.Cond.constantLong "ContractLedger" (308 : Nat) (1125899906842624 : Int64)) ∈ lw_all := lw_g (lw_at lw_m9 181 rfl) rfl
theorem q2459 : (Jvm.Cond.constant "ContractLedger" (310 : Nat) (100000 : Int32)) ∈ lw_all := lw_g (lw_at lw_m9 182 rfl) rfl
theorem q2461 : (Jvm.Cond.instanceMethod ({ cls := "ContractLedger", name := "content", desc := "(ZJ)I" } : Jvm.MethodName)) ∈ lw_all := lw_g (lw_at lw_m9 184 rfl) rfl
theorem q2462 : (Jvm.Cond.selects "ContractLedger" ({ cls := "ContractLedger", name := "content", desc := "(ZJ)I" } : Jvm.MethodName) ({ cls := "ContractLedger", name := "content", desc := "(ZJ)I" } : Jvm.MethodName)) ∈ lw_all := lw_g (lw_at lw_m9 185 rfl) rfl
theorem q2463 : (Jvm.Cond.code ({ cls := "ContractLedger", name := "content", desc := "(ZJ)I" } : Jvm.MethodName) prog_1_method_15_code (5 : Nat) (Option.some Jvm.ClassFile.FieldType.int)) ∈ lw_all := lw_g (lw_at lw_m9 186 rfl) rfl
theorem q2464 : (Jvm.Cond.methodLink "ContractLedger" (326 : Nat) ({ cls := "java/lang/System", name := "arraycopy", desc := "(Ljava/lang/Object;ILjava/lang/Object;II)V" } : Jvm.MethodName)) ∈ lw_all := lw_g (lw_at lw_m9 187 rfl) rfl
theorem q2466 : (Jvm.Cond.instanceMethod ({ cls := "ContractLedger", name := "apply", desc := "()I" } : Jvm.MethodName)) ∈ lw_all := lw_g (lw_at lw_m9 189 rfl) rfl
theorem q2467 : (Jvm.Cond.selects "ContractLedger" ({ cls := "ContractLedger", name := "apply", desc := "()I" } : Jvm.MethodName) ({ cls := "ContractLedger", name := "apply", desc := "()I" } : Jvm.MethodName)) ∈ lw_all := lw_g (lw_at lw_m9 190 rfl) rfl
theorem q2468 : (Jvm.Cond.code ({ cls := "ContractLedger", name := "apply", desc := "()I" } : Jvm.MethodName) prog_1_method_16_code (4 : Nat) (Option.some Jvm.ClassFile.FieldType.int)) ∈ lw_all := lw_g (lw_at lw_m9 191 rfl) rfl
theorem q2469 : (Jvm.Cond.methodLink "ContractLedger" (344 : Nat) ({ cls := "ContractLedger", name := "doContents", desc := "()I" } : Jvm.MethodName)) ∈ lw_all := lw_g (lw_at lw_m9 192 rfl) rfl
theorem q2470 : (Jvm.Cond.privateMethod ({ cls := "ContractLedger", name := "doContents", desc := "()I" } : Jvm.MethodName)) ∈ lw_tbl := lw_at lw_m9 193 rfl
theorem q2471 : (Jvm.Cond.instanceMethod ({ cls := "ContractLedger", name := "doContents", desc := "()I" } : Jvm.MethodName)) ∈ lw_all := lw_g (lw_at lw_m9 194 rfl) rfl
theorem q2472 : (Jvm.Cond.code ({ cls := "ContractLedger", name := "doContents", desc := "()I" } : Jvm.MethodName) prog_1_method_17_code (4 : Nat) (Option.some Jvm.ClassFile.FieldType.int)) ∈ lw_all := lw_g (lw_at lw_m9 195 rfl) rfl
theorem q2473 : (Jvm.Cond.methodLink "ContractLedger" (348 : Nat) ({ cls := "ContractLedger$World", name := "save", desc := "()V" } : Jvm.MethodName)) ∈ lw_all := lw_g (lw_at lw_m9 196 rfl) rfl
theorem q2478 : (Jvm.Cond.methodLink "ContractLedger" (351 : Nat) ({ cls := "ContractLedger$Receipt", name := "clear", desc := "()V" } : Jvm.MethodName)) ∈ lw_all := lw_g (lw_at lw_m9 201 rfl) rfl
theorem q2482 : (Jvm.Cond.methodLink "ContractLedger" (354 : Nat) ({ cls := "ContractLedger$Doing", name := "run", desc := "(ILContractLedger$Content;[BLContractLedger$Receipt;)V" } : Jvm.MethodName)) ∈ lw_all := lw_g (lw_at lw_m9 205 rfl) rfl
theorem q3024 : (Jvm.Cond.methodLink "ContractLedger" (361 : Nat) ({ cls := "ContractLedger$World", name := "load", desc := "()V" } : Jvm.MethodName)) ∈ lw_all := lw_g (lw_at lw_m12 27 rfl) rfl
theorem q3029 : (Jvm.Cond.instanceMethod ({ cls := "ContractLedger", name := "receipt", desc := "(II)I" } : Jvm.MethodName)) ∈ lw_all := lw_g (lw_at lw_m12 32 rfl) rfl
theorem q3030 : (Jvm.Cond.selects "ContractLedger" ({ cls := "ContractLedger", name := "receipt", desc := "(II)I" } : Jvm.MethodName) ({ cls := "ContractLedger", name := "receipt", desc := "(II)I" } : Jvm.MethodName)) ∈ lw_all := lw_g (lw_at lw_m12 33 rfl) rfl
theorem q3031 : (Jvm.Cond.code ({ cls := "ContractLedger", name := "receipt", desc := "(II)I" } : Jvm.MethodName) prog_1_method_18_code (4 : Nat) (Option.some Jvm.ClassFile.FieldType.int)) ∈ lw_all := lw_g (lw_at lw_m12 34 rfl) rfl
theorem q3033 : (Jvm.Cond.instanceMethod ({ cls := "ContractLedger", name := "accounts", desc := "()I" } : Jvm.MethodName)) ∈ lw_all := lw_g (lw_at lw_m12 36 rfl) rfl
theorem q3034 : (Jvm.Cond.selects "ContractLedger" ({ cls := "ContractLedger", name := "accounts", desc := "()I" } : Jvm.MethodName) ({ cls := "ContractLedger", name := "accounts", desc := "()I" } : Jvm.MethodName)) ∈ lw_all := lw_g (lw_at lw_m12 37 rfl) rfl
theorem q3035 : (Jvm.Cond.code ({ cls := "ContractLedger", name := "accounts", desc := "()I" } : Jvm.MethodName) prog_1_method_19_code (1 : Nat) (Option.some Jvm.ClassFile.FieldType.int)) ∈ lw_all := lw_g (lw_at lw_m12 38 rfl) rfl
theorem q3037 : (Jvm.Cond.instanceMethod ({ cls := "ContractLedger", name := "contracts", desc := "()I" } : Jvm.MethodName)) ∈ lw_all := lw_g (lw_at lw_m12 40 rfl) rfl
theorem q3038 : (Jvm.Cond.selects "ContractLedger" ({ cls := "ContractLedger", name := "contracts", desc := "()I" } : Jvm.MethodName) ({ cls := "ContractLedger", name := "contracts", desc := "()I" } : Jvm.MethodName)) ∈ lw_all := lw_g (lw_at lw_m12 41 rfl) rfl
theorem q3039 : (Jvm.Cond.code ({ cls := "ContractLedger", name := "contracts", desc := "()I" } : Jvm.MethodName) prog_1_method_20_code (1 : Nat) (Option.some Jvm.ClassFile.FieldType.int)) ∈ lw_all := lw_g (lw_at lw_m12 42 rfl) rfl
theorem q3041 : (Jvm.Cond.instanceMethod ({ cls := "ContractLedger", name := "balance", desc := "(ZI)J" } : Jvm.MethodName)) ∈ lw_all := lw_g (lw_at lw_m12 44 rfl) rfl
theorem q3042 : (Jvm.Cond.selects "ContractLedger" ({ cls := "ContractLedger", name := "balance", desc := "(ZI)J" } : Jvm.MethodName) ({ cls := "ContractLedger", name := "balance", desc := "(ZI)J" } : Jvm.MethodName)) ∈ lw_all := lw_g (lw_at lw_m12 45 rfl) rfl
theorem q3043 : (Jvm.Cond.code ({ cls := "ContractLedger", name := "balance", desc := "(ZI)J" } : Jvm.MethodName) prog_1_method_22_code (4 : Nat) (Option.some Jvm.ClassFile.FieldType.long)) ∈ lw_all := lw_g (lw_at lw_m12 46 rfl) rfl
theorem q3044 : (Jvm.Cond.methodLink "ContractLedger" (378 : Nat) ({ cls := "ContractLedger", name := "contractAt", desc := "(I)I" } : Jvm.MethodName)) ∈ lw_all := lw_g (lw_at lw_m12 47 rfl) rfl
theorem q3045 : (Jvm.Cond.privateMethod ({ cls := "ContractLedger", name := "contractAt", desc := "(I)I" } : Jvm.MethodName)) ∈ lw_tbl := lw_at lw_m12 48 rfl
theorem q3046 : (Jvm.Cond.instanceMethod ({ cls := "ContractLedger", name := "contractAt", desc := "(I)I" } : Jvm.MethodName)) ∈ lw_all := lw_g (lw_at lw_m12 49 rfl) rfl
theorem q3047 : (Jvm.Cond.code ({ cls := "ContractLedger", name := "contractAt", desc := "(I)I" } : Jvm.MethodName) prog_1_method_21_code (2 : Nat) (Option.some Jvm.ClassFile.FieldType.int)) ∈ lw_all := lw_g (lw_at lw_m12 50 rfl) rfl
theorem q3048 : (Jvm.Cond.constantLong "ContractLedger" (381 : Nat) (-1 : Int64)) ∈ lw_all := lw_g (lw_at lw_m12 51 rfl) rfl
theorem q3050 : (Jvm.Cond.instanceMethod ({ cls := "ContractLedger", name := "counter", desc := "(I)I" } : Jvm.MethodName)) ∈ lw_all := lw_g (lw_at lw_m12 53 rfl) rfl
theorem q3051 : (Jvm.Cond.selects "ContractLedger" ({ cls := "ContractLedger", name := "counter", desc := "(I)I" } : Jvm.MethodName) ({ cls := "ContractLedger", name := "counter", desc := "(I)I" } : Jvm.MethodName)) ∈ lw_all := lw_g (lw_at lw_m12 54 rfl) rfl
theorem q3052 : (Jvm.Cond.code ({ cls := "ContractLedger", name := "counter", desc := "(I)I" } : Jvm.MethodName) prog_1_method_23_code (2 : Nat) (Option.some Jvm.ClassFile.FieldType.int)) ∈ lw_all := lw_g (lw_at lw_m12 55 rfl) rfl
theorem q3054 : (Jvm.Cond.instanceMethod ({ cls := "ContractLedger", name := "paid", desc := "(I)I" } : Jvm.MethodName)) ∈ lw_all := lw_g (lw_at lw_m12 57 rfl) rfl
theorem q3055 : (Jvm.Cond.selects "ContractLedger" ({ cls := "ContractLedger", name := "paid", desc := "(I)I" } : Jvm.MethodName) ({ cls := "ContractLedger", name := "paid", desc := "(I)I" } : Jvm.MethodName)) ∈ lw_all := lw_g (lw_at lw_m12 58 rfl) rfl
theorem q3056 : (Jvm.Cond.code ({ cls := "ContractLedger", name := "paid", desc := "(I)I" } : Jvm.MethodName) prog_1_method_24_code (3 : Nat) (Option.some Jvm.ClassFile.FieldType.int)) ∈ lw_all := lw_g (lw_at lw_m12 59 rfl) rfl
theorem q3058 : (Jvm.Cond.instanceMethod ({ cls := "ContractLedger", name := "money", desc := "(I)J" } : Jvm.MethodName)) ∈ lw_all := lw_g (lw_at lw_m12 61 rfl) rfl
theorem q3059 : (Jvm.Cond.selects "ContractLedger" ({ cls := "ContractLedger", name := "money", desc := "(I)J" } : Jvm.MethodName) ({ cls := "ContractLedger", name := "money", desc := "(I)J" } : Jvm.MethodName)) ∈ lw_all := lw_g (lw_at lw_m12 62 rfl) rfl
theorem q3060 : (Jvm.Cond.code ({ cls := "ContractLedger", name := "money", desc := "(I)J" } : Jvm.MethodName) prog_1_method_25_code (2 : Nat) (Option.some Jvm.ClassFile.FieldType.long)) ∈ lw_all := lw_g (lw_at lw_m12 63 rfl) rfl
theorem q3062 : (Jvm.Cond.instanceMethod ({ cls := "ContractLedger", name := "stored", desc := "()I" } : Jvm.MethodName)) ∈ lw_all := lw_g (lw_at lw_m12 65 rfl) rfl
theorem q3063 : (Jvm.Cond.selects "ContractLedger" ({ cls := "ContractLedger", name := "stored", desc := "()I" } : Jvm.MethodName) ({ cls := "ContractLedger", name := "stored", desc := "()I" } : Jvm.MethodName)) ∈ lw_all := lw_g (lw_at lw_m12 66 rfl) rfl
theorem q3064 : (Jvm.Cond.code ({ cls := "ContractLedger", name := "stored", desc := "()I" } : Jvm.MethodName) prog_1_method_26_code (1 : Nat) (Option.some Jvm.ClassFile.FieldType.int)) ∈ lw_all := lw_g (lw_at lw_m12 67 rfl) rfl
theorem q3066 : (Jvm.Cond.instanceMethod ({ cls := "ContractLedger", name := "storage", desc := "(I)I" } : Jvm.MethodName)) ∈ lw_all := lw_g (lw_at lw_m12 69 rfl) rfl
theorem q3067 : (Jvm.Cond.selects "ContractLedger" ({ cls := "ContractLedger", name := "storage", desc := "(I)I" } : Jvm.MethodName) ({ cls := "ContractLedger", name := "storage", desc := "(I)I" } : Jvm.MethodName)) ∈ lw_all := lw_g (lw_at lw_m12 70 rfl) rfl
theorem q3068 : (Jvm.Cond.code ({ cls := "ContractLedger", name := "storage", desc := "(I)I" } : Jvm.MethodName) prog_1_method_27_code (3 : Nat) (Option.some Jvm.ClassFile.FieldType.int)) ∈ lw_all := lw_g (lw_at lw_m12 71 rfl) rfl
theorem q3070 : (Jvm.Cond.instanceMethod ({ cls := "ContractLedger", name := "failure", desc := "()I" } : Jvm.MethodName)) ∈ lw_all := lw_g (lw_at lw_m12 73 rfl) rfl
theorem q3071 : (Jvm.Cond.selects "ContractLedger" ({ cls := "ContractLedger", name := "failure", desc := "()I" } : Jvm.MethodName) ({ cls := "ContractLedger", name := "failure", desc := "()I" } : Jvm.MethodName)) ∈ lw_all := lw_g (lw_at lw_m12 74 rfl) rfl
theorem q3072 : (Jvm.Cond.code ({ cls := "ContractLedger", name := "failure", desc := "()I" } : Jvm.MethodName) prog_1_method_28_code (1 : Nat) (Option.some Jvm.ClassFile.FieldType.int)) ∈ lw_all := lw_g (lw_at lw_m12 75 rfl) rfl
theorem q3074 : (Jvm.Cond.instanceMethod ({ cls := "ContractLedger", name := "out", desc := "(I)I" } : Jvm.MethodName)) ∈ lw_all := lw_g (lw_at lw_m12 77 rfl) rfl
theorem q3075 : (Jvm.Cond.selects "ContractLedger" ({ cls := "ContractLedger", name := "out", desc := "(I)I" } : Jvm.MethodName) ({ cls := "ContractLedger", name := "out", desc := "(I)I" } : Jvm.MethodName)) ∈ lw_all := lw_g (lw_at lw_m12 78 rfl) rfl
theorem q3076 : (Jvm.Cond.code ({ cls := "ContractLedger", name := "out", desc := "(I)I" } : Jvm.MethodName) prog_1_method_29_code (2 : Nat) (Option.some Jvm.ClassFile.FieldType.int)) ∈ lw_all := lw_g (lw_at lw_m12 79 rfl) rfl
theorem q3078 : (Jvm.Cond.instanceMethod ({ cls := "ContractLedger", name := "wrongs", desc := "()I" } : Jvm.MethodName)) ∈ lw_all := lw_g (lw_at lw_m12 81 rfl) rfl
theorem q3079 : (Jvm.Cond.selects "ContractLedger" ({ cls := "ContractLedger", name := "wrongs", desc := "()I" } : Jvm.MethodName) ({ cls := "ContractLedger", name := "wrongs", desc := "()I" } : Jvm.MethodName)) ∈ lw_all := lw_g (lw_at lw_m12 82 rfl) rfl
theorem q3080 : (Jvm.Cond.code ({ cls := "ContractLedger", name := "wrongs", desc := "()I" } : Jvm.MethodName) prog_1_method_30_code (1 : Nat) (Option.some Jvm.ClassFile.FieldType.int)) ∈ lw_all := lw_g (lw_at lw_m12 83 rfl) rfl
theorem q3082 : (Jvm.Cond.instanceMethod ({ cls := "ContractLedger", name := "isWhole", desc := "()Z" } : Jvm.MethodName)) ∈ lw_all := lw_g (lw_at lw_m12 85 rfl) rfl
theorem q3083 : (Jvm.Cond.selects "ContractLedger" ({ cls := "ContractLedger", name := "isWhole", desc := "()Z" } : Jvm.MethodName) ({ cls := "ContractLedger", name := "isWhole", desc := "()Z" } : Jvm.MethodName)) ∈ lw_all := lw_g (lw_at lw_m12 86 rfl) rfl
theorem q3084 : (Jvm.Cond.code ({ cls := "ContractLedger", name := "isWhole", desc := "()Z" } : Jvm.MethodName) prog_1_method_31_code (1 : Nat) (Option.some Jvm.ClassFile.FieldType.boolean)) ∈ lw_all := lw_g (lw_at lw_m12 87 rfl) rfl
theorem q3090 : (Jvm.Cond.instanceMethod ({ cls := "ContractLedger", name := "feed", desc := "(IIIII)V" } : Jvm.MethodName)) ∈ lw_all := lw_g (lw_at lw_m12 93 rfl) rfl
theorem q3091 : (Jvm.Cond.selects "ContractLedger" ({ cls := "ContractLedger", name := "feed", desc := "(IIIII)V" } : Jvm.MethodName) ({ cls := "ContractLedger", name := "feed", desc := "(IIIII)V" } : Jvm.MethodName)) ∈ lw_all := lw_g (lw_at lw_m12 94 rfl) rfl
theorem q3092 : (Jvm.Cond.code ({ cls := "ContractLedger", name := "feed", desc := "(IIIII)V" } : Jvm.MethodName) prog_1_method_3_code (6 : Nat) (Option.none : Option Jvm.ClassFile.FieldType)) ∈ lw_all := lw_g (lw_at lw_m12 95 rfl) rfl
theorem q3093 : (Jvm.Cond.classLink "ContractLedger" (175 : Nat) "java/lang/IllegalStateException") ∈ lw_all := lw_g (lw_at lw_m12 96 rfl) rfl
theorem q3094 : (Jvm.Cond.stringRef "ContractLedger" (177 : Nat) "no room") ∈ lw_tbl := lw_at lw_m12 97 rfl
theorem q3095 : (Jvm.Cond.methodLink "ContractLedger" (179 : Nat) ({ cls := "java/lang/IllegalStateException", name := "<init>", desc := "(Ljava/lang/String;)V" } : Jvm.MethodName)) ∈ lw_all := lw_g (lw_at lw_m12 98 rfl) rfl
theorem q3096 : (Jvm.Cond.methodLink "ContractLedger" (182 : Nat) ({ cls := "ContractLedger", name := "take", desc := "(I)V" } : Jvm.MethodName)) ∈ lw_all := lw_g (lw_at lw_m12 99 rfl) rfl
theorem q3097 : (Jvm.Cond.privateMethod ({ cls := "ContractLedger", name := "take", desc := "(I)V" } : Jvm.MethodName)) ∈ lw_tbl := lw_at lw_m12 100 rfl
theorem q3098 : (Jvm.Cond.instanceMethod ({ cls := "ContractLedger", name := "take", desc := "(I)V" } : Jvm.MethodName)) ∈ lw_all := lw_g (lw_at lw_m12 101 rfl) rfl
theorem q3099 : (Jvm.Cond.code ({ cls := "ContractLedger", name := "take", desc := "(I)V" } : Jvm.MethodName) prog_1_method_2_code (3 : Nat) (Option.none : Option Jvm.ClassFile.FieldType)) ∈ lw_all := lw_g (lw_at lw_m12 102 rfl) rfl
theorem q3105 : (Jvm.Cond.instanceMethod ({ cls := "ContractLedger", name := "end", desc := "(I)I" } : Jvm.MethodName)) ∈ lw_all := lw_g (lw_at lw_m12 108 rfl) rfl
theorem q3106 : (Jvm.Cond.selects "ContractLedger" ({ cls := "ContractLedger", name := "end", desc := "(I)I" } : Jvm.MethodName) ({ cls := "ContractLedger", name := "end", desc := "(I)I" } : Jvm.MethodName)) ∈ lw_all := lw_g (lw_at lw_m12 109 rfl) rfl
theorem q3107 : (Jvm.Cond.code ({ cls := "ContractLedger", name := "end", desc := "(I)I" } : Jvm.MethodName) prog_1_method_4_code (3 : Nat) (Option.some Jvm.ClassFile.FieldType.int)) ∈ lw_all := lw_g (lw_at lw_m12 110 rfl) rfl
theorem q3108 : (Jvm.Cond.classLink "ContractLedger" (186 : Nat) "java/lang/IllegalArgumentException") ∈ lw_all := lw_g (lw_at lw_m12 111 rfl) rfl
theorem q3117 : (Jvm.Cond.stringRef "ContractLedger" (188 : Nat) "not so many") ∈ lw_tbl := lw_at lw_m12 120 rfl
theorem q3118 : (Jvm.Cond.methodLink "ContractLedger" (190 : Nat) ({ cls := "java/lang/IllegalArgumentException", name := "<init>", desc := "(Ljava/lang/String;)V" } : Jvm.MethodName)) ∈ lw_all := lw_g (lw_at lw_m12 121 rfl) rfl
set_option maxRecDepth 100000
abbrev cX2_init : ByteArray := prog_6_method_1_code
def yX2_init : MethodName := ⟨RX2, "<init>", "()V"⟩
def dkwX2_init_0 : List UInt8 := [42, 183, 0, 1, 42, 187, 0, 7, 89, 18, 9, 183, 0, 11, 181, 0, 14, 177]
abbrev dktX2_init_0 : List UInt8 := dkwX2_init_0 ++ []
theorem dksX2_init_0 : cX2_init.data.toList.drop 0 = dktX2_init_0 := by decide +kernel
theorem dX2_init_0 : decode cX2_init 0 = .ok (.aload_n 0, 1) := dk_42 (dk_at dksX2_init_0 0 rfl rfl)
theorem dX2_init_1 : decode cX2_init 1 = .ok (.invokespecial 1, 3) := dk_183 0 1 (dk_at dksX2_init_0 1 rfl rfl)
theorem dX2_init_4 : decode cX2_init 4 = .ok (.aload_n 0, 1) := dk_42 (dk_at dksX2_init_0 4 rfl rfl)
theorem dX2_init_5 : decode cX2_init 5 = .ok (.new 7, 3) := dk_187 0 7 (dk_at dksX2_init_0 5 rfl rfl)
theorem dX2_init_8 : decode cX2_init 8 = .ok (.dup, 1) := dk_89 (dk_at dksX2_init_0 8 rfl rfl)
theorem dX2_init_9 : decode cX2_init 9 = .ok (.ldc 9, 2) := dk_18 9 (dk_at dksX2_init_0 9 rfl rfl)
theorem dX2_init_11 : decode cX2_init 11 = .ok (.invokespecial 11, 3) := dk_183 0 11 (dk_at dksX2_init_0 11 rfl rfl)
theorem dX2_init_14 : decode cX2_init 14 = .ok (.putfield 14, 3) := dk_181 0 14 (dk_at dksX2_init_0 14 rfl rfl)
theorem dX2_init_17 : decode cX2_init 17 = .ok (.return_, 1) := dk_177 (dk_at dksX2_init_0 17 rfl rfl)
abbrev cX2_want : ByteArray := prog_6_method_3_code
def yX2_want : MethodName := ⟨RX2, "want", "(ZI)V"⟩
def dkwX2_want_0 : List UInt8 := [27, 154, 0, 8, 42, 28, 182, 0, 24, 177]
abbrev dktX2_want_0 : List UInt8 := dkwX2_want_0 ++ []
theorem dksX2_want_0 : cX2_want.data.toList.drop 0 = dktX2_want_0 := by decide +kernel
theorem dX2_want_0 : decode cX2_want 0 = .ok (.iload_n 1, 1) := dk_27 (dk_at dksX2_want_0 0 rfl rfl)
theorem dX2_want_1 : decode cX2_want 1 = .ok (.ifCond .ne 8, 3) := dk_154 0 8 (dk_at dksX2_want_0 1 rfl rfl)
theorem dX2_want_4 : decode cX2_want 4 = .ok (.aload_n 0, 1) := dk_42 (dk_at dksX2_want_0 4 rfl rfl)
theorem dX2_want_5 : decode cX2_want 5 = .ok (.iload_n 2, 1) := dk_28 (dk_at dksX2_want_0 5 rfl rfl)
theorem dX2_want_6 : decode cX2_want 6 = .ok (.invokevirtual 24, 3) := dk_182 0 24 (dk_at dksX2_want_0 6 rfl rfl)
theorem dX2_want_9 : decode cX2_want 9 = .ok (.return_, 1) := dk_177 (dk_at dksX2_want_0 9 rfl rfl)
abbrev cX2_fail : ByteArray := prog_6_method_2_code
def yX2_fail : MethodName := ⟨RX2, "fail", "(I)V"⟩
def dkwX2_fail_0 : List UInt8 := [42, 27, 181, 0, 20, 42, 180, 0, 14, 191]
abbrev dktX2_fail_0 : List UInt8 := dkwX2_fail_0 ++ []
theorem dksX2_fail_0 : cX2_fail.data.toList.drop 0 = dktX2_fail_0 := by decide +kernel
theorem dX2_fail_0 : decode cX2_fail 0 = .ok (.aload_n 0, 1) := dk_42 (dk_at dksX2_fail_0 0 rfl rfl)
theorem dX2_fail_1 : decode cX2_fail 1 = .ok (.iload_n 1, 1) := dk_27 (dk_at dksX2_fail_0 1 rfl rfl)
theorem dX2_fail_2 : decode cX2_fail 2 = .ok (.putfield 20, 3) := dk_181 0 20 (dk_at dksX2_fail_0 2 rfl rfl)
theorem dX2_fail_5 : decode cX2_fail 5 = .ok (.aload_n 0, 1) := dk_42 (dk_at dksX2_fail_0 5 rfl rfl)
theorem dX2_fail_6 : decode cX2_fail 6 = .ok (.getfield 14, 3) := dk_180 0 14 (dk_at dksX2_fail_0 6 rfl rfl)
theorem dX2_fail_9 : decode cX2_fail 9 = .ok (.athrow, 1) := dk_191 (dk_at dksX2_fail_0 9 rfl rfl)
theorem q359 : (Jvm.Cond.initialized "ContractLedger$Failing") ∈ lw_all := lw_g (lw_at lw_m1 2 rfl) rfl
theorem q410 : (Jvm.Cond.instantiable "ContractLedger$Failing" (2 : Nat)) ∈ lw_all := lw_g (lw_at lw_m1 53 rfl) rfl
theorem q412 : (Jvm.Cond.instanceMethod ({ cls := "ContractLedger$Failing", name := "<init>", desc := "()V" } : Jvm.MethodName)) ∈ lw_all := lw_g (lw_at lw_m1 55 rfl) rfl
theorem q413 : (Jvm.Cond.code ({ cls := "ContractLedger$Failing", name := "<init>", desc := "()V" } : Jvm.MethodName) prog_6_method_1_code (1 : Nat) (Option.none : Option Jvm.ClassFile.FieldType)) ∈ lw_all := lw_g (lw_at lw_m1 56 rfl) rfl
theorem q414 : (Jvm.Cond.methodLink "ContractLedger$Failing" (1 : Nat) ({ cls := "java/lang/Object", name := "<init>", desc := "()V" } : Jvm.MethodName)) ∈ lw_all := lw_g (lw_at lw_m1 57 rfl) rfl
theorem q415 : (Jvm.Cond.classLink "ContractLedger$Failing" (7 : Nat) "java/lang/IllegalStateException") ∈ lw_all := lw_g (lw_at lw_m1 58 rfl) rfl
theorem q455 : (Jvm.Cond.stringRef "ContractLedger$Failing" (9 : Nat) "failed") ∈ lw_tbl := lw_at lw_m1 98 rfl
theorem q456 : (Jvm.Cond.methodLink "ContractLedger$Failing" (11 : Nat) ({ cls := "java/lang/IllegalStateException", name := "<init>", desc := "(Ljava/lang/String;)V" } : Jvm.MethodName)) ∈ lw_all := lw_g (lw_at lw_m1 99 rfl) rfl
theorem q482 : (Jvm.Cond.fieldLink "ContractLedger$Failing" (20 : Nat) "ContractLedger$Failing" "why" "I") ∈ lw_all := lw_g (lw_at lw_m1 125 rfl) rfl
theorem q484 : (Jvm.Cond.fieldLink "ContractLedger$Failing" (14 : Nat) "ContractLedger$Failing" "stop" "Ljava/lang/IllegalStateException;") ∈ lw_all := lw_g (lw_at lw_m1 127 rfl) rfl
theorem q485 : (Jvm.Cond.lays "ContractLedger$Failing" "ContractLedger$Failing" "why" "I") ∈ lw_all := lw_g (lw_at lw_m1 128 rfl) rfl
theorem q486 : (Jvm.Cond.soleField "ContractLedger$Failing" "why") ∈ lw_all := lw_g (lw_at lw_m1 129 rfl) rfl
theorem q487 : (Jvm.Cond.laysFinal "ContractLedger$Failing" "ContractLedger$Failing" "stop" "Ljava/lang/IllegalStateException;") ∈ lw_all := lw_g (lw_at lw_m1 130 rfl) rfl
theorem q488 : (Jvm.Cond.soleField "ContractLedger$Failing" "stop") ∈ lw_all := lw_g (lw_at lw_m1 131 rfl) rfl
theorem q489 : (Jvm.Cond.superclass "ContractLedger$Failing" "java/lang/Object") ∈ lw_all := lw_g (lw_at lw_m1 132 rfl) rfl
theorem q1954 : (Jvm.Cond.instanceMethod ({ cls := "ContractLedger$Failing", name := "want", desc := "(ZI)V" } : Jvm.MethodName)) ∈ lw_all := lw_g (lw_at lw_m7 157 rfl) rfl
theorem q1955 : (Jvm.Cond.selects "ContractLedger$Failing" ({ cls := "ContractLedger$Failing", name := "want", desc := "(ZI)V" } : Jvm.MethodName) ({ cls := "ContractLedger$Failing", name := "want", desc := "(ZI)V" } : Jvm.MethodName)) ∈ lw_all := lw_g (lw_at lw_m7 158 rfl) rfl
theorem q1956 : (Jvm.Cond.code ({ cls := "ContractLedger$Failing", name := "want", desc := "(ZI)V" } : Jvm.MethodName) prog_6_method_3_code (3 : Nat) (Option.none : Option Jvm.ClassFile.FieldType)) ∈ lw_all := lw_g (lw_at lw_m7 159 rfl) rfl
theorem q1957 : (Jvm.Cond.methodLink "ContractLedger$Failing" (24 : Nat) ({ cls := "ContractLedger$Failing", name := "fail", desc := "(I)V" } : Jvm.MethodName)) ∈ lw_all := lw_g (lw_at lw_m7 160 rfl) rfl
theorem q1958 : (Jvm.Cond.instanceMethod ({ cls := "ContractLedger$Failing", name := "fail", desc := "(I)V" } : Jvm.MethodName)) ∈ lw_all := lw_g (lw_at lw_m7 161 rfl) rfl
theorem q1959 : (Jvm.Cond.selects "ContractLedger$Failing" ({ cls := "ContractLedger$Failing", name := "fail", desc := "(I)V" } : Jvm.MethodName) ({ cls := "ContractLedger$Failing", name := "fail", desc := "(I)V" } : Jvm.MethodName)) ∈ lw_all := lw_g (lw_at lw_m7 162 rfl) rfl
theorem q1960 : (Jvm.Cond.code ({ cls := "ContractLedger$Failing", name := "fail", desc := "(I)V" } : Jvm.MethodName) prog_6_method_2_code (2 : Nat) (Option.none : Option Jvm.ClassFile.FieldType)) ∈ lw_all := lw_g (lw_at lw_m7 163 rfl) rfl
set_option maxRecDepth 100000
abbrev cX3_init : ByteArray := prog_24_method_1_code
def yX3_init : MethodName := ⟨RX3, "<init>", "()V"⟩
def dkwX3_init_2 : List UInt8 := [182, 0, 25, 4, 96, 60, 167, 255, 219, 42, 180, 0, 9, 42, 180, 0, 21, 18, 13, 182, 0, 15, 79, 177]
abbrev dktX3_init_2 : List UInt8 := dkwX3_init_2 ++ []
def dkwX3_init_1 : List UInt8 := [42, 180, 0, 9, 42, 89, 180, 0, 21, 90, 4, 96, 181, 0, 21, 27, 79, 18, 13, 16, 32, 27]
abbrev dktX3_init_1 : List UInt8 := dkwX3_init_1 ++ dktX3_init_2
def dkwX3_init_0 : List UInt8 := [42, 183, 0, 3, 42, 17, 0, 128, 188, 10, 181, 0, 9, 3, 60, 27, 18, 13, 182, 0, 15, 162, 0, 34]
abbrev dktX3_init_0 : List UInt8 := dkwX3_init_0 ++ dktX3_init_1
theorem dksX3_init_0 : cX3_init.data.toList.drop 0 = dktX3_init_0 := by decide +kernel
theorem dksX3_init_1 : cX3_init.data.toList.drop 24 = dktX3_init_1 := dk_seg dksX3_init_0 24 rfl rfl
theorem dksX3_init_2 : cX3_init.data.toList.drop 46 = dktX3_init_2 := dk_seg dksX3_init_1 22 rfl rfl
theorem dX3_init_0 : decode cX3_init 0 = .ok (.aload_n 0, 1) := dk_42 (dk_at dksX3_init_0 0 rfl rfl)
theorem dX3_init_1 : decode cX3_init 1 = .ok (.invokespecial 3, 3) := dk_183 0 3 (dk_at dksX3_init_0 1 rfl rfl)
theorem dX3_init_4 : decode cX3_init 4 = .ok (.aload_n 0, 1) := dk_42 (dk_at dksX3_init_0 4 rfl rfl)
theorem dX3_init_5 : decode cX3_init 5 = .ok (.sipush 128, 3) := dk_17 0 128 (dk_at dksX3_init_0 5 rfl rfl)
theorem dX3_init_8 : decode cX3_init 8 = .ok (.newarray .int, 2) := dk_188_10 (dk_at dksX3_init_0 8 rfl rfl)
theorem dX3_init_10 : decode cX3_init 10 = .ok (.putfield 9, 3) := dk_181 0 9 (dk_at dksX3_init_0 10 rfl rfl)
theorem dX3_init_13 : decode cX3_init 13 = .ok (.iconst 0, 1) := dk_3 (dk_at dksX3_init_0 13 rfl rfl)
theorem dX3_init_14 : decode cX3_init 14 = .ok (.istore_n 1, 1) := dk_60 (dk_at dksX3_init_0 14 rfl rfl)
theorem dX3_init_15 : decode cX3_init 15 = .ok (.iload_n 1, 1) := dk_27 (dk_at dksX3_init_0 15 rfl rfl)
theorem dX3_init_16 : decode cX3_init 16 = .ok (.ldc 13, 2) := dk_18 13 (dk_at dksX3_init_0 16 rfl rfl)
theorem dX3_init_18 : decode cX3_init 18 = .ok (.invokevirtual 15, 3) := dk_182 0 15 (dk_at dksX3_init_0 18 rfl rfl)
theorem dX3_init_21 : decode cX3_init 21 = .ok (.if_icmp .ge 34, 3) := dk_162 0 34 (dk_at dksX3_init_0 21 rfl rfl)
theorem dX3_init_24 : decode cX3_init 24 = .ok (.aload_n 0, 1) := dk_42 (dk_at dksX3_init_1 0 rfl rfl)
theorem dX3_init_25 : decode cX3_init 25 = .ok (.getfield 9, 3) := dk_180 0 9 (dk_at dksX3_init_1 1 rfl rfl)
theorem dX3_init_28 : decode cX3_init 28 = .ok (.aload_n 0, 1) := dk_42 (dk_at dksX3_init_1 4 rfl rfl)
theorem dX3_init_29 : decode cX3_init 29 = .ok (.dup, 1) := dk_89 (dk_at dksX3_init_1 5 rfl rfl)
theorem dX3_init_30 : decode cX3_init 30 = .ok (.getfield 21, 3) := dk_180 0 21 (dk_at dksX3_init_1 6 rfl rfl)
theorem dX3_init_33 : decode cX3_init 33 = .ok (.dup_x1, 1) := dk_90 (dk_at dksX3_init_1 9 rfl rfl)
theorem dX3_init_34 : decode cX3_init 34 = .ok (.iconst 1, 1) := dk_4 (dk_at dksX3_init_1 10 rfl rfl)
theorem dX3_init_35 : decode cX3_init 35 = .ok (.iadd, 1) := dk_96 (dk_at dksX3_init_1 11 rfl rfl)
theorem dX3_init_36 : decode cX3_init 36 = .ok (.putfield 21, 3) := dk_181 0 21 (dk_at dksX3_init_1 12 rfl rfl)
theorem dX3_init_39 : decode cX3_init 39 = .ok (.iload_n 1, 1) := dk_27 (dk_at dksX3_init_1 15 rfl rfl)
theorem dX3_init_40 : decode cX3_init 40 = .ok (.iastore, 1) := dk_79 (dk_at dksX3_init_1 16 rfl rfl)
theorem dX3_init_41 : decode cX3_init 41 = .ok (.ldc 13, 2) := dk_18 13 (dk_at dksX3_init_1 17 rfl rfl)
theorem dX3_init_43 : decode cX3_init 43 = .ok (.bipush 32, 2) := dk_16 32 (dk_at dksX3_init_1 19 rfl rfl)
theorem dX3_init_45 : decode cX3_init 45 = .ok (.iload_n 1, 1) := dk_27 (dk_at dksX3_init_1 21 rfl rfl)
theorem dX3_init_46 : decode cX3_init 46 = .ok (.invokevirtual 25, 3) := dk_182 0 25 (dk_at dksX3_init_2 0 rfl rfl)
theorem dX3_init_49 : decode cX3_init 49 = .ok (.iconst 1, 1) := dk_4 (dk_at dksX3_init_2 3 rfl rfl)
theorem dX3_init_50 : decode cX3_init 50 = .ok (.iadd, 1) := dk_96 (dk_at dksX3_init_2 4 rfl rfl)
theorem dX3_init_51 : decode cX3_init 51 = .ok (.istore_n 1, 1) := dk_60 (dk_at dksX3_init_2 5 rfl rfl)
theorem dX3_init_52 : decode cX3_init 52 = .ok (.goto (-37), 3) := dk_167 255 219 (dk_at dksX3_init_2 6 rfl rfl)
theorem dX3_init_55 : decode cX3_init 55 = .ok (.aload_n 0, 1) := dk_42 (dk_at dksX3_init_2 9 rfl rfl)
theorem dX3_init_56 : decode cX3_init 56 = .ok (.getfield 9, 3) := dk_180 0 9 (dk_at dksX3_init_2 10 rfl rfl)
theorem dX3_init_59 : decode cX3_init 59 = .ok (.aload_n 0, 1) := dk_42 (dk_at dksX3_init_2 13 rfl rfl)
theorem dX3_init_60 : decode cX3_init 60 = .ok (.getfield 21, 3) := dk_180 0 21 (dk_at dksX3_init_2 14 rfl rfl)
theorem dX3_init_63 : decode cX3_init 63 = .ok (.ldc 13, 2) := dk_18 13 (dk_at dksX3_init_2 17 rfl rfl)
theorem dX3_init_65 : decode cX3_init 65 = .ok (.invokevirtual 15, 3) := dk_182 0 15 (dk_at dksX3_init_2 19 rfl rfl)
theorem dX3_init_68 : decode cX3_init 68 = .ok (.iastore, 1) := dk_79 (dk_at dksX3_init_2 22 rfl rfl)
theorem dX3_init_69 : decode cX3_init 69 = .ok (.return_, 1) := dk_177 (dk_at dksX3_init_2 23 rfl rfl)
abbrev cX3_find : ByteArray := prog_24_method_3_code
def yX3_find : MethodName := ⟨RX3, "find", "([BII)I"⟩
def dkwX3_find_1 : List UInt8 := [132, 4, 1, 167, 255, 232, 21, 4, 42, 180, 0, 21, 162, 0, 8, 21, 4, 167, 0, 4, 2, 172]
abbrev dktX3_find_1 : List UInt8 := dkwX3_find_1 ++ []
def dkwX3_find_0 : List UInt8 := [3, 54, 4, 21, 4, 42, 180, 0, 21, 162, 0, 21, 42, 21, 4, 43, 28, 29, 182, 0, 33, 154, 0, 9]
abbrev dktX3_find_0 : List UInt8 := dkwX3_find_0 ++ dktX3_find_1
theorem dksX3_find_0 : cX3_find.data.toList.drop 0 = dktX3_find_0 := by decide +kernel
theorem dksX3_find_1 : cX3_find.data.toList.drop 24 = dktX3_find_1 := dk_seg dksX3_find_0 24 rfl rfl
theorem dX3_find_0 : decode cX3_find 0 = .ok (.iconst 0, 1) := dk_3 (dk_at dksX3_find_0 0 rfl rfl)
theorem dX3_find_1 : decode cX3_find 1 = .ok (.istore 4, 2) := dk_54 4 (dk_at dksX3_find_0 1 rfl rfl)
theorem dX3_find_3 : decode cX3_find 3 = .ok (.iload 4, 2) := dk_21 4 (dk_at dksX3_find_0 3 rfl rfl)
theorem dX3_find_5 : decode cX3_find 5 = .ok (.aload_n 0, 1) := dk_42 (dk_at dksX3_find_0 5 rfl rfl)
theorem dX3_find_6 : decode cX3_find 6 = .ok (.getfield 21, 3) := dk_180 0 21 (dk_at dksX3_find_0 6 rfl rfl)
theorem dX3_find_9 : decode cX3_find 9 = .ok (.if_icmp .ge 21, 3) := dk_162 0 21 (dk_at dksX3_find_0 9 rfl rfl)
theorem dX3_find_12 : decode cX3_find 12 = .ok (.aload_n 0, 1) := dk_42 (dk_at dksX3_find_0 12 rfl rfl)
theorem dX3_find_13 : decode cX3_find 13 = .ok (.iload 4, 2) := dk_21 4 (dk_at dksX3_find_0 13 rfl rfl)
theorem dX3_find_15 : decode cX3_find 15 = .ok (.aload_n 1, 1) := dk_43 (dk_at dksX3_find_0 15 rfl rfl)
theorem dX3_find_16 : decode cX3_find 16 = .ok (.iload_n 2, 1) := dk_28 (dk_at dksX3_find_0 16 rfl rfl)
theorem dX3_find_17 : decode cX3_find 17 = .ok (.iload_n 3, 1) := dk_29 (dk_at dksX3_find_0 17 rfl rfl)
theorem dX3_find_18 : decode cX3_find 18 = .ok (.invokevirtual 33, 3) := dk_182 0 33 (dk_at dksX3_find_0 18 rfl rfl)
theorem dX3_find_21 : decode cX3_find 21 = .ok (.ifCond .ne 9, 3) := dk_154 0 9 (dk_at dksX3_find_0 21 rfl rfl)
theorem dX3_find_24 : decode cX3_find 24 = .ok (.iinc 4 1, 3) := dk_132 4 1 (dk_at dksX3_find_1 0 rfl rfl)
theorem dX3_find_27 : decode cX3_find 27 = .ok (.goto (-24), 3) := dk_167 255 232 (dk_at dksX3_find_1 3 rfl rfl)
theorem dX3_find_30 : decode cX3_find 30 = .ok (.iload 4, 2) := dk_21 4 (dk_at dksX3_find_1 6 rfl rfl)
theorem dX3_find_32 : decode cX3_find 32 = .ok (.aload_n 0, 1) := dk_42 (dk_at dksX3_find_1 8 rfl rfl)
theorem dX3_find_33 : decode cX3_find 33 = .ok (.getfield 21, 3) := dk_180 0 21 (dk_at dksX3_find_1 9 rfl rfl)
theorem dX3_find_36 : decode cX3_find 36 = .ok (.if_icmp .ge 8, 3) := dk_162 0 8 (dk_at dksX3_find_1 12 rfl rfl)
theorem dX3_find_39 : decode cX3_find 39 = .ok (.iload 4, 2) := dk_21 4 (dk_at dksX3_find_1 15 rfl rfl)
theorem dX3_find_41 : decode cX3_find 41 = .ok (.goto 4, 3) := dk_167 0 4 (dk_at dksX3_find_1 17 rfl rfl)
theorem dX3_find_44 : decode cX3_find 44 = .ok (.iconst (-1), 1) := dk_2 (dk_at dksX3_find_1 20 rfl rfl)
theorem dX3_find_45 : decode cX3_find 45 = .ok (.ireturn, 1) := dk_172 (dk_at dksX3_find_1 21 rfl rfl)
abbrev cX3_is : ByteArray := prog_24_method_2_code
def yX3_is : MethodName := ⟨RX3, "is", "(I[BII)Z"⟩
def dkwX3_is_3 : List UInt8 := [167, 255, 223, 21, 6, 21, 5, 160, 0, 7, 4, 167, 0, 4, 3, 172]
abbrev dktX3_is_3 : List UInt8 := dkwX3_is_3 ++ []
def dkwX3_is_2 : List UInt8 := [42, 180, 0, 9, 27, 46, 21, 6, 96, 182, 0, 29, 44, 29, 21, 6, 96, 51, 160, 0, 9, 132, 6, 1]
abbrev dktX3_is_2 : List UInt8 := dkwX3_is_2 ++ dktX3_is_3
def dkwX3_is_1 : List UInt8 := [21, 5, 160, 0, 7, 3, 167, 0, 7, 21, 5, 4, 96, 54, 6, 21, 6, 21, 5, 162, 0, 32, 18, 13]
abbrev dktX3_is_1 : List UInt8 := dkwX3_is_1 ++ dktX3_is_2
def dkwX3_is_0 : List UInt8 := [42, 180, 0, 9, 27, 4, 96, 46, 42, 180, 0, 9, 27, 46, 100, 4, 100, 54, 5, 21, 4, 29, 100]
abbrev dktX3_is_0 : List UInt8 := dkwX3_is_0 ++ dktX3_is_1
theorem dksX3_is_0 : cX3_is.data.toList.drop 0 = dktX3_is_0 := by decide +kernel
theorem dksX3_is_1 : cX3_is.data.toList.drop 23 = dktX3_is_1 := dk_seg dksX3_is_0 23 rfl rfl
theorem dksX3_is_2 : cX3_is.data.toList.drop 47 = dktX3_is_2 := dk_seg dksX3_is_1 24 rfl rfl
theorem dksX3_is_3 : cX3_is.data.toList.drop 71 = dktX3_is_3 := dk_seg dksX3_is_2 24 rfl rfl
theorem dX3_is_0 : decode cX3_is 0 = .ok (.aload_n 0, 1) := dk_42 (dk_at dksX3_is_0 0 rfl rfl)
theorem dX3_is_1 : decode cX3_is 1 = .ok (.getfield 9, 3) := dk_180 0 9 (dk_at dksX3_is_0 1 rfl rfl)
theorem dX3_is_4 : decode cX3_is 4 = .ok (.iload_n 1, 1) := dk_27 (dk_at dksX3_is_0 4 rfl rfl)
theorem dX3_is_5 : decode cX3_is 5 = .ok (.iconst 1, 1) := dk_4 (dk_at dksX3_is_0 5 rfl rfl)
theorem dX3_is_6 : decode cX3_is 6 = .ok (.iadd, 1) := dk_96 (dk_at dksX3_is_0 6 rfl rfl)
theorem dX3_is_7 : decode cX3_is 7 = .ok (.iaload, 1) := dk_46 (dk_at dksX3_is_0 7 rfl rfl)
theorem dX3_is_8 : decode cX3_is 8 = .ok (.aload_n 0, 1) := dk_42 (dk_at dksX3_is_0 8 rfl rfl)
theorem dX3_is_9 : decode cX3_is 9 = .ok (.getfield 9, 3) := dk_180 0 9 (dk_at dksX3_is_0 9 rfl rfl)
theorem dX3_is_12 : decode cX3_is 12 = .ok (.iload_n 1, 1) := dk_27 (dk_at dksX3_is_0 12 rfl rfl)
theorem dX3_is_13 : decode cX3_is 13 = .ok (.iaload, 1) := dk_46 (dk_at dksX3_is_0 13 rfl rfl)
theorem dX3_is_14 : decode cX3_is 14 = .ok (.isub, 1) := dk_100 (dk_at dksX3_is_0 14 rfl rfl)
theorem dX3_is_15 : decode cX3_is 15 = .ok (.iconst 1, 1) := dk_4 (dk_at dksX3_is_0 15 rfl rfl)
theorem dX3_is_16 : decode cX3_is 16 = .ok (.isub, 1) := dk_100 (dk_at dksX3_is_0 16 rfl rfl)
theorem dX3_is_17 : decode cX3_is 17 = .ok (.istore 5, 2) := dk_54 5 (dk_at dksX3_is_0 17 rfl rfl)
theorem dX3_is_19 : decode cX3_is 19 = .ok (.iload 4, 2) := dk_21 4 (dk_at dksX3_is_0 19 rfl rfl)
theorem dX3_is_21 : decode cX3_is 21 = .ok (.iload_n 3, 1) := dk_29 (dk_at dksX3_is_0 21 rfl rfl)
theorem dX3_is_22 : decode cX3_is 22 = .ok (.isub, 1) := dk_100 (dk_at dksX3_is_0 22 rfl rfl)
theorem dX3_is_23 : decode cX3_is 23 = .ok (.iload 5, 2) := dk_21 5 (dk_at dksX3_is_1 0 rfl rfl)
theorem dX3_is_25 : decode cX3_is 25 = .ok (.if_icmp .ne 7, 3) := dk_160 0 7 (dk_at dksX3_is_1 2 rfl rfl)
theorem dX3_is_28 : decode cX3_is 28 = .ok (.iconst 0, 1) := dk_3 (dk_at dksX3_is_1 5 rfl rfl)
theorem dX3_is_29 : decode cX3_is 29 = .ok (.goto 7, 3) := dk_167 0 7 (dk_at dksX3_is_1 6 rfl rfl)
theorem dX3_is_32 : decode cX3_is 32 = .ok (.iload 5, 2) := dk_21 5 (dk_at dksX3_is_1 9 rfl rfl)
theorem dX3_is_34 : decode cX3_is 34 = .ok (.iconst 1, 1) := dk_4 (dk_at dksX3_is_1 11 rfl rfl)
theorem dX3_is_35 : decode cX3_is 35 = .ok (.iadd, 1) := dk_96 (dk_at dksX3_is_1 12 rfl rfl)
theorem dX3_is_36 : decode cX3_is 36 = .ok (.istore 6, 2) := dk_54 6 (dk_at dksX3_is_1 13 rfl rfl)
theorem dX3_is_38 : decode cX3_is 38 = .ok (.iload 6, 2) := dk_21 6 (dk_at dksX3_is_1 15 rfl rfl)
theorem dX3_is_40 : decode cX3_is 40 = .ok (.iload 5, 2) := dk_21 5 (dk_at dksX3_is_1 17 rfl rfl)
theorem dX3_is_42 : decode cX3_is 42 = .ok (.if_icmp .ge 32, 3) := dk_162 0 32 (dk_at dksX3_is_1 19 rfl rfl)
theorem dX3_is_45 : decode cX3_is 45 = .ok (.ldc 13, 2) := dk_18 13 (dk_at dksX3_is_1 22 rfl rfl)
theorem dX3_is_47 : decode cX3_is 47 = .ok (.aload_n 0, 1) := dk_42 (dk_at dksX3_is_2 0 rfl rfl)
theorem dX3_is_48 : decode cX3_is 48 = .ok (.getfield 9, 3) := dk_180 0 9 (dk_at dksX3_is_2 1 rfl rfl)
theorem dX3_is_51 : decode cX3_is 51 = .ok (.iload_n 1, 1) := dk_27 (dk_at dksX3_is_2 4 rfl rfl)
theorem dX3_is_52 : decode cX3_is 52 = .ok (.iaload, 1) := dk_46 (dk_at dksX3_is_2 5 rfl rfl)
theorem dX3_is_53 : decode cX3_is 53 = .ok (.iload 6, 2) := dk_21 6 (dk_at dksX3_is_2 6 rfl rfl)
theorem dX3_is_55 : decode cX3_is 55 = .ok (.iadd, 1) := dk_96 (dk_at dksX3_is_2 8 rfl rfl)
theorem dX3_is_56 : decode cX3_is 56 = .ok (.invokevirtual 29, 3) := dk_182 0 29 (dk_at dksX3_is_2 9 rfl rfl)
theorem dX3_is_59 : decode cX3_is 59 = .ok (.aload_n 2, 1) := dk_44 (dk_at dksX3_is_2 12 rfl rfl)
theorem dX3_is_60 : decode cX3_is 60 = .ok (.iload_n 3, 1) := dk_29 (dk_at dksX3_is_2 13 rfl rfl)
theorem dX3_is_61 : decode cX3_is 61 = .ok (.iload 6, 2) := dk_21 6 (dk_at dksX3_is_2 14 rfl rfl)
theorem dX3_is_63 : decode cX3_is 63 = .ok (.iadd, 1) := dk_96 (dk_at dksX3_is_2 16 rfl rfl)
theorem dX3_is_64 : decode cX3_is 64 = .ok (.baload, 1) := dk_51 (dk_at dksX3_is_2 17 rfl rfl)
theorem dX3_is_65 : decode cX3_is 65 = .ok (.if_icmp .ne 9, 3) := dk_160 0 9 (dk_at dksX3_is_2 18 rfl rfl)
theorem dX3_is_68 : decode cX3_is 68 = .ok (.iinc 6 1, 3) := dk_132 6 1 (dk_at dksX3_is_2 21 rfl rfl)
theorem dX3_is_71 : decode cX3_is 71 = .ok (.goto (-33), 3) := dk_167 255 223 (dk_at dksX3_is_3 0 rfl rfl)
theorem dX3_is_74 : decode cX3_is 74 = .ok (.iload 6, 2) := dk_21 6 (dk_at dksX3_is_3 3 rfl rfl)
theorem dX3_is_76 : decode cX3_is 76 = .ok (.iload 5, 2) := dk_21 5 (dk_at dksX3_is_3 5 rfl rfl)
theorem dX3_is_78 : decode cX3_is 78 = .ok (.if_icmp .ne 7, 3) := dk_160 0 7 (dk_at dksX3_is_3 7 rfl rfl)
theorem dX3_is_81 : decode cX3_is 81 = .ok (.iconst 1, 1) := dk_4 (dk_at dksX3_is_3 10 rfl rfl)
theorem dX3_is_82 : decode cX3_is 82 = .ok (.goto 4, 3) := dk_167 0 4 (dk_at dksX3_is_3 11 rfl rfl)
theorem dX3_is_85 : decode cX3_is 85 = .ok (.iconst 0, 1) := dk_3 (dk_at dksX3_is_3 14 rfl rfl)
theorem dX3_is_86 : decode cX3_is 86 = .ok (.ireturn, 1) := dk_172 (dk_at dksX3_is_3 15 rfl rfl)
theorem q364 : (Jvm.Cond.initialized "ContractLedger$Word") ∈ lw_all := lw_g (lw_at lw_m1 7 rfl) rfl
theorem q491 : (Jvm.Cond.instantiable "ContractLedger$Word" (2 : Nat)) ∈ lw_all := lw_g (lw_at lw_m1 134 rfl) rfl
theorem q493 : (Jvm.Cond.instanceMethod ({ cls := "ContractLedger$Word", name := "<init>", desc := "()V" } : Jvm.MethodName)) ∈ lw_all := lw_g (lw_at lw_m1 136 rfl) rfl
theorem q494 : (Jvm.Cond.code ({ cls := "ContractLedger$Word", name := "<init>", desc := "()V" } : Jvm.MethodName) prog_24_method_1_code (2 : Nat) (Option.none : Option Jvm.ClassFile.FieldType)) ∈ lw_all := lw_g (lw_at lw_m1 137 rfl) rfl
theorem q495 : (Jvm.Cond.methodLink "ContractLedger$Word" (3 : Nat) ({ cls := "java/lang/Object", name := "<init>", desc := "()V" } : Jvm.MethodName)) ∈ lw_all := lw_g (lw_at lw_m1 138 rfl) rfl
theorem q496 : (Jvm.Cond.stringRef "ContractLedger$Word" (13 : Nat) "unit bool int nat mutez string bytes address timestamp operation option list set contract or map big_map lambda pair Unit True False None Some Left Right Pair Elt parameter storage code DROP DUP SWAP DIG DUG PUSH DIP UNIT PAIR UNPAIR CAR CDR SOME NONE LEFT RIGHT NIL CONS EMPTY_SET EMPTY_MAP EMPTY_BIG_MAP IF IF_NONE IF_LEFT IF_CONS LOOP LOOP_LEFT ITER MAP FAILWITH LAMBDA EXEC APPLY ADD SUB SUB_MUTEZ MUL EDIV NEG ABS INT ISNAT AND OR XOR NOT LSL LSR COMPARE EQ NEQ LT GT LE GE CONCAT SLICE SIZE MEM GET UPDATE GET_AND_UPDATE PACK UNPACK AMOUNT BALANCE SENDER SOURCE SELF_ADDRESS NOW LEVEL SELF ADDRESS CONTRACT TRANSFER_TOKENS CREATE_CONTRACT ") ∈ lw_tbl := lw_at lw_m1 139 rfl
theorem q497 : (Jvm.Cond.methodLink "ContractLedger$Word" (15 : Nat) ({ cls := "java/lang/String", name := "length", desc := "()I" } : Jvm.MethodName)) ∈ lw_all := lw_g (lw_at lw_m1 140 rfl) rfl
theorem q507 : (Jvm.Cond.methodLink "ContractLedger$Word" (25 : Nat) ({ cls := "java/lang/String", name := "indexOf", desc := "(II)I" } : Jvm.MethodName)) ∈ lw_all := lw_g (lw_at lw_m1 150 rfl) rfl
theorem q580 : (Jvm.Cond.fieldLink "ContractLedger$Word" (9 : Nat) "ContractLedger$Word" "starts" "[I") ∈ lw_all := lw_g (lw_at lw_m1 223 rfl) rfl
theorem q581 : (Jvm.Cond.fieldLink "ContractLedger$Word" (21 : Nat) "ContractLedger$Word" "count" "I") ∈ lw_all := lw_g (lw_at lw_m1 224 rfl) rfl
theorem q582 : (Jvm.Cond.laysFinal "ContractLedger$Word" "ContractLedger$Word" "starts" "[I") ∈ lw_all := lw_g (lw_at lw_m1 225 rfl) rfl
theorem q583 : (Jvm.Cond.soleField "ContractLedger$Word" "starts") ∈ lw_all := lw_g (lw_at lw_m1 226 rfl) rfl
theorem q584 : (Jvm.Cond.lays "ContractLedger$Word" "ContractLedger$Word" "count" "I") ∈ lw_all := lw_g (lw_at lw_m1 227 rfl) rfl
theorem q585 : (Jvm.Cond.soleField "ContractLedger$Word" "count") ∈ lw_all := lw_g (lw_at lw_m1 228 rfl) rfl
theorem q586 : (Jvm.Cond.superclass "ContractLedger$Word" "java/lang/Object") ∈ lw_all := lw_g (lw_at lw_m1 229 rfl) rfl
theorem q1785 : (Jvm.Cond.instanceMethod ({ cls := "ContractLedger$Word", name := "find", desc := "([BII)I" } : Jvm.MethodName)) ∈ lw_all := lw_g (lw_at lw_m6 228 rfl) rfl
theorem q1786 : (Jvm.Cond.selects "ContractLedger$Word" ({ cls := "ContractLedger$Word", name := "find", desc := "([BII)I" } : Jvm.MethodName) ({ cls := "ContractLedger$Word", name := "find", desc := "([BII)I" } : Jvm.MethodName)) ∈ lw_all := lw_g (lw_at lw_m6 229 rfl) rfl
theorem q1787 : (Jvm.Cond.code ({ cls := "ContractLedger$Word", name := "find", desc := "([BII)I" } : Jvm.MethodName) prog_24_method_3_code (5 : Nat) (Option.some Jvm.ClassFile.FieldType.int)) ∈ lw_all := lw_g (lw_at lw_m6 230 rfl) rfl
theorem q1788 : (Jvm.Cond.methodLink "ContractLedger$Word" (33 : Nat) ({ cls := "ContractLedger$Word", name := "is", desc := "(I[BII)Z" } : Jvm.MethodName)) ∈ lw_all := lw_g (lw_at lw_m6 231 rfl) rfl
theorem q1789 : (Jvm.Cond.privateMethod ({ cls := "ContractLedger$Word", name := "is", desc := "(I[BII)Z" } : Jvm.MethodName)) ∈ lw_tbl := lw_at lw_m6 232 rfl
theorem q1790 : (Jvm.Cond.instanceMethod ({ cls := "ContractLedger$Word", name := "is", desc := "(I[BII)Z" } : Jvm.MethodName)) ∈ lw_all := lw_g (lw_at lw_m6 233 rfl) rfl
theorem q1791 : (Jvm.Cond.code ({ cls := "ContractLedger$Word", name := "is", desc := "(I[BII)Z" } : Jvm.MethodName) prog_24_method_2_code (7 : Nat) (Option.some Jvm.ClassFile.FieldType.boolean)) ∈ lw_all := lw_g (lw_at lw_m6 234 rfl) rfl
theorem q1792 : (Jvm.Cond.methodLink "ContractLedger$Word" (29 : Nat) ({ cls := "java/lang/String", name := "charAt", desc := "(I)C" } : Jvm.MethodName)) ∈ lw_all := lw_g (lw_at lw_m6 235 rfl) rfl
set_option maxRecDepth 100000
set_option maxRecDepth 100000 in
set_option maxRecDepth 100000 in
abbrev cX4_init : ByteArray := prog_18_method_1_code
def yX4_init : MethodName := ⟨RX4, "<init>", "(LContractLedger$Word;)V"⟩
def dkwX4_init_4 : List UInt8 := [17, 16, 0, 188, 10, 181, 0, 50, 42, 17, 16, 0, 188, 10, 181, 0, 53, 42, 43, 181, 0, 56, 177]
abbrev dktX4_init_4 : List UInt8 := dkwX4_init_4 ++ []
def dkwX4_init_3 : List UInt8 := [181, 0, 41, 42, 17, 16, 0, 188, 10, 181, 0, 44, 42, 17, 16, 0, 188, 10, 181, 0, 47, 42]
abbrev dktX4_init_3 : List UInt8 := dkwX4_init_3 ++ dktX4_init_4
def dkwX4_init_2 : List UInt8 := [42, 17, 16, 0, 188, 10, 181, 0, 34, 42, 17, 16, 0, 188, 10, 181, 0, 38, 42, 17, 16, 0, 188, 10]
abbrev dktX4_init_2 : List UInt8 := dkwX4_init_2 ++ dktX4_init_3
def dkwX4_init_1 : List UInt8 := [183, 0, 20, 181, 0, 23, 42, 17, 16, 0, 188, 8, 181, 0, 27, 42, 17, 16, 0, 188, 8, 181, 0, 31]
abbrev dktX4_init_1 : List UInt8 := dkwX4_init_1 ++ dktX4_init_2
def dkwX4_init_0 : List UInt8 := [42, 183, 0, 3, 42, 187, 0, 9, 89, 183, 0, 11, 181, 0, 12, 42, 187, 0, 18, 89, 17, 0, 200]
abbrev dktX4_init_0 : List UInt8 := dkwX4_init_0 ++ dktX4_init_1
theorem dksX4_init_0 : cX4_init.data.toList.drop 0 = dktX4_init_0 := by decide +kernel
theorem dksX4_init_1 : cX4_init.data.toList.drop 23 = dktX4_init_1 := dk_seg dksX4_init_0 23 rfl rfl
theorem dksX4_init_2 : cX4_init.data.toList.drop 47 = dktX4_init_2 := dk_seg dksX4_init_1 24 rfl rfl
theorem dksX4_init_3 : cX4_init.data.toList.drop 71 = dktX4_init_3 := dk_seg dksX4_init_2 24 rfl rfl
theorem dksX4_init_4 : cX4_init.data.toList.drop 93 = dktX4_init_4 := dk_seg dksX4_init_3 22 rfl rfl
theorem dX4_init_0 : decode cX4_init 0 = .ok (.aload_n 0, 1) := dk_42 (dk_at dksX4_init_0 0 rfl rfl)
theorem dX4_init_1 : decode cX4_init 1 = .ok (.invokespecial 3, 3) := dk_183 0 3 (dk_at dksX4_init_0 1 rfl rfl)
theorem dX4_init_4 : decode cX4_init 4 = .ok (.aload_n 0, 1) := dk_42 (dk_at dksX4_init_0 4 rfl rfl)
theorem dX4_init_5 : decode cX4_init 5 = .ok (.new 9, 3) := dk_187 0 9 (dk_at dksX4_init_0 5 rfl rfl)
theorem dX4_init_8 : decode cX4_init 8 = .ok (.dup, 1) := dk_89 (dk_at dksX4_init_0 8 rfl rfl)
theorem dX4_init_9 : decode cX4_init 9 = .ok (.invokespecial 11, 3) := dk_183 0 11 (dk_at dksX4_init_0 9 rfl rfl)
theorem dX4_init_12 : decode cX4_init 12 = .ok (.putfield 12, 3) := dk_181 0 12 (dk_at dksX4_init_0 12 rfl rfl)
theorem dX4_init_15 : decode cX4_init 15 = .ok (.aload_n 0, 1) := dk_42 (dk_at dksX4_init_0 15 rfl rfl)
theorem dX4_init_16 : decode cX4_init 16 = .ok (.new 18, 3) := dk_187 0 18 (dk_at dksX4_init_0 16 rfl rfl)
theorem dX4_init_19 : decode cX4_init 19 = .ok (.dup, 1) := dk_89 (dk_at dksX4_init_0 19 rfl rfl)
theorem dX4_init_20 : decode cX4_init 20 = .ok (.sipush 200, 3) := dk_17 0 200 (dk_at dksX4_init_0 20 rfl rfl)
theorem dX4_init_23 : decode cX4_init 23 = .ok (.invokespecial 20, 3) := dk_183 0 20 (dk_at dksX4_init_1 0 rfl rfl)
theorem dX4_init_26 : decode cX4_init 26 = .ok (.putfield 23, 3) := dk_181 0 23 (dk_at dksX4_init_1 3 rfl rfl)
theorem dX4_init_29 : decode cX4_init 29 = .ok (.aload_n 0, 1) := dk_42 (dk_at dksX4_init_1 6 rfl rfl)
theorem dX4_init_30 : decode cX4_init 30 = .ok (.sipush 4096, 3) := dk_17 16 0 (dk_at dksX4_init_1 7 rfl rfl)
theorem dX4_init_33 : decode cX4_init 33 = .ok (.newarray .byte, 2) := dk_188_8 (dk_at dksX4_init_1 10 rfl rfl)
theorem dX4_init_35 : decode cX4_init 35 = .ok (.putfield 27, 3) := dk_181 0 27 (dk_at dksX4_init_1 12 rfl rfl)
theorem dX4_init_38 : decode cX4_init 38 = .ok (.aload_n 0, 1) := dk_42 (dk_at dksX4_init_1 15 rfl rfl)
theorem dX4_init_39 : decode cX4_init 39 = .ok (.sipush 4096, 3) := dk_17 16 0 (dk_at dksX4_init_1 16 rfl rfl)
theorem dX4_init_42 : decode cX4_init 42 = .ok (.newarray .byte, 2) := dk_188_8 (dk_at dksX4_init_1 19 rfl rfl)
theorem dX4_init_44 : decode cX4_init 44 = .ok (.putfield 31, 3) := dk_181 0 31 (dk_at dksX4_init_1 21 rfl rfl)
theorem dX4_init_47 : decode cX4_init 47 = .ok (.aload_n 0, 1) := dk_42 (dk_at dksX4_init_2 0 rfl rfl)
theorem dX4_init_48 : decode cX4_init 48 = .ok (.sipush 4096, 3) := dk_17 16 0 (dk_at dksX4_init_2 1 rfl rfl)
theorem dX4_init_51 : decode cX4_init 51 = .ok (.newarray .int, 2) := dk_188_10 (dk_at dksX4_init_2 4 rfl rfl)
theorem dX4_init_53 : decode cX4_init 53 = .ok (.putfield 34, 3) := dk_181 0 34 (dk_at dksX4_init_2 6 rfl rfl)
theorem dX4_init_56 : decode cX4_init 56 = .ok (.aload_n 0, 1) := dk_42 (dk_at dksX4_init_2 9 rfl rfl)
theorem dX4_init_57 : decode cX4_init 57 = .ok (.sipush 4096, 3) := dk_17 16 0 (dk_at dksX4_init_2 10 rfl rfl)
theorem dX4_init_60 : decode cX4_init 60 = .ok (.newarray .int, 2) := dk_188_10 (dk_at dksX4_init_2 13 rfl rfl)
theorem dX4_init_62 : decode cX4_init 62 = .ok (.putfield 38, 3) := dk_181 0 38 (dk_at dksX4_init_2 15 rfl rfl)
theorem dX4_init_65 : decode cX4_init 65 = .ok (.aload_n 0, 1) := dk_42 (dk_at dksX4_init_2 18 rfl rfl)
theorem dX4_init_66 : decode cX4_init 66 = .ok (.sipush 4096, 3) := dk_17 16 0 (dk_at dksX4_init_2 19 rfl rfl)
theorem dX4_init_69 : decode cX4_init 69 = .ok (.newarray .int, 2) := dk_188_10 (dk_at dksX4_init_2 22 rfl rfl)
theorem dX4_init_71 : decode cX4_init 71 = .ok (.putfield 41, 3) := dk_181 0 41 (dk_at dksX4_init_3 0 rfl rfl)
theorem dX4_init_74 : decode cX4_init 74 = .ok (.aload_n 0, 1) := dk_42 (dk_at dksX4_init_3 3 rfl rfl)
theorem dX4_init_75 : decode cX4_init 75 = .ok (.sipush 4096, 3) := dk_17 16 0 (dk_at dksX4_init_3 4 rfl rfl)
theorem dX4_init_78 : decode cX4_init 78 = .ok (.newarray .int, 2) := dk_188_10 (dk_at dksX4_init_3 7 rfl rfl)
theorem dX4_init_80 : decode cX4_init 80 = .ok (.putfield 44, 3) := dk_181 0 44 (dk_at dksX4_init_3 9 rfl rfl)
theorem dX4_init_83 : decode cX4_init 83 = .ok (.aload_n 0, 1) := dk_42 (dk_at dksX4_init_3 12 rfl rfl)
theorem dX4_init_84 : decode cX4_init 84 = .ok (.sipush 4096, 3) := dk_17 16 0 (dk_at dksX4_init_3 13 rfl rfl)
theorem dX4_init_87 : decode cX4_init 87 = .ok (.newarray .int, 2) := dk_188_10 (dk_at dksX4_init_3 16 rfl rfl)
theorem dX4_init_89 : decode cX4_init 89 = .ok (.putfield 47, 3) := dk_181 0 47 (dk_at dksX4_init_3 18 rfl rfl)
theorem dX4_init_92 : decode cX4_init 92 = .ok (.aload_n 0, 1) := dk_42 (dk_at dksX4_init_3 21 rfl rfl)
theorem dX4_init_93 : decode cX4_init 93 = .ok (.sipush 4096, 3) := dk_17 16 0 (dk_at dksX4_init_4 0 rfl rfl)
theorem dX4_init_96 : decode cX4_init 96 = .ok (.newarray .int, 2) := dk_188_10 (dk_at dksX4_init_4 3 rfl rfl)
theorem dX4_init_98 : decode cX4_init 98 = .ok (.putfield 50, 3) := dk_181 0 50 (dk_at dksX4_init_4 5 rfl rfl)
theorem dX4_init_101 : decode cX4_init 101 = .ok (.aload_n 0, 1) := dk_42 (dk_at dksX4_init_4 8 rfl rfl)
theorem dX4_init_102 : decode cX4_init 102 = .ok (.sipush 4096, 3) := dk_17 16 0 (dk_at dksX4_init_4 9 rfl rfl)
theorem dX4_init_105 : decode cX4_init 105 = .ok (.newarray .int, 2) := dk_188_10 (dk_at dksX4_init_4 12 rfl rfl)
theorem dX4_init_107 : decode cX4_init 107 = .ok (.putfield 53, 3) := dk_181 0 53 (dk_at dksX4_init_4 14 rfl rfl)
theorem dX4_init_110 : decode cX4_init 110 = .ok (.aload_n 0, 1) := dk_42 (dk_at dksX4_init_4 17 rfl rfl)
theorem dX4_init_111 : decode cX4_init 111 = .ok (.aload_n 1, 1) := dk_43 (dk_at dksX4_init_4 18 rfl rfl)
theorem dX4_init_112 : decode cX4_init 112 = .ok (.putfield 56, 3) := dk_181 0 56 (dk_at dksX4_init_4 19 rfl rfl)
theorem dX4_init_115 : decode cX4_init 115 = .ok (.return_, 1) := dk_177 (dk_at dksX4_init_4 22 rfl rfl)
abbrev cX4_read : ByteArray := prog_18_method_3_code
def yX4_read : MethodName := ⟨RX4, "read", "([BI)Z"⟩
def dkwX4_read_2 : List UInt8 := [156, 0, 7, 4, 167, 0, 4, 3, 172]
abbrev dktX4_read_2 : List UInt8 := dkwX4_read_2 ++ []
def dkwX4_read_1 : List UInt8 := [155, 0, 18, 42, 180, 0, 12, 180, 0, 78, 153, 0, 8, 42, 182, 0, 81, 87, 42, 180, 0, 67]
abbrev dktX4_read_1 : List UInt8 := dkwX4_read_1 ++ dktX4_read_2
def dkwX4_read_0 : List UInt8 := [42, 3, 181, 0, 63, 42, 2, 181, 0, 67, 42, 180, 0, 12, 43, 28, 182, 0, 70, 42, 3, 182, 0, 74]
abbrev dktX4_read_0 : List UInt8 := dkwX4_read_0 ++ dktX4_read_1
theorem dksX4_read_0 : cX4_read.data.toList.drop 0 = dktX4_read_0 := by decide +kernel
theorem dksX4_read_1 : cX4_read.data.toList.drop 24 = dktX4_read_1 := dk_seg dksX4_read_0 24 rfl rfl
theorem dksX4_read_2 : cX4_read.data.toList.drop 46 = dktX4_read_2 := dk_seg dksX4_read_1 22 rfl rfl
theorem dX4_read_0 : decode cX4_read 0 = .ok (.aload_n 0, 1) := dk_42 (dk_at dksX4_read_0 0 rfl rfl)
theorem dX4_read_1 : decode cX4_read 1 = .ok (.iconst 0, 1) := dk_3 (dk_at dksX4_read_0 1 rfl rfl)
theorem dX4_read_2 : decode cX4_read 2 = .ok (.putfield 63, 3) := dk_181 0 63 (dk_at dksX4_read_0 2 rfl rfl)
theorem dX4_read_5 : decode cX4_read 5 = .ok (.aload_n 0, 1) := dk_42 (dk_at dksX4_read_0 5 rfl rfl)
theorem dX4_read_6 : decode cX4_read 6 = .ok (.iconst (-1), 1) := dk_2 (dk_at dksX4_read_0 6 rfl rfl)
theorem dX4_read_7 : decode cX4_read 7 = .ok (.putfield 67, 3) := dk_181 0 67 (dk_at dksX4_read_0 7 rfl rfl)
theorem dX4_read_10 : decode cX4_read 10 = .ok (.aload_n 0, 1) := dk_42 (dk_at dksX4_read_0 10 rfl rfl)
theorem dX4_read_11 : decode cX4_read 11 = .ok (.getfield 12, 3) := dk_180 0 12 (dk_at dksX4_read_0 11 rfl rfl)
theorem dX4_read_14 : decode cX4_read 14 = .ok (.aload_n 1, 1) := dk_43 (dk_at dksX4_read_0 14 rfl rfl)
theorem dX4_read_15 : decode cX4_read 15 = .ok (.iload_n 2, 1) := dk_28 (dk_at dksX4_read_0 15 rfl rfl)
theorem dX4_read_16 : decode cX4_read 16 = .ok (.invokevirtual 70, 3) := dk_182 0 70 (dk_at dksX4_read_0 16 rfl rfl)
theorem dX4_read_19 : decode cX4_read 19 = .ok (.aload_n 0, 1) := dk_42 (dk_at dksX4_read_0 19 rfl rfl)
theorem dX4_read_20 : decode cX4_read 20 = .ok (.iconst 0, 1) := dk_3 (dk_at dksX4_read_0 20 rfl rfl)
theorem dX4_read_21 : decode cX4_read 21 = .ok (.invokevirtual 74, 3) := dk_182 0 74 (dk_at dksX4_read_0 21 rfl rfl)
theorem dX4_read_24 : decode cX4_read 24 = .ok (.ifCond .lt 18, 3) := dk_155 0 18 (dk_at dksX4_read_1 0 rfl rfl)
theorem dX4_read_27 : decode cX4_read 27 = .ok (.aload_n 0, 1) := dk_42 (dk_at dksX4_read_1 3 rfl rfl)
theorem dX4_read_28 : decode cX4_read 28 = .ok (.getfield 12, 3) := dk_180 0 12 (dk_at dksX4_read_1 4 rfl rfl)
theorem dX4_read_31 : decode cX4_read 31 = .ok (.getfield 78, 3) := dk_180 0 78 (dk_at dksX4_read_1 7 rfl rfl)
theorem dX4_read_34 : decode cX4_read 34 = .ok (.ifCond .eq 8, 3) := dk_153 0 8 (dk_at dksX4_read_1 10 rfl rfl)
theorem dX4_read_37 : decode cX4_read 37 = .ok (.aload_n 0, 1) := dk_42 (dk_at dksX4_read_1 13 rfl rfl)
theorem dX4_read_38 : decode cX4_read 38 = .ok (.invokevirtual 81, 3) := dk_182 0 81 (dk_at dksX4_read_1 14 rfl rfl)
theorem dX4_read_41 : decode cX4_read 41 = .ok (.pop, 1) := dk_87 (dk_at dksX4_read_1 17 rfl rfl)
theorem dX4_read_42 : decode cX4_read 42 = .ok (.aload_n 0, 1) := dk_42 (dk_at dksX4_read_1 18 rfl rfl)
theorem dX4_read_43 : decode cX4_read 43 = .ok (.getfield 67, 3) := dk_180 0 67 (dk_at dksX4_read_1 19 rfl rfl)
theorem dX4_read_46 : decode cX4_read 46 = .ok (.ifCond .ge 7, 3) := dk_156 0 7 (dk_at dksX4_read_2 0 rfl rfl)
theorem dX4_read_49 : decode cX4_read 49 = .ok (.iconst 1, 1) := dk_4 (dk_at dksX4_read_2 3 rfl rfl)
theorem dX4_read_50 : decode cX4_read 50 = .ok (.goto 4, 3) := dk_167 0 4 (dk_at dksX4_read_2 4 rfl rfl)
theorem dX4_read_53 : decode cX4_read 53 = .ok (.iconst 0, 1) := dk_3 (dk_at dksX4_read_2 7 rfl rfl)
theorem dX4_read_54 : decode cX4_read 54 = .ok (.ireturn, 1) := dk_172 (dk_at dksX4_read_2 8 rfl rfl)
abbrev cX4_item : ByteArray := prog_18_method_10_code
def yX4_item : MethodName := ⟨RX4, "item", "(I)I"⟩
def dkwX4_item_2 : List UInt8 := [42, 27, 182, 0, 124, 172, 42, 27, 182, 0, 127, 172, 42, 27, 182, 0, 130, 172, 42, 182, 0, 81, 172]
abbrev dktX4_item_2 : List UInt8 := dkwX4_item_2 ++ []
def dkwX4_item_1 : List UInt8 := [171, 0, 0, 0, 67, 0, 0, 0, 5, 0, 0, 0, 2, 0, 0, 0, 49, 0, 0, 0, 3, 0, 0, 0, 49, 0, 0, 0, 4, 0, 0, 0, 49, 0, 0, 0, 5, 0, 0, 0, 55, 0, 0, 0, 123, 0, 0, 0, 61]
abbrev dktX4_item_1 : List UInt8 := dkwX4_item_1 ++ dktX4_item_2
def dkwX4_item_0 : List UInt8 := [42, 180, 0, 12, 180, 0, 78]
abbrev dktX4_item_0 : List UInt8 := dkwX4_item_0 ++ dktX4_item_1
theorem dksX4_item_0 : cX4_item.data.toList.drop 0 = dktX4_item_0 := by decide +kernel
theorem dksX4_item_1 : cX4_item.data.toList.drop 7 = dktX4_item_1 := dk_seg dksX4_item_0 7 rfl rfl
theorem dksX4_item_2 : cX4_item.data.toList.drop 56 = dktX4_item_2 := dk_seg dksX4_item_1 49 rfl rfl
theorem dX4_item_0 : decode cX4_item 0 = .ok (.aload_n 0, 1) := dk_42 (dk_at dksX4_item_0 0 rfl rfl)
theorem dX4_item_1 : decode cX4_item 1 = .ok (.getfield 12, 3) := dk_180 0 12 (dk_at dksX4_item_0 1 rfl rfl)
theorem dX4_item_4 : decode cX4_item 4 = .ok (.getfield 78, 3) := dk_180 0 78 (dk_at dksX4_item_0 4 rfl rfl)
theorem dX4_item_7 : decode cX4_item 7 = .ok (.lookupswitch 67 #[(2, 49), (3, 49), (4, 49), (5, 55), (123, 61)], 49) := by decide +kernel
theorem dX4_item_56 : decode cX4_item 56 = .ok (.aload_n 0, 1) := dk_42 (dk_at dksX4_item_2 0 rfl rfl)
theorem dX4_item_57 : decode cX4_item 57 = .ok (.iload_n 1, 1) := dk_27 (dk_at dksX4_item_2 1 rfl rfl)
theorem dX4_item_58 : decode cX4_item 58 = .ok (.invokevirtual 124, 3) := dk_182 0 124 (dk_at dksX4_item_2 2 rfl rfl)
theorem dX4_item_61 : decode cX4_item 61 = .ok (.ireturn, 1) := dk_172 (dk_at dksX4_item_2 5 rfl rfl)
theorem dX4_item_62 : decode cX4_item 62 = .ok (.aload_n 0, 1) := dk_42 (dk_at dksX4_item_2 6 rfl rfl)
theorem dX4_item_63 : decode cX4_item 63 = .ok (.iload_n 1, 1) := dk_27 (dk_at dksX4_item_2 7 rfl rfl)
theorem dX4_item_64 : decode cX4_item 64 = .ok (.invokevirtual 127, 3) := dk_182 0 127 (dk_at dksX4_item_2 8 rfl rfl)
theorem dX4_item_67 : decode cX4_item 67 = .ok (.ireturn, 1) := dk_172 (dk_at dksX4_item_2 11 rfl rfl)
theorem dX4_item_68 : decode cX4_item 68 = .ok (.aload_n 0, 1) := dk_42 (dk_at dksX4_item_2 12 rfl rfl)
theorem dX4_item_69 : decode cX4_item 69 = .ok (.iload_n 1, 1) := dk_27 (dk_at dksX4_item_2 13 rfl rfl)
theorem dX4_item_70 : decode cX4_item 70 = .ok (.invokevirtual 130, 3) := dk_182 0 130 (dk_at dksX4_item_2 14 rfl rfl)
theorem dX4_item_73 : decode cX4_item 73 = .ok (.ireturn, 1) := dk_172 (dk_at dksX4_item_2 17 rfl rfl)
theorem dX4_item_74 : decode cX4_item 74 = .ok (.aload_n 0, 1) := dk_42 (dk_at dksX4_item_2 18 rfl rfl)
theorem dX4_item_75 : decode cX4_item 75 = .ok (.invokevirtual 81, 3) := dk_182 0 81 (dk_at dksX4_item_2 19 rfl rfl)
theorem dX4_item_78 : decode cX4_item 78 = .ok (.ireturn, 1) := dk_172 (dk_at dksX4_item_2 22 rfl rfl)
abbrev cX4_leaf : ByteArray := prog_18_method_9_code
def yX4_leaf : MethodName := ⟨RX4, "leaf", "(I)I"⟩
def dkwX4_leaf_3 : List UInt8 := [28, 155, 0, 10, 42, 180, 0, 12, 182, 0, 121, 28, 172]
abbrev dktX4_leaf_3 : List UInt8 := dkwX4_leaf_3 ++ []
def dkwX4_leaf_2 : List UInt8 := [17, 4, 0, 164, 0, 8, 42, 182, 0, 81, 172, 42, 42, 180, 0, 12, 180, 0, 78, 27, 182, 0, 118, 61]
abbrev dktX4_leaf_2 : List UInt8 := dkwX4_leaf_2 ++ dktX4_leaf_3
def dkwX4_leaf_1 : List UInt8 := [180, 0, 85, 42, 180, 0, 12, 180, 0, 112, 42, 180, 0, 23, 184, 0, 115, 42, 180, 0, 23, 182, 0, 97]
abbrev dktX4_leaf_1 : List UInt8 := dkwX4_leaf_1 ++ dktX4_leaf_2
def dkwX4_leaf_0 : List UInt8 := [42, 180, 0, 12, 180, 0, 78, 5, 160, 0, 49, 42, 180, 0, 12, 180, 0, 60, 42, 180, 0, 12]
abbrev dktX4_leaf_0 : List UInt8 := dkwX4_leaf_0 ++ dktX4_leaf_1
theorem dksX4_leaf_0 : cX4_leaf.data.toList.drop 0 = dktX4_leaf_0 := by decide +kernel
theorem dksX4_leaf_1 : cX4_leaf.data.toList.drop 22 = dktX4_leaf_1 := dk_seg dksX4_leaf_0 22 rfl rfl
theorem dksX4_leaf_2 : cX4_leaf.data.toList.drop 46 = dktX4_leaf_2 := dk_seg dksX4_leaf_1 24 rfl rfl
theorem dksX4_leaf_3 : cX4_leaf.data.toList.drop 70 = dktX4_leaf_3 := dk_seg dksX4_leaf_2 24 rfl rfl
theorem dX4_leaf_0 : decode cX4_leaf 0 = .ok (.aload_n 0, 1) := dk_42 (dk_at dksX4_leaf_0 0 rfl rfl)
theorem dX4_leaf_1 : decode cX4_leaf 1 = .ok (.getfield 12, 3) := dk_180 0 12 (dk_at dksX4_leaf_0 1 rfl rfl)
theorem dX4_leaf_4 : decode cX4_leaf 4 = .ok (.getfield 78, 3) := dk_180 0 78 (dk_at dksX4_leaf_0 4 rfl rfl)
theorem dX4_leaf_7 : decode cX4_leaf 7 = .ok (.iconst 2, 1) := dk_5 (dk_at dksX4_leaf_0 7 rfl rfl)
theorem dX4_leaf_8 : decode cX4_leaf 8 = .ok (.if_icmp .ne 49, 3) := dk_160 0 49 (dk_at dksX4_leaf_0 8 rfl rfl)
theorem dX4_leaf_11 : decode cX4_leaf 11 = .ok (.aload_n 0, 1) := dk_42 (dk_at dksX4_leaf_0 11 rfl rfl)
theorem dX4_leaf_12 : decode cX4_leaf 12 = .ok (.getfield 12, 3) := dk_180 0 12 (dk_at dksX4_leaf_0 12 rfl rfl)
theorem dX4_leaf_15 : decode cX4_leaf 15 = .ok (.getfield 60, 3) := dk_180 0 60 (dk_at dksX4_leaf_0 15 rfl rfl)
theorem dX4_leaf_18 : decode cX4_leaf 18 = .ok (.aload_n 0, 1) := dk_42 (dk_at dksX4_leaf_0 18 rfl rfl)
theorem dX4_leaf_19 : decode cX4_leaf 19 = .ok (.getfield 12, 3) := dk_180 0 12 (dk_at dksX4_leaf_0 19 rfl rfl)
theorem dX4_leaf_22 : decode cX4_leaf 22 = .ok (.getfield 85, 3) := dk_180 0 85 (dk_at dksX4_leaf_1 0 rfl rfl)
theorem dX4_leaf_25 : decode cX4_leaf 25 = .ok (.aload_n 0, 1) := dk_42 (dk_at dksX4_leaf_1 3 rfl rfl)
theorem dX4_leaf_26 : decode cX4_leaf 26 = .ok (.getfield 12, 3) := dk_180 0 12 (dk_at dksX4_leaf_1 4 rfl rfl)
theorem dX4_leaf_29 : decode cX4_leaf 29 = .ok (.getfield 112, 3) := dk_180 0 112 (dk_at dksX4_leaf_1 7 rfl rfl)
theorem dX4_leaf_32 : decode cX4_leaf 32 = .ok (.aload_n 0, 1) := dk_42 (dk_at dksX4_leaf_1 10 rfl rfl)
theorem dX4_leaf_33 : decode cX4_leaf 33 = .ok (.getfield 23, 3) := dk_180 0 23 (dk_at dksX4_leaf_1 11 rfl rfl)
theorem dX4_leaf_36 : decode cX4_leaf 36 = .ok (.invokestatic 115, 3) := dk_184 0 115 (dk_at dksX4_leaf_1 14 rfl rfl)
theorem dX4_leaf_39 : decode cX4_leaf 39 = .ok (.aload_n 0, 1) := dk_42 (dk_at dksX4_leaf_1 17 rfl rfl)
theorem dX4_leaf_40 : decode cX4_leaf 40 = .ok (.getfield 23, 3) := dk_180 0 23 (dk_at dksX4_leaf_1 18 rfl rfl)
theorem dX4_leaf_43 : decode cX4_leaf 43 = .ok (.invokevirtual 97, 3) := dk_182 0 97 (dk_at dksX4_leaf_1 21 rfl rfl)
theorem dX4_leaf_46 : decode cX4_leaf 46 = .ok (.sipush 1024, 3) := dk_17 4 0 (dk_at dksX4_leaf_2 0 rfl rfl)
theorem dX4_leaf_49 : decode cX4_leaf 49 = .ok (.if_icmp .le 8, 3) := dk_164 0 8 (dk_at dksX4_leaf_2 3 rfl rfl)
theorem dX4_leaf_52 : decode cX4_leaf 52 = .ok (.aload_n 0, 1) := dk_42 (dk_at dksX4_leaf_2 6 rfl rfl)
theorem dX4_leaf_53 : decode cX4_leaf 53 = .ok (.invokevirtual 81, 3) := dk_182 0 81 (dk_at dksX4_leaf_2 7 rfl rfl)
theorem dX4_leaf_56 : decode cX4_leaf 56 = .ok (.ireturn, 1) := dk_172 (dk_at dksX4_leaf_2 10 rfl rfl)
theorem dX4_leaf_57 : decode cX4_leaf 57 = .ok (.aload_n 0, 1) := dk_42 (dk_at dksX4_leaf_2 11 rfl rfl)
theorem dX4_leaf_58 : decode cX4_leaf 58 = .ok (.aload_n 0, 1) := dk_42 (dk_at dksX4_leaf_2 12 rfl rfl)
theorem dX4_leaf_59 : decode cX4_leaf 59 = .ok (.getfield 12, 3) := dk_180 0 12 (dk_at dksX4_leaf_2 13 rfl rfl)
theorem dX4_leaf_62 : decode cX4_leaf 62 = .ok (.getfield 78, 3) := dk_180 0 78 (dk_at dksX4_leaf_2 16 rfl rfl)
theorem dX4_leaf_65 : decode cX4_leaf 65 = .ok (.iload_n 1, 1) := dk_27 (dk_at dksX4_leaf_2 19 rfl rfl)
theorem dX4_leaf_66 : decode cX4_leaf 66 = .ok (.invokevirtual 118, 3) := dk_182 0 118 (dk_at dksX4_leaf_2 20 rfl rfl)
theorem dX4_leaf_69 : decode cX4_leaf 69 = .ok (.istore_n 2, 1) := dk_61 (dk_at dksX4_leaf_2 23 rfl rfl)
theorem dX4_leaf_70 : decode cX4_leaf 70 = .ok (.iload_n 2, 1) := dk_28 (dk_at dksX4_leaf_3 0 rfl rfl)
theorem dX4_leaf_71 : decode cX4_leaf 71 = .ok (.ifCond .lt 10, 3) := dk_155 0 10 (dk_at dksX4_leaf_3 1 rfl rfl)
theorem dX4_leaf_74 : decode cX4_leaf 74 = .ok (.aload_n 0, 1) := dk_42 (dk_at dksX4_leaf_3 4 rfl rfl)
theorem dX4_leaf_75 : decode cX4_leaf 75 = .ok (.getfield 12, 3) := dk_180 0 12 (dk_at dksX4_leaf_3 5 rfl rfl)
theorem dX4_leaf_78 : decode cX4_leaf 78 = .ok (.invokevirtual 121, 3) := dk_182 0 121 (dk_at dksX4_leaf_3 8 rfl rfl)
theorem dX4_leaf_81 : decode cX4_leaf 81 = .ok (.iload_n 2, 1) := dk_28 (dk_at dksX4_leaf_3 11 rfl rfl)
theorem dX4_leaf_82 : decode cX4_leaf 82 = .ok (.ireturn, 1) := dk_172 (dk_at dksX4_leaf_3 12 rfl rfl)
abbrev cX4_number : ByteArray := prog_18_method_6_code
def yX4_number : MethodName := ⟨RX4, "number", "([BIILContractLedger$Whole;)V"⟩
def dkwX4_number_3 : List UInt8 := [21, 4, 153, 0, 14, 45, 182, 0, 104, 154, 0, 7, 4, 167, 0, 4, 3, 181, 0, 108, 177]
abbrev dktX4_number_3 : List UInt8 := dkwX4_number_3 ++ []
def dkwX4_number_2 : List UInt8 := [17, 4, 8, 163, 0, 20, 45, 42, 21, 5, 51, 16, 48, 100, 184, 0, 100, 132, 5, 1, 167, 255, 226, 45]
abbrev dktX4_number_2 : List UInt8 := dkwX4_number_2 ++ dktX4_number_3
def dkwX4_number_1 : List UInt8 := [153, 0, 9, 27, 4, 96, 167, 0, 4, 27, 54, 5, 21, 5, 28, 162, 0, 30, 45, 182, 0, 97]
abbrev dktX4_number_1 : List UInt8 := dkwX4_number_1 ++ dktX4_number_2
def dkwX4_number_0 : List UInt8 := [42, 27, 51, 16, 45, 160, 0, 7, 4, 167, 0, 4, 3, 54, 4, 45, 9, 182, 0, 93, 21, 4]
abbrev dktX4_number_0 : List UInt8 := dkwX4_number_0 ++ dktX4_number_1
theorem dksX4_number_0 : cX4_number.data.toList.drop 0 = dktX4_number_0 := by decide +kernel
theorem dksX4_number_1 : cX4_number.data.toList.drop 22 = dktX4_number_1 := dk_seg dksX4_number_0 22 rfl rfl
theorem dksX4_number_2 : cX4_number.data.toList.drop 44 = dktX4_number_2 := dk_seg dksX4_number_1 22 rfl rfl
theorem dksX4_number_3 : cX4_number.data.toList.drop 68 = dktX4_number_3 := dk_seg dksX4_number_2 24 rfl rfl
theorem dX4_number_0 : decode cX4_number 0 = .ok (.aload_n 0, 1) := dk_42 (dk_at dksX4_number_0 0 rfl rfl)
theorem dX4_number_1 : decode cX4_number 1 = .ok (.iload_n 1, 1) := dk_27 (dk_at dksX4_number_0 1 rfl rfl)
theorem dX4_number_2 : decode cX4_number 2 = .ok (.baload, 1) := dk_51 (dk_at dksX4_number_0 2 rfl rfl)
theorem dX4_number_3 : decode cX4_number 3 = .ok (.bipush 45, 2) := dk_16 45 (dk_at dksX4_number_0 3 rfl rfl)
theorem dX4_number_5 : decode cX4_number 5 = .ok (.if_icmp .ne 7, 3) := dk_160 0 7 (dk_at dksX4_number_0 5 rfl rfl)
theorem dX4_number_8 : decode cX4_number 8 = .ok (.iconst 1, 1) := dk_4 (dk_at dksX4_number_0 8 rfl rfl)
theorem dX4_number_9 : decode cX4_number 9 = .ok (.goto 4, 3) := dk_167 0 4 (dk_at dksX4_number_0 9 rfl rfl)
theorem dX4_number_12 : decode cX4_number 12 = .ok (.iconst 0, 1) := dk_3 (dk_at dksX4_number_0 12 rfl rfl)
theorem dX4_number_13 : decode cX4_number 13 = .ok (.istore 4, 2) := dk_54 4 (dk_at dksX4_number_0 13 rfl rfl)
theorem dX4_number_15 : decode cX4_number 15 = .ok (.aload_n 3, 1) := dk_45 (dk_at dksX4_number_0 15 rfl rfl)
theorem dX4_number_16 : decode cX4_number 16 = .ok (.lconst 0, 1) := dk_9 (dk_at dksX4_number_0 16 rfl rfl)
theorem dX4_number_17 : decode cX4_number 17 = .ok (.invokevirtual 93, 3) := dk_182 0 93 (dk_at dksX4_number_0 17 rfl rfl)
theorem dX4_number_20 : decode cX4_number 20 = .ok (.iload 4, 2) := dk_21 4 (dk_at dksX4_number_0 20 rfl rfl)
theorem dX4_number_22 : decode cX4_number 22 = .ok (.ifCond .eq 9, 3) := dk_153 0 9 (dk_at dksX4_number_1 0 rfl rfl)
theorem dX4_number_25 : decode cX4_number 25 = .ok (.iload_n 1, 1) := dk_27 (dk_at dksX4_number_1 3 rfl rfl)
theorem dX4_number_26 : decode cX4_number 26 = .ok (.iconst 1, 1) := dk_4 (dk_at dksX4_number_1 4 rfl rfl)
theorem dX4_number_27 : decode cX4_number 27 = .ok (.iadd, 1) := dk_96 (dk_at dksX4_number_1 5 rfl rfl)
theorem dX4_number_28 : decode cX4_number 28 = .ok (.goto 4, 3) := dk_167 0 4 (dk_at dksX4_number_1 6 rfl rfl)
theorem dX4_number_31 : decode cX4_number 31 = .ok (.iload_n 1, 1) := dk_27 (dk_at dksX4_number_1 9 rfl rfl)
theorem dX4_number_32 : decode cX4_number 32 = .ok (.istore 5, 2) := dk_54 5 (dk_at dksX4_number_1 10 rfl rfl)
theorem dX4_number_34 : decode cX4_number 34 = .ok (.iload 5, 2) := dk_21 5 (dk_at dksX4_number_1 12 rfl rfl)
theorem dX4_number_36 : decode cX4_number 36 = .ok (.iload_n 2, 1) := dk_28 (dk_at dksX4_number_1 14 rfl rfl)
theorem dX4_number_37 : decode cX4_number 37 = .ok (.if_icmp .ge 30, 3) := dk_162 0 30 (dk_at dksX4_number_1 15 rfl rfl)
theorem dX4_number_40 : decode cX4_number 40 = .ok (.aload_n 3, 1) := dk_45 (dk_at dksX4_number_1 18 rfl rfl)
theorem dX4_number_41 : decode cX4_number 41 = .ok (.invokevirtual 97, 3) := dk_182 0 97 (dk_at dksX4_number_1 19 rfl rfl)
theorem dX4_number_44 : decode cX4_number 44 = .ok (.sipush 1032, 3) := dk_17 4 8 (dk_at dksX4_number_2 0 rfl rfl)
theorem dX4_number_47 : decode cX4_number 47 = .ok (.if_icmp .gt 20, 3) := dk_163 0 20 (dk_at dksX4_number_2 3 rfl rfl)
theorem dX4_number_50 : decode cX4_number 50 = .ok (.aload_n 3, 1) := dk_45 (dk_at dksX4_number_2 6 rfl rfl)
theorem dX4_number_51 : decode cX4_number 51 = .ok (.aload_n 0, 1) := dk_42 (dk_at dksX4_number_2 7 rfl rfl)
theorem dX4_number_52 : decode cX4_number 52 = .ok (.iload 5, 2) := dk_21 5 (dk_at dksX4_number_2 8 rfl rfl)
theorem dX4_number_54 : decode cX4_number 54 = .ok (.baload, 1) := dk_51 (dk_at dksX4_number_2 10 rfl rfl)
theorem dX4_number_55 : decode cX4_number 55 = .ok (.bipush 48, 2) := dk_16 48 (dk_at dksX4_number_2 11 rfl rfl)
theorem dX4_number_57 : decode cX4_number 57 = .ok (.isub, 1) := dk_100 (dk_at dksX4_number_2 13 rfl rfl)
theorem dX4_number_58 : decode cX4_number 58 = .ok (.invokestatic 100, 3) := dk_184 0 100 (dk_at dksX4_number_2 14 rfl rfl)
theorem dX4_number_61 : decode cX4_number 61 = .ok (.iinc 5 1, 3) := dk_132 5 1 (dk_at dksX4_number_2 17 rfl rfl)
theorem dX4_number_64 : decode cX4_number 64 = .ok (.goto (-30), 3) := dk_167 255 226 (dk_at dksX4_number_2 20 rfl rfl)
theorem dX4_number_67 : decode cX4_number 67 = .ok (.aload_n 3, 1) := dk_45 (dk_at dksX4_number_2 23 rfl rfl)
theorem dX4_number_68 : decode cX4_number 68 = .ok (.iload 4, 2) := dk_21 4 (dk_at dksX4_number_3 0 rfl rfl)
theorem dX4_number_70 : decode cX4_number 70 = .ok (.ifCond .eq 14, 3) := dk_153 0 14 (dk_at dksX4_number_3 2 rfl rfl)
theorem dX4_number_73 : decode cX4_number 73 = .ok (.aload_n 3, 1) := dk_45 (dk_at dksX4_number_3 5 rfl rfl)
theorem dX4_number_74 : decode cX4_number 74 = .ok (.invokevirtual 104, 3) := dk_182 0 104 (dk_at dksX4_number_3 6 rfl rfl)
theorem dX4_number_77 : decode cX4_number 77 = .ok (.ifCond .ne 7, 3) := dk_154 0 7 (dk_at dksX4_number_3 9 rfl rfl)
theorem dX4_number_80 : decode cX4_number 80 = .ok (.iconst 1, 1) := dk_4 (dk_at dksX4_number_3 12 rfl rfl)
theorem dX4_number_81 : decode cX4_number 81 = .ok (.goto 4, 3) := dk_167 0 4 (dk_at dksX4_number_3 13 rfl rfl)
theorem dX4_number_84 : decode cX4_number 84 = .ok (.iconst 0, 1) := dk_3 (dk_at dksX4_number_3 16 rfl rfl)
theorem dX4_number_85 : decode cX4_number 85 = .ok (.putfield 108, 3) := dk_181 0 108 (dk_at dksX4_number_3 17 rfl rfl)
theorem dX4_number_88 : decode cX4_number 88 = .ok (.return_, 1) := dk_177 (dk_at dksX4_number_3 20 rfl rfl)
abbrev cX4_timesTen : ByteArray := prog_18_method_5_code
def yX4_timesTen : MethodName := ⟨RX4, "timesTen", "(LContractLedger$Whole;I)V"⟩
def dkwX4_timesTen_3 : List UInt8 := [177]
abbrev dktX4_timesTen_3 : List UInt8 := dkwX4_timesTen_3 ++ []
def dkwX4_timesTen_2 : List UInt8 := [167, 255, 215, 28, 158, 0, 20, 42, 180, 0, 89, 42, 89, 180, 0, 88, 90, 4, 96, 181, 0, 88, 28, 79]
abbrev dktX4_timesTen_2 : List UInt8 := dkwX4_timesTen_2 ++ dktX4_timesTen_3
def dkwX4_timesTen_1 : List UInt8 := [54, 4, 42, 180, 0, 89, 29, 21, 4, 18, 92, 126, 79, 21, 4, 16, 16, 122, 61, 132, 3, 1]
abbrev dktX4_timesTen_1 : List UInt8 := dkwX4_timesTen_1 ++ dktX4_timesTen_2
def dkwX4_timesTen_0 : List UInt8 := [27, 61, 3, 62, 29, 42, 180, 0, 88, 162, 0, 39, 16, 10, 42, 180, 0, 89, 29, 46, 104, 28, 96]
abbrev dktX4_timesTen_0 : List UInt8 := dkwX4_timesTen_0 ++ dktX4_timesTen_1
theorem dksX4_timesTen_0 : cX4_timesTen.data.toList.drop 0 = dktX4_timesTen_0 := by decide +kernel
theorem dksX4_timesTen_1 : cX4_timesTen.data.toList.drop 23 = dktX4_timesTen_1 := dk_seg dksX4_timesTen_0 23 rfl rfl
theorem dksX4_timesTen_2 : cX4_timesTen.data.toList.drop 45 = dktX4_timesTen_2 := dk_seg dksX4_timesTen_1 22 rfl rfl
theorem dksX4_timesTen_3 : cX4_timesTen.data.toList.drop 69 = dktX4_timesTen_3 := dk_seg dksX4_timesTen_2 24 rfl rfl
theorem dX4_timesTen_0 : decode cX4_timesTen 0 = .ok (.iload_n 1, 1) := dk_27 (dk_at dksX4_timesTen_0 0 rfl rfl)
theorem dX4_timesTen_1 : decode cX4_timesTen 1 = .ok (.istore_n 2, 1) := dk_61 (dk_at dksX4_timesTen_0 1 rfl rfl)
theorem dX4_timesTen_2 : decode cX4_timesTen 2 = .ok (.iconst 0, 1) := dk_3 (dk_at dksX4_timesTen_0 2 rfl rfl)
theorem dX4_timesTen_3 : decode cX4_timesTen 3 = .ok (.istore_n 3, 1) := dk_62 (dk_at dksX4_timesTen_0 3 rfl rfl)
theorem dX4_timesTen_4 : decode cX4_timesTen 4 = .ok (.iload_n 3, 1) := dk_29 (dk_at dksX4_timesTen_0 4 rfl rfl)
theorem dX4_timesTen_5 : decode cX4_timesTen 5 = .ok (.aload_n 0, 1) := dk_42 (dk_at dksX4_timesTen_0 5 rfl rfl)
theorem dX4_timesTen_6 : decode cX4_timesTen 6 = .ok (.getfield 88, 3) := dk_180 0 88 (dk_at dksX4_timesTen_0 6 rfl rfl)
theorem dX4_timesTen_9 : decode cX4_timesTen 9 = .ok (.if_icmp .ge 39, 3) := dk_162 0 39 (dk_at dksX4_timesTen_0 9 rfl rfl)
theorem dX4_timesTen_12 : decode cX4_timesTen 12 = .ok (.bipush 10, 2) := dk_16 10 (dk_at dksX4_timesTen_0 12 rfl rfl)
theorem dX4_timesTen_14 : decode cX4_timesTen 14 = .ok (.aload_n 0, 1) := dk_42 (dk_at dksX4_timesTen_0 14 rfl rfl)
theorem dX4_timesTen_15 : decode cX4_timesTen 15 = .ok (.getfield 89, 3) := dk_180 0 89 (dk_at dksX4_timesTen_0 15 rfl rfl)
theorem dX4_timesTen_18 : decode cX4_timesTen 18 = .ok (.iload_n 3, 1) := dk_29 (dk_at dksX4_timesTen_0 18 rfl rfl)
theorem dX4_timesTen_19 : decode cX4_timesTen 19 = .ok (.iaload, 1) := dk_46 (dk_at dksX4_timesTen_0 19 rfl rfl)
theorem dX4_timesTen_20 : decode cX4_timesTen 20 = .ok (.imul, 1) := dk_104 (dk_at dksX4_timesTen_0 20 rfl rfl)
theorem dX4_timesTen_21 : decode cX4_timesTen 21 = .ok (.iload_n 2, 1) := dk_28 (dk_at dksX4_timesTen_0 21 rfl rfl)
theorem dX4_timesTen_22 : decode cX4_timesTen 22 = .ok (.iadd, 1) := dk_96 (dk_at dksX4_timesTen_0 22 rfl rfl)
theorem dX4_timesTen_23 : decode cX4_timesTen 23 = .ok (.istore 4, 2) := dk_54 4 (dk_at dksX4_timesTen_1 0 rfl rfl)
theorem dX4_timesTen_25 : decode cX4_timesTen 25 = .ok (.aload_n 0, 1) := dk_42 (dk_at dksX4_timesTen_1 2 rfl rfl)
theorem dX4_timesTen_26 : decode cX4_timesTen 26 = .ok (.getfield 89, 3) := dk_180 0 89 (dk_at dksX4_timesTen_1 3 rfl rfl)
theorem dX4_timesTen_29 : decode cX4_timesTen 29 = .ok (.iload_n 3, 1) := dk_29 (dk_at dksX4_timesTen_1 6 rfl rfl)
theorem dX4_timesTen_30 : decode cX4_timesTen 30 = .ok (.iload 4, 2) := dk_21 4 (dk_at dksX4_timesTen_1 7 rfl rfl)
theorem dX4_timesTen_32 : decode cX4_timesTen 32 = .ok (.ldc 92, 2) := dk_18 92 (dk_at dksX4_timesTen_1 9 rfl rfl)
theorem dX4_timesTen_34 : decode cX4_timesTen 34 = .ok (.iand, 1) := dk_126 (dk_at dksX4_timesTen_1 11 rfl rfl)
theorem dX4_timesTen_35 : decode cX4_timesTen 35 = .ok (.iastore, 1) := dk_79 (dk_at dksX4_timesTen_1 12 rfl rfl)
theorem dX4_timesTen_36 : decode cX4_timesTen 36 = .ok (.iload 4, 2) := dk_21 4 (dk_at dksX4_timesTen_1 13 rfl rfl)
theorem dX4_timesTen_38 : decode cX4_timesTen 38 = .ok (.bipush 16, 2) := dk_16 16 (dk_at dksX4_timesTen_1 15 rfl rfl)
theorem dX4_timesTen_40 : decode cX4_timesTen 40 = .ok (.ishr, 1) := dk_122 (dk_at dksX4_timesTen_1 17 rfl rfl)
theorem dX4_timesTen_41 : decode cX4_timesTen 41 = .ok (.istore_n 2, 1) := dk_61 (dk_at dksX4_timesTen_1 18 rfl rfl)
theorem dX4_timesTen_42 : decode cX4_timesTen 42 = .ok (.iinc 3 1, 3) := dk_132 3 1 (dk_at dksX4_timesTen_1 19 rfl rfl)
theorem dX4_timesTen_45 : decode cX4_timesTen 45 = .ok (.goto (-41), 3) := dk_167 255 215 (dk_at dksX4_timesTen_2 0 rfl rfl)
theorem dX4_timesTen_48 : decode cX4_timesTen 48 = .ok (.iload_n 2, 1) := dk_28 (dk_at dksX4_timesTen_2 3 rfl rfl)
theorem dX4_timesTen_49 : decode cX4_timesTen 49 = .ok (.ifCond .le 20, 3) := dk_158 0 20 (dk_at dksX4_timesTen_2 4 rfl rfl)
theorem dX4_timesTen_52 : decode cX4_timesTen 52 = .ok (.aload_n 0, 1) := dk_42 (dk_at dksX4_timesTen_2 7 rfl rfl)
theorem dX4_timesTen_53 : decode cX4_timesTen 53 = .ok (.getfield 89, 3) := dk_180 0 89 (dk_at dksX4_timesTen_2 8 rfl rfl)
theorem dX4_timesTen_56 : decode cX4_timesTen 56 = .ok (.aload_n 0, 1) := dk_42 (dk_at dksX4_timesTen_2 11 rfl rfl)
theorem dX4_timesTen_57 : decode cX4_timesTen 57 = .ok (.dup, 1) := dk_89 (dk_at dksX4_timesTen_2 12 rfl rfl)
theorem dX4_timesTen_58 : decode cX4_timesTen 58 = .ok (.getfield 88, 3) := dk_180 0 88 (dk_at dksX4_timesTen_2 13 rfl rfl)
theorem dX4_timesTen_61 : decode cX4_timesTen 61 = .ok (.dup_x1, 1) := dk_90 (dk_at dksX4_timesTen_2 16 rfl rfl)
theorem dX4_timesTen_62 : decode cX4_timesTen 62 = .ok (.iconst 1, 1) := dk_4 (dk_at dksX4_timesTen_2 17 rfl rfl)
theorem dX4_timesTen_63 : decode cX4_timesTen 63 = .ok (.iadd, 1) := dk_96 (dk_at dksX4_timesTen_2 18 rfl rfl)
theorem dX4_timesTen_64 : decode cX4_timesTen 64 = .ok (.putfield 88, 3) := dk_181 0 88 (dk_at dksX4_timesTen_2 19 rfl rfl)
theorem dX4_timesTen_67 : decode cX4_timesTen 67 = .ok (.iload_n 2, 1) := dk_28 (dk_at dksX4_timesTen_2 22 rfl rfl)
theorem dX4_timesTen_68 : decode cX4_timesTen 68 = .ok (.iastore, 1) := dk_79 (dk_at dksX4_timesTen_2 23 rfl rfl)
theorem dX4_timesTen_69 : decode cX4_timesTen 69 = .ok (.return_, 1) := dk_177 (dk_at dksX4_timesTen_3 0 rfl rfl)
abbrev cX4_refuse : ByteArray := prog_18_method_4_code
def yX4_refuse : MethodName := ⟨RX4, "refuse", "()I"⟩
def dkwX4_refuse_0 : List UInt8 := [42, 180, 0, 67, 156, 0, 14, 42, 42, 180, 0, 12, 180, 0, 85, 181, 0, 67, 2, 172]
abbrev dktX4_refuse_0 : List UInt8 := dkwX4_refuse_0 ++ []
theorem dksX4_refuse_0 : cX4_refuse.data.toList.drop 0 = dktX4_refuse_0 := by decide +kernel
theorem dX4_refuse_0 : decode cX4_refuse 0 = .ok (.aload_n 0, 1) := dk_42 (dk_at dksX4_refuse_0 0 rfl rfl)
theorem dX4_refuse_1 : decode cX4_refuse 1 = .ok (.getfield 67, 3) := dk_180 0 67 (dk_at dksX4_refuse_0 1 rfl rfl)
theorem dX4_refuse_4 : decode cX4_refuse 4 = .ok (.ifCond .ge 14, 3) := dk_156 0 14 (dk_at dksX4_refuse_0 4 rfl rfl)
theorem dX4_refuse_7 : decode cX4_refuse 7 = .ok (.aload_n 0, 1) := dk_42 (dk_at dksX4_refuse_0 7 rfl rfl)
theorem dX4_refuse_8 : decode cX4_refuse 8 = .ok (.aload_n 0, 1) := dk_42 (dk_at dksX4_refuse_0 8 rfl rfl)
theorem dX4_refuse_9 : decode cX4_refuse 9 = .ok (.getfield 12, 3) := dk_180 0 12 (dk_at dksX4_refuse_0 9 rfl rfl)
theorem dX4_refuse_12 : decode cX4_refuse 12 = .ok (.getfield 85, 3) := dk_180 0 85 (dk_at dksX4_refuse_0 12 rfl rfl)
theorem dX4_refuse_15 : decode cX4_refuse 15 = .ok (.putfield 67, 3) := dk_181 0 67 (dk_at dksX4_refuse_0 15 rfl rfl)
theorem dX4_refuse_18 : decode cX4_refuse 18 = .ok (.iconst (-1), 1) := dk_2 (dk_at dksX4_refuse_0 18 rfl rfl)
theorem dX4_refuse_19 : decode cX4_refuse 19 = .ok (.ireturn, 1) := dk_172 (dk_at dksX4_refuse_0 19 rfl rfl)
abbrev cX4_begin : ByteArray := prog_18_method_7_code
def yX4_begin : MethodName := ⟨RX4, "begin", "(II)I"⟩
def dkwX4_begin_4 : List UInt8 := [79, 42, 180, 0, 50, 29, 2, 79, 42, 180, 0, 53, 29, 3, 79, 29, 172]
abbrev dktX4_begin_4 : List UInt8 := dkwX4_begin_4 ++ []
def dkwX4_begin_3 : List UInt8 := [180, 0, 112, 79, 42, 180, 0, 41, 29, 3, 79, 42, 180, 0, 44, 29, 3, 79, 42, 180, 0, 47, 29, 2]
abbrev dktX4_begin_3 : List UInt8 := dkwX4_begin_3 ++ dktX4_begin_4
def dkwX4_begin_2 : List UInt8 := [84, 42, 180, 0, 34, 29, 42, 180, 0, 12, 180, 0, 85, 79, 42, 180, 0, 38, 29, 42, 180, 0, 12]
abbrev dktX4_begin_2 : List UInt8 := dkwX4_begin_2 ++ dktX4_begin_3
def dkwX4_begin_1 : List UInt8 := [180, 0, 63, 90, 4, 96, 181, 0, 63, 62, 42, 180, 0, 27, 29, 27, 145, 84, 42, 180, 0, 31, 29, 2]
abbrev dktX4_begin_1 : List UInt8 := dkwX4_begin_1 ++ dktX4_begin_2
def dkwX4_begin_0 : List UInt8 := [42, 180, 0, 63, 17, 16, 0, 159, 0, 9, 28, 16, 60, 161, 0, 8, 42, 182, 0, 81, 172, 42, 89]
abbrev dktX4_begin_0 : List UInt8 := dkwX4_begin_0 ++ dktX4_begin_1
theorem dksX4_begin_0 : cX4_begin.data.toList.drop 0 = dktX4_begin_0 := by decide +kernel
theorem dksX4_begin_1 : cX4_begin.data.toList.drop 23 = dktX4_begin_1 := dk_seg dksX4_begin_0 23 rfl rfl
theorem dksX4_begin_2 : cX4_begin.data.toList.drop 47 = dktX4_begin_2 := dk_seg dksX4_begin_1 24 rfl rfl
theorem dksX4_begin_3 : cX4_begin.data.toList.drop 70 = dktX4_begin_3 := dk_seg dksX4_begin_2 23 rfl rfl
theorem dksX4_begin_4 : cX4_begin.data.toList.drop 94 = dktX4_begin_4 := dk_seg dksX4_begin_3 24 rfl rfl
theorem dX4_begin_0 : decode cX4_begin 0 = .ok (.aload_n 0, 1) := dk_42 (dk_at dksX4_begin_0 0 rfl rfl)
theorem dX4_begin_1 : decode cX4_begin 1 = .ok (.getfield 63, 3) := dk_180 0 63 (dk_at dksX4_begin_0 1 rfl rfl)
theorem dX4_begin_4 : decode cX4_begin 4 = .ok (.sipush 4096, 3) := dk_17 16 0 (dk_at dksX4_begin_0 4 rfl rfl)
theorem dX4_begin_7 : decode cX4_begin 7 = .ok (.if_icmp .eq 9, 3) := dk_159 0 9 (dk_at dksX4_begin_0 7 rfl rfl)
theorem dX4_begin_10 : decode cX4_begin 10 = .ok (.iload_n 2, 1) := dk_28 (dk_at dksX4_begin_0 10 rfl rfl)
theorem dX4_begin_11 : decode cX4_begin 11 = .ok (.bipush 60, 2) := dk_16 60 (dk_at dksX4_begin_0 11 rfl rfl)
theorem dX4_begin_13 : decode cX4_begin 13 = .ok (.if_icmp .lt 8, 3) := dk_161 0 8 (dk_at dksX4_begin_0 13 rfl rfl)
theorem dX4_begin_16 : decode cX4_begin 16 = .ok (.aload_n 0, 1) := dk_42 (dk_at dksX4_begin_0 16 rfl rfl)
theorem dX4_begin_17 : decode cX4_begin 17 = .ok (.invokevirtual 81, 3) := dk_182 0 81 (dk_at dksX4_begin_0 17 rfl rfl)
theorem dX4_begin_20 : decode cX4_begin 20 = .ok (.ireturn, 1) := dk_172 (dk_at dksX4_begin_0 20 rfl rfl)
theorem dX4_begin_21 : decode cX4_begin 21 = .ok (.aload_n 0, 1) := dk_42 (dk_at dksX4_begin_0 21 rfl rfl)
theorem dX4_begin_22 : decode cX4_begin 22 = .ok (.dup, 1) := dk_89 (dk_at dksX4_begin_0 22 rfl rfl)
theorem dX4_begin_23 : decode cX4_begin 23 = .ok (.getfield 63, 3) := dk_180 0 63 (dk_at dksX4_begin_1 0 rfl rfl)
theorem dX4_begin_26 : decode cX4_begin 26 = .ok (.dup_x1, 1) := dk_90 (dk_at dksX4_begin_1 3 rfl rfl)
theorem dX4_begin_27 : decode cX4_begin 27 = .ok (.iconst 1, 1) := dk_4 (dk_at dksX4_begin_1 4 rfl rfl)
theorem dX4_begin_28 : decode cX4_begin 28 = .ok (.iadd, 1) := dk_96 (dk_at dksX4_begin_1 5 rfl rfl)
theorem dX4_begin_29 : decode cX4_begin 29 = .ok (.putfield 63, 3) := dk_181 0 63 (dk_at dksX4_begin_1 6 rfl rfl)
theorem dX4_begin_32 : decode cX4_begin 32 = .ok (.istore_n 3, 1) := dk_62 (dk_at dksX4_begin_1 9 rfl rfl)
theorem dX4_begin_33 : decode cX4_begin 33 = .ok (.aload_n 0, 1) := dk_42 (dk_at dksX4_begin_1 10 rfl rfl)
theorem dX4_begin_34 : decode cX4_begin 34 = .ok (.getfield 27, 3) := dk_180 0 27 (dk_at dksX4_begin_1 11 rfl rfl)
theorem dX4_begin_37 : decode cX4_begin 37 = .ok (.iload_n 3, 1) := dk_29 (dk_at dksX4_begin_1 14 rfl rfl)
theorem dX4_begin_38 : decode cX4_begin 38 = .ok (.iload_n 1, 1) := dk_27 (dk_at dksX4_begin_1 15 rfl rfl)
theorem dX4_begin_39 : decode cX4_begin 39 = .ok (.i2b, 1) := dk_145 (dk_at dksX4_begin_1 16 rfl rfl)
theorem dX4_begin_40 : decode cX4_begin 40 = .ok (.bastore, 1) := dk_84 (dk_at dksX4_begin_1 17 rfl rfl)
theorem dX4_begin_41 : decode cX4_begin 41 = .ok (.aload_n 0, 1) := dk_42 (dk_at dksX4_begin_1 18 rfl rfl)
theorem dX4_begin_42 : decode cX4_begin 42 = .ok (.getfield 31, 3) := dk_180 0 31 (dk_at dksX4_begin_1 19 rfl rfl)
theorem dX4_begin_45 : decode cX4_begin 45 = .ok (.iload_n 3, 1) := dk_29 (dk_at dksX4_begin_1 22 rfl rfl)
theorem dX4_begin_46 : decode cX4_begin 46 = .ok (.iconst (-1), 1) := dk_2 (dk_at dksX4_begin_1 23 rfl rfl)
theorem dX4_begin_47 : decode cX4_begin 47 = .ok (.bastore, 1) := dk_84 (dk_at dksX4_begin_2 0 rfl rfl)
theorem dX4_begin_48 : decode cX4_begin 48 = .ok (.aload_n 0, 1) := dk_42 (dk_at dksX4_begin_2 1 rfl rfl)
theorem dX4_begin_49 : decode cX4_begin 49 = .ok (.getfield 34, 3) := dk_180 0 34 (dk_at dksX4_begin_2 2 rfl rfl)
theorem dX4_begin_52 : decode cX4_begin 52 = .ok (.iload_n 3, 1) := dk_29 (dk_at dksX4_begin_2 5 rfl rfl)
theorem dX4_begin_53 : decode cX4_begin 53 = .ok (.aload_n 0, 1) := dk_42 (dk_at dksX4_begin_2 6 rfl rfl)
theorem dX4_begin_54 : decode cX4_begin 54 = .ok (.getfield 12, 3) := dk_180 0 12 (dk_at dksX4_begin_2 7 rfl rfl)
theorem dX4_begin_57 : decode cX4_begin 57 = .ok (.getfield 85, 3) := dk_180 0 85 (dk_at dksX4_begin_2 10 rfl rfl)
theorem dX4_begin_60 : decode cX4_begin 60 = .ok (.iastore, 1) := dk_79 (dk_at dksX4_begin_2 13 rfl rfl)
theorem dX4_begin_61 : decode cX4_begin 61 = .ok (.aload_n 0, 1) := dk_42 (dk_at dksX4_begin_2 14 rfl rfl)
theorem dX4_begin_62 : decode cX4_begin 62 = .ok (.getfield 38, 3) := dk_180 0 38 (dk_at dksX4_begin_2 15 rfl rfl)
theorem dX4_begin_65 : decode cX4_begin 65 = .ok (.iload_n 3, 1) := dk_29 (dk_at dksX4_begin_2 18 rfl rfl)
theorem dX4_begin_66 : decode cX4_begin 66 = .ok (.aload_n 0, 1) := dk_42 (dk_at dksX4_begin_2 19 rfl rfl)
theorem dX4_begin_67 : decode cX4_begin 67 = .ok (.getfield 12, 3) := dk_180 0 12 (dk_at dksX4_begin_2 20 rfl rfl)
theorem dX4_begin_70 : decode cX4_begin 70 = .ok (.getfield 112, 3) := dk_180 0 112 (dk_at dksX4_begin_3 0 rfl rfl)
theorem dX4_begin_73 : decode cX4_begin 73 = .ok (.iastore, 1) := dk_79 (dk_at dksX4_begin_3 3 rfl rfl)
theorem dX4_begin_74 : decode cX4_begin 74 = .ok (.aload_n 0, 1) := dk_42 (dk_at dksX4_begin_3 4 rfl rfl)
theorem dX4_begin_75 : decode cX4_begin 75 = .ok (.getfield 41, 3) := dk_180 0 41 (dk_at dksX4_begin_3 5 rfl rfl)
theorem dX4_begin_78 : decode cX4_begin 78 = .ok (.iload_n 3, 1) := dk_29 (dk_at dksX4_begin_3 8 rfl rfl)
theorem dX4_begin_79 : decode cX4_begin 79 = .ok (.iconst 0, 1) := dk_3 (dk_at dksX4_begin_3 9 rfl rfl)
theorem dX4_begin_80 : decode cX4_begin 80 = .ok (.iastore, 1) := dk_79 (dk_at dksX4_begin_3 10 rfl rfl)
theorem dX4_begin_81 : decode cX4_begin 81 = .ok (.aload_n 0, 1) := dk_42 (dk_at dksX4_begin_3 11 rfl rfl)
theorem dX4_begin_82 : decode cX4_begin 82 = .ok (.getfield 44, 3) := dk_180 0 44 (dk_at dksX4_begin_3 12 rfl rfl)
theorem dX4_begin_85 : decode cX4_begin 85 = .ok (.iload_n 3, 1) := dk_29 (dk_at dksX4_begin_3 15 rfl rfl)
theorem dX4_begin_86 : decode cX4_begin 86 = .ok (.iconst 0, 1) := dk_3 (dk_at dksX4_begin_3 16 rfl rfl)
theorem dX4_begin_87 : decode cX4_begin 87 = .ok (.iastore, 1) := dk_79 (dk_at dksX4_begin_3 17 rfl rfl)
theorem dX4_begin_88 : decode cX4_begin 88 = .ok (.aload_n 0, 1) := dk_42 (dk_at dksX4_begin_3 18 rfl rfl)
theorem dX4_begin_89 : decode cX4_begin 89 = .ok (.getfield 47, 3) := dk_180 0 47 (dk_at dksX4_begin_3 19 rfl rfl)
theorem dX4_begin_92 : decode cX4_begin 92 = .ok (.iload_n 3, 1) := dk_29 (dk_at dksX4_begin_3 22 rfl rfl)
theorem dX4_begin_93 : decode cX4_begin 93 = .ok (.iconst (-1), 1) := dk_2 (dk_at dksX4_begin_3 23 rfl rfl)
theorem dX4_begin_94 : decode cX4_begin 94 = .ok (.iastore, 1) := dk_79 (dk_at dksX4_begin_4 0 rfl rfl)
theorem dX4_begin_95 : decode cX4_begin 95 = .ok (.aload_n 0, 1) := dk_42 (dk_at dksX4_begin_4 1 rfl rfl)
theorem dX4_begin_96 : decode cX4_begin 96 = .ok (.getfield 50, 3) := dk_180 0 50 (dk_at dksX4_begin_4 2 rfl rfl)
theorem dX4_begin_99 : decode cX4_begin 99 = .ok (.iload_n 3, 1) := dk_29 (dk_at dksX4_begin_4 5 rfl rfl)
theorem dX4_begin_100 : decode cX4_begin 100 = .ok (.iconst (-1), 1) := dk_2 (dk_at dksX4_begin_4 6 rfl rfl)
theorem dX4_begin_101 : decode cX4_begin 101 = .ok (.iastore, 1) := dk_79 (dk_at dksX4_begin_4 7 rfl rfl)
theorem dX4_begin_102 : decode cX4_begin 102 = .ok (.aload_n 0, 1) := dk_42 (dk_at dksX4_begin_4 8 rfl rfl)
theorem dX4_begin_103 : decode cX4_begin 103 = .ok (.getfield 53, 3) := dk_180 0 53 (dk_at dksX4_begin_4 9 rfl rfl)
theorem dX4_begin_106 : decode cX4_begin 106 = .ok (.iload_n 3, 1) := dk_29 (dk_at dksX4_begin_4 12 rfl rfl)
theorem dX4_begin_107 : decode cX4_begin 107 = .ok (.iconst 0, 1) := dk_3 (dk_at dksX4_begin_4 13 rfl rfl)
theorem dX4_begin_108 : decode cX4_begin 108 = .ok (.iastore, 1) := dk_79 (dk_at dksX4_begin_4 14 rfl rfl)
theorem dX4_begin_109 : decode cX4_begin 109 = .ok (.iload_n 3, 1) := dk_29 (dk_at dksX4_begin_4 15 rfl rfl)
theorem dX4_begin_110 : decode cX4_begin 110 = .ok (.ireturn, 1) := dk_172 (dk_at dksX4_begin_4 16 rfl rfl)
abbrev cX4_application : ByteArray := prog_18_method_13_code
def yX4_application : MethodName := ⟨RX4, "application", "(I)I"⟩
def dkwX4_application_3 : List UInt8 := [27, 4, 96, 182, 0, 149, 182, 0, 133, 62, 29, 156, 255, 234, 2, 172, 28, 172]
abbrev dktX4_application_3 : List UInt8 := dkwX4_application_3 ++ []
def dkwX4_application_2 : List UInt8 := [180, 0, 112, 79, 42, 180, 0, 12, 182, 0, 121, 2, 62, 42, 182, 0, 146, 153, 0, 23, 42, 28, 29, 42]
abbrev dktX4_application_2 : List UInt8 := dkwX4_application_2 ++ dktX4_application_3
def dkwX4_application_1 : List UInt8 := [42, 180, 0, 41, 28, 42, 180, 0, 12, 180, 0, 85, 4, 96, 79, 42, 180, 0, 44, 28, 42, 180, 0, 12]
abbrev dktX4_application_1 : List UInt8 := dkwX4_application_1 ++ dktX4_application_2
def dkwX4_application_0 : List UInt8 := [42, 27, 182, 0, 143, 61, 28, 156, 0, 5, 2, 172, 42, 180, 0, 12, 180, 0, 78, 16, 6, 160, 0, 38]
abbrev dktX4_application_0 : List UInt8 := dkwX4_application_0 ++ dktX4_application_1
theorem dksX4_application_0 : cX4_application.data.toList.drop 0 = dktX4_application_0 := by decide +kernel
theorem dksX4_application_1 : cX4_application.data.toList.drop 24 = dktX4_application_1 := dk_seg dksX4_application_0 24 rfl rfl
theorem dksX4_application_2 : cX4_application.data.toList.drop 48 = dktX4_application_2 := dk_seg dksX4_application_1 24 rfl rfl
theorem dksX4_application_3 : cX4_application.data.toList.drop 72 = dktX4_application_3 := dk_seg dksX4_application_2 24 rfl rfl
theorem dX4_application_0 : decode cX4_application 0 = .ok (.aload_n 0, 1) := dk_42 (dk_at dksX4_application_0 0 rfl rfl)
theorem dX4_application_1 : decode cX4_application 1 = .ok (.iload_n 1, 1) := dk_27 (dk_at dksX4_application_0 1 rfl rfl)
theorem dX4_application_2 : decode cX4_application 2 = .ok (.invokevirtual 143, 3) := dk_182 0 143 (dk_at dksX4_application_0 2 rfl rfl)
theorem dX4_application_5 : decode cX4_application 5 = .ok (.istore_n 2, 1) := dk_61 (dk_at dksX4_application_0 5 rfl rfl)
theorem dX4_application_6 : decode cX4_application 6 = .ok (.iload_n 2, 1) := dk_28 (dk_at dksX4_application_0 6 rfl rfl)
theorem dX4_application_7 : decode cX4_application 7 = .ok (.ifCond .ge 5, 3) := dk_156 0 5 (dk_at dksX4_application_0 7 rfl rfl)
theorem dX4_application_10 : decode cX4_application 10 = .ok (.iconst (-1), 1) := dk_2 (dk_at dksX4_application_0 10 rfl rfl)
theorem dX4_application_11 : decode cX4_application 11 = .ok (.ireturn, 1) := dk_172 (dk_at dksX4_application_0 11 rfl rfl)
theorem dX4_application_12 : decode cX4_application 12 = .ok (.aload_n 0, 1) := dk_42 (dk_at dksX4_application_0 12 rfl rfl)
theorem dX4_application_13 : decode cX4_application 13 = .ok (.getfield 12, 3) := dk_180 0 12 (dk_at dksX4_application_0 13 rfl rfl)
theorem dX4_application_16 : decode cX4_application 16 = .ok (.getfield 78, 3) := dk_180 0 78 (dk_at dksX4_application_0 16 rfl rfl)
theorem dX4_application_19 : decode cX4_application 19 = .ok (.bipush 6, 2) := dk_16 6 (dk_at dksX4_application_0 19 rfl rfl)
theorem dX4_application_21 : decode cX4_application 21 = .ok (.if_icmp .ne 38, 3) := dk_160 0 38 (dk_at dksX4_application_0 21 rfl rfl)
theorem dX4_application_24 : decode cX4_application 24 = .ok (.aload_n 0, 1) := dk_42 (dk_at dksX4_application_1 0 rfl rfl)
theorem dX4_application_25 : decode cX4_application 25 = .ok (.getfield 41, 3) := dk_180 0 41 (dk_at dksX4_application_1 1 rfl rfl)
theorem dX4_application_28 : decode cX4_application 28 = .ok (.iload_n 2, 1) := dk_28 (dk_at dksX4_application_1 4 rfl rfl)
theorem dX4_application_29 : decode cX4_application 29 = .ok (.aload_n 0, 1) := dk_42 (dk_at dksX4_application_1 5 rfl rfl)
theorem dX4_application_30 : decode cX4_application 30 = .ok (.getfield 12, 3) := dk_180 0 12 (dk_at dksX4_application_1 6 rfl rfl)
theorem dX4_application_33 : decode cX4_application 33 = .ok (.getfield 85, 3) := dk_180 0 85 (dk_at dksX4_application_1 9 rfl rfl)
theorem dX4_application_36 : decode cX4_application 36 = .ok (.iconst 1, 1) := dk_4 (dk_at dksX4_application_1 12 rfl rfl)
theorem dX4_application_37 : decode cX4_application 37 = .ok (.iadd, 1) := dk_96 (dk_at dksX4_application_1 13 rfl rfl)
theorem dX4_application_38 : decode cX4_application 38 = .ok (.iastore, 1) := dk_79 (dk_at dksX4_application_1 14 rfl rfl)
theorem dX4_application_39 : decode cX4_application 39 = .ok (.aload_n 0, 1) := dk_42 (dk_at dksX4_application_1 15 rfl rfl)
theorem dX4_application_40 : decode cX4_application 40 = .ok (.getfield 44, 3) := dk_180 0 44 (dk_at dksX4_application_1 16 rfl rfl)
theorem dX4_application_43 : decode cX4_application 43 = .ok (.iload_n 2, 1) := dk_28 (dk_at dksX4_application_1 19 rfl rfl)
theorem dX4_application_44 : decode cX4_application 44 = .ok (.aload_n 0, 1) := dk_42 (dk_at dksX4_application_1 20 rfl rfl)
theorem dX4_application_45 : decode cX4_application 45 = .ok (.getfield 12, 3) := dk_180 0 12 (dk_at dksX4_application_1 21 rfl rfl)
theorem dX4_application_48 : decode cX4_application 48 = .ok (.getfield 112, 3) := dk_180 0 112 (dk_at dksX4_application_2 0 rfl rfl)
theorem dX4_application_51 : decode cX4_application 51 = .ok (.iastore, 1) := dk_79 (dk_at dksX4_application_2 3 rfl rfl)
theorem dX4_application_52 : decode cX4_application 52 = .ok (.aload_n 0, 1) := dk_42 (dk_at dksX4_application_2 4 rfl rfl)
theorem dX4_application_53 : decode cX4_application 53 = .ok (.getfield 12, 3) := dk_180 0 12 (dk_at dksX4_application_2 5 rfl rfl)
theorem dX4_application_56 : decode cX4_application 56 = .ok (.invokevirtual 121, 3) := dk_182 0 121 (dk_at dksX4_application_2 8 rfl rfl)
theorem dX4_application_59 : decode cX4_application 59 = .ok (.iconst (-1), 1) := dk_2 (dk_at dksX4_application_2 11 rfl rfl)
theorem dX4_application_60 : decode cX4_application 60 = .ok (.istore_n 3, 1) := dk_62 (dk_at dksX4_application_2 12 rfl rfl)
theorem dX4_application_61 : decode cX4_application 61 = .ok (.aload_n 0, 1) := dk_42 (dk_at dksX4_application_2 13 rfl rfl)
theorem dX4_application_62 : decode cX4_application 62 = .ok (.invokevirtual 146, 3) := dk_182 0 146 (dk_at dksX4_application_2 14 rfl rfl)
theorem dX4_application_65 : decode cX4_application 65 = .ok (.ifCond .eq 23, 3) := dk_153 0 23 (dk_at dksX4_application_2 17 rfl rfl)
theorem dX4_application_68 : decode cX4_application 68 = .ok (.aload_n 0, 1) := dk_42 (dk_at dksX4_application_2 20 rfl rfl)
theorem dX4_application_69 : decode cX4_application 69 = .ok (.iload_n 2, 1) := dk_28 (dk_at dksX4_application_2 21 rfl rfl)
theorem dX4_application_70 : decode cX4_application 70 = .ok (.iload_n 3, 1) := dk_29 (dk_at dksX4_application_2 22 rfl rfl)
theorem dX4_application_71 : decode cX4_application 71 = .ok (.aload_n 0, 1) := dk_42 (dk_at dksX4_application_2 23 rfl rfl)
theorem dX4_application_72 : decode cX4_application 72 = .ok (.iload_n 1, 1) := dk_27 (dk_at dksX4_application_3 0 rfl rfl)
theorem dX4_application_73 : decode cX4_application 73 = .ok (.iconst 1, 1) := dk_4 (dk_at dksX4_application_3 1 rfl rfl)
theorem dX4_application_74 : decode cX4_application 74 = .ok (.iadd, 1) := dk_96 (dk_at dksX4_application_3 2 rfl rfl)
theorem dX4_application_75 : decode cX4_application 75 = .ok (.invokevirtual 149, 3) := dk_182 0 149 (dk_at dksX4_application_3 3 rfl rfl)
theorem dX4_application_78 : decode cX4_application 78 = .ok (.invokevirtual 133, 3) := dk_182 0 133 (dk_at dksX4_application_3 6 rfl rfl)
theorem dX4_application_81 : decode cX4_application 81 = .ok (.istore_n 3, 1) := dk_62 (dk_at dksX4_application_3 9 rfl rfl)
theorem dX4_application_82 : decode cX4_application 82 = .ok (.iload_n 3, 1) := dk_29 (dk_at dksX4_application_3 10 rfl rfl)
theorem dX4_application_83 : decode cX4_application 83 = .ok (.ifCond .ge (-22), 3) := dk_156 255 234 (dk_at dksX4_application_3 11 rfl rfl)
theorem dX4_application_86 : decode cX4_application 86 = .ok (.iconst (-1), 1) := dk_2 (dk_at dksX4_application_3 14 rfl rfl)
theorem dX4_application_87 : decode cX4_application 87 = .ok (.ireturn, 1) := dk_172 (dk_at dksX4_application_3 15 rfl rfl)
theorem dX4_application_88 : decode cX4_application 88 = .ok (.iload_n 2, 1) := dk_28 (dk_at dksX4_application_3 16 rfl rfl)
theorem dX4_application_89 : decode cX4_application 89 = .ok (.ireturn, 1) := dk_172 (dk_at dksX4_application_3 17 rfl rfl)
abbrev cX4_word : ByteArray := prog_18_method_12_code
def yX4_word : MethodName := ⟨RX4, "word", "(I)I"⟩
def dkwX4_word_2 : List UInt8 := [84, 42, 180, 0, 12, 182, 0, 121, 28, 172]
abbrev dktX4_word_2 : List UInt8 := dkwX4_word_2 ++ []
def dkwX4_word_1 : List UInt8 := [180, 0, 12, 180, 0, 60, 42, 180, 0, 12, 180, 0, 85, 42, 180, 0, 12, 180, 0, 112, 182, 0, 137, 145]
abbrev dktX4_word_1 : List UInt8 := dkwX4_word_1 ++ dktX4_word_2
def dkwX4_word_0 : List UInt8 := [42, 16, 8, 27, 182, 0, 118, 61, 28, 155, 0, 45, 42, 180, 0, 31, 28, 42, 180, 0, 56, 42]
abbrev dktX4_word_0 : List UInt8 := dkwX4_word_0 ++ dktX4_word_1
theorem dksX4_word_0 : cX4_word.data.toList.drop 0 = dktX4_word_0 := by decide +kernel
theorem dksX4_word_1 : cX4_word.data.toList.drop 22 = dktX4_word_1 := dk_seg dksX4_word_0 22 rfl rfl
theorem dksX4_word_2 : cX4_word.data.toList.drop 46 = dktX4_word_2 := dk_seg dksX4_word_1 24 rfl rfl
theorem dX4_word_0 : decode cX4_word 0 = .ok (.aload_n 0, 1) := dk_42 (dk_at dksX4_word_0 0 rfl rfl)
theorem dX4_word_1 : decode cX4_word 1 = .ok (.bipush 8, 2) := dk_16 8 (dk_at dksX4_word_0 1 rfl rfl)
theorem dX4_word_3 : decode cX4_word 3 = .ok (.iload_n 1, 1) := dk_27 (dk_at dksX4_word_0 3 rfl rfl)
theorem dX4_word_4 : decode cX4_word 4 = .ok (.invokevirtual 118, 3) := dk_182 0 118 (dk_at dksX4_word_0 4 rfl rfl)
theorem dX4_word_7 : decode cX4_word 7 = .ok (.istore_n 2, 1) := dk_61 (dk_at dksX4_word_0 7 rfl rfl)
theorem dX4_word_8 : decode cX4_word 8 = .ok (.iload_n 2, 1) := dk_28 (dk_at dksX4_word_0 8 rfl rfl)
theorem dX4_word_9 : decode cX4_word 9 = .ok (.ifCond .lt 45, 3) := dk_155 0 45 (dk_at dksX4_word_0 9 rfl rfl)
theorem dX4_word_12 : decode cX4_word 12 = .ok (.aload_n 0, 1) := dk_42 (dk_at dksX4_word_0 12 rfl rfl)
theorem dX4_word_13 : decode cX4_word 13 = .ok (.getfield 31, 3) := dk_180 0 31 (dk_at dksX4_word_0 13 rfl rfl)
theorem dX4_word_16 : decode cX4_word 16 = .ok (.iload_n 2, 1) := dk_28 (dk_at dksX4_word_0 16 rfl rfl)
theorem dX4_word_17 : decode cX4_word 17 = .ok (.aload_n 0, 1) := dk_42 (dk_at dksX4_word_0 17 rfl rfl)
theorem dX4_word_18 : decode cX4_word 18 = .ok (.getfield 56, 3) := dk_180 0 56 (dk_at dksX4_word_0 18 rfl rfl)
theorem dX4_word_21 : decode cX4_word 21 = .ok (.aload_n 0, 1) := dk_42 (dk_at dksX4_word_0 21 rfl rfl)
theorem dX4_word_22 : decode cX4_word 22 = .ok (.getfield 12, 3) := dk_180 0 12 (dk_at dksX4_word_1 0 rfl rfl)
theorem dX4_word_25 : decode cX4_word 25 = .ok (.getfield 60, 3) := dk_180 0 60 (dk_at dksX4_word_1 3 rfl rfl)
theorem dX4_word_28 : decode cX4_word 28 = .ok (.aload_n 0, 1) := dk_42 (dk_at dksX4_word_1 6 rfl rfl)
theorem dX4_word_29 : decode cX4_word 29 = .ok (.getfield 12, 3) := dk_180 0 12 (dk_at dksX4_word_1 7 rfl rfl)
theorem dX4_word_32 : decode cX4_word 32 = .ok (.getfield 85, 3) := dk_180 0 85 (dk_at dksX4_word_1 10 rfl rfl)
theorem dX4_word_35 : decode cX4_word 35 = .ok (.aload_n 0, 1) := dk_42 (dk_at dksX4_word_1 13 rfl rfl)
theorem dX4_word_36 : decode cX4_word 36 = .ok (.getfield 12, 3) := dk_180 0 12 (dk_at dksX4_word_1 14 rfl rfl)
theorem dX4_word_39 : decode cX4_word 39 = .ok (.getfield 112, 3) := dk_180 0 112 (dk_at dksX4_word_1 17 rfl rfl)
theorem dX4_word_42 : decode cX4_word 42 = .ok (.invokevirtual 137, 3) := dk_182 0 137 (dk_at dksX4_word_1 20 rfl rfl)
theorem dX4_word_45 : decode cX4_word 45 = .ok (.i2b, 1) := dk_145 (dk_at dksX4_word_1 23 rfl rfl)
theorem dX4_word_46 : decode cX4_word 46 = .ok (.bastore, 1) := dk_84 (dk_at dksX4_word_2 0 rfl rfl)
theorem dX4_word_47 : decode cX4_word 47 = .ok (.aload_n 0, 1) := dk_42 (dk_at dksX4_word_2 1 rfl rfl)
theorem dX4_word_48 : decode cX4_word 48 = .ok (.getfield 12, 3) := dk_180 0 12 (dk_at dksX4_word_2 2 rfl rfl)
theorem dX4_word_51 : decode cX4_word 51 = .ok (.invokevirtual 121, 3) := dk_182 0 121 (dk_at dksX4_word_2 5 rfl rfl)
theorem dX4_word_54 : decode cX4_word 54 = .ok (.iload_n 2, 1) := dk_28 (dk_at dksX4_word_2 8 rfl rfl)
theorem dX4_word_55 : decode cX4_word 55 = .ok (.ireturn, 1) := dk_172 (dk_at dksX4_word_2 9 rfl rfl)
abbrev cX4_isArgument : ByteArray := prog_18_method_14_code
def yX4_isArgument : MethodName := ⟨RX4, "isArgument", "()Z"⟩
def dkwX4_isArgument_1 : List UInt8 := [8, 159, 0, 15, 27, 16, 123, 159, 0, 9, 27, 16, 40, 160, 0, 7, 4, 167, 0, 4, 3, 172]
abbrev dktX4_isArgument_1 : List UInt8 := dkwX4_isArgument_1 ++ []
def dkwX4_isArgument_0 : List UInt8 := [42, 180, 0, 12, 180, 0, 78, 60, 27, 5, 159, 0, 30, 27, 6, 159, 0, 25, 27, 7, 159, 0, 20, 27]
abbrev dktX4_isArgument_0 : List UInt8 := dkwX4_isArgument_0 ++ dktX4_isArgument_1
theorem dksX4_isArgument_0 : cX4_isArgument.data.toList.drop 0 = dktX4_isArgument_0 := by decide +kernel
theorem dksX4_isArgument_1 : cX4_isArgument.data.toList.drop 24 = dktX4_isArgument_1 := dk_seg dksX4_isArgument_0 24 rfl rfl
theorem dX4_isArgument_0 : decode cX4_isArgument 0 = .ok (.aload_n 0, 1) := dk_42 (dk_at dksX4_isArgument_0 0 rfl rfl)
theorem dX4_isArgument_1 : decode cX4_isArgument 1 = .ok (.getfield 12, 3) := dk_180 0 12 (dk_at dksX4_isArgument_0 1 rfl rfl)
theorem dX4_isArgument_4 : decode cX4_isArgument 4 = .ok (.getfield 78, 3) := dk_180 0 78 (dk_at dksX4_isArgument_0 4 rfl rfl)
theorem dX4_isArgument_7 : decode cX4_isArgument 7 = .ok (.istore_n 1, 1) := dk_60 (dk_at dksX4_isArgument_0 7 rfl rfl)
theorem dX4_isArgument_8 : decode cX4_isArgument 8 = .ok (.iload_n 1, 1) := dk_27 (dk_at dksX4_isArgument_0 8 rfl rfl)
theorem dX4_isArgument_9 : decode cX4_isArgument 9 = .ok (.iconst 2, 1) := dk_5 (dk_at dksX4_isArgument_0 9 rfl rfl)
theorem dX4_isArgument_10 : decode cX4_isArgument 10 = .ok (.if_icmp .eq 30, 3) := dk_159 0 30 (dk_at dksX4_isArgument_0 10 rfl rfl)
theorem dX4_isArgument_13 : decode cX4_isArgument 13 = .ok (.iload_n 1, 1) := dk_27 (dk_at dksX4_isArgument_0 13 rfl rfl)
theorem dX4_isArgument_14 : decode cX4_isArgument 14 = .ok (.iconst 3, 1) := dk_6 (dk_at dksX4_isArgument_0 14 rfl rfl)
theorem dX4_isArgument_15 : decode cX4_isArgument 15 = .ok (.if_icmp .eq 25, 3) := dk_159 0 25 (dk_at dksX4_isArgument_0 15 rfl rfl)
theorem dX4_isArgument_18 : decode cX4_isArgument 18 = .ok (.iload_n 1, 1) := dk_27 (dk_at dksX4_isArgument_0 18 rfl rfl)
theorem dX4_isArgument_19 : decode cX4_isArgument 19 = .ok (.iconst 4, 1) := dk_7 (dk_at dksX4_isArgument_0 19 rfl rfl)
theorem dX4_isArgument_20 : decode cX4_isArgument 20 = .ok (.if_icmp .eq 20, 3) := dk_159 0 20 (dk_at dksX4_isArgument_0 20 rfl rfl)
theorem dX4_isArgument_23 : decode cX4_isArgument 23 = .ok (.iload_n 1, 1) := dk_27 (dk_at dksX4_isArgument_0 23 rfl rfl)
theorem dX4_isArgument_24 : decode cX4_isArgument 24 = .ok (.iconst 5, 1) := dk_8 (dk_at dksX4_isArgument_1 0 rfl rfl)
theorem dX4_isArgument_25 : decode cX4_isArgument 25 = .ok (.if_icmp .eq 15, 3) := dk_159 0 15 (dk_at dksX4_isArgument_1 1 rfl rfl)
theorem dX4_isArgument_28 : decode cX4_isArgument 28 = .ok (.iload_n 1, 1) := dk_27 (dk_at dksX4_isArgument_1 4 rfl rfl)
theorem dX4_isArgument_29 : decode cX4_isArgument 29 = .ok (.bipush 123, 2) := dk_16 123 (dk_at dksX4_isArgument_1 5 rfl rfl)
theorem dX4_isArgument_31 : decode cX4_isArgument 31 = .ok (.if_icmp .eq 9, 3) := dk_159 0 9 (dk_at dksX4_isArgument_1 7 rfl rfl)
theorem dX4_isArgument_34 : decode cX4_isArgument 34 = .ok (.iload_n 1, 1) := dk_27 (dk_at dksX4_isArgument_1 10 rfl rfl)
theorem dX4_isArgument_35 : decode cX4_isArgument 35 = .ok (.bipush 40, 2) := dk_16 40 (dk_at dksX4_isArgument_1 11 rfl rfl)
theorem dX4_isArgument_37 : decode cX4_isArgument 37 = .ok (.if_icmp .ne 7, 3) := dk_160 0 7 (dk_at dksX4_isArgument_1 13 rfl rfl)
theorem dX4_isArgument_40 : decode cX4_isArgument 40 = .ok (.iconst 1, 1) := dk_4 (dk_at dksX4_isArgument_1 16 rfl rfl)
theorem dX4_isArgument_41 : decode cX4_isArgument 41 = .ok (.goto 4, 3) := dk_167 0 4 (dk_at dksX4_isArgument_1 17 rfl rfl)
theorem dX4_isArgument_44 : decode cX4_isArgument 44 = .ok (.iconst 0, 1) := dk_3 (dk_at dksX4_isArgument_1 20 rfl rfl)
theorem dX4_isArgument_45 : decode cX4_isArgument 45 = .ok (.ireturn, 1) := dk_172 (dk_at dksX4_isArgument_1 21 rfl rfl)
abbrev cX4_argument : ByteArray := prog_18_method_15_code
def yX4_argument : MethodName := ⟨RX4, "argument", "(I)I"⟩
def dkwX4_argument_4 : List UInt8 := [28, 172]
abbrev dktX4_argument_4 : List UInt8 := dkwX4_argument_4 ++ []
def dkwX4_argument_3 : List UInt8 := [42, 180, 0, 12, 180, 0, 78, 16, 41, 159, 0, 8, 42, 182, 0, 81, 172, 42, 180, 0, 12, 182, 0, 121]
abbrev dktX4_argument_3 : List UInt8 := dkwX4_argument_3 ++ dktX4_argument_4
def dkwX4_argument_2 : List UInt8 := [180, 0, 78, 8, 160, 0, 11, 42, 27, 182, 0, 127, 167, 0, 7, 42, 182, 0, 81, 61, 28, 155, 0, 15]
abbrev dktX4_argument_2 : List UInt8 := dkwX4_argument_2 ++ dktX4_argument_3
def dkwX4_argument_1 : List UInt8 := [16, 40, 159, 0, 9, 42, 27, 182, 0, 74, 172, 42, 180, 0, 12, 182, 0, 121, 42, 180, 0, 12]
abbrev dktX4_argument_1 : List UInt8 := dkwX4_argument_1 ++ dktX4_argument_2
def dkwX4_argument_0 : List UInt8 := [42, 180, 0, 12, 180, 0, 78, 8, 160, 0, 9, 42, 27, 182, 0, 143, 172, 42, 180, 0, 12, 180, 0, 78]
abbrev dktX4_argument_0 : List UInt8 := dkwX4_argument_0 ++ dktX4_argument_1
theorem dksX4_argument_0 : cX4_argument.data.toList.drop 0 = dktX4_argument_0 := by decide +kernel
theorem dksX4_argument_1 : cX4_argument.data.toList.drop 24 = dktX4_argument_1 := dk_seg dksX4_argument_0 24 rfl rfl
theorem dksX4_argument_2 : cX4_argument.data.toList.drop 46 = dktX4_argument_2 := dk_seg dksX4_argument_1 22 rfl rfl
theorem dksX4_argument_3 : cX4_argument.data.toList.drop 70 = dktX4_argument_3 := dk_seg dksX4_argument_2 24 rfl rfl
theorem dksX4_argument_4 : cX4_argument.data.toList.drop 94 = dktX4_argument_4 := dk_seg dksX4_argument_3 24 rfl rfl
theorem dX4_argument_0 : decode cX4_argument 0 = .ok (.aload_n 0, 1) := dk_42 (dk_at dksX4_argument_0 0 rfl rfl)
theorem dX4_argument_1 : decode cX4_argument 1 = .ok (.getfield 12, 3) := dk_180 0 12 (dk_at dksX4_argument_0 1 rfl rfl)
theorem dX4_argument_4 : decode cX4_argument 4 = .ok (.getfield 78, 3) := dk_180 0 78 (dk_at dksX4_argument_0 4 rfl rfl)
theorem dX4_argument_7 : decode cX4_argument 7 = .ok (.iconst 5, 1) := dk_8 (dk_at dksX4_argument_0 7 rfl rfl)
theorem dX4_argument_8 : decode cX4_argument 8 = .ok (.if_icmp .ne 9, 3) := dk_160 0 9 (dk_at dksX4_argument_0 8 rfl rfl)
theorem dX4_argument_11 : decode cX4_argument 11 = .ok (.aload_n 0, 1) := dk_42 (dk_at dksX4_argument_0 11 rfl rfl)
theorem dX4_argument_12 : decode cX4_argument 12 = .ok (.iload_n 1, 1) := dk_27 (dk_at dksX4_argument_0 12 rfl rfl)
theorem dX4_argument_13 : decode cX4_argument 13 = .ok (.invokevirtual 143, 3) := dk_182 0 143 (dk_at dksX4_argument_0 13 rfl rfl)
theorem dX4_argument_16 : decode cX4_argument 16 = .ok (.ireturn, 1) := dk_172 (dk_at dksX4_argument_0 16 rfl rfl)
theorem dX4_argument_17 : decode cX4_argument 17 = .ok (.aload_n 0, 1) := dk_42 (dk_at dksX4_argument_0 17 rfl rfl)
theorem dX4_argument_18 : decode cX4_argument 18 = .ok (.getfield 12, 3) := dk_180 0 12 (dk_at dksX4_argument_0 18 rfl rfl)
theorem dX4_argument_21 : decode cX4_argument 21 = .ok (.getfield 78, 3) := dk_180 0 78 (dk_at dksX4_argument_0 21 rfl rfl)
theorem dX4_argument_24 : decode cX4_argument 24 = .ok (.bipush 40, 2) := dk_16 40 (dk_at dksX4_argument_1 0 rfl rfl)
theorem dX4_argument_26 : decode cX4_argument 26 = .ok (.if_icmp .eq 9, 3) := dk_159 0 9 (dk_at dksX4_argument_1 2 rfl rfl)
theorem dX4_argument_29 : decode cX4_argument 29 = .ok (.aload_n 0, 1) := dk_42 (dk_at dksX4_argument_1 5 rfl rfl)
theorem dX4_argument_30 : decode cX4_argument 30 = .ok (.iload_n 1, 1) := dk_27 (dk_at dksX4_argument_1 6 rfl rfl)
theorem dX4_argument_31 : decode cX4_argument 31 = .ok (.invokevirtual 74, 3) := dk_182 0 74 (dk_at dksX4_argument_1 7 rfl rfl)
theorem dX4_argument_34 : decode cX4_argument 34 = .ok (.ireturn, 1) := dk_172 (dk_at dksX4_argument_1 10 rfl rfl)
theorem dX4_argument_35 : decode cX4_argument 35 = .ok (.aload_n 0, 1) := dk_42 (dk_at dksX4_argument_1 11 rfl rfl)
theorem dX4_argument_36 : decode cX4_argument 36 = .ok (.getfield 12, 3) := dk_180 0 12 (dk_at dksX4_argument_1 12 rfl rfl)
theorem dX4_argument_39 : decode cX4_argument 39 = .ok (.invokevirtual 121, 3) := dk_182 0 121 (dk_at dksX4_argument_1 15 rfl rfl)
theorem dX4_argument_42 : decode cX4_argument 42 = .ok (.aload_n 0, 1) := dk_42 (dk_at dksX4_argument_1 18 rfl rfl)
theorem dX4_argument_43 : decode cX4_argument 43 = .ok (.getfield 12, 3) := dk_180 0 12 (dk_at dksX4_argument_1 19 rfl rfl)
theorem dX4_argument_46 : decode cX4_argument 46 = .ok (.getfield 78, 3) := dk_180 0 78 (dk_at dksX4_argument_2 0 rfl rfl)
theorem dX4_argument_49 : decode cX4_argument 49 = .ok (.iconst 5, 1) := dk_8 (dk_at dksX4_argument_2 3 rfl rfl)
theorem dX4_argument_50 : decode cX4_argument 50 = .ok (.if_icmp .ne 11, 3) := dk_160 0 11 (dk_at dksX4_argument_2 4 rfl rfl)
theorem dX4_argument_53 : decode cX4_argument 53 = .ok (.aload_n 0, 1) := dk_42 (dk_at dksX4_argument_2 7 rfl rfl)
theorem dX4_argument_54 : decode cX4_argument 54 = .ok (.iload_n 1, 1) := dk_27 (dk_at dksX4_argument_2 8 rfl rfl)
theorem dX4_argument_55 : decode cX4_argument 55 = .ok (.invokevirtual 127, 3) := dk_182 0 127 (dk_at dksX4_argument_2 9 rfl rfl)
theorem dX4_argument_58 : decode cX4_argument 58 = .ok (.goto 7, 3) := dk_167 0 7 (dk_at dksX4_argument_2 12 rfl rfl)
theorem dX4_argument_61 : decode cX4_argument 61 = .ok (.aload_n 0, 1) := dk_42 (dk_at dksX4_argument_2 15 rfl rfl)
theorem dX4_argument_62 : decode cX4_argument 62 = .ok (.invokevirtual 81, 3) := dk_182 0 81 (dk_at dksX4_argument_2 16 rfl rfl)
theorem dX4_argument_65 : decode cX4_argument 65 = .ok (.istore_n 2, 1) := dk_61 (dk_at dksX4_argument_2 19 rfl rfl)
theorem dX4_argument_66 : decode cX4_argument 66 = .ok (.iload_n 2, 1) := dk_28 (dk_at dksX4_argument_2 20 rfl rfl)
theorem dX4_argument_67 : decode cX4_argument 67 = .ok (.ifCond .lt 15, 3) := dk_155 0 15 (dk_at dksX4_argument_2 21 rfl rfl)
theorem dX4_argument_70 : decode cX4_argument 70 = .ok (.aload_n 0, 1) := dk_42 (dk_at dksX4_argument_3 0 rfl rfl)
theorem dX4_argument_71 : decode cX4_argument 71 = .ok (.getfield 12, 3) := dk_180 0 12 (dk_at dksX4_argument_3 1 rfl rfl)
theorem dX4_argument_74 : decode cX4_argument 74 = .ok (.getfield 78, 3) := dk_180 0 78 (dk_at dksX4_argument_3 4 rfl rfl)
theorem dX4_argument_77 : decode cX4_argument 77 = .ok (.bipush 41, 2) := dk_16 41 (dk_at dksX4_argument_3 7 rfl rfl)
theorem dX4_argument_79 : decode cX4_argument 79 = .ok (.if_icmp .eq 8, 3) := dk_159 0 8 (dk_at dksX4_argument_3 9 rfl rfl)
theorem dX4_argument_82 : decode cX4_argument 82 = .ok (.aload_n 0, 1) := dk_42 (dk_at dksX4_argument_3 12 rfl rfl)
theorem dX4_argument_83 : decode cX4_argument 83 = .ok (.invokevirtual 81, 3) := dk_182 0 81 (dk_at dksX4_argument_3 13 rfl rfl)
theorem dX4_argument_86 : decode cX4_argument 86 = .ok (.ireturn, 1) := dk_172 (dk_at dksX4_argument_3 16 rfl rfl)
theorem dX4_argument_87 : decode cX4_argument 87 = .ok (.aload_n 0, 1) := dk_42 (dk_at dksX4_argument_3 17 rfl rfl)
theorem dX4_argument_88 : decode cX4_argument 88 = .ok (.getfield 12, 3) := dk_180 0 12 (dk_at dksX4_argument_3 18 rfl rfl)
theorem dX4_argument_91 : decode cX4_argument 91 = .ok (.invokevirtual 121, 3) := dk_182 0 121 (dk_at dksX4_argument_3 21 rfl rfl)
theorem dX4_argument_94 : decode cX4_argument 94 = .ok (.iload_n 2, 1) := dk_28 (dk_at dksX4_argument_4 0 rfl rfl)
theorem dX4_argument_95 : decode cX4_argument 95 = .ok (.ireturn, 1) := dk_172 (dk_at dksX4_argument_4 1 rfl rfl)
abbrev cX4_link : ByteArray := prog_18_method_8_code
def yX4_link : MethodName := ⟨RX4, "link", "(III)I"⟩
def dkwX4_link_1 : List UInt8 := [79, 42, 180, 0, 53, 27, 92, 46, 4, 96, 79, 29, 172]
abbrev dktX4_link_1 : List UInt8 := dkwX4_link_1 ++ []
def dkwX4_link_0 : List UInt8 := [29, 155, 0, 34, 28, 156, 0, 13, 42, 180, 0, 47, 27, 29, 79, 167, 0, 10, 42, 180, 0, 50, 28, 29]
abbrev dktX4_link_0 : List UInt8 := dkwX4_link_0 ++ dktX4_link_1
theorem dksX4_link_0 : cX4_link.data.toList.drop 0 = dktX4_link_0 := by decide +kernel
theorem dksX4_link_1 : cX4_link.data.toList.drop 24 = dktX4_link_1 := dk_seg dksX4_link_0 24 rfl rfl
theorem dX4_link_0 : decode cX4_link 0 = .ok (.iload_n 3, 1) := dk_29 (dk_at dksX4_link_0 0 rfl rfl)
theorem dX4_link_1 : decode cX4_link 1 = .ok (.ifCond .lt 34, 3) := dk_155 0 34 (dk_at dksX4_link_0 1 rfl rfl)
theorem dX4_link_4 : decode cX4_link 4 = .ok (.iload_n 2, 1) := dk_28 (dk_at dksX4_link_0 4 rfl rfl)
theorem dX4_link_5 : decode cX4_link 5 = .ok (.ifCond .ge 13, 3) := dk_156 0 13 (dk_at dksX4_link_0 5 rfl rfl)
theorem dX4_link_8 : decode cX4_link 8 = .ok (.aload_n 0, 1) := dk_42 (dk_at dksX4_link_0 8 rfl rfl)
theorem dX4_link_9 : decode cX4_link 9 = .ok (.getfield 47, 3) := dk_180 0 47 (dk_at dksX4_link_0 9 rfl rfl)
theorem dX4_link_12 : decode cX4_link 12 = .ok (.iload_n 1, 1) := dk_27 (dk_at dksX4_link_0 12 rfl rfl)
theorem dX4_link_13 : decode cX4_link 13 = .ok (.iload_n 3, 1) := dk_29 (dk_at dksX4_link_0 13 rfl rfl)
theorem dX4_link_14 : decode cX4_link 14 = .ok (.iastore, 1) := dk_79 (dk_at dksX4_link_0 14 rfl rfl)
theorem dX4_link_15 : decode cX4_link 15 = .ok (.goto 10, 3) := dk_167 0 10 (dk_at dksX4_link_0 15 rfl rfl)
theorem dX4_link_18 : decode cX4_link 18 = .ok (.aload_n 0, 1) := dk_42 (dk_at dksX4_link_0 18 rfl rfl)
theorem dX4_link_19 : decode cX4_link 19 = .ok (.getfield 50, 3) := dk_180 0 50 (dk_at dksX4_link_0 19 rfl rfl)
theorem dX4_link_22 : decode cX4_link 22 = .ok (.iload_n 2, 1) := dk_28 (dk_at dksX4_link_0 22 rfl rfl)
theorem dX4_link_23 : decode cX4_link 23 = .ok (.iload_n 3, 1) := dk_29 (dk_at dksX4_link_0 23 rfl rfl)
theorem dX4_link_24 : decode cX4_link 24 = .ok (.iastore, 1) := dk_79 (dk_at dksX4_link_1 0 rfl rfl)
theorem dX4_link_25 : decode cX4_link 25 = .ok (.aload_n 0, 1) := dk_42 (dk_at dksX4_link_1 1 rfl rfl)
theorem dX4_link_26 : decode cX4_link 26 = .ok (.getfield 53, 3) := dk_180 0 53 (dk_at dksX4_link_1 2 rfl rfl)
theorem dX4_link_29 : decode cX4_link 29 = .ok (.iload_n 1, 1) := dk_27 (dk_at dksX4_link_1 5 rfl rfl)
theorem dX4_link_30 : decode cX4_link 30 = .ok (.dup2, 1) := dk_92 (dk_at dksX4_link_1 6 rfl rfl)
theorem dX4_link_31 : decode cX4_link 31 = .ok (.iaload, 1) := dk_46 (dk_at dksX4_link_1 7 rfl rfl)
theorem dX4_link_32 : decode cX4_link 32 = .ok (.iconst 1, 1) := dk_4 (dk_at dksX4_link_1 8 rfl rfl)
theorem dX4_link_33 : decode cX4_link 33 = .ok (.iadd, 1) := dk_96 (dk_at dksX4_link_1 9 rfl rfl)
theorem dX4_link_34 : decode cX4_link 34 = .ok (.iastore, 1) := dk_79 (dk_at dksX4_link_1 10 rfl rfl)
theorem dX4_link_35 : decode cX4_link 35 = .ok (.iload_n 3, 1) := dk_29 (dk_at dksX4_link_1 11 rfl rfl)
theorem dX4_link_36 : decode cX4_link 36 = .ok (.ireturn, 1) := dk_172 (dk_at dksX4_link_1 12 rfl rfl)
abbrev cX4_sequence : ByteArray := prog_18_method_11_code
def yX4_sequence : MethodName := ⟨RX4, "sequence", "(I)I"⟩
def dkwX4_sequence_4 : List UInt8 := [180, 0, 38, 28, 42, 180, 0, 12, 180, 0, 112, 79, 42, 180, 0, 12, 182, 0, 121, 28, 172]
abbrev dktX4_sequence_4 : List UInt8 := dkwX4_sequence_4 ++ []
def dkwX4_sequence_3 : List UInt8 := [182, 0, 121, 167, 255, 205, 42, 180, 0, 12, 180, 0, 78, 16, 125, 159, 255, 193, 42, 182, 0, 81, 172, 42]
abbrev dktX4_sequence_3 : List UInt8 := dkwX4_sequence_3 ++ dktX4_sequence_4
def dkwX4_sequence_2 : List UInt8 := [62, 29, 156, 0, 5, 2, 172, 42, 180, 0, 12, 180, 0, 78, 16, 59, 160, 0, 13, 42, 180, 0, 12]
abbrev dktX4_sequence_2 : List UInt8 := dkwX4_sequence_2 ++ dktX4_sequence_3
def dkwX4_sequence_1 : List UInt8 := [180, 0, 12, 180, 0, 78, 16, 125, 159, 0, 62, 42, 28, 29, 42, 27, 4, 96, 182, 0, 74, 182, 0, 133]
abbrev dktX4_sequence_1 : List UInt8 := dkwX4_sequence_1 ++ dktX4_sequence_2
def dkwX4_sequence_0 : List UInt8 := [42, 16, 7, 27, 182, 0, 118, 61, 28, 156, 0, 5, 2, 172, 42, 180, 0, 12, 182, 0, 121, 2, 62, 42]
abbrev dktX4_sequence_0 : List UInt8 := dkwX4_sequence_0 ++ dktX4_sequence_1
theorem dksX4_sequence_0 : cX4_sequence.data.toList.drop 0 = dktX4_sequence_0 := by decide +kernel
theorem dksX4_sequence_1 : cX4_sequence.data.toList.drop 24 = dktX4_sequence_1 := dk_seg dksX4_sequence_0 24 rfl rfl
theorem dksX4_sequence_2 : cX4_sequence.data.toList.drop 48 = dktX4_sequence_2 := dk_seg dksX4_sequence_1 24 rfl rfl
theorem dksX4_sequence_3 : cX4_sequence.data.toList.drop 71 = dktX4_sequence_3 := dk_seg dksX4_sequence_2 23 rfl rfl
theorem dksX4_sequence_4 : cX4_sequence.data.toList.drop 95 = dktX4_sequence_4 := dk_seg dksX4_sequence_3 24 rfl rfl
theorem dX4_sequence_0 : decode cX4_sequence 0 = .ok (.aload_n 0, 1) := dk_42 (dk_at dksX4_sequence_0 0 rfl rfl)
theorem dX4_sequence_1 : decode cX4_sequence 1 = .ok (.bipush 7, 2) := dk_16 7 (dk_at dksX4_sequence_0 1 rfl rfl)
theorem dX4_sequence_3 : decode cX4_sequence 3 = .ok (.iload_n 1, 1) := dk_27 (dk_at dksX4_sequence_0 3 rfl rfl)
theorem dX4_sequence_4 : decode cX4_sequence 4 = .ok (.invokevirtual 118, 3) := dk_182 0 118 (dk_at dksX4_sequence_0 4 rfl rfl)
theorem dX4_sequence_7 : decode cX4_sequence 7 = .ok (.istore_n 2, 1) := dk_61 (dk_at dksX4_sequence_0 7 rfl rfl)
theorem dX4_sequence_8 : decode cX4_sequence 8 = .ok (.iload_n 2, 1) := dk_28 (dk_at dksX4_sequence_0 8 rfl rfl)
theorem dX4_sequence_9 : decode cX4_sequence 9 = .ok (.ifCond .ge 5, 3) := dk_156 0 5 (dk_at dksX4_sequence_0 9 rfl rfl)
theorem dX4_sequence_12 : decode cX4_sequence 12 = .ok (.iconst (-1), 1) := dk_2 (dk_at dksX4_sequence_0 12 rfl rfl)
theorem dX4_sequence_13 : decode cX4_sequence 13 = .ok (.ireturn, 1) := dk_172 (dk_at dksX4_sequence_0 13 rfl rfl)
theorem dX4_sequence_14 : decode cX4_sequence 14 = .ok (.aload_n 0, 1) := dk_42 (dk_at dksX4_sequence_0 14 rfl rfl)
theorem dX4_sequence_15 : decode cX4_sequence 15 = .ok (.getfield 12, 3) := dk_180 0 12 (dk_at dksX4_sequence_0 15 rfl rfl)
theorem dX4_sequence_18 : decode cX4_sequence 18 = .ok (.invokevirtual 121, 3) := dk_182 0 121 (dk_at dksX4_sequence_0 18 rfl rfl)
theorem dX4_sequence_21 : decode cX4_sequence 21 = .ok (.iconst (-1), 1) := dk_2 (dk_at dksX4_sequence_0 21 rfl rfl)
theorem dX4_sequence_22 : decode cX4_sequence 22 = .ok (.istore_n 3, 1) := dk_62 (dk_at dksX4_sequence_0 22 rfl rfl)
theorem dX4_sequence_23 : decode cX4_sequence 23 = .ok (.aload_n 0, 1) := dk_42 (dk_at dksX4_sequence_0 23 rfl rfl)
theorem dX4_sequence_24 : decode cX4_sequence 24 = .ok (.getfield 12, 3) := dk_180 0 12 (dk_at dksX4_sequence_1 0 rfl rfl)
theorem dX4_sequence_27 : decode cX4_sequence 27 = .ok (.getfield 78, 3) := dk_180 0 78 (dk_at dksX4_sequence_1 3 rfl rfl)
theorem dX4_sequence_30 : decode cX4_sequence 30 = .ok (.bipush 125, 2) := dk_16 125 (dk_at dksX4_sequence_1 6 rfl rfl)
theorem dX4_sequence_32 : decode cX4_sequence 32 = .ok (.if_icmp .eq 62, 3) := dk_159 0 62 (dk_at dksX4_sequence_1 8 rfl rfl)
theorem dX4_sequence_35 : decode cX4_sequence 35 = .ok (.aload_n 0, 1) := dk_42 (dk_at dksX4_sequence_1 11 rfl rfl)
theorem dX4_sequence_36 : decode cX4_sequence 36 = .ok (.iload_n 2, 1) := dk_28 (dk_at dksX4_sequence_1 12 rfl rfl)
theorem dX4_sequence_37 : decode cX4_sequence 37 = .ok (.iload_n 3, 1) := dk_29 (dk_at dksX4_sequence_1 13 rfl rfl)
theorem dX4_sequence_38 : decode cX4_sequence 38 = .ok (.aload_n 0, 1) := dk_42 (dk_at dksX4_sequence_1 14 rfl rfl)
theorem dX4_sequence_39 : decode cX4_sequence 39 = .ok (.iload_n 1, 1) := dk_27 (dk_at dksX4_sequence_1 15 rfl rfl)
theorem dX4_sequence_40 : decode cX4_sequence 40 = .ok (.iconst 1, 1) := dk_4 (dk_at dksX4_sequence_1 16 rfl rfl)
theorem dX4_sequence_41 : decode cX4_sequence 41 = .ok (.iadd, 1) := dk_96 (dk_at dksX4_sequence_1 17 rfl rfl)
theorem dX4_sequence_42 : decode cX4_sequence 42 = .ok (.invokevirtual 74, 3) := dk_182 0 74 (dk_at dksX4_sequence_1 18 rfl rfl)
theorem dX4_sequence_45 : decode cX4_sequence 45 = .ok (.invokevirtual 133, 3) := dk_182 0 133 (dk_at dksX4_sequence_1 21 rfl rfl)
theorem dX4_sequence_48 : decode cX4_sequence 48 = .ok (.istore_n 3, 1) := dk_62 (dk_at dksX4_sequence_2 0 rfl rfl)
theorem dX4_sequence_49 : decode cX4_sequence 49 = .ok (.iload_n 3, 1) := dk_29 (dk_at dksX4_sequence_2 1 rfl rfl)
theorem dX4_sequence_50 : decode cX4_sequence 50 = .ok (.ifCond .ge 5, 3) := dk_156 0 5 (dk_at dksX4_sequence_2 2 rfl rfl)
theorem dX4_sequence_53 : decode cX4_sequence 53 = .ok (.iconst (-1), 1) := dk_2 (dk_at dksX4_sequence_2 5 rfl rfl)
theorem dX4_sequence_54 : decode cX4_sequence 54 = .ok (.ireturn, 1) := dk_172 (dk_at dksX4_sequence_2 6 rfl rfl)
theorem dX4_sequence_55 : decode cX4_sequence 55 = .ok (.aload_n 0, 1) := dk_42 (dk_at dksX4_sequence_2 7 rfl rfl)
theorem dX4_sequence_56 : decode cX4_sequence 56 = .ok (.getfield 12, 3) := dk_180 0 12 (dk_at dksX4_sequence_2 8 rfl rfl)
theorem dX4_sequence_59 : decode cX4_sequence 59 = .ok (.getfield 78, 3) := dk_180 0 78 (dk_at dksX4_sequence_2 11 rfl rfl)
theorem dX4_sequence_62 : decode cX4_sequence 62 = .ok (.bipush 59, 2) := dk_16 59 (dk_at dksX4_sequence_2 14 rfl rfl)
theorem dX4_sequence_64 : decode cX4_sequence 64 = .ok (.if_icmp .ne 13, 3) := dk_160 0 13 (dk_at dksX4_sequence_2 16 rfl rfl)
theorem dX4_sequence_67 : decode cX4_sequence 67 = .ok (.aload_n 0, 1) := dk_42 (dk_at dksX4_sequence_2 19 rfl rfl)
theorem dX4_sequence_68 : decode cX4_sequence 68 = .ok (.getfield 12, 3) := dk_180 0 12 (dk_at dksX4_sequence_2 20 rfl rfl)
theorem dX4_sequence_71 : decode cX4_sequence 71 = .ok (.invokevirtual 121, 3) := dk_182 0 121 (dk_at dksX4_sequence_3 0 rfl rfl)
theorem dX4_sequence_74 : decode cX4_sequence 74 = .ok (.goto (-51), 3) := dk_167 255 205 (dk_at dksX4_sequence_3 3 rfl rfl)
theorem dX4_sequence_77 : decode cX4_sequence 77 = .ok (.aload_n 0, 1) := dk_42 (dk_at dksX4_sequence_3 6 rfl rfl)
theorem dX4_sequence_78 : decode cX4_sequence 78 = .ok (.getfield 12, 3) := dk_180 0 12 (dk_at dksX4_sequence_3 7 rfl rfl)
theorem dX4_sequence_81 : decode cX4_sequence 81 = .ok (.getfield 78, 3) := dk_180 0 78 (dk_at dksX4_sequence_3 10 rfl rfl)
theorem dX4_sequence_84 : decode cX4_sequence 84 = .ok (.bipush 125, 2) := dk_16 125 (dk_at dksX4_sequence_3 13 rfl rfl)
theorem dX4_sequence_86 : decode cX4_sequence 86 = .ok (.if_icmp .eq (-63), 3) := dk_159 255 193 (dk_at dksX4_sequence_3 15 rfl rfl)
theorem dX4_sequence_89 : decode cX4_sequence 89 = .ok (.aload_n 0, 1) := dk_42 (dk_at dksX4_sequence_3 18 rfl rfl)
theorem dX4_sequence_90 : decode cX4_sequence 90 = .ok (.invokevirtual 81, 3) := dk_182 0 81 (dk_at dksX4_sequence_3 19 rfl rfl)
theorem dX4_sequence_93 : decode cX4_sequence 93 = .ok (.ireturn, 1) := dk_172 (dk_at dksX4_sequence_3 22 rfl rfl)
theorem dX4_sequence_94 : decode cX4_sequence 94 = .ok (.aload_n 0, 1) := dk_42 (dk_at dksX4_sequence_3 23 rfl rfl)
theorem dX4_sequence_95 : decode cX4_sequence 95 = .ok (.getfield 38, 3) := dk_180 0 38 (dk_at dksX4_sequence_4 0 rfl rfl)
theorem dX4_sequence_98 : decode cX4_sequence 98 = .ok (.iload_n 2, 1) := dk_28 (dk_at dksX4_sequence_4 3 rfl rfl)
theorem dX4_sequence_99 : decode cX4_sequence 99 = .ok (.aload_n 0, 1) := dk_42 (dk_at dksX4_sequence_4 4 rfl rfl)
theorem dX4_sequence_100 : decode cX4_sequence 100 = .ok (.getfield 12, 3) := dk_180 0 12 (dk_at dksX4_sequence_4 5 rfl rfl)
theorem dX4_sequence_103 : decode cX4_sequence 103 = .ok (.getfield 112, 3) := dk_180 0 112 (dk_at dksX4_sequence_4 8 rfl rfl)
theorem dX4_sequence_106 : decode cX4_sequence 106 = .ok (.iastore, 1) := dk_79 (dk_at dksX4_sequence_4 11 rfl rfl)
theorem dX4_sequence_107 : decode cX4_sequence 107 = .ok (.aload_n 0, 1) := dk_42 (dk_at dksX4_sequence_4 12 rfl rfl)
theorem dX4_sequence_108 : decode cX4_sequence 108 = .ok (.getfield 12, 3) := dk_180 0 12 (dk_at dksX4_sequence_4 13 rfl rfl)
theorem dX4_sequence_111 : decode cX4_sequence 111 = .ok (.invokevirtual 121, 3) := dk_182 0 121 (dk_at dksX4_sequence_4 16 rfl rfl)
theorem dX4_sequence_114 : decode cX4_sequence 114 = .ok (.iload_n 2, 1) := dk_28 (dk_at dksX4_sequence_4 19 rfl rfl)
theorem dX4_sequence_115 : decode cX4_sequence 115 = .ok (.ireturn, 1) := dk_172 (dk_at dksX4_sequence_4 20 rfl rfl)
abbrev cX4_isSequence : ByteArray := prog_18_method_16_code
def yX4_isSequence : MethodName := ⟨RX4, "isSequence", "(I)Z"⟩
def dkwX4_isSequence_0 : List UInt8 := [42, 180, 0, 27, 27, 51, 16, 7, 160, 0, 7, 4, 167, 0, 4, 3, 172]
abbrev dktX4_isSequence_0 : List UInt8 := dkwX4_isSequence_0 ++ []
theorem dksX4_isSequence_0 : cX4_isSequence.data.toList.drop 0 = dktX4_isSequence_0 := by decide +kernel
theorem dX4_isSequence_0 : decode cX4_isSequence 0 = .ok (.aload_n 0, 1) := dk_42 (dk_at dksX4_isSequence_0 0 rfl rfl)
theorem dX4_isSequence_1 : decode cX4_isSequence 1 = .ok (.getfield 27, 3) := dk_180 0 27 (dk_at dksX4_isSequence_0 1 rfl rfl)
theorem dX4_isSequence_4 : decode cX4_isSequence 4 = .ok (.iload_n 1, 1) := dk_27 (dk_at dksX4_isSequence_0 4 rfl rfl)
theorem dX4_isSequence_5 : decode cX4_isSequence 5 = .ok (.baload, 1) := dk_51 (dk_at dksX4_isSequence_0 5 rfl rfl)
theorem dX4_isSequence_6 : decode cX4_isSequence 6 = .ok (.bipush 7, 2) := dk_16 7 (dk_at dksX4_isSequence_0 6 rfl rfl)
theorem dX4_isSequence_8 : decode cX4_isSequence 8 = .ok (.if_icmp .ne 7, 3) := dk_160 0 7 (dk_at dksX4_isSequence_0 8 rfl rfl)
theorem dX4_isSequence_11 : decode cX4_isSequence 11 = .ok (.iconst 1, 1) := dk_4 (dk_at dksX4_isSequence_0 11 rfl rfl)
theorem dX4_isSequence_12 : decode cX4_isSequence 12 = .ok (.goto 4, 3) := dk_167 0 4 (dk_at dksX4_isSequence_0 12 rfl rfl)
theorem dX4_isSequence_15 : decode cX4_isSequence 15 = .ok (.iconst 0, 1) := dk_3 (dk_at dksX4_isSequence_0 15 rfl rfl)
theorem dX4_isSequence_16 : decode cX4_isSequence 16 = .ok (.ireturn, 1) := dk_172 (dk_at dksX4_isSequence_0 16 rfl rfl)
abbrev cX4_child : ByteArray := prog_18_method_19_code
def yX4_child : MethodName := ⟨RX4, "child", "(II)I"⟩
def dkwX4_child_1 : List UInt8 := [132, 4, 1, 167, 255, 240, 29, 172]
abbrev dktX4_child_1 : List UInt8 := dkwX4_child_1 ++ []
def dkwX4_child_0 : List UInt8 := [42, 180, 0, 47, 27, 46, 62, 3, 54, 4, 21, 4, 28, 162, 0, 16, 42, 180, 0, 50, 29, 46, 62]
abbrev dktX4_child_0 : List UInt8 := dkwX4_child_0 ++ dktX4_child_1
theorem dksX4_child_0 : cX4_child.data.toList.drop 0 = dktX4_child_0 := by decide +kernel
theorem dksX4_child_1 : cX4_child.data.toList.drop 23 = dktX4_child_1 := dk_seg dksX4_child_0 23 rfl rfl
theorem dX4_child_0 : decode cX4_child 0 = .ok (.aload_n 0, 1) := dk_42 (dk_at dksX4_child_0 0 rfl rfl)
theorem dX4_child_1 : decode cX4_child 1 = .ok (.getfield 47, 3) := dk_180 0 47 (dk_at dksX4_child_0 1 rfl rfl)
theorem dX4_child_4 : decode cX4_child 4 = .ok (.iload_n 1, 1) := dk_27 (dk_at dksX4_child_0 4 rfl rfl)
theorem dX4_child_5 : decode cX4_child 5 = .ok (.iaload, 1) := dk_46 (dk_at dksX4_child_0 5 rfl rfl)
theorem dX4_child_6 : decode cX4_child 6 = .ok (.istore_n 3, 1) := dk_62 (dk_at dksX4_child_0 6 rfl rfl)
theorem dX4_child_7 : decode cX4_child 7 = .ok (.iconst 0, 1) := dk_3 (dk_at dksX4_child_0 7 rfl rfl)
theorem dX4_child_8 : decode cX4_child 8 = .ok (.istore 4, 2) := dk_54 4 (dk_at dksX4_child_0 8 rfl rfl)
theorem dX4_child_10 : decode cX4_child 10 = .ok (.iload 4, 2) := dk_21 4 (dk_at dksX4_child_0 10 rfl rfl)
theorem dX4_child_12 : decode cX4_child 12 = .ok (.iload_n 2, 1) := dk_28 (dk_at dksX4_child_0 12 rfl rfl)
theorem dX4_child_13 : decode cX4_child 13 = .ok (.if_icmp .ge 16, 3) := dk_162 0 16 (dk_at dksX4_child_0 13 rfl rfl)
theorem dX4_child_16 : decode cX4_child 16 = .ok (.aload_n 0, 1) := dk_42 (dk_at dksX4_child_0 16 rfl rfl)
theorem dX4_child_17 : decode cX4_child 17 = .ok (.getfield 50, 3) := dk_180 0 50 (dk_at dksX4_child_0 17 rfl rfl)
theorem dX4_child_20 : decode cX4_child 20 = .ok (.iload_n 3, 1) := dk_29 (dk_at dksX4_child_0 20 rfl rfl)
theorem dX4_child_21 : decode cX4_child 21 = .ok (.iaload, 1) := dk_46 (dk_at dksX4_child_0 21 rfl rfl)
theorem dX4_child_22 : decode cX4_child 22 = .ok (.istore_n 3, 1) := dk_62 (dk_at dksX4_child_0 22 rfl rfl)
theorem dX4_child_23 : decode cX4_child 23 = .ok (.iinc 4 1, 3) := dk_132 4 1 (dk_at dksX4_child_1 0 rfl rfl)
theorem dX4_child_26 : decode cX4_child 26 = .ok (.goto (-16), 3) := dk_167 255 240 (dk_at dksX4_child_1 3 rfl rfl)
theorem dX4_child_29 : decode cX4_child 29 = .ok (.iload_n 3, 1) := dk_29 (dk_at dksX4_child_1 6 rfl rfl)
theorem dX4_child_30 : decode cX4_child 30 = .ok (.ireturn, 1) := dk_172 (dk_at dksX4_child_1 7 rfl rfl)
abbrev cX4_isBare : ByteArray := prog_18_method_18_code
def yX4_isBare : MethodName := ⟨RX4, "isBare", "(III)Z"⟩
def dkwX4_isBare_1 : List UInt8 := [172]
abbrev dktX4_isBare_1 : List UInt8 := dkwX4_isBare_1 ++ []
def dkwX4_isBare_0 : List UInt8 := [42, 27, 28, 29, 182, 0, 152, 153, 0, 16, 42, 180, 0, 41, 27, 46, 154, 0, 7, 4, 167, 0, 4, 3]
abbrev dktX4_isBare_0 : List UInt8 := dkwX4_isBare_0 ++ dktX4_isBare_1
theorem dksX4_isBare_0 : cX4_isBare.data.toList.drop 0 = dktX4_isBare_0 := by decide +kernel
theorem dksX4_isBare_1 : cX4_isBare.data.toList.drop 24 = dktX4_isBare_1 := dk_seg dksX4_isBare_0 24 rfl rfl
theorem dX4_isBare_0 : decode cX4_isBare 0 = .ok (.aload_n 0, 1) := dk_42 (dk_at dksX4_isBare_0 0 rfl rfl)
theorem dX4_isBare_1 : decode cX4_isBare 1 = .ok (.iload_n 1, 1) := dk_27 (dk_at dksX4_isBare_0 1 rfl rfl)
theorem dX4_isBare_2 : decode cX4_isBare 2 = .ok (.iload_n 2, 1) := dk_28 (dk_at dksX4_isBare_0 2 rfl rfl)
theorem dX4_isBare_3 : decode cX4_isBare 3 = .ok (.iload_n 3, 1) := dk_29 (dk_at dksX4_isBare_0 3 rfl rfl)
theorem dX4_isBare_4 : decode cX4_isBare 4 = .ok (.invokevirtual 152, 3) := dk_182 0 152 (dk_at dksX4_isBare_0 4 rfl rfl)
theorem dX4_isBare_7 : decode cX4_isBare 7 = .ok (.ifCond .eq 16, 3) := dk_153 0 16 (dk_at dksX4_isBare_0 7 rfl rfl)
theorem dX4_isBare_10 : decode cX4_isBare 10 = .ok (.aload_n 0, 1) := dk_42 (dk_at dksX4_isBare_0 10 rfl rfl)
theorem dX4_isBare_11 : decode cX4_isBare 11 = .ok (.getfield 41, 3) := dk_180 0 41 (dk_at dksX4_isBare_0 11 rfl rfl)
theorem dX4_isBare_14 : decode cX4_isBare 14 = .ok (.iload_n 1, 1) := dk_27 (dk_at dksX4_isBare_0 14 rfl rfl)
theorem dX4_isBare_15 : decode cX4_isBare 15 = .ok (.iaload, 1) := dk_46 (dk_at dksX4_isBare_0 15 rfl rfl)
theorem dX4_isBare_16 : decode cX4_isBare 16 = .ok (.ifCond .ne 7, 3) := dk_154 0 7 (dk_at dksX4_isBare_0 16 rfl rfl)
theorem dX4_isBare_19 : decode cX4_isBare 19 = .ok (.iconst 1, 1) := dk_4 (dk_at dksX4_isBare_0 19 rfl rfl)
theorem dX4_isBare_20 : decode cX4_isBare 20 = .ok (.goto 4, 3) := dk_167 0 4 (dk_at dksX4_isBare_0 20 rfl rfl)
theorem dX4_isBare_23 : decode cX4_isBare 23 = .ok (.iconst 0, 1) := dk_3 (dk_at dksX4_isBare_0 23 rfl rfl)
theorem dX4_isBare_24 : decode cX4_isBare 24 = .ok (.ireturn, 1) := dk_172 (dk_at dksX4_isBare_1 0 rfl rfl)
abbrev cX4_is : ByteArray := prog_18_method_17_code
def yX4_is : MethodName := ⟨RX4, "is", "(III)Z"⟩
def dkwX4_is_1 : List UInt8 := [180, 0, 53, 27, 46, 29, 160, 0, 7, 4, 167, 0, 4, 3, 172]
abbrev dktX4_is_1 : List UInt8 := dkwX4_is_1 ++ []
def dkwX4_is_0 : List UInt8 := [42, 180, 0, 27, 27, 51, 16, 8, 160, 0, 27, 42, 180, 0, 31, 27, 51, 28, 160, 0, 17, 42]
abbrev dktX4_is_0 : List UInt8 := dkwX4_is_0 ++ dktX4_is_1
theorem dksX4_is_0 : cX4_is.data.toList.drop 0 = dktX4_is_0 := by decide +kernel
theorem dksX4_is_1 : cX4_is.data.toList.drop 22 = dktX4_is_1 := dk_seg dksX4_is_0 22 rfl rfl
theorem dX4_is_0 : decode cX4_is 0 = .ok (.aload_n 0, 1) := dk_42 (dk_at dksX4_is_0 0 rfl rfl)
theorem dX4_is_1 : decode cX4_is 1 = .ok (.getfield 27, 3) := dk_180 0 27 (dk_at dksX4_is_0 1 rfl rfl)
theorem dX4_is_4 : decode cX4_is 4 = .ok (.iload_n 1, 1) := dk_27 (dk_at dksX4_is_0 4 rfl rfl)
theorem dX4_is_5 : decode cX4_is 5 = .ok (.baload, 1) := dk_51 (dk_at dksX4_is_0 5 rfl rfl)
theorem dX4_is_6 : decode cX4_is 6 = .ok (.bipush 8, 2) := dk_16 8 (dk_at dksX4_is_0 6 rfl rfl)
theorem dX4_is_8 : decode cX4_is 8 = .ok (.if_icmp .ne 27, 3) := dk_160 0 27 (dk_at dksX4_is_0 8 rfl rfl)
theorem dX4_is_11 : decode cX4_is 11 = .ok (.aload_n 0, 1) := dk_42 (dk_at dksX4_is_0 11 rfl rfl)
theorem dX4_is_12 : decode cX4_is 12 = .ok (.getfield 31, 3) := dk_180 0 31 (dk_at dksX4_is_0 12 rfl rfl)
theorem dX4_is_15 : decode cX4_is 15 = .ok (.iload_n 1, 1) := dk_27 (dk_at dksX4_is_0 15 rfl rfl)
theorem dX4_is_16 : decode cX4_is 16 = .ok (.baload, 1) := dk_51 (dk_at dksX4_is_0 16 rfl rfl)
theorem dX4_is_17 : decode cX4_is 17 = .ok (.iload_n 2, 1) := dk_28 (dk_at dksX4_is_0 17 rfl rfl)
theorem dX4_is_18 : decode cX4_is 18 = .ok (.if_icmp .ne 17, 3) := dk_160 0 17 (dk_at dksX4_is_0 18 rfl rfl)
theorem dX4_is_21 : decode cX4_is 21 = .ok (.aload_n 0, 1) := dk_42 (dk_at dksX4_is_0 21 rfl rfl)
theorem dX4_is_22 : decode cX4_is 22 = .ok (.getfield 53, 3) := dk_180 0 53 (dk_at dksX4_is_1 0 rfl rfl)
theorem dX4_is_25 : decode cX4_is 25 = .ok (.iload_n 1, 1) := dk_27 (dk_at dksX4_is_1 3 rfl rfl)
theorem dX4_is_26 : decode cX4_is 26 = .ok (.iaload, 1) := dk_46 (dk_at dksX4_is_1 4 rfl rfl)
theorem dX4_is_27 : decode cX4_is 27 = .ok (.iload_n 3, 1) := dk_29 (dk_at dksX4_is_1 5 rfl rfl)
theorem dX4_is_28 : decode cX4_is 28 = .ok (.if_icmp .ne 7, 3) := dk_160 0 7 (dk_at dksX4_is_1 6 rfl rfl)
theorem dX4_is_31 : decode cX4_is 31 = .ok (.iconst 1, 1) := dk_4 (dk_at dksX4_is_1 9 rfl rfl)
theorem dX4_is_32 : decode cX4_is 32 = .ok (.goto 4, 3) := dk_167 0 4 (dk_at dksX4_is_1 10 rfl rfl)
theorem dX4_is_35 : decode cX4_is 35 = .ok (.iconst 0, 1) := dk_3 (dk_at dksX4_is_1 13 rfl rfl)
theorem dX4_is_36 : decode cX4_is 36 = .ok (.ireturn, 1) := dk_172 (dk_at dksX4_is_1 14 rfl rfl)
abbrev cX4_text : ByteArray := prog_18_method_2_code
def yX4_text : MethodName := ⟨RX4, "text", "()[B"⟩
def dkwX4_text_0 : List UInt8 := [42, 180, 0, 12, 180, 0, 60, 176]
abbrev dktX4_text_0 : List UInt8 := dkwX4_text_0 ++ []
theorem dksX4_text_0 : cX4_text.data.toList.drop 0 = dktX4_text_0 := by decide +kernel
theorem dX4_text_0 : decode cX4_text 0 = .ok (.aload_n 0, 1) := dk_42 (dk_at dksX4_text_0 0 rfl rfl)
theorem dX4_text_1 : decode cX4_text 1 = .ok (.getfield 12, 3) := dk_180 0 12 (dk_at dksX4_text_0 1 rfl rfl)
theorem dX4_text_4 : decode cX4_text 4 = .ok (.getfield 60, 3) := dk_180 0 60 (dk_at dksX4_text_0 4 rfl rfl)
theorem dX4_text_7 : decode cX4_text 7 = .ok (.areturn, 1) := dk_176 (dk_at dksX4_text_0 7 rfl rfl)
abbrev cX4_size : ByteArray := prog_18_method_20_code
def yX4_size : MethodName := ⟨RX4, "size", "(I)I"⟩
def dkwX4_size_1 : List UInt8 := [180, 0, 50, 29, 46, 155, 255, 233, 42, 180, 0, 50, 29, 46, 62, 167, 255, 236, 28, 27, 100, 4, 96, 172]
abbrev dktX4_size_1 : List UInt8 := dkwX4_size_1 ++ []
def dkwX4_size_0 : List UInt8 := [27, 61, 27, 62, 29, 155, 0, 35, 29, 61, 42, 180, 0, 47, 29, 46, 62, 29, 155, 255, 242, 42]
abbrev dktX4_size_0 : List UInt8 := dkwX4_size_0 ++ dktX4_size_1
theorem dksX4_size_0 : cX4_size.data.toList.drop 0 = dktX4_size_0 := by decide +kernel
theorem dksX4_size_1 : cX4_size.data.toList.drop 22 = dktX4_size_1 := dk_seg dksX4_size_0 22 rfl rfl
theorem dX4_size_0 : decode cX4_size 0 = .ok (.iload_n 1, 1) := dk_27 (dk_at dksX4_size_0 0 rfl rfl)
theorem dX4_size_1 : decode cX4_size 1 = .ok (.istore_n 2, 1) := dk_61 (dk_at dksX4_size_0 1 rfl rfl)
theorem dX4_size_2 : decode cX4_size 2 = .ok (.iload_n 1, 1) := dk_27 (dk_at dksX4_size_0 2 rfl rfl)
theorem dX4_size_3 : decode cX4_size 3 = .ok (.istore_n 3, 1) := dk_62 (dk_at dksX4_size_0 3 rfl rfl)
theorem dX4_size_4 : decode cX4_size 4 = .ok (.iload_n 3, 1) := dk_29 (dk_at dksX4_size_0 4 rfl rfl)
theorem dX4_size_5 : decode cX4_size 5 = .ok (.ifCond .lt 35, 3) := dk_155 0 35 (dk_at dksX4_size_0 5 rfl rfl)
theorem dX4_size_8 : decode cX4_size 8 = .ok (.iload_n 3, 1) := dk_29 (dk_at dksX4_size_0 8 rfl rfl)
theorem dX4_size_9 : decode cX4_size 9 = .ok (.istore_n 2, 1) := dk_61 (dk_at dksX4_size_0 9 rfl rfl)
theorem dX4_size_10 : decode cX4_size 10 = .ok (.aload_n 0, 1) := dk_42 (dk_at dksX4_size_0 10 rfl rfl)
theorem dX4_size_11 : decode cX4_size 11 = .ok (.getfield 47, 3) := dk_180 0 47 (dk_at dksX4_size_0 11 rfl rfl)
theorem dX4_size_14 : decode cX4_size 14 = .ok (.iload_n 3, 1) := dk_29 (dk_at dksX4_size_0 14 rfl rfl)
theorem dX4_size_15 : decode cX4_size 15 = .ok (.iaload, 1) := dk_46 (dk_at dksX4_size_0 15 rfl rfl)
theorem dX4_size_16 : decode cX4_size 16 = .ok (.istore_n 3, 1) := dk_62 (dk_at dksX4_size_0 16 rfl rfl)
theorem dX4_size_17 : decode cX4_size 17 = .ok (.iload_n 3, 1) := dk_29 (dk_at dksX4_size_0 17 rfl rfl)
theorem dX4_size_18 : decode cX4_size 18 = .ok (.ifCond .lt (-14), 3) := dk_155 255 242 (dk_at dksX4_size_0 18 rfl rfl)
theorem dX4_size_21 : decode cX4_size 21 = .ok (.aload_n 0, 1) := dk_42 (dk_at dksX4_size_0 21 rfl rfl)
theorem dX4_size_22 : decode cX4_size 22 = .ok (.getfield 50, 3) := dk_180 0 50 (dk_at dksX4_size_1 0 rfl rfl)
theorem dX4_size_25 : decode cX4_size 25 = .ok (.iload_n 3, 1) := dk_29 (dk_at dksX4_size_1 3 rfl rfl)
theorem dX4_size_26 : decode cX4_size 26 = .ok (.iaload, 1) := dk_46 (dk_at dksX4_size_1 4 rfl rfl)
theorem dX4_size_27 : decode cX4_size 27 = .ok (.ifCond .lt (-23), 3) := dk_155 255 233 (dk_at dksX4_size_1 5 rfl rfl)
theorem dX4_size_30 : decode cX4_size 30 = .ok (.aload_n 0, 1) := dk_42 (dk_at dksX4_size_1 8 rfl rfl)
theorem dX4_size_31 : decode cX4_size 31 = .ok (.getfield 50, 3) := dk_180 0 50 (dk_at dksX4_size_1 9 rfl rfl)
theorem dX4_size_34 : decode cX4_size 34 = .ok (.iload_n 3, 1) := dk_29 (dk_at dksX4_size_1 12 rfl rfl)
theorem dX4_size_35 : decode cX4_size 35 = .ok (.iaload, 1) := dk_46 (dk_at dksX4_size_1 13 rfl rfl)
theorem dX4_size_36 : decode cX4_size 36 = .ok (.istore_n 3, 1) := dk_62 (dk_at dksX4_size_1 14 rfl rfl)
theorem dX4_size_37 : decode cX4_size 37 = .ok (.goto (-20), 3) := dk_167 255 236 (dk_at dksX4_size_1 15 rfl rfl)
theorem dX4_size_40 : decode cX4_size 40 = .ok (.iload_n 2, 1) := dk_28 (dk_at dksX4_size_1 18 rfl rfl)
theorem dX4_size_41 : decode cX4_size 41 = .ok (.iload_n 1, 1) := dk_27 (dk_at dksX4_size_1 19 rfl rfl)
theorem dX4_size_42 : decode cX4_size 42 = .ok (.isub, 1) := dk_100 (dk_at dksX4_size_1 20 rfl rfl)
theorem dX4_size_43 : decode cX4_size 43 = .ok (.iconst 1, 1) := dk_4 (dk_at dksX4_size_1 21 rfl rfl)
theorem dX4_size_44 : decode cX4_size 44 = .ok (.iadd, 1) := dk_96 (dk_at dksX4_size_1 22 rfl rfl)
theorem dX4_size_45 : decode cX4_size 45 = .ok (.ireturn, 1) := dk_172 (dk_at dksX4_size_1 23 rfl rfl)
theorem q371 : (Jvm.Cond.initialized "ContractLedger$Terms") ∈ lw_all := lw_g (lw_at lw_m1 14 rfl) rfl
theorem q589 : (Jvm.Cond.instantiable "ContractLedger$Terms" (14 : Nat)) ∈ lw_all := lw_g (lw_at lw_m1 232 rfl) rfl
theorem q591 : (Jvm.Cond.instanceMethod ({ cls := "ContractLedger$Terms", name := "<init>", desc := "(LContractLedger$Word;)V" } : Jvm.MethodName)) ∈ lw_all := lw_g (lw_at lw_m1 234 rfl) rfl
theorem q592 : (Jvm.Cond.code ({ cls := "ContractLedger$Terms", name := "<init>", desc := "(LContractLedger$Word;)V" } : Jvm.MethodName) prog_18_method_1_code (2 : Nat) (Option.none : Option Jvm.ClassFile.FieldType)) ∈ lw_all := lw_g (lw_at lw_m1 235 rfl) rfl
theorem q593 : (Jvm.Cond.methodLink "ContractLedger$Terms" (3 : Nat) ({ cls := "java/lang/Object", name := "<init>", desc := "()V" } : Jvm.MethodName)) ∈ lw_all := lw_g (lw_at lw_m1 236 rfl) rfl
theorem q594 : (Jvm.Cond.classLink "ContractLedger$Terms" (9 : Nat) "ContractLedger$Tokens") ∈ lw_all := lw_g (lw_at lw_m1 237 rfl) rfl
theorem q596 : (Jvm.Cond.methodLinkNest "ContractLedger$Terms" (11 : Nat) ({ cls := "ContractLedger$Tokens", name := "<init>", desc := "()V" } : Jvm.MethodName) "ContractLedger") ∈ lw_tbl := lw_at lw_m1 239 rfl
theorem q601 : (Jvm.Cond.fieldLink "ContractLedger$Terms" (60 : Nat) "ContractLedger$Tokens" "text" "[B") ∈ lw_all := lw_g (lw_at lw_m2 4 rfl) rfl
theorem q603 : (Jvm.Cond.fieldLink "ContractLedger$Terms" (78 : Nat) "ContractLedger$Tokens" "kind" "I") ∈ lw_all := lw_g (lw_at lw_m2 6 rfl) rfl
theorem q605 : (Jvm.Cond.fieldLink "ContractLedger$Terms" (85 : Nat) "ContractLedger$Tokens" "start" "I") ∈ lw_all := lw_g (lw_at lw_m2 8 rfl) rfl
theorem q608 : (Jvm.Cond.fieldLink "ContractLedger$Terms" (112 : Nat) "ContractLedger$Tokens" "end" "I") ∈ lw_all := lw_g (lw_at lw_m2 11 rfl) rfl
theorem q620 : (Jvm.Cond.classLink "ContractLedger$Terms" (18 : Nat) "ContractLedger$Whole") ∈ lw_all := lw_g (lw_at lw_m2 23 rfl) rfl
theorem q622 : (Jvm.Cond.methodLink "ContractLedger$Terms" (20 : Nat) ({ cls := "ContractLedger$Whole", name := "<init>", desc := "(I)V" } : Jvm.MethodName)) ∈ lw_all := lw_g (lw_at lw_m2 25 rfl) rfl
theorem q628 : (Jvm.Cond.fieldLink "ContractLedger$Terms" (89 : Nat) "ContractLedger$Whole" "digits" "[I") ∈ lw_all := lw_g (lw_at lw_m2 31 rfl) rfl
theorem q633 : (Jvm.Cond.fieldLink "ContractLedger$Terms" (88 : Nat) "ContractLedger$Whole" "count" "I") ∈ lw_all := lw_g (lw_at lw_m2 36 rfl) rfl
theorem q638 : (Jvm.Cond.fieldLink "ContractLedger$Terms" (108 : Nat) "ContractLedger$Whole" "negative" "Z") ∈ lw_all := lw_g (lw_at lw_m2 41 rfl) rfl
theorem q650 : (Jvm.Cond.fieldLink "ContractLedger$Terms" (56 : Nat) "ContractLedger$Terms" "words" "LContractLedger$Word;") ∈ lw_all := lw_g (lw_at lw_m2 53 rfl) rfl
theorem q651 : (Jvm.Cond.fieldLink "ContractLedger$Terms" (12 : Nat) "ContractLedger$Terms" "tokens" "LContractLedger$Tokens;") ∈ lw_all := lw_g (lw_at lw_m2 54 rfl) rfl
theorem q652 : (Jvm.Cond.fieldLink "ContractLedger$Terms" (23 : Nat) "ContractLedger$Terms" "number" "LContractLedger$Whole;") ∈ lw_all := lw_g (lw_at lw_m2 55 rfl) rfl
theorem q653 : (Jvm.Cond.fieldLink "ContractLedger$Terms" (27 : Nat) "ContractLedger$Terms" "kinds" "[B") ∈ lw_all := lw_g (lw_at lw_m2 56 rfl) rfl
theorem q657 : (Jvm.Cond.fieldLink "ContractLedger$Terms" (31 : Nat) "ContractLedger$Terms" "names" "[B") ∈ lw_all := lw_g (lw_at lw_m2 60 rfl) rfl
theorem q661 : (Jvm.Cond.fieldLink "ContractLedger$Terms" (34 : Nat) "ContractLedger$Terms" "starts" "[I") ∈ lw_all := lw_g (lw_at lw_m2 64 rfl) rfl
theorem q664 : (Jvm.Cond.fieldLink "ContractLedger$Terms" (38 : Nat) "ContractLedger$Terms" "ends" "[I") ∈ lw_all := lw_g (lw_at lw_m2 67 rfl) rfl
theorem q667 : (Jvm.Cond.fieldLink "ContractLedger$Terms" (41 : Nat) "ContractLedger$Terms" "marks" "[I") ∈ lw_all := lw_g (lw_at lw_m2 70 rfl) rfl
theorem q670 : (Jvm.Cond.fieldLink "ContractLedger$Terms" (44 : Nat) "ContractLedger$Terms" "markEnds" "[I") ∈ lw_all := lw_g (lw_at lw_m2 73 rfl) rfl
theorem q672 : (Jvm.Cond.fieldLink "ContractLedger$Terms" (47 : Nat) "ContractLedger$Terms" "firsts" "[I") ∈ lw_all := lw_g (lw_at lw_m2 75 rfl) rfl
theorem q676 : (Jvm.Cond.fieldLink "ContractLedger$Terms" (50 : Nat) "ContractLedger$Terms" "nexts" "[I") ∈ lw_all := lw_g (lw_at lw_m2 79 rfl) rfl
theorem q680 : (Jvm.Cond.fieldLink "ContractLedger$Terms" (53 : Nat) "ContractLedger$Terms" "counts" "[I") ∈ lw_all := lw_g (lw_at lw_m2 83 rfl) rfl
theorem q686 : (Jvm.Cond.fieldLink "ContractLedger$Terms" (63 : Nat) "ContractLedger$Terms" "count" "I") ∈ lw_all := lw_g (lw_at lw_m2 89 rfl) rfl
theorem q688 : (Jvm.Cond.fieldLink "ContractLedger$Terms" (67 : Nat) "ContractLedger$Terms" "wrong" "I") ∈ lw_all := lw_g (lw_at lw_m2 91 rfl) rfl
theorem q691 : (Jvm.Cond.laysFinal "ContractLedger$Terms" "ContractLedger$Terms" "words" "LContractLedger$Word;") ∈ lw_all := lw_g (lw_at lw_m2 94 rfl) rfl
theorem q692 : (Jvm.Cond.soleField "ContractLedger$Terms" "words") ∈ lw_all := lw_g (lw_at lw_m2 95 rfl) rfl
theorem q693 : (Jvm.Cond.laysFinal "ContractLedger$Terms" "ContractLedger$Terms" "tokens" "LContractLedger$Tokens;") ∈ lw_all := lw_g (lw_at lw_m2 96 rfl) rfl
theorem q694 : (Jvm.Cond.soleField "ContractLedger$Terms" "tokens") ∈ lw_all := lw_g (lw_at lw_m2 97 rfl) rfl
theorem q695 : (Jvm.Cond.laysFinal "ContractLedger$Terms" "ContractLedger$Terms" "number" "LContractLedger$Whole;") ∈ lw_all := lw_g (lw_at lw_m2 98 rfl) rfl
theorem q696 : (Jvm.Cond.soleField "ContractLedger$Terms" "number") ∈ lw_all := lw_g (lw_at lw_m2 99 rfl) rfl
theorem q697 : (Jvm.Cond.laysFinal "ContractLedger$Terms" "ContractLedger$Terms" "kinds" "[B") ∈ lw_all := lw_g (lw_at lw_m2 100 rfl) rfl
theorem q698 : (Jvm.Cond.soleField "ContractLedger$Terms" "kinds") ∈ lw_all := lw_g (lw_at lw_m2 101 rfl) rfl
theorem q699 : (Jvm.Cond.laysFinal "ContractLedger$Terms" "ContractLedger$Terms" "names" "[B") ∈ lw_all := lw_g (lw_at lw_m2 102 rfl) rfl
theorem q700 : (Jvm.Cond.soleField "ContractLedger$Terms" "names") ∈ lw_all := lw_g (lw_at lw_m2 103 rfl) rfl
theorem q701 : (Jvm.Cond.laysFinal "ContractLedger$Terms" "ContractLedger$Terms" "starts" "[I") ∈ lw_all := lw_g (lw_at lw_m2 104 rfl) rfl
theorem q702 : (Jvm.Cond.soleField "ContractLedger$Terms" "starts") ∈ lw_all := lw_g (lw_at lw_m2 105 rfl) rfl
theorem q703 : (Jvm.Cond.laysFinal "ContractLedger$Terms" "ContractLedger$Terms" "ends" "[I") ∈ lw_all := lw_g (lw_at lw_m2 106 rfl) rfl
theorem q704 : (Jvm.Cond.soleField "ContractLedger$Terms" "ends") ∈ lw_all := lw_g (lw_at lw_m2 107 rfl) rfl
theorem q705 : (Jvm.Cond.laysFinal "ContractLedger$Terms" "ContractLedger$Terms" "marks" "[I") ∈ lw_all := lw_g (lw_at lw_m2 108 rfl) rfl
theorem q706 : (Jvm.Cond.soleField "ContractLedger$Terms" "marks") ∈ lw_all := lw_g (lw_at lw_m2 109 rfl) rfl
theorem q707 : (Jvm.Cond.laysFinal "ContractLedger$Terms" "ContractLedger$Terms" "markEnds" "[I") ∈ lw_all := lw_g (lw_at lw_m2 110 rfl) rfl
theorem q708 : (Jvm.Cond.soleField "ContractLedger$Terms" "markEnds") ∈ lw_all := lw_g (lw_at lw_m2 111 rfl) rfl
theorem q709 : (Jvm.Cond.laysFinal "ContractLedger$Terms" "ContractLedger$Terms" "firsts" "[I") ∈ lw_all := lw_g (lw_at lw_m2 112 rfl) rfl
theorem q710 : (Jvm.Cond.soleField "ContractLedger$Terms" "firsts") ∈ lw_all := lw_g (lw_at lw_m2 113 rfl) rfl
theorem q711 : (Jvm.Cond.laysFinal "ContractLedger$Terms" "ContractLedger$Terms" "nexts" "[I") ∈ lw_all := lw_g (lw_at lw_m2 114 rfl) rfl
theorem q712 : (Jvm.Cond.soleField "ContractLedger$Terms" "nexts") ∈ lw_all := lw_g (lw_at lw_m2 115 rfl) rfl
theorem q713 : (Jvm.Cond.laysFinal "ContractLedger$Terms" "ContractLedger$Terms" "counts" "[I") ∈ lw_all := lw_g (lw_at lw_m2 116 rfl) rfl
theorem q714 : (Jvm.Cond.soleField "ContractLedger$Terms" "counts") ∈ lw_all := lw_g (lw_at lw_m2 117 rfl) rfl
theorem q715 : (Jvm.Cond.lays "ContractLedger$Terms" "ContractLedger$Terms" "count" "I") ∈ lw_all := lw_g (lw_at lw_m2 118 rfl) rfl
theorem q716 : (Jvm.Cond.soleField "ContractLedger$Terms" "count") ∈ lw_all := lw_g (lw_at lw_m2 119 rfl) rfl
theorem q717 : (Jvm.Cond.lays "ContractLedger$Terms" "ContractLedger$Terms" "wrong" "I") ∈ lw_all := lw_g (lw_at lw_m2 120 rfl) rfl
theorem q718 : (Jvm.Cond.soleField "ContractLedger$Terms" "wrong") ∈ lw_all := lw_g (lw_at lw_m2 121 rfl) rfl
theorem q719 : (Jvm.Cond.superclass "ContractLedger$Terms" "java/lang/Object") ∈ lw_all := lw_g (lw_at lw_m2 122 rfl) rfl
theorem q1676 : (Jvm.Cond.instanceMethod ({ cls := "ContractLedger$Terms", name := "read", desc := "([BI)Z" } : Jvm.MethodName)) ∈ lw_all := lw_g (lw_at lw_m6 119 rfl) rfl
theorem q1677 : (Jvm.Cond.selects "ContractLedger$Terms" ({ cls := "ContractLedger$Terms", name := "read", desc := "([BI)Z" } : Jvm.MethodName) ({ cls := "ContractLedger$Terms", name := "read", desc := "([BI)Z" } : Jvm.MethodName)) ∈ lw_all := lw_g (lw_at lw_m6 120 rfl) rfl
theorem q1678 : (Jvm.Cond.code ({ cls := "ContractLedger$Terms", name := "read", desc := "([BI)Z" } : Jvm.MethodName) prog_18_method_3_code (3 : Nat) (Option.some Jvm.ClassFile.FieldType.boolean)) ∈ lw_all := lw_g (lw_at lw_m6 121 rfl) rfl
theorem q1679 : (Jvm.Cond.methodLink "ContractLedger$Terms" (70 : Nat) ({ cls := "ContractLedger$Tokens", name := "begin", desc := "([BI)V" } : Jvm.MethodName)) ∈ lw_all := lw_g (lw_at lw_m6 122 rfl) rfl
theorem q1731 : (Jvm.Cond.methodLink "ContractLedger$Terms" (74 : Nat) ({ cls := "ContractLedger$Terms", name := "item", desc := "(I)I" } : Jvm.MethodName)) ∈ lw_all := lw_g (lw_at lw_m6 174 rfl) rfl
theorem q1732 : (Jvm.Cond.privateMethod ({ cls := "ContractLedger$Terms", name := "item", desc := "(I)I" } : Jvm.MethodName)) ∈ lw_tbl := lw_at lw_m6 175 rfl
theorem q1733 : (Jvm.Cond.instanceMethod ({ cls := "ContractLedger$Terms", name := "item", desc := "(I)I" } : Jvm.MethodName)) ∈ lw_all := lw_g (lw_at lw_m6 176 rfl) rfl
theorem q1734 : (Jvm.Cond.code ({ cls := "ContractLedger$Terms", name := "item", desc := "(I)I" } : Jvm.MethodName) prog_18_method_10_code (2 : Nat) (Option.some Jvm.ClassFile.FieldType.int)) ∈ lw_all := lw_g (lw_at lw_m6 177 rfl) rfl
theorem q1735 : (Jvm.Cond.methodLink "ContractLedger$Terms" (124 : Nat) ({ cls := "ContractLedger$Terms", name := "leaf", desc := "(I)I" } : Jvm.MethodName)) ∈ lw_all := lw_g (lw_at lw_m6 178 rfl) rfl
theorem q1736 : (Jvm.Cond.privateMethod ({ cls := "ContractLedger$Terms", name := "leaf", desc := "(I)I" } : Jvm.MethodName)) ∈ lw_tbl := lw_at lw_m6 179 rfl
theorem q1737 : (Jvm.Cond.instanceMethod ({ cls := "ContractLedger$Terms", name := "leaf", desc := "(I)I" } : Jvm.MethodName)) ∈ lw_all := lw_g (lw_at lw_m6 180 rfl) rfl
theorem q1738 : (Jvm.Cond.code ({ cls := "ContractLedger$Terms", name := "leaf", desc := "(I)I" } : Jvm.MethodName) prog_18_method_9_code (3 : Nat) (Option.some Jvm.ClassFile.FieldType.int)) ∈ lw_all := lw_g (lw_at lw_m6 181 rfl) rfl
theorem q1739 : (Jvm.Cond.methodLink "ContractLedger$Terms" (115 : Nat) ({ cls := "ContractLedger$Terms", name := "number", desc := "([BIILContractLedger$Whole;)V" } : Jvm.MethodName)) ∈ lw_all := lw_g (lw_at lw_m6 182 rfl) rfl
theorem q1740 : (Jvm.Cond.static ({ cls := "ContractLedger$Terms", name := "number", desc := "([BIILContractLedger$Whole;)V" } : Jvm.MethodName)) ∈ lw_all := lw_g (lw_at lw_m6 183 rfl) rfl
theorem q1741 : (Jvm.Cond.code ({ cls := "ContractLedger$Terms", name := "number", desc := "([BIILContractLedger$Whole;)V" } : Jvm.MethodName) prog_18_method_6_code (6 : Nat) (Option.none : Option Jvm.ClassFile.FieldType)) ∈ lw_all := lw_g (lw_at lw_m6 184 rfl) rfl
theorem q1742 : (Jvm.Cond.methodLink "ContractLedger$Terms" (93 : Nat) ({ cls := "ContractLedger$Whole", name := "set", desc := "(J)V" } : Jvm.MethodName)) ∈ lw_all := lw_g (lw_at lw_m6 185 rfl) rfl
theorem q1751 : (Jvm.Cond.methodLink "ContractLedger$Terms" (97 : Nat) ({ cls := "ContractLedger$Whole", name := "bits", desc := "()I" } : Jvm.MethodName)) ∈ lw_all := lw_g (lw_at lw_m6 194 rfl) rfl
theorem q1759 : (Jvm.Cond.methodLink "ContractLedger$Terms" (100 : Nat) ({ cls := "ContractLedger$Terms", name := "timesTen", desc := "(LContractLedger$Whole;I)V" } : Jvm.MethodName)) ∈ lw_all := lw_g (lw_at lw_m6 202 rfl) rfl
theorem q1760 : (Jvm.Cond.static ({ cls := "ContractLedger$Terms", name := "timesTen", desc := "(LContractLedger$Whole;I)V" } : Jvm.MethodName)) ∈ lw_all := lw_g (lw_at lw_m6 203 rfl) rfl
theorem q1761 : (Jvm.Cond.code ({ cls := "ContractLedger$Terms", name := "timesTen", desc := "(LContractLedger$Whole;I)V" } : Jvm.MethodName) prog_18_method_5_code (5 : Nat) (Option.none : Option Jvm.ClassFile.FieldType)) ∈ lw_all := lw_g (lw_at lw_m6 204 rfl) rfl
theorem q1762 : (Jvm.Cond.constant "ContractLedger$Terms" (92 : Nat) (65535 : Int32)) ∈ lw_all := lw_g (lw_at lw_m6 205 rfl) rfl
theorem q1763 : (Jvm.Cond.methodLink "ContractLedger$Terms" (104 : Nat) ({ cls := "ContractLedger$Whole", name := "isZero", desc := "()Z" } : Jvm.MethodName)) ∈ lw_all := lw_g (lw_at lw_m6 206 rfl) rfl
theorem q1767 : (Jvm.Cond.methodLink "ContractLedger$Terms" (81 : Nat) ({ cls := "ContractLedger$Terms", name := "refuse", desc := "()I" } : Jvm.MethodName)) ∈ lw_all := lw_g (lw_at lw_m6 210 rfl) rfl
theorem q1768 : (Jvm.Cond.privateMethod ({ cls := "ContractLedger$Terms", name := "refuse", desc := "()I" } : Jvm.MethodName)) ∈ lw_tbl := lw_at lw_m6 211 rfl
theorem q1769 : (Jvm.Cond.instanceMethod ({ cls := "ContractLedger$Terms", name := "refuse", desc := "()I" } : Jvm.MethodName)) ∈ lw_all := lw_g (lw_at lw_m6 212 rfl) rfl
theorem q1770 : (Jvm.Cond.code ({ cls := "ContractLedger$Terms", name := "refuse", desc := "()I" } : Jvm.MethodName) prog_18_method_4_code (1 : Nat) (Option.some Jvm.ClassFile.FieldType.int)) ∈ lw_all := lw_g (lw_at lw_m6 213 rfl) rfl
theorem q1771 : (Jvm.Cond.methodLink "ContractLedger$Terms" (118 : Nat) ({ cls := "ContractLedger$Terms", name := "begin", desc := "(II)I" } : Jvm.MethodName)) ∈ lw_all := lw_g (lw_at lw_m6 214 rfl) rfl
theorem q1772 : (Jvm.Cond.privateMethod ({ cls := "ContractLedger$Terms", name := "begin", desc := "(II)I" } : Jvm.MethodName)) ∈ lw_tbl := lw_at lw_m6 215 rfl
theorem q1773 : (Jvm.Cond.instanceMethod ({ cls := "ContractLedger$Terms", name := "begin", desc := "(II)I" } : Jvm.MethodName)) ∈ lw_all := lw_g (lw_at lw_m6 216 rfl) rfl
theorem q1774 : (Jvm.Cond.code ({ cls := "ContractLedger$Terms", name := "begin", desc := "(II)I" } : Jvm.MethodName) prog_18_method_7_code (4 : Nat) (Option.some Jvm.ClassFile.FieldType.int)) ∈ lw_all := lw_g (lw_at lw_m6 217 rfl) rfl
theorem q1775 : (Jvm.Cond.methodLink "ContractLedger$Terms" (121 : Nat) ({ cls := "ContractLedger$Tokens", name := "next", desc := "()V" } : Jvm.MethodName)) ∈ lw_all := lw_g (lw_at lw_m6 218 rfl) rfl
theorem q1776 : (Jvm.Cond.methodLink "ContractLedger$Terms" (127 : Nat) ({ cls := "ContractLedger$Terms", name := "application", desc := "(I)I" } : Jvm.MethodName)) ∈ lw_all := lw_g (lw_at lw_m6 219 rfl) rfl
theorem q1777 : (Jvm.Cond.privateMethod ({ cls := "ContractLedger$Terms", name := "application", desc := "(I)I" } : Jvm.MethodName)) ∈ lw_tbl := lw_at lw_m6 220 rfl
theorem q1778 : (Jvm.Cond.instanceMethod ({ cls := "ContractLedger$Terms", name := "application", desc := "(I)I" } : Jvm.MethodName)) ∈ lw_all := lw_g (lw_at lw_m6 221 rfl) rfl
theorem q1779 : (Jvm.Cond.code ({ cls := "ContractLedger$Terms", name := "application", desc := "(I)I" } : Jvm.MethodName) prog_18_method_13_code (4 : Nat) (Option.some Jvm.ClassFile.FieldType.int)) ∈ lw_all := lw_g (lw_at lw_m6 222 rfl) rfl
theorem q1780 : (Jvm.Cond.methodLink "ContractLedger$Terms" (143 : Nat) ({ cls := "ContractLedger$Terms", name := "word", desc := "(I)I" } : Jvm.MethodName)) ∈ lw_all := lw_g (lw_at lw_m6 223 rfl) rfl
theorem q1781 : (Jvm.Cond.privateMethod ({ cls := "ContractLedger$Terms", name := "word", desc := "(I)I" } : Jvm.MethodName)) ∈ lw_tbl := lw_at lw_m6 224 rfl
theorem q1782 : (Jvm.Cond.instanceMethod ({ cls := "ContractLedger$Terms", name := "word", desc := "(I)I" } : Jvm.MethodName)) ∈ lw_all := lw_g (lw_at lw_m6 225 rfl) rfl
theorem q1783 : (Jvm.Cond.code ({ cls := "ContractLedger$Terms", name := "word", desc := "(I)I" } : Jvm.MethodName) prog_18_method_12_code (3 : Nat) (Option.some Jvm.ClassFile.FieldType.int)) ∈ lw_all := lw_g (lw_at lw_m6 226 rfl) rfl
theorem q1784 : (Jvm.Cond.methodLink "ContractLedger$Terms" (137 : Nat) ({ cls := "ContractLedger$Word", name := "find", desc := "([BII)I" } : Jvm.MethodName)) ∈ lw_all := lw_g (lw_at lw_m6 227 rfl) rfl
theorem q1793 : (Jvm.Cond.methodLink "ContractLedger$Terms" (146 : Nat) ({ cls := "ContractLedger$Terms", name := "isArgument", desc := "()Z" } : Jvm.MethodName)) ∈ lw_all := lw_g (lw_at lw_m6 236 rfl) rfl
theorem q1794 : (Jvm.Cond.privateMethod ({ cls := "ContractLedger$Terms", name := "isArgument", desc := "()Z" } : Jvm.MethodName)) ∈ lw_tbl := lw_at lw_m6 237 rfl
theorem q1795 : (Jvm.Cond.instanceMethod ({ cls := "ContractLedger$Terms", name := "isArgument", desc := "()Z" } : Jvm.MethodName)) ∈ lw_all := lw_g (lw_at lw_m6 238 rfl) rfl
theorem q1796 : (Jvm.Cond.code ({ cls := "ContractLedger$Terms", name := "isArgument", desc := "()Z" } : Jvm.MethodName) prog_18_method_14_code (2 : Nat) (Option.some Jvm.ClassFile.FieldType.boolean)) ∈ lw_all := lw_g (lw_at lw_m6 239 rfl) rfl
theorem q1797 : (Jvm.Cond.methodLink "ContractLedger$Terms" (149 : Nat) ({ cls := "ContractLedger$Terms", name := "argument", desc := "(I)I" } : Jvm.MethodName)) ∈ lw_all := lw_g (lw_at lw_m7 0 rfl) rfl
theorem q1798 : (Jvm.Cond.privateMethod ({ cls := "ContractLedger$Terms", name := "argument", desc := "(I)I" } : Jvm.MethodName)) ∈ lw_tbl := lw_at lw_m7 1 rfl
theorem q1799 : (Jvm.Cond.instanceMethod ({ cls := "ContractLedger$Terms", name := "argument", desc := "(I)I" } : Jvm.MethodName)) ∈ lw_all := lw_g (lw_at lw_m7 2 rfl) rfl
theorem q1800 : (Jvm.Cond.code ({ cls := "ContractLedger$Terms", name := "argument", desc := "(I)I" } : Jvm.MethodName) prog_18_method_15_code (3 : Nat) (Option.some Jvm.ClassFile.FieldType.int)) ∈ lw_all := lw_g (lw_at lw_m7 3 rfl) rfl
theorem q1801 : (Jvm.Cond.methodLink "ContractLedger$Terms" (133 : Nat) ({ cls := "ContractLedger$Terms", name := "link", desc := "(III)I" } : Jvm.MethodName)) ∈ lw_all := lw_g (lw_at lw_m7 4 rfl) rfl
theorem q1802 : (Jvm.Cond.privateMethod ({ cls := "ContractLedger$Terms", name := "link", desc := "(III)I" } : Jvm.MethodName)) ∈ lw_tbl := lw_at lw_m7 5 rfl
theorem q1803 : (Jvm.Cond.instanceMethod ({ cls := "ContractLedger$Terms", name := "link", desc := "(III)I" } : Jvm.MethodName)) ∈ lw_all := lw_g (lw_at lw_m7 6 rfl) rfl
theorem q1804 : (Jvm.Cond.code ({ cls := "ContractLedger$Terms", name := "link", desc := "(III)I" } : Jvm.MethodName) prog_18_method_8_code (4 : Nat) (Option.some Jvm.ClassFile.FieldType.int)) ∈ lw_all := lw_g (lw_at lw_m7 7 rfl) rfl
theorem q1805 : (Jvm.Cond.methodLink "ContractLedger$Terms" (130 : Nat) ({ cls := "ContractLedger$Terms", name := "sequence", desc := "(I)I" } : Jvm.MethodName)) ∈ lw_all := lw_g (lw_at lw_m7 8 rfl) rfl
theorem q1806 : (Jvm.Cond.privateMethod ({ cls := "ContractLedger$Terms", name := "sequence", desc := "(I)I" } : Jvm.MethodName)) ∈ lw_tbl := lw_at lw_m7 9 rfl
theorem q1807 : (Jvm.Cond.instanceMethod ({ cls := "ContractLedger$Terms", name := "sequence", desc := "(I)I" } : Jvm.MethodName)) ∈ lw_all := lw_g (lw_at lw_m7 10 rfl) rfl
theorem q1808 : (Jvm.Cond.code ({ cls := "ContractLedger$Terms", name := "sequence", desc := "(I)I" } : Jvm.MethodName) prog_18_method_11_code (4 : Nat) (Option.some Jvm.ClassFile.FieldType.int)) ∈ lw_all := lw_g (lw_at lw_m7 11 rfl) rfl
theorem q1826 : (Jvm.Cond.instanceMethod ({ cls := "ContractLedger$Terms", name := "isSequence", desc := "(I)Z" } : Jvm.MethodName)) ∈ lw_all := lw_g (lw_at lw_m7 29 rfl) rfl
theorem q1827 : (Jvm.Cond.selects "ContractLedger$Terms" ({ cls := "ContractLedger$Terms", name := "isSequence", desc := "(I)Z" } : Jvm.MethodName) ({ cls := "ContractLedger$Terms", name := "isSequence", desc := "(I)Z" } : Jvm.MethodName)) ∈ lw_all := lw_g (lw_at lw_m7 30 rfl) rfl
theorem q1828 : (Jvm.Cond.code ({ cls := "ContractLedger$Terms", name := "isSequence", desc := "(I)Z" } : Jvm.MethodName) prog_18_method_16_code (2 : Nat) (Option.some Jvm.ClassFile.FieldType.boolean)) ∈ lw_all := lw_g (lw_at lw_m7 31 rfl) rfl
theorem q1830 : (Jvm.Cond.instanceMethod ({ cls := "ContractLedger$Terms", name := "child", desc := "(II)I" } : Jvm.MethodName)) ∈ lw_all := lw_g (lw_at lw_m7 33 rfl) rfl
theorem q1831 : (Jvm.Cond.selects "ContractLedger$Terms" ({ cls := "ContractLedger$Terms", name := "child", desc := "(II)I" } : Jvm.MethodName) ({ cls := "ContractLedger$Terms", name := "child", desc := "(II)I" } : Jvm.MethodName)) ∈ lw_all := lw_g (lw_at lw_m7 34 rfl) rfl
theorem q1832 : (Jvm.Cond.code ({ cls := "ContractLedger$Terms", name := "child", desc := "(II)I" } : Jvm.MethodName) prog_18_method_19_code (5 : Nat) (Option.some Jvm.ClassFile.FieldType.int)) ∈ lw_all := lw_g (lw_at lw_m7 35 rfl) rfl
theorem q1838 : (Jvm.Cond.instanceMethod ({ cls := "ContractLedger$Terms", name := "isBare", desc := "(III)Z" } : Jvm.MethodName)) ∈ lw_all := lw_g (lw_at lw_m7 41 rfl) rfl
theorem q1839 : (Jvm.Cond.selects "ContractLedger$Terms" ({ cls := "ContractLedger$Terms", name := "isBare", desc := "(III)Z" } : Jvm.MethodName) ({ cls := "ContractLedger$Terms", name := "isBare", desc := "(III)Z" } : Jvm.MethodName)) ∈ lw_all := lw_g (lw_at lw_m7 42 rfl) rfl
theorem q1840 : (Jvm.Cond.code ({ cls := "ContractLedger$Terms", name := "isBare", desc := "(III)Z" } : Jvm.MethodName) prog_18_method_18_code (4 : Nat) (Option.some Jvm.ClassFile.FieldType.boolean)) ∈ lw_all := lw_g (lw_at lw_m7 43 rfl) rfl
theorem q1841 : (Jvm.Cond.methodLink "ContractLedger$Terms" (152 : Nat) ({ cls := "ContractLedger$Terms", name := "is", desc := "(III)Z" } : Jvm.MethodName)) ∈ lw_all := lw_g (lw_at lw_m7 44 rfl) rfl
theorem q1842 : (Jvm.Cond.instanceMethod ({ cls := "ContractLedger$Terms", name := "is", desc := "(III)Z" } : Jvm.MethodName)) ∈ lw_all := lw_g (lw_at lw_m7 45 rfl) rfl
theorem q1843 : (Jvm.Cond.selects "ContractLedger$Terms" ({ cls := "ContractLedger$Terms", name := "is", desc := "(III)Z" } : Jvm.MethodName) ({ cls := "ContractLedger$Terms", name := "is", desc := "(III)Z" } : Jvm.MethodName)) ∈ lw_all := lw_g (lw_at lw_m7 46 rfl) rfl
theorem q1844 : (Jvm.Cond.code ({ cls := "ContractLedger$Terms", name := "is", desc := "(III)Z" } : Jvm.MethodName) prog_18_method_17_code (4 : Nat) (Option.some Jvm.ClassFile.FieldType.boolean)) ∈ lw_all := lw_g (lw_at lw_m7 47 rfl) rfl
theorem q1872 : (Jvm.Cond.instanceMethod ({ cls := "ContractLedger$Terms", name := "text", desc := "()[B" } : Jvm.MethodName)) ∈ lw_all := lw_g (lw_at lw_m7 75 rfl) rfl
theorem q1873 : (Jvm.Cond.selects "ContractLedger$Terms" ({ cls := "ContractLedger$Terms", name := "text", desc := "()[B" } : Jvm.MethodName) ({ cls := "ContractLedger$Terms", name := "text", desc := "()[B" } : Jvm.MethodName)) ∈ lw_all := lw_g (lw_at lw_m7 76 rfl) rfl
theorem q1874 : (Jvm.Cond.code ({ cls := "ContractLedger$Terms", name := "text", desc := "()[B" } : Jvm.MethodName) prog_18_method_2_code (1 : Nat) (Option.some (Jvm.ClassFile.FieldType.array Jvm.ClassFile.FieldType.byte))) ∈ lw_all := lw_g (lw_at lw_m7 77 rfl) rfl
theorem q1903 : (Jvm.Cond.instanceMethod ({ cls := "ContractLedger$Terms", name := "size", desc := "(I)I" } : Jvm.MethodName)) ∈ lw_all := lw_g (lw_at lw_m7 106 rfl) rfl
theorem q1904 : (Jvm.Cond.selects "ContractLedger$Terms" ({ cls := "ContractLedger$Terms", name := "size", desc := "(I)I" } : Jvm.MethodName) ({ cls := "ContractLedger$Terms", name := "size", desc := "(I)I" } : Jvm.MethodName)) ∈ lw_all := lw_g (lw_at lw_m7 107 rfl) rfl
theorem q1905 : (Jvm.Cond.code ({ cls := "ContractLedger$Terms", name := "size", desc := "(I)I" } : Jvm.MethodName) prog_18_method_20_code (4 : Nat) (Option.some Jvm.ClassFile.FieldType.int)) ∈ lw_all := lw_g (lw_at lw_m7 108 rfl) rfl
set_option maxRecDepth 100000
abbrev cX5_init : ByteArray := prog_19_method_1_code
def yX5_init : MethodName := ⟨RX5, "<init>", "()V"⟩
theorem dX5_init_0 : decode cX5_init 0 = .ok (.aload_n 0, 1) := by decide +kernel
theorem dX5_init_1 : decode cX5_init 1 = .ok (.invokespecial 3, 3) := by decide +kernel
theorem dX5_init_4 : decode cX5_init 4 = .ok (.return_, 1) := by decide +kernel
abbrev cX5_begin : ByteArray := prog_19_method_2_code
def yX5_begin : MethodName := ⟨RX5, "begin", "([BI)V"⟩
def dkwX5_begin_0 : List UInt8 := [42, 43, 181, 0, 9, 42, 28, 181, 0, 15, 42, 3, 181, 0, 19, 42, 182, 0, 22, 177]
abbrev dktX5_begin_0 : List UInt8 := dkwX5_begin_0 ++ []
theorem dksX5_begin_0 : cX5_begin.data.toList.drop 0 = dktX5_begin_0 := by decide +kernel
theorem dX5_begin_0 : decode cX5_begin 0 = .ok (.aload_n 0, 1) := dk_42 (dk_at dksX5_begin_0 0 rfl rfl)
theorem dX5_begin_1 : decode cX5_begin 1 = .ok (.aload_n 1, 1) := dk_43 (dk_at dksX5_begin_0 1 rfl rfl)
theorem dX5_begin_2 : decode cX5_begin 2 = .ok (.putfield 9, 3) := dk_181 0 9 (dk_at dksX5_begin_0 2 rfl rfl)
theorem dX5_begin_5 : decode cX5_begin 5 = .ok (.aload_n 0, 1) := dk_42 (dk_at dksX5_begin_0 5 rfl rfl)
theorem dX5_begin_6 : decode cX5_begin 6 = .ok (.iload_n 2, 1) := dk_28 (dk_at dksX5_begin_0 6 rfl rfl)
theorem dX5_begin_7 : decode cX5_begin 7 = .ok (.putfield 15, 3) := dk_181 0 15 (dk_at dksX5_begin_0 7 rfl rfl)
theorem dX5_begin_10 : decode cX5_begin 10 = .ok (.aload_n 0, 1) := dk_42 (dk_at dksX5_begin_0 10 rfl rfl)
theorem dX5_begin_11 : decode cX5_begin 11 = .ok (.iconst 0, 1) := dk_3 (dk_at dksX5_begin_0 11 rfl rfl)
theorem dX5_begin_12 : decode cX5_begin 12 = .ok (.putfield 19, 3) := dk_181 0 19 (dk_at dksX5_begin_0 12 rfl rfl)
theorem dX5_begin_15 : decode cX5_begin 15 = .ok (.aload_n 0, 1) := dk_42 (dk_at dksX5_begin_0 15 rfl rfl)
theorem dX5_begin_16 : decode cX5_begin 16 = .ok (.invokevirtual 22, 3) := dk_182 0 22 (dk_at dksX5_begin_0 16 rfl rfl)
theorem dX5_begin_19 : decode cX5_begin 19 = .ok (.return_, 1) := dk_177 (dk_at dksX5_begin_0 19 rfl rfl)
abbrev cX5_next : ByteArray := prog_19_method_5_code
def yX5_next : MethodName := ⟨RX5, "next", "()V"⟩
def dkwX5_next_9 : List UInt8 := [96, 181, 0, 19, 177]
abbrev dktX5_next_9 : List UInt8 := dkwX5_next_9 ++ []
def dkwX5_next_8 : List UInt8 := [167, 0, 4, 3, 61, 42, 28, 153, 0, 7, 27, 167, 0, 4, 4, 181, 0, 41, 42, 42, 180, 0, 38, 4]
abbrev dktX5_next_8 : List UInt8 := dkwX5_next_8 ++ dktX5_next_9
def dkwX5_next_7 : List UInt8 := [16, 125, 159, 0, 21, 27, 16, 40, 159, 0, 15, 27, 16, 41, 159, 0, 9, 27, 16, 59, 160, 0, 7, 4]
abbrev dktX5_next_7 : List UInt8 := dkwX5_next_7 ++ dktX5_next_8
def dkwX5_next_6 : List UInt8 := [167, 255, 232, 27, 16, 37, 160, 0, 10, 42, 182, 0, 62, 167, 0, 62, 27, 16, 123, 159, 0, 27, 27]
abbrev dktX5_next_6 : List UInt8 := dkwX5_next_6 ++ dktX5_next_7
def dkwX5_next_5 : List UInt8 := [180, 0, 19, 182, 0, 25, 184, 0, 59, 153, 0, 88, 42, 89, 180, 0, 19, 4, 96, 181, 0, 19]
abbrev dktX5_next_5 : List UInt8 := dkwX5_next_5 ++ dktX5_next_6
def dkwX5_next_4 : List UInt8 := [167, 0, 120, 27, 184, 0, 56, 154, 0, 9, 27, 16, 95, 160, 0, 35, 42, 8, 181, 0, 41, 42, 42]
abbrev dktX5_next_4 : List UInt8 := dkwX5_next_4 ++ dktX5_next_5
def dkwX5_next_3 : List UInt8 := [16, 45, 160, 0, 10, 42, 182, 0, 50, 167, 0, 133, 27, 16, 34, 160, 0, 10, 42, 182, 0, 53]
abbrev dktX5_next_3 : List UInt8 := dkwX5_next_3 ++ dktX5_next_4
def dkwX5_next_2 : List UInt8 := [182, 0, 25, 16, 120, 160, 0, 10, 42, 182, 0, 44, 167, 0, 153, 27, 184, 0, 47, 154, 0, 9, 27]
abbrev dktX5_next_2 : List UInt8 := dkwX5_next_2 ++ dktX5_next_3
def dkwX5_next_1 : List UInt8 := [156, 0, 11, 42, 3, 181, 0, 41, 167, 0, 181, 27, 16, 48, 160, 0, 25, 42, 42, 180, 0, 38, 4, 96]
abbrev dktX5_next_1 : List UInt8 := dkwX5_next_1 ++ dktX5_next_2
def dkwX5_next_0 : List UInt8 := [42, 182, 0, 35, 42, 42, 180, 0, 19, 181, 0, 38, 42, 42, 180, 0, 38, 182, 0, 25, 60, 27]
abbrev dktX5_next_0 : List UInt8 := dkwX5_next_0 ++ dktX5_next_1
theorem dksX5_next_0 : cX5_next.data.toList.drop 0 = dktX5_next_0 := by decide +kernel
theorem dksX5_next_1 : cX5_next.data.toList.drop 22 = dktX5_next_1 := dk_seg dksX5_next_0 22 rfl rfl
theorem dksX5_next_2 : cX5_next.data.toList.drop 46 = dktX5_next_2 := dk_seg dksX5_next_1 24 rfl rfl
theorem dksX5_next_3 : cX5_next.data.toList.drop 69 = dktX5_next_3 := dk_seg dksX5_next_2 23 rfl rfl
theorem dksX5_next_4 : cX5_next.data.toList.drop 91 = dktX5_next_4 := dk_seg dksX5_next_3 22 rfl rfl
theorem dksX5_next_5 : cX5_next.data.toList.drop 114 = dktX5_next_5 := dk_seg dksX5_next_4 23 rfl rfl
theorem dksX5_next_6 : cX5_next.data.toList.drop 136 = dktX5_next_6 := dk_seg dksX5_next_5 22 rfl rfl
theorem dksX5_next_7 : cX5_next.data.toList.drop 159 = dktX5_next_7 := dk_seg dksX5_next_6 23 rfl rfl
theorem dksX5_next_8 : cX5_next.data.toList.drop 183 = dktX5_next_8 := dk_seg dksX5_next_7 24 rfl rfl
theorem dksX5_next_9 : cX5_next.data.toList.drop 207 = dktX5_next_9 := dk_seg dksX5_next_8 24 rfl rfl
theorem dX5_next_0 : decode cX5_next 0 = .ok (.aload_n 0, 1) := dk_42 (dk_at dksX5_next_0 0 rfl rfl)
theorem dX5_next_1 : decode cX5_next 1 = .ok (.invokevirtual 35, 3) := dk_182 0 35 (dk_at dksX5_next_0 1 rfl rfl)
theorem dX5_next_4 : decode cX5_next 4 = .ok (.aload_n 0, 1) := dk_42 (dk_at dksX5_next_0 4 rfl rfl)
theorem dX5_next_5 : decode cX5_next 5 = .ok (.aload_n 0, 1) := dk_42 (dk_at dksX5_next_0 5 rfl rfl)
theorem dX5_next_6 : decode cX5_next 6 = .ok (.getfield 19, 3) := dk_180 0 19 (dk_at dksX5_next_0 6 rfl rfl)
theorem dX5_next_9 : decode cX5_next 9 = .ok (.putfield 38, 3) := dk_181 0 38 (dk_at dksX5_next_0 9 rfl rfl)
theorem dX5_next_12 : decode cX5_next 12 = .ok (.aload_n 0, 1) := dk_42 (dk_at dksX5_next_0 12 rfl rfl)
theorem dX5_next_13 : decode cX5_next 13 = .ok (.aload_n 0, 1) := dk_42 (dk_at dksX5_next_0 13 rfl rfl)
theorem dX5_next_14 : decode cX5_next 14 = .ok (.getfield 38, 3) := dk_180 0 38 (dk_at dksX5_next_0 14 rfl rfl)
theorem dX5_next_17 : decode cX5_next 17 = .ok (.invokevirtual 25, 3) := dk_182 0 25 (dk_at dksX5_next_0 17 rfl rfl)
theorem dX5_next_20 : decode cX5_next 20 = .ok (.istore_n 1, 1) := dk_60 (dk_at dksX5_next_0 20 rfl rfl)
theorem dX5_next_21 : decode cX5_next 21 = .ok (.iload_n 1, 1) := dk_27 (dk_at dksX5_next_0 21 rfl rfl)
theorem dX5_next_22 : decode cX5_next 22 = .ok (.ifCond .ge 11, 3) := dk_156 0 11 (dk_at dksX5_next_1 0 rfl rfl)
theorem dX5_next_25 : decode cX5_next 25 = .ok (.aload_n 0, 1) := dk_42 (dk_at dksX5_next_1 3 rfl rfl)
theorem dX5_next_26 : decode cX5_next 26 = .ok (.iconst 0, 1) := dk_3 (dk_at dksX5_next_1 4 rfl rfl)
theorem dX5_next_27 : decode cX5_next 27 = .ok (.putfield 41, 3) := dk_181 0 41 (dk_at dksX5_next_1 5 rfl rfl)
theorem dX5_next_30 : decode cX5_next 30 = .ok (.goto 181, 3) := dk_167 0 181 (dk_at dksX5_next_1 8 rfl rfl)
theorem dX5_next_33 : decode cX5_next 33 = .ok (.iload_n 1, 1) := dk_27 (dk_at dksX5_next_1 11 rfl rfl)
theorem dX5_next_34 : decode cX5_next 34 = .ok (.bipush 48, 2) := dk_16 48 (dk_at dksX5_next_1 12 rfl rfl)
theorem dX5_next_36 : decode cX5_next 36 = .ok (.if_icmp .ne 25, 3) := dk_160 0 25 (dk_at dksX5_next_1 14 rfl rfl)
theorem dX5_next_39 : decode cX5_next 39 = .ok (.aload_n 0, 1) := dk_42 (dk_at dksX5_next_1 17 rfl rfl)
theorem dX5_next_40 : decode cX5_next 40 = .ok (.aload_n 0, 1) := dk_42 (dk_at dksX5_next_1 18 rfl rfl)
theorem dX5_next_41 : decode cX5_next 41 = .ok (.getfield 38, 3) := dk_180 0 38 (dk_at dksX5_next_1 19 rfl rfl)
theorem dX5_next_44 : decode cX5_next 44 = .ok (.iconst 1, 1) := dk_4 (dk_at dksX5_next_1 22 rfl rfl)
theorem dX5_next_45 : decode cX5_next 45 = .ok (.iadd, 1) := dk_96 (dk_at dksX5_next_1 23 rfl rfl)
theorem dX5_next_46 : decode cX5_next 46 = .ok (.invokevirtual 25, 3) := dk_182 0 25 (dk_at dksX5_next_2 0 rfl rfl)
theorem dX5_next_49 : decode cX5_next 49 = .ok (.bipush 120, 2) := dk_16 120 (dk_at dksX5_next_2 3 rfl rfl)
theorem dX5_next_51 : decode cX5_next 51 = .ok (.if_icmp .ne 10, 3) := dk_160 0 10 (dk_at dksX5_next_2 5 rfl rfl)
theorem dX5_next_54 : decode cX5_next 54 = .ok (.aload_n 0, 1) := dk_42 (dk_at dksX5_next_2 8 rfl rfl)
theorem dX5_next_55 : decode cX5_next 55 = .ok (.invokevirtual 44, 3) := dk_182 0 44 (dk_at dksX5_next_2 9 rfl rfl)
theorem dX5_next_58 : decode cX5_next 58 = .ok (.goto 153, 3) := dk_167 0 153 (dk_at dksX5_next_2 12 rfl rfl)
theorem dX5_next_61 : decode cX5_next 61 = .ok (.iload_n 1, 1) := dk_27 (dk_at dksX5_next_2 15 rfl rfl)
theorem dX5_next_62 : decode cX5_next 62 = .ok (.invokestatic 47, 3) := dk_184 0 47 (dk_at dksX5_next_2 16 rfl rfl)
theorem dX5_next_65 : decode cX5_next 65 = .ok (.ifCond .ne 9, 3) := dk_154 0 9 (dk_at dksX5_next_2 19 rfl rfl)
theorem dX5_next_68 : decode cX5_next 68 = .ok (.iload_n 1, 1) := dk_27 (dk_at dksX5_next_2 22 rfl rfl)
theorem dX5_next_69 : decode cX5_next 69 = .ok (.bipush 45, 2) := dk_16 45 (dk_at dksX5_next_3 0 rfl rfl)
theorem dX5_next_71 : decode cX5_next 71 = .ok (.if_icmp .ne 10, 3) := dk_160 0 10 (dk_at dksX5_next_3 2 rfl rfl)
theorem dX5_next_74 : decode cX5_next 74 = .ok (.aload_n 0, 1) := dk_42 (dk_at dksX5_next_3 5 rfl rfl)
theorem dX5_next_75 : decode cX5_next 75 = .ok (.invokevirtual 50, 3) := dk_182 0 50 (dk_at dksX5_next_3 6 rfl rfl)
theorem dX5_next_78 : decode cX5_next 78 = .ok (.goto 133, 3) := dk_167 0 133 (dk_at dksX5_next_3 9 rfl rfl)
theorem dX5_next_81 : decode cX5_next 81 = .ok (.iload_n 1, 1) := dk_27 (dk_at dksX5_next_3 12 rfl rfl)
theorem dX5_next_82 : decode cX5_next 82 = .ok (.bipush 34, 2) := dk_16 34 (dk_at dksX5_next_3 13 rfl rfl)
theorem dX5_next_84 : decode cX5_next 84 = .ok (.if_icmp .ne 10, 3) := dk_160 0 10 (dk_at dksX5_next_3 15 rfl rfl)
theorem dX5_next_87 : decode cX5_next 87 = .ok (.aload_n 0, 1) := dk_42 (dk_at dksX5_next_3 18 rfl rfl)
theorem dX5_next_88 : decode cX5_next 88 = .ok (.invokevirtual 53, 3) := dk_182 0 53 (dk_at dksX5_next_3 19 rfl rfl)
theorem dX5_next_91 : decode cX5_next 91 = .ok (.goto 120, 3) := dk_167 0 120 (dk_at dksX5_next_4 0 rfl rfl)
theorem dX5_next_94 : decode cX5_next 94 = .ok (.iload_n 1, 1) := dk_27 (dk_at dksX5_next_4 3 rfl rfl)
theorem dX5_next_95 : decode cX5_next 95 = .ok (.invokestatic 56, 3) := dk_184 0 56 (dk_at dksX5_next_4 4 rfl rfl)
theorem dX5_next_98 : decode cX5_next 98 = .ok (.ifCond .ne 9, 3) := dk_154 0 9 (dk_at dksX5_next_4 7 rfl rfl)
theorem dX5_next_101 : decode cX5_next 101 = .ok (.iload_n 1, 1) := dk_27 (dk_at dksX5_next_4 10 rfl rfl)
theorem dX5_next_102 : decode cX5_next 102 = .ok (.bipush 95, 2) := dk_16 95 (dk_at dksX5_next_4 11 rfl rfl)
theorem dX5_next_104 : decode cX5_next 104 = .ok (.if_icmp .ne 35, 3) := dk_160 0 35 (dk_at dksX5_next_4 13 rfl rfl)
theorem dX5_next_107 : decode cX5_next 107 = .ok (.aload_n 0, 1) := dk_42 (dk_at dksX5_next_4 16 rfl rfl)
theorem dX5_next_108 : decode cX5_next 108 = .ok (.iconst 5, 1) := dk_8 (dk_at dksX5_next_4 17 rfl rfl)
theorem dX5_next_109 : decode cX5_next 109 = .ok (.putfield 41, 3) := dk_181 0 41 (dk_at dksX5_next_4 18 rfl rfl)
theorem dX5_next_112 : decode cX5_next 112 = .ok (.aload_n 0, 1) := dk_42 (dk_at dksX5_next_4 21 rfl rfl)
theorem dX5_next_113 : decode cX5_next 113 = .ok (.aload_n 0, 1) := dk_42 (dk_at dksX5_next_4 22 rfl rfl)
theorem dX5_next_114 : decode cX5_next 114 = .ok (.getfield 19, 3) := dk_180 0 19 (dk_at dksX5_next_5 0 rfl rfl)
theorem dX5_next_117 : decode cX5_next 117 = .ok (.invokevirtual 25, 3) := dk_182 0 25 (dk_at dksX5_next_5 3 rfl rfl)
theorem dX5_next_120 : decode cX5_next 120 = .ok (.invokestatic 59, 3) := dk_184 0 59 (dk_at dksX5_next_5 6 rfl rfl)
theorem dX5_next_123 : decode cX5_next 123 = .ok (.ifCond .eq 88, 3) := dk_153 0 88 (dk_at dksX5_next_5 9 rfl rfl)
theorem dX5_next_126 : decode cX5_next 126 = .ok (.aload_n 0, 1) := dk_42 (dk_at dksX5_next_5 12 rfl rfl)
theorem dX5_next_127 : decode cX5_next 127 = .ok (.dup, 1) := dk_89 (dk_at dksX5_next_5 13 rfl rfl)
theorem dX5_next_128 : decode cX5_next 128 = .ok (.getfield 19, 3) := dk_180 0 19 (dk_at dksX5_next_5 14 rfl rfl)
theorem dX5_next_131 : decode cX5_next 131 = .ok (.iconst 1, 1) := dk_4 (dk_at dksX5_next_5 17 rfl rfl)
theorem dX5_next_132 : decode cX5_next 132 = .ok (.iadd, 1) := dk_96 (dk_at dksX5_next_5 18 rfl rfl)
theorem dX5_next_133 : decode cX5_next 133 = .ok (.putfield 19, 3) := dk_181 0 19 (dk_at dksX5_next_5 19 rfl rfl)
theorem dX5_next_136 : decode cX5_next 136 = .ok (.goto (-24), 3) := dk_167 255 232 (dk_at dksX5_next_6 0 rfl rfl)
theorem dX5_next_139 : decode cX5_next 139 = .ok (.iload_n 1, 1) := dk_27 (dk_at dksX5_next_6 3 rfl rfl)
theorem dX5_next_140 : decode cX5_next 140 = .ok (.bipush 37, 2) := dk_16 37 (dk_at dksX5_next_6 4 rfl rfl)
theorem dX5_next_142 : decode cX5_next 142 = .ok (.if_icmp .ne 10, 3) := dk_160 0 10 (dk_at dksX5_next_6 6 rfl rfl)
theorem dX5_next_145 : decode cX5_next 145 = .ok (.aload_n 0, 1) := dk_42 (dk_at dksX5_next_6 9 rfl rfl)
theorem dX5_next_146 : decode cX5_next 146 = .ok (.invokevirtual 62, 3) := dk_182 0 62 (dk_at dksX5_next_6 10 rfl rfl)
theorem dX5_next_149 : decode cX5_next 149 = .ok (.goto 62, 3) := dk_167 0 62 (dk_at dksX5_next_6 13 rfl rfl)
theorem dX5_next_152 : decode cX5_next 152 = .ok (.iload_n 1, 1) := dk_27 (dk_at dksX5_next_6 16 rfl rfl)
theorem dX5_next_153 : decode cX5_next 153 = .ok (.bipush 123, 2) := dk_16 123 (dk_at dksX5_next_6 17 rfl rfl)
theorem dX5_next_155 : decode cX5_next 155 = .ok (.if_icmp .eq 27, 3) := dk_159 0 27 (dk_at dksX5_next_6 19 rfl rfl)
theorem dX5_next_158 : decode cX5_next 158 = .ok (.iload_n 1, 1) := dk_27 (dk_at dksX5_next_6 22 rfl rfl)
theorem dX5_next_159 : decode cX5_next 159 = .ok (.bipush 125, 2) := dk_16 125 (dk_at dksX5_next_7 0 rfl rfl)
theorem dX5_next_161 : decode cX5_next 161 = .ok (.if_icmp .eq 21, 3) := dk_159 0 21 (dk_at dksX5_next_7 2 rfl rfl)
theorem dX5_next_164 : decode cX5_next 164 = .ok (.iload_n 1, 1) := dk_27 (dk_at dksX5_next_7 5 rfl rfl)
theorem dX5_next_165 : decode cX5_next 165 = .ok (.bipush 40, 2) := dk_16 40 (dk_at dksX5_next_7 6 rfl rfl)
theorem dX5_next_167 : decode cX5_next 167 = .ok (.if_icmp .eq 15, 3) := dk_159 0 15 (dk_at dksX5_next_7 8 rfl rfl)
theorem dX5_next_170 : decode cX5_next 170 = .ok (.iload_n 1, 1) := dk_27 (dk_at dksX5_next_7 11 rfl rfl)
theorem dX5_next_171 : decode cX5_next 171 = .ok (.bipush 41, 2) := dk_16 41 (dk_at dksX5_next_7 12 rfl rfl)
theorem dX5_next_173 : decode cX5_next 173 = .ok (.if_icmp .eq 9, 3) := dk_159 0 9 (dk_at dksX5_next_7 14 rfl rfl)
theorem dX5_next_176 : decode cX5_next 176 = .ok (.iload_n 1, 1) := dk_27 (dk_at dksX5_next_7 17 rfl rfl)
theorem dX5_next_177 : decode cX5_next 177 = .ok (.bipush 59, 2) := dk_16 59 (dk_at dksX5_next_7 18 rfl rfl)
theorem dX5_next_179 : decode cX5_next 179 = .ok (.if_icmp .ne 7, 3) := dk_160 0 7 (dk_at dksX5_next_7 20 rfl rfl)
theorem dX5_next_182 : decode cX5_next 182 = .ok (.iconst 1, 1) := dk_4 (dk_at dksX5_next_7 23 rfl rfl)
theorem dX5_next_183 : decode cX5_next 183 = .ok (.goto 4, 3) := dk_167 0 4 (dk_at dksX5_next_8 0 rfl rfl)
theorem dX5_next_186 : decode cX5_next 186 = .ok (.iconst 0, 1) := dk_3 (dk_at dksX5_next_8 3 rfl rfl)
theorem dX5_next_187 : decode cX5_next 187 = .ok (.istore_n 2, 1) := dk_61 (dk_at dksX5_next_8 4 rfl rfl)
theorem dX5_next_188 : decode cX5_next 188 = .ok (.aload_n 0, 1) := dk_42 (dk_at dksX5_next_8 5 rfl rfl)
theorem dX5_next_189 : decode cX5_next 189 = .ok (.iload_n 2, 1) := dk_28 (dk_at dksX5_next_8 6 rfl rfl)
theorem dX5_next_190 : decode cX5_next 190 = .ok (.ifCond .eq 7, 3) := dk_153 0 7 (dk_at dksX5_next_8 7 rfl rfl)
theorem dX5_next_193 : decode cX5_next 193 = .ok (.iload_n 1, 1) := dk_27 (dk_at dksX5_next_8 10 rfl rfl)
theorem dX5_next_194 : decode cX5_next 194 = .ok (.goto 4, 3) := dk_167 0 4 (dk_at dksX5_next_8 11 rfl rfl)
theorem dX5_next_197 : decode cX5_next 197 = .ok (.iconst 1, 1) := dk_4 (dk_at dksX5_next_8 14 rfl rfl)
theorem dX5_next_198 : decode cX5_next 198 = .ok (.putfield 41, 3) := dk_181 0 41 (dk_at dksX5_next_8 15 rfl rfl)
theorem dX5_next_201 : decode cX5_next 201 = .ok (.aload_n 0, 1) := dk_42 (dk_at dksX5_next_8 18 rfl rfl)
theorem dX5_next_202 : decode cX5_next 202 = .ok (.aload_n 0, 1) := dk_42 (dk_at dksX5_next_8 19 rfl rfl)
theorem dX5_next_203 : decode cX5_next 203 = .ok (.getfield 38, 3) := dk_180 0 38 (dk_at dksX5_next_8 20 rfl rfl)
theorem dX5_next_206 : decode cX5_next 206 = .ok (.iconst 1, 1) := dk_4 (dk_at dksX5_next_8 23 rfl rfl)
theorem dX5_next_207 : decode cX5_next 207 = .ok (.iadd, 1) := dk_96 (dk_at dksX5_next_9 0 rfl rfl)
theorem dX5_next_208 : decode cX5_next 208 = .ok (.putfield 19, 3) := dk_181 0 19 (dk_at dksX5_next_9 1 rfl rfl)
theorem dX5_next_211 : decode cX5_next 211 = .ok (.return_, 1) := dk_177 (dk_at dksX5_next_9 4 rfl rfl)
abbrev cX5_skip : ByteArray := prog_19_method_4_code
def yX5_skip : MethodName := ⟨RX5, "skip", "()V"⟩
def dkwX5_skip_3 : List UInt8 := [42, 180, 0, 19, 182, 0, 25, 155, 255, 181, 42, 89, 180, 0, 19, 4, 96, 181, 0, 19, 167, 255, 218, 177]
abbrev dktX5_skip_3 : List UInt8 := dkwX5_skip_3 ++ []
def dkwX5_skip_2 : List UInt8 := [4, 167, 0, 4, 3, 60, 27, 153, 255, 205, 42, 42, 180, 0, 19, 182, 0, 25, 16, 10, 159, 255, 192, 42]
abbrev dktX5_skip_2 : List UInt8 := dkwX5_skip_2 ++ dktX5_skip_3
def dkwX5_skip_1 : List UInt8 := [180, 0, 19, 4, 96, 181, 0, 19, 167, 255, 232, 42, 42, 180, 0, 19, 182, 0, 25, 16, 35, 160, 0, 7]
abbrev dktX5_skip_1 : List UInt8 := dkwX5_skip_1 ++ dktX5_skip_2
def dkwX5_skip_0 : List UInt8 := [4, 60, 27, 153, 0, 90, 42, 42, 180, 0, 19, 182, 0, 25, 184, 0, 29, 153, 0, 16, 42, 89]
abbrev dktX5_skip_0 : List UInt8 := dkwX5_skip_0 ++ dktX5_skip_1
theorem dksX5_skip_0 : cX5_skip.data.toList.drop 0 = dktX5_skip_0 := by decide +kernel
theorem dksX5_skip_1 : cX5_skip.data.toList.drop 22 = dktX5_skip_1 := dk_seg dksX5_skip_0 22 rfl rfl
theorem dksX5_skip_2 : cX5_skip.data.toList.drop 46 = dktX5_skip_2 := dk_seg dksX5_skip_1 24 rfl rfl
theorem dksX5_skip_3 : cX5_skip.data.toList.drop 70 = dktX5_skip_3 := dk_seg dksX5_skip_2 24 rfl rfl
theorem dX5_skip_0 : decode cX5_skip 0 = .ok (.iconst 1, 1) := dk_4 (dk_at dksX5_skip_0 0 rfl rfl)
theorem dX5_skip_1 : decode cX5_skip 1 = .ok (.istore_n 1, 1) := dk_60 (dk_at dksX5_skip_0 1 rfl rfl)
theorem dX5_skip_2 : decode cX5_skip 2 = .ok (.iload_n 1, 1) := dk_27 (dk_at dksX5_skip_0 2 rfl rfl)
theorem dX5_skip_3 : decode cX5_skip 3 = .ok (.ifCond .eq 90, 3) := dk_153 0 90 (dk_at dksX5_skip_0 3 rfl rfl)
theorem dX5_skip_6 : decode cX5_skip 6 = .ok (.aload_n 0, 1) := dk_42 (dk_at dksX5_skip_0 6 rfl rfl)
theorem dX5_skip_7 : decode cX5_skip 7 = .ok (.aload_n 0, 1) := dk_42 (dk_at dksX5_skip_0 7 rfl rfl)
theorem dX5_skip_8 : decode cX5_skip 8 = .ok (.getfield 19, 3) := dk_180 0 19 (dk_at dksX5_skip_0 8 rfl rfl)
theorem dX5_skip_11 : decode cX5_skip 11 = .ok (.invokevirtual 25, 3) := dk_182 0 25 (dk_at dksX5_skip_0 11 rfl rfl)
theorem dX5_skip_14 : decode cX5_skip 14 = .ok (.invokestatic 29, 3) := dk_184 0 29 (dk_at dksX5_skip_0 14 rfl rfl)
theorem dX5_skip_17 : decode cX5_skip 17 = .ok (.ifCond .eq 16, 3) := dk_153 0 16 (dk_at dksX5_skip_0 17 rfl rfl)
theorem dX5_skip_20 : decode cX5_skip 20 = .ok (.aload_n 0, 1) := dk_42 (dk_at dksX5_skip_0 20 rfl rfl)
theorem dX5_skip_21 : decode cX5_skip 21 = .ok (.dup, 1) := dk_89 (dk_at dksX5_skip_0 21 rfl rfl)
theorem dX5_skip_22 : decode cX5_skip 22 = .ok (.getfield 19, 3) := dk_180 0 19 (dk_at dksX5_skip_1 0 rfl rfl)
theorem dX5_skip_25 : decode cX5_skip 25 = .ok (.iconst 1, 1) := dk_4 (dk_at dksX5_skip_1 3 rfl rfl)
theorem dX5_skip_26 : decode cX5_skip 26 = .ok (.iadd, 1) := dk_96 (dk_at dksX5_skip_1 4 rfl rfl)
theorem dX5_skip_27 : decode cX5_skip 27 = .ok (.putfield 19, 3) := dk_181 0 19 (dk_at dksX5_skip_1 5 rfl rfl)
theorem dX5_skip_30 : decode cX5_skip 30 = .ok (.goto (-24), 3) := dk_167 255 232 (dk_at dksX5_skip_1 8 rfl rfl)
theorem dX5_skip_33 : decode cX5_skip 33 = .ok (.aload_n 0, 1) := dk_42 (dk_at dksX5_skip_1 11 rfl rfl)
theorem dX5_skip_34 : decode cX5_skip 34 = .ok (.aload_n 0, 1) := dk_42 (dk_at dksX5_skip_1 12 rfl rfl)
theorem dX5_skip_35 : decode cX5_skip 35 = .ok (.getfield 19, 3) := dk_180 0 19 (dk_at dksX5_skip_1 13 rfl rfl)
theorem dX5_skip_38 : decode cX5_skip 38 = .ok (.invokevirtual 25, 3) := dk_182 0 25 (dk_at dksX5_skip_1 16 rfl rfl)
theorem dX5_skip_41 : decode cX5_skip 41 = .ok (.bipush 35, 2) := dk_16 35 (dk_at dksX5_skip_1 19 rfl rfl)
theorem dX5_skip_43 : decode cX5_skip 43 = .ok (.if_icmp .ne 7, 3) := dk_160 0 7 (dk_at dksX5_skip_1 21 rfl rfl)
theorem dX5_skip_46 : decode cX5_skip 46 = .ok (.iconst 1, 1) := dk_4 (dk_at dksX5_skip_2 0 rfl rfl)
theorem dX5_skip_47 : decode cX5_skip 47 = .ok (.goto 4, 3) := dk_167 0 4 (dk_at dksX5_skip_2 1 rfl rfl)
theorem dX5_skip_50 : decode cX5_skip 50 = .ok (.iconst 0, 1) := dk_3 (dk_at dksX5_skip_2 4 rfl rfl)
theorem dX5_skip_51 : decode cX5_skip 51 = .ok (.istore_n 1, 1) := dk_60 (dk_at dksX5_skip_2 5 rfl rfl)
theorem dX5_skip_52 : decode cX5_skip 52 = .ok (.iload_n 1, 1) := dk_27 (dk_at dksX5_skip_2 6 rfl rfl)
theorem dX5_skip_53 : decode cX5_skip 53 = .ok (.ifCond .eq (-51), 3) := dk_153 255 205 (dk_at dksX5_skip_2 7 rfl rfl)
theorem dX5_skip_56 : decode cX5_skip 56 = .ok (.aload_n 0, 1) := dk_42 (dk_at dksX5_skip_2 10 rfl rfl)
theorem dX5_skip_57 : decode cX5_skip 57 = .ok (.aload_n 0, 1) := dk_42 (dk_at dksX5_skip_2 11 rfl rfl)
theorem dX5_skip_58 : decode cX5_skip 58 = .ok (.getfield 19, 3) := dk_180 0 19 (dk_at dksX5_skip_2 12 rfl rfl)
theorem dX5_skip_61 : decode cX5_skip 61 = .ok (.invokevirtual 25, 3) := dk_182 0 25 (dk_at dksX5_skip_2 15 rfl rfl)
theorem dX5_skip_64 : decode cX5_skip 64 = .ok (.bipush 10, 2) := dk_16 10 (dk_at dksX5_skip_2 18 rfl rfl)
theorem dX5_skip_66 : decode cX5_skip 66 = .ok (.if_icmp .eq (-64), 3) := dk_159 255 192 (dk_at dksX5_skip_2 20 rfl rfl)
theorem dX5_skip_69 : decode cX5_skip 69 = .ok (.aload_n 0, 1) := dk_42 (dk_at dksX5_skip_2 23 rfl rfl)
theorem dX5_skip_70 : decode cX5_skip 70 = .ok (.aload_n 0, 1) := dk_42 (dk_at dksX5_skip_3 0 rfl rfl)
theorem dX5_skip_71 : decode cX5_skip 71 = .ok (.getfield 19, 3) := dk_180 0 19 (dk_at dksX5_skip_3 1 rfl rfl)
theorem dX5_skip_74 : decode cX5_skip 74 = .ok (.invokevirtual 25, 3) := dk_182 0 25 (dk_at dksX5_skip_3 4 rfl rfl)
theorem dX5_skip_77 : decode cX5_skip 77 = .ok (.ifCond .lt (-75), 3) := dk_155 255 181 (dk_at dksX5_skip_3 7 rfl rfl)
theorem dX5_skip_80 : decode cX5_skip 80 = .ok (.aload_n 0, 1) := dk_42 (dk_at dksX5_skip_3 10 rfl rfl)
theorem dX5_skip_81 : decode cX5_skip 81 = .ok (.dup, 1) := dk_89 (dk_at dksX5_skip_3 11 rfl rfl)
theorem dX5_skip_82 : decode cX5_skip 82 = .ok (.getfield 19, 3) := dk_180 0 19 (dk_at dksX5_skip_3 12 rfl rfl)
theorem dX5_skip_85 : decode cX5_skip 85 = .ok (.iconst 1, 1) := dk_4 (dk_at dksX5_skip_3 15 rfl rfl)
theorem dX5_skip_86 : decode cX5_skip 86 = .ok (.iadd, 1) := dk_96 (dk_at dksX5_skip_3 16 rfl rfl)
theorem dX5_skip_87 : decode cX5_skip 87 = .ok (.putfield 19, 3) := dk_181 0 19 (dk_at dksX5_skip_3 17 rfl rfl)
theorem dX5_skip_90 : decode cX5_skip 90 = .ok (.goto (-38), 3) := dk_167 255 218 (dk_at dksX5_skip_3 20 rfl rfl)
theorem dX5_skip_93 : decode cX5_skip 93 = .ok (.return_, 1) := dk_177 (dk_at dksX5_skip_3 23 rfl rfl)
abbrev cX5_at : ByteArray := prog_19_method_3_code
def yX5_at : MethodName := ⟨RX5, "at", "(I)I"⟩
def dkwX5_at_0 : List UInt8 := [27, 42, 180, 0, 15, 162, 0, 16, 42, 180, 0, 9, 27, 51, 17, 0, 255, 126, 167, 0, 4, 2, 172]
abbrev dktX5_at_0 : List UInt8 := dkwX5_at_0 ++ []
theorem dksX5_at_0 : cX5_at.data.toList.drop 0 = dktX5_at_0 := by decide +kernel
theorem dX5_at_0 : decode cX5_at 0 = .ok (.iload_n 1, 1) := dk_27 (dk_at dksX5_at_0 0 rfl rfl)
theorem dX5_at_1 : decode cX5_at 1 = .ok (.aload_n 0, 1) := dk_42 (dk_at dksX5_at_0 1 rfl rfl)
theorem dX5_at_2 : decode cX5_at 2 = .ok (.getfield 15, 3) := dk_180 0 15 (dk_at dksX5_at_0 2 rfl rfl)
theorem dX5_at_5 : decode cX5_at 5 = .ok (.if_icmp .ge 16, 3) := dk_162 0 16 (dk_at dksX5_at_0 5 rfl rfl)
theorem dX5_at_8 : decode cX5_at 8 = .ok (.aload_n 0, 1) := dk_42 (dk_at dksX5_at_0 8 rfl rfl)
theorem dX5_at_9 : decode cX5_at 9 = .ok (.getfield 9, 3) := dk_180 0 9 (dk_at dksX5_at_0 9 rfl rfl)
theorem dX5_at_12 : decode cX5_at 12 = .ok (.iload_n 1, 1) := dk_27 (dk_at dksX5_at_0 12 rfl rfl)
theorem dX5_at_13 : decode cX5_at 13 = .ok (.baload, 1) := dk_51 (dk_at dksX5_at_0 13 rfl rfl)
theorem dX5_at_14 : decode cX5_at 14 = .ok (.sipush 255, 3) := dk_17 0 255 (dk_at dksX5_at_0 14 rfl rfl)
theorem dX5_at_17 : decode cX5_at 17 = .ok (.iand, 1) := dk_126 (dk_at dksX5_at_0 17 rfl rfl)
theorem dX5_at_18 : decode cX5_at 18 = .ok (.goto 4, 3) := dk_167 0 4 (dk_at dksX5_at_0 18 rfl rfl)
theorem dX5_at_21 : decode cX5_at 21 = .ok (.iconst (-1), 1) := dk_2 (dk_at dksX5_at_0 21 rfl rfl)
theorem dX5_at_22 : decode cX5_at 22 = .ok (.ireturn, 1) := dk_172 (dk_at dksX5_at_0 22 rfl rfl)
abbrev cX5_bytes : ByteArray := prog_19_method_6_code
def yX5_bytes : MethodName := ⟨RX5, "bytes", "()V"⟩
def dkwX5_bytes_2 : List UInt8 := [112, 154, 0, 7, 7, 167, 0, 4, 4, 181, 0, 41, 177]
abbrev dktX5_bytes_2 : List UInt8 := dkwX5_bytes_2 ++ []
def dkwX5_bytes_1 : List UInt8 := [42, 89, 180, 0, 19, 4, 96, 181, 0, 19, 167, 255, 232, 42, 42, 180, 0, 19, 42, 180, 0, 38, 100, 5]
abbrev dktX5_bytes_1 : List UInt8 := dkwX5_bytes_1 ++ dktX5_bytes_2
def dkwX5_bytes_0 : List UInt8 := [42, 42, 180, 0, 38, 5, 96, 181, 0, 19, 42, 42, 180, 0, 19, 182, 0, 25, 184, 0, 65, 155, 0, 16]
abbrev dktX5_bytes_0 : List UInt8 := dkwX5_bytes_0 ++ dktX5_bytes_1
theorem dksX5_bytes_0 : cX5_bytes.data.toList.drop 0 = dktX5_bytes_0 := by decide +kernel
theorem dksX5_bytes_1 : cX5_bytes.data.toList.drop 24 = dktX5_bytes_1 := dk_seg dksX5_bytes_0 24 rfl rfl
theorem dksX5_bytes_2 : cX5_bytes.data.toList.drop 48 = dktX5_bytes_2 := dk_seg dksX5_bytes_1 24 rfl rfl
theorem dX5_bytes_0 : decode cX5_bytes 0 = .ok (.aload_n 0, 1) := dk_42 (dk_at dksX5_bytes_0 0 rfl rfl)
theorem dX5_bytes_1 : decode cX5_bytes 1 = .ok (.aload_n 0, 1) := dk_42 (dk_at dksX5_bytes_0 1 rfl rfl)
theorem dX5_bytes_2 : decode cX5_bytes 2 = .ok (.getfield 38, 3) := dk_180 0 38 (dk_at dksX5_bytes_0 2 rfl rfl)
theorem dX5_bytes_5 : decode cX5_bytes 5 = .ok (.iconst 2, 1) := dk_5 (dk_at dksX5_bytes_0 5 rfl rfl)
theorem dX5_bytes_6 : decode cX5_bytes 6 = .ok (.iadd, 1) := dk_96 (dk_at dksX5_bytes_0 6 rfl rfl)
theorem dX5_bytes_7 : decode cX5_bytes 7 = .ok (.putfield 19, 3) := dk_181 0 19 (dk_at dksX5_bytes_0 7 rfl rfl)
theorem dX5_bytes_10 : decode cX5_bytes 10 = .ok (.aload_n 0, 1) := dk_42 (dk_at dksX5_bytes_0 10 rfl rfl)
theorem dX5_bytes_11 : decode cX5_bytes 11 = .ok (.aload_n 0, 1) := dk_42 (dk_at dksX5_bytes_0 11 rfl rfl)
theorem dX5_bytes_12 : decode cX5_bytes 12 = .ok (.getfield 19, 3) := dk_180 0 19 (dk_at dksX5_bytes_0 12 rfl rfl)
theorem dX5_bytes_15 : decode cX5_bytes 15 = .ok (.invokevirtual 25, 3) := dk_182 0 25 (dk_at dksX5_bytes_0 15 rfl rfl)
theorem dX5_bytes_18 : decode cX5_bytes 18 = .ok (.invokestatic 65, 3) := dk_184 0 65 (dk_at dksX5_bytes_0 18 rfl rfl)
theorem dX5_bytes_21 : decode cX5_bytes 21 = .ok (.ifCond .lt 16, 3) := dk_155 0 16 (dk_at dksX5_bytes_0 21 rfl rfl)
theorem dX5_bytes_24 : decode cX5_bytes 24 = .ok (.aload_n 0, 1) := dk_42 (dk_at dksX5_bytes_1 0 rfl rfl)
theorem dX5_bytes_25 : decode cX5_bytes 25 = .ok (.dup, 1) := dk_89 (dk_at dksX5_bytes_1 1 rfl rfl)
theorem dX5_bytes_26 : decode cX5_bytes 26 = .ok (.getfield 19, 3) := dk_180 0 19 (dk_at dksX5_bytes_1 2 rfl rfl)
theorem dX5_bytes_29 : decode cX5_bytes 29 = .ok (.iconst 1, 1) := dk_4 (dk_at dksX5_bytes_1 5 rfl rfl)
theorem dX5_bytes_30 : decode cX5_bytes 30 = .ok (.iadd, 1) := dk_96 (dk_at dksX5_bytes_1 6 rfl rfl)
theorem dX5_bytes_31 : decode cX5_bytes 31 = .ok (.putfield 19, 3) := dk_181 0 19 (dk_at dksX5_bytes_1 7 rfl rfl)
theorem dX5_bytes_34 : decode cX5_bytes 34 = .ok (.goto (-24), 3) := dk_167 255 232 (dk_at dksX5_bytes_1 10 rfl rfl)
theorem dX5_bytes_37 : decode cX5_bytes 37 = .ok (.aload_n 0, 1) := dk_42 (dk_at dksX5_bytes_1 13 rfl rfl)
theorem dX5_bytes_38 : decode cX5_bytes 38 = .ok (.aload_n 0, 1) := dk_42 (dk_at dksX5_bytes_1 14 rfl rfl)
theorem dX5_bytes_39 : decode cX5_bytes 39 = .ok (.getfield 19, 3) := dk_180 0 19 (dk_at dksX5_bytes_1 15 rfl rfl)
theorem dX5_bytes_42 : decode cX5_bytes 42 = .ok (.aload_n 0, 1) := dk_42 (dk_at dksX5_bytes_1 18 rfl rfl)
theorem dX5_bytes_43 : decode cX5_bytes 43 = .ok (.getfield 38, 3) := dk_180 0 38 (dk_at dksX5_bytes_1 19 rfl rfl)
theorem dX5_bytes_46 : decode cX5_bytes 46 = .ok (.isub, 1) := dk_100 (dk_at dksX5_bytes_1 22 rfl rfl)
theorem dX5_bytes_47 : decode cX5_bytes 47 = .ok (.iconst 2, 1) := dk_5 (dk_at dksX5_bytes_1 23 rfl rfl)
theorem dX5_bytes_48 : decode cX5_bytes 48 = .ok (.irem, 1) := dk_112 (dk_at dksX5_bytes_2 0 rfl rfl)
theorem dX5_bytes_49 : decode cX5_bytes 49 = .ok (.ifCond .ne 7, 3) := dk_154 0 7 (dk_at dksX5_bytes_2 1 rfl rfl)
theorem dX5_bytes_52 : decode cX5_bytes 52 = .ok (.iconst 4, 1) := dk_7 (dk_at dksX5_bytes_2 4 rfl rfl)
theorem dX5_bytes_53 : decode cX5_bytes 53 = .ok (.goto 4, 3) := dk_167 0 4 (dk_at dksX5_bytes_2 5 rfl rfl)
theorem dX5_bytes_56 : decode cX5_bytes 56 = .ok (.iconst 1, 1) := dk_4 (dk_at dksX5_bytes_2 8 rfl rfl)
theorem dX5_bytes_57 : decode cX5_bytes 57 = .ok (.putfield 41, 3) := dk_181 0 41 (dk_at dksX5_bytes_2 9 rfl rfl)
theorem dX5_bytes_60 : decode cX5_bytes 60 = .ok (.return_, 1) := dk_177 (dk_at dksX5_bytes_2 12 rfl rfl)
abbrev cX5_number : ByteArray := prog_19_method_7_code
def yX5_number : MethodName := ⟨RX5, "number", "()V"⟩
def dkwX5_number_3 : List UInt8 := [181, 0, 19, 167, 255, 232, 177]
abbrev dktX5_number_3 : List UInt8 := dkwX5_number_3 ++ []
def dkwX5_number_2 : List UInt8 := [181, 0, 41, 42, 42, 180, 0, 19, 182, 0, 25, 184, 0, 47, 153, 0, 16, 42, 89, 180, 0, 19, 4, 96]
abbrev dktX5_number_2 : List UInt8 := dkwX5_number_2 ++ dktX5_number_3
def dkwX5_number_1 : List UInt8 := [181, 0, 19, 42, 42, 42, 180, 0, 19, 182, 0, 25, 184, 0, 47, 153, 0, 7, 5, 167, 0, 4, 4]
abbrev dktX5_number_1 : List UInt8 := dkwX5_number_1 ++ dktX5_number_2
def dkwX5_number_0 : List UInt8 := [42, 42, 180, 0, 38, 42, 42, 180, 0, 38, 182, 0, 25, 16, 45, 160, 0, 7, 4, 167, 0, 4, 3, 96]
abbrev dktX5_number_0 : List UInt8 := dkwX5_number_0 ++ dktX5_number_1
theorem dksX5_number_0 : cX5_number.data.toList.drop 0 = dktX5_number_0 := by decide +kernel
theorem dksX5_number_1 : cX5_number.data.toList.drop 24 = dktX5_number_1 := dk_seg dksX5_number_0 24 rfl rfl
theorem dksX5_number_2 : cX5_number.data.toList.drop 47 = dktX5_number_2 := dk_seg dksX5_number_1 23 rfl rfl
theorem dksX5_number_3 : cX5_number.data.toList.drop 71 = dktX5_number_3 := dk_seg dksX5_number_2 24 rfl rfl
theorem dX5_number_0 : decode cX5_number 0 = .ok (.aload_n 0, 1) := dk_42 (dk_at dksX5_number_0 0 rfl rfl)
theorem dX5_number_1 : decode cX5_number 1 = .ok (.aload_n 0, 1) := dk_42 (dk_at dksX5_number_0 1 rfl rfl)
theorem dX5_number_2 : decode cX5_number 2 = .ok (.getfield 38, 3) := dk_180 0 38 (dk_at dksX5_number_0 2 rfl rfl)
theorem dX5_number_5 : decode cX5_number 5 = .ok (.aload_n 0, 1) := dk_42 (dk_at dksX5_number_0 5 rfl rfl)
theorem dX5_number_6 : decode cX5_number 6 = .ok (.aload_n 0, 1) := dk_42 (dk_at dksX5_number_0 6 rfl rfl)
theorem dX5_number_7 : decode cX5_number 7 = .ok (.getfield 38, 3) := dk_180 0 38 (dk_at dksX5_number_0 7 rfl rfl)
theorem dX5_number_10 : decode cX5_number 10 = .ok (.invokevirtual 25, 3) := dk_182 0 25 (dk_at dksX5_number_0 10 rfl rfl)
theorem dX5_number_13 : decode cX5_number 13 = .ok (.bipush 45, 2) := dk_16 45 (dk_at dksX5_number_0 13 rfl rfl)
theorem dX5_number_15 : decode cX5_number 15 = .ok (.if_icmp .ne 7, 3) := dk_160 0 7 (dk_at dksX5_number_0 15 rfl rfl)
theorem dX5_number_18 : decode cX5_number 18 = .ok (.iconst 1, 1) := dk_4 (dk_at dksX5_number_0 18 rfl rfl)
theorem dX5_number_19 : decode cX5_number 19 = .ok (.goto 4, 3) := dk_167 0 4 (dk_at dksX5_number_0 19 rfl rfl)
theorem dX5_number_22 : decode cX5_number 22 = .ok (.iconst 0, 1) := dk_3 (dk_at dksX5_number_0 22 rfl rfl)
theorem dX5_number_23 : decode cX5_number 23 = .ok (.iadd, 1) := dk_96 (dk_at dksX5_number_0 23 rfl rfl)
theorem dX5_number_24 : decode cX5_number 24 = .ok (.putfield 19, 3) := dk_181 0 19 (dk_at dksX5_number_1 0 rfl rfl)
theorem dX5_number_27 : decode cX5_number 27 = .ok (.aload_n 0, 1) := dk_42 (dk_at dksX5_number_1 3 rfl rfl)
theorem dX5_number_28 : decode cX5_number 28 = .ok (.aload_n 0, 1) := dk_42 (dk_at dksX5_number_1 4 rfl rfl)
theorem dX5_number_29 : decode cX5_number 29 = .ok (.aload_n 0, 1) := dk_42 (dk_at dksX5_number_1 5 rfl rfl)
theorem dX5_number_30 : decode cX5_number 30 = .ok (.getfield 19, 3) := dk_180 0 19 (dk_at dksX5_number_1 6 rfl rfl)
theorem dX5_number_33 : decode cX5_number 33 = .ok (.invokevirtual 25, 3) := dk_182 0 25 (dk_at dksX5_number_1 9 rfl rfl)
theorem dX5_number_36 : decode cX5_number 36 = .ok (.invokestatic 47, 3) := dk_184 0 47 (dk_at dksX5_number_1 12 rfl rfl)
theorem dX5_number_39 : decode cX5_number 39 = .ok (.ifCond .eq 7, 3) := dk_153 0 7 (dk_at dksX5_number_1 15 rfl rfl)
theorem dX5_number_42 : decode cX5_number 42 = .ok (.iconst 2, 1) := dk_5 (dk_at dksX5_number_1 18 rfl rfl)
theorem dX5_number_43 : decode cX5_number 43 = .ok (.goto 4, 3) := dk_167 0 4 (dk_at dksX5_number_1 19 rfl rfl)
theorem dX5_number_46 : decode cX5_number 46 = .ok (.iconst 1, 1) := dk_4 (dk_at dksX5_number_1 22 rfl rfl)
theorem dX5_number_47 : decode cX5_number 47 = .ok (.putfield 41, 3) := dk_181 0 41 (dk_at dksX5_number_2 0 rfl rfl)
theorem dX5_number_50 : decode cX5_number 50 = .ok (.aload_n 0, 1) := dk_42 (dk_at dksX5_number_2 3 rfl rfl)
theorem dX5_number_51 : decode cX5_number 51 = .ok (.aload_n 0, 1) := dk_42 (dk_at dksX5_number_2 4 rfl rfl)
theorem dX5_number_52 : decode cX5_number 52 = .ok (.getfield 19, 3) := dk_180 0 19 (dk_at dksX5_number_2 5 rfl rfl)
theorem dX5_number_55 : decode cX5_number 55 = .ok (.invokevirtual 25, 3) := dk_182 0 25 (dk_at dksX5_number_2 8 rfl rfl)
theorem dX5_number_58 : decode cX5_number 58 = .ok (.invokestatic 47, 3) := dk_184 0 47 (dk_at dksX5_number_2 11 rfl rfl)
theorem dX5_number_61 : decode cX5_number 61 = .ok (.ifCond .eq 16, 3) := dk_153 0 16 (dk_at dksX5_number_2 14 rfl rfl)
theorem dX5_number_64 : decode cX5_number 64 = .ok (.aload_n 0, 1) := dk_42 (dk_at dksX5_number_2 17 rfl rfl)
theorem dX5_number_65 : decode cX5_number 65 = .ok (.dup, 1) := dk_89 (dk_at dksX5_number_2 18 rfl rfl)
theorem dX5_number_66 : decode cX5_number 66 = .ok (.getfield 19, 3) := dk_180 0 19 (dk_at dksX5_number_2 19 rfl rfl)
theorem dX5_number_69 : decode cX5_number 69 = .ok (.iconst 1, 1) := dk_4 (dk_at dksX5_number_2 22 rfl rfl)
theorem dX5_number_70 : decode cX5_number 70 = .ok (.iadd, 1) := dk_96 (dk_at dksX5_number_2 23 rfl rfl)
theorem dX5_number_71 : decode cX5_number 71 = .ok (.putfield 19, 3) := dk_181 0 19 (dk_at dksX5_number_3 0 rfl rfl)
theorem dX5_number_74 : decode cX5_number 74 = .ok (.goto (-24), 3) := dk_167 255 232 (dk_at dksX5_number_3 3 rfl rfl)
theorem dX5_number_77 : decode cX5_number 77 = .ok (.return_, 1) := dk_177 (dk_at dksX5_number_3 6 rfl rfl)
abbrev cX5_string : ByteArray := prog_19_method_8_code
def yX5_string : MethodName := ⟨RX5, "string", "()V"⟩
def dkwX5_string_6 : List UInt8 := [180, 0, 19, 4, 96, 181, 0, 19, 177]
abbrev dktX5_string_6 : List UInt8 := dkwX5_string_6 ++ []
def dkwX5_string_5 : List UInt8 := [167, 0, 4, 4, 181, 0, 41, 42, 89, 180, 0, 19, 4, 96, 181, 0, 19, 167, 255, 138, 42, 89]
abbrev dktX5_string_5 : List UInt8 := dkwX5_string_5 ++ dktX5_string_6
def dkwX5_string_4 : List UInt8 := [181, 0, 19, 167, 255, 174, 42, 42, 42, 180, 0, 19, 182, 0, 25, 184, 0, 68, 153, 0, 7, 6]
abbrev dktX5_string_4 : List UInt8 := dkwX5_string_4 ++ dktX5_string_5
def dkwX5_string_3 : List UInt8 := [159, 0, 9, 27, 16, 110, 160, 0, 7, 6, 167, 0, 4, 4, 181, 0, 41, 42, 89, 180, 0, 19, 5, 96]
abbrev dktX5_string_3 : List UInt8 := dkwX5_string_3 ++ dktX5_string_4
def dkwX5_string_2 : List UInt8 := [160, 0, 54, 42, 42, 180, 0, 19, 4, 96, 182, 0, 25, 60, 42, 27, 16, 92, 159, 0, 15, 27, 16, 34]
abbrev dktX5_string_2 : List UInt8 := dkwX5_string_2 ++ dktX5_string_3
def dkwX5_string_1 : List UInt8 := [42, 180, 0, 19, 182, 0, 25, 16, 34, 159, 0, 103, 42, 42, 180, 0, 19, 182, 0, 25, 16, 92]
abbrev dktX5_string_1 : List UInt8 := dkwX5_string_1 ++ dktX5_string_2
def dkwX5_string_0 : List UInt8 := [42, 6, 181, 0, 41, 42, 42, 180, 0, 38, 4, 96, 181, 0, 19, 42, 180, 0, 41, 6, 160, 0, 116, 42]
abbrev dktX5_string_0 : List UInt8 := dkwX5_string_0 ++ dktX5_string_1
theorem dksX5_string_0 : cX5_string.data.toList.drop 0 = dktX5_string_0 := by decide +kernel
theorem dksX5_string_1 : cX5_string.data.toList.drop 24 = dktX5_string_1 := dk_seg dksX5_string_0 24 rfl rfl
theorem dksX5_string_2 : cX5_string.data.toList.drop 46 = dktX5_string_2 := dk_seg dksX5_string_1 22 rfl rfl
theorem dksX5_string_3 : cX5_string.data.toList.drop 70 = dktX5_string_3 := dk_seg dksX5_string_2 24 rfl rfl
theorem dksX5_string_4 : cX5_string.data.toList.drop 94 = dktX5_string_4 := dk_seg dksX5_string_3 24 rfl rfl
theorem dksX5_string_5 : cX5_string.data.toList.drop 116 = dktX5_string_5 := dk_seg dksX5_string_4 22 rfl rfl
theorem dksX5_string_6 : cX5_string.data.toList.drop 138 = dktX5_string_6 := dk_seg dksX5_string_5 22 rfl rfl
theorem dX5_string_0 : decode cX5_string 0 = .ok (.aload_n 0, 1) := dk_42 (dk_at dksX5_string_0 0 rfl rfl)
theorem dX5_string_1 : decode cX5_string 1 = .ok (.iconst 3, 1) := dk_6 (dk_at dksX5_string_0 1 rfl rfl)
theorem dX5_string_2 : decode cX5_string 2 = .ok (.putfield 41, 3) := dk_181 0 41 (dk_at dksX5_string_0 2 rfl rfl)
theorem dX5_string_5 : decode cX5_string 5 = .ok (.aload_n 0, 1) := dk_42 (dk_at dksX5_string_0 5 rfl rfl)
theorem dX5_string_6 : decode cX5_string 6 = .ok (.aload_n 0, 1) := dk_42 (dk_at dksX5_string_0 6 rfl rfl)
theorem dX5_string_7 : decode cX5_string 7 = .ok (.getfield 38, 3) := dk_180 0 38 (dk_at dksX5_string_0 7 rfl rfl)
theorem dX5_string_10 : decode cX5_string 10 = .ok (.iconst 1, 1) := dk_4 (dk_at dksX5_string_0 10 rfl rfl)
theorem dX5_string_11 : decode cX5_string 11 = .ok (.iadd, 1) := dk_96 (dk_at dksX5_string_0 11 rfl rfl)
theorem dX5_string_12 : decode cX5_string 12 = .ok (.putfield 19, 3) := dk_181 0 19 (dk_at dksX5_string_0 12 rfl rfl)
theorem dX5_string_15 : decode cX5_string 15 = .ok (.aload_n 0, 1) := dk_42 (dk_at dksX5_string_0 15 rfl rfl)
theorem dX5_string_16 : decode cX5_string 16 = .ok (.getfield 41, 3) := dk_180 0 41 (dk_at dksX5_string_0 16 rfl rfl)
theorem dX5_string_19 : decode cX5_string 19 = .ok (.iconst 3, 1) := dk_6 (dk_at dksX5_string_0 19 rfl rfl)
theorem dX5_string_20 : decode cX5_string 20 = .ok (.if_icmp .ne 116, 3) := dk_160 0 116 (dk_at dksX5_string_0 20 rfl rfl)
theorem dX5_string_23 : decode cX5_string 23 = .ok (.aload_n 0, 1) := dk_42 (dk_at dksX5_string_0 23 rfl rfl)
theorem dX5_string_24 : decode cX5_string 24 = .ok (.aload_n 0, 1) := dk_42 (dk_at dksX5_string_1 0 rfl rfl)
theorem dX5_string_25 : decode cX5_string 25 = .ok (.getfield 19, 3) := dk_180 0 19 (dk_at dksX5_string_1 1 rfl rfl)
theorem dX5_string_28 : decode cX5_string 28 = .ok (.invokevirtual 25, 3) := dk_182 0 25 (dk_at dksX5_string_1 4 rfl rfl)
theorem dX5_string_31 : decode cX5_string 31 = .ok (.bipush 34, 2) := dk_16 34 (dk_at dksX5_string_1 7 rfl rfl)
theorem dX5_string_33 : decode cX5_string 33 = .ok (.if_icmp .eq 103, 3) := dk_159 0 103 (dk_at dksX5_string_1 9 rfl rfl)
theorem dX5_string_36 : decode cX5_string 36 = .ok (.aload_n 0, 1) := dk_42 (dk_at dksX5_string_1 12 rfl rfl)
theorem dX5_string_37 : decode cX5_string 37 = .ok (.aload_n 0, 1) := dk_42 (dk_at dksX5_string_1 13 rfl rfl)
theorem dX5_string_38 : decode cX5_string 38 = .ok (.getfield 19, 3) := dk_180 0 19 (dk_at dksX5_string_1 14 rfl rfl)
theorem dX5_string_41 : decode cX5_string 41 = .ok (.invokevirtual 25, 3) := dk_182 0 25 (dk_at dksX5_string_1 17 rfl rfl)
theorem dX5_string_44 : decode cX5_string 44 = .ok (.bipush 92, 2) := dk_16 92 (dk_at dksX5_string_1 20 rfl rfl)
theorem dX5_string_46 : decode cX5_string 46 = .ok (.if_icmp .ne 54, 3) := dk_160 0 54 (dk_at dksX5_string_2 0 rfl rfl)
theorem dX5_string_49 : decode cX5_string 49 = .ok (.aload_n 0, 1) := dk_42 (dk_at dksX5_string_2 3 rfl rfl)
theorem dX5_string_50 : decode cX5_string 50 = .ok (.aload_n 0, 1) := dk_42 (dk_at dksX5_string_2 4 rfl rfl)
theorem dX5_string_51 : decode cX5_string 51 = .ok (.getfield 19, 3) := dk_180 0 19 (dk_at dksX5_string_2 5 rfl rfl)
theorem dX5_string_54 : decode cX5_string 54 = .ok (.iconst 1, 1) := dk_4 (dk_at dksX5_string_2 8 rfl rfl)
theorem dX5_string_55 : decode cX5_string 55 = .ok (.iadd, 1) := dk_96 (dk_at dksX5_string_2 9 rfl rfl)
theorem dX5_string_56 : decode cX5_string 56 = .ok (.invokevirtual 25, 3) := dk_182 0 25 (dk_at dksX5_string_2 10 rfl rfl)
theorem dX5_string_59 : decode cX5_string 59 = .ok (.istore_n 1, 1) := dk_60 (dk_at dksX5_string_2 13 rfl rfl)
theorem dX5_string_60 : decode cX5_string 60 = .ok (.aload_n 0, 1) := dk_42 (dk_at dksX5_string_2 14 rfl rfl)
theorem dX5_string_61 : decode cX5_string 61 = .ok (.iload_n 1, 1) := dk_27 (dk_at dksX5_string_2 15 rfl rfl)
theorem dX5_string_62 : decode cX5_string 62 = .ok (.bipush 92, 2) := dk_16 92 (dk_at dksX5_string_2 16 rfl rfl)
theorem dX5_string_64 : decode cX5_string 64 = .ok (.if_icmp .eq 15, 3) := dk_159 0 15 (dk_at dksX5_string_2 18 rfl rfl)
theorem dX5_string_67 : decode cX5_string 67 = .ok (.iload_n 1, 1) := dk_27 (dk_at dksX5_string_2 21 rfl rfl)
theorem dX5_string_68 : decode cX5_string 68 = .ok (.bipush 34, 2) := dk_16 34 (dk_at dksX5_string_2 22 rfl rfl)
theorem dX5_string_70 : decode cX5_string 70 = .ok (.if_icmp .eq 9, 3) := dk_159 0 9 (dk_at dksX5_string_3 0 rfl rfl)
theorem dX5_string_73 : decode cX5_string 73 = .ok (.iload_n 1, 1) := dk_27 (dk_at dksX5_string_3 3 rfl rfl)
theorem dX5_string_74 : decode cX5_string 74 = .ok (.bipush 110, 2) := dk_16 110 (dk_at dksX5_string_3 4 rfl rfl)
theorem dX5_string_76 : decode cX5_string 76 = .ok (.if_icmp .ne 7, 3) := dk_160 0 7 (dk_at dksX5_string_3 6 rfl rfl)
theorem dX5_string_79 : decode cX5_string 79 = .ok (.iconst 3, 1) := dk_6 (dk_at dksX5_string_3 9 rfl rfl)
theorem dX5_string_80 : decode cX5_string 80 = .ok (.goto 4, 3) := dk_167 0 4 (dk_at dksX5_string_3 10 rfl rfl)
theorem dX5_string_83 : decode cX5_string 83 = .ok (.iconst 1, 1) := dk_4 (dk_at dksX5_string_3 13 rfl rfl)
theorem dX5_string_84 : decode cX5_string 84 = .ok (.putfield 41, 3) := dk_181 0 41 (dk_at dksX5_string_3 14 rfl rfl)
theorem dX5_string_87 : decode cX5_string 87 = .ok (.aload_n 0, 1) := dk_42 (dk_at dksX5_string_3 17 rfl rfl)
theorem dX5_string_88 : decode cX5_string 88 = .ok (.dup, 1) := dk_89 (dk_at dksX5_string_3 18 rfl rfl)
theorem dX5_string_89 : decode cX5_string 89 = .ok (.getfield 19, 3) := dk_180 0 19 (dk_at dksX5_string_3 19 rfl rfl)
theorem dX5_string_92 : decode cX5_string 92 = .ok (.iconst 2, 1) := dk_5 (dk_at dksX5_string_3 22 rfl rfl)
theorem dX5_string_93 : decode cX5_string 93 = .ok (.iadd, 1) := dk_96 (dk_at dksX5_string_3 23 rfl rfl)
theorem dX5_string_94 : decode cX5_string 94 = .ok (.putfield 19, 3) := dk_181 0 19 (dk_at dksX5_string_4 0 rfl rfl)
theorem dX5_string_97 : decode cX5_string 97 = .ok (.goto (-82), 3) := dk_167 255 174 (dk_at dksX5_string_4 3 rfl rfl)
theorem dX5_string_100 : decode cX5_string 100 = .ok (.aload_n 0, 1) := dk_42 (dk_at dksX5_string_4 6 rfl rfl)
theorem dX5_string_101 : decode cX5_string 101 = .ok (.aload_n 0, 1) := dk_42 (dk_at dksX5_string_4 7 rfl rfl)
theorem dX5_string_102 : decode cX5_string 102 = .ok (.aload_n 0, 1) := dk_42 (dk_at dksX5_string_4 8 rfl rfl)
theorem dX5_string_103 : decode cX5_string 103 = .ok (.getfield 19, 3) := dk_180 0 19 (dk_at dksX5_string_4 9 rfl rfl)
theorem dX5_string_106 : decode cX5_string 106 = .ok (.invokevirtual 25, 3) := dk_182 0 25 (dk_at dksX5_string_4 12 rfl rfl)
theorem dX5_string_109 : decode cX5_string 109 = .ok (.invokestatic 68, 3) := dk_184 0 68 (dk_at dksX5_string_4 15 rfl rfl)
theorem dX5_string_112 : decode cX5_string 112 = .ok (.ifCond .eq 7, 3) := dk_153 0 7 (dk_at dksX5_string_4 18 rfl rfl)
theorem dX5_string_115 : decode cX5_string 115 = .ok (.iconst 3, 1) := dk_6 (dk_at dksX5_string_4 21 rfl rfl)
theorem dX5_string_116 : decode cX5_string 116 = .ok (.goto 4, 3) := dk_167 0 4 (dk_at dksX5_string_5 0 rfl rfl)
theorem dX5_string_119 : decode cX5_string 119 = .ok (.iconst 1, 1) := dk_4 (dk_at dksX5_string_5 3 rfl rfl)
theorem dX5_string_120 : decode cX5_string 120 = .ok (.putfield 41, 3) := dk_181 0 41 (dk_at dksX5_string_5 4 rfl rfl)
theorem dX5_string_123 : decode cX5_string 123 = .ok (.aload_n 0, 1) := dk_42 (dk_at dksX5_string_5 7 rfl rfl)
theorem dX5_string_124 : decode cX5_string 124 = .ok (.dup, 1) := dk_89 (dk_at dksX5_string_5 8 rfl rfl)
theorem dX5_string_125 : decode cX5_string 125 = .ok (.getfield 19, 3) := dk_180 0 19 (dk_at dksX5_string_5 9 rfl rfl)
theorem dX5_string_128 : decode cX5_string 128 = .ok (.iconst 1, 1) := dk_4 (dk_at dksX5_string_5 12 rfl rfl)
theorem dX5_string_129 : decode cX5_string 129 = .ok (.iadd, 1) := dk_96 (dk_at dksX5_string_5 13 rfl rfl)
theorem dX5_string_130 : decode cX5_string 130 = .ok (.putfield 19, 3) := dk_181 0 19 (dk_at dksX5_string_5 14 rfl rfl)
theorem dX5_string_133 : decode cX5_string 133 = .ok (.goto (-118), 3) := dk_167 255 138 (dk_at dksX5_string_5 17 rfl rfl)
theorem dX5_string_136 : decode cX5_string 136 = .ok (.aload_n 0, 1) := dk_42 (dk_at dksX5_string_5 20 rfl rfl)
theorem dX5_string_137 : decode cX5_string 137 = .ok (.dup, 1) := dk_89 (dk_at dksX5_string_5 21 rfl rfl)
theorem dX5_string_138 : decode cX5_string 138 = .ok (.getfield 19, 3) := dk_180 0 19 (dk_at dksX5_string_6 0 rfl rfl)
theorem dX5_string_141 : decode cX5_string 141 = .ok (.iconst 1, 1) := dk_4 (dk_at dksX5_string_6 3 rfl rfl)
theorem dX5_string_142 : decode cX5_string 142 = .ok (.iadd, 1) := dk_96 (dk_at dksX5_string_6 4 rfl rfl)
theorem dX5_string_143 : decode cX5_string 143 = .ok (.putfield 19, 3) := dk_181 0 19 (dk_at dksX5_string_6 5 rfl rfl)
theorem dX5_string_146 : decode cX5_string 146 = .ok (.return_, 1) := dk_177 (dk_at dksX5_string_6 8 rfl rfl)
abbrev cX5_mark : ByteArray := prog_19_method_9_code
def yX5_mark : MethodName := ⟨RX5, "mark", "()V"⟩
def dkwX5_mark_3 : List UInt8 := [181, 0, 41, 177]
abbrev dktX5_mark_3 : List UInt8 := dkwX5_mark_3 ++ []
def dkwX5_mark_2 : List UInt8 := [167, 255, 218, 42, 42, 180, 0, 19, 42, 180, 0, 38, 4, 96, 164, 0, 8, 16, 6, 167, 0, 4, 4]
abbrev dktX5_mark_2 : List UInt8 := dkwX5_mark_2 ++ dktX5_mark_3
def dkwX5_mark_1 : List UInt8 := [42, 180, 0, 19, 42, 180, 0, 38, 100, 16, 31, 163, 0, 16, 42, 89, 180, 0, 19, 4, 96, 181, 0, 19]
abbrev dktX5_mark_1 : List UInt8 := dkwX5_mark_1 ++ dktX5_mark_2
def dkwX5_mark_0 : List UInt8 := [42, 42, 180, 0, 38, 4, 96, 181, 0, 19, 42, 42, 180, 0, 19, 182, 0, 25, 184, 0, 59, 153, 0, 30]
abbrev dktX5_mark_0 : List UInt8 := dkwX5_mark_0 ++ dktX5_mark_1
theorem dksX5_mark_0 : cX5_mark.data.toList.drop 0 = dktX5_mark_0 := by decide +kernel
theorem dksX5_mark_1 : cX5_mark.data.toList.drop 24 = dktX5_mark_1 := dk_seg dksX5_mark_0 24 rfl rfl
theorem dksX5_mark_2 : cX5_mark.data.toList.drop 48 = dktX5_mark_2 := dk_seg dksX5_mark_1 24 rfl rfl
theorem dksX5_mark_3 : cX5_mark.data.toList.drop 71 = dktX5_mark_3 := dk_seg dksX5_mark_2 23 rfl rfl
theorem dX5_mark_0 : decode cX5_mark 0 = .ok (.aload_n 0, 1) := dk_42 (dk_at dksX5_mark_0 0 rfl rfl)
theorem dX5_mark_1 : decode cX5_mark 1 = .ok (.aload_n 0, 1) := dk_42 (dk_at dksX5_mark_0 1 rfl rfl)
theorem dX5_mark_2 : decode cX5_mark 2 = .ok (.getfield 38, 3) := dk_180 0 38 (dk_at dksX5_mark_0 2 rfl rfl)
theorem dX5_mark_5 : decode cX5_mark 5 = .ok (.iconst 1, 1) := dk_4 (dk_at dksX5_mark_0 5 rfl rfl)
theorem dX5_mark_6 : decode cX5_mark 6 = .ok (.iadd, 1) := dk_96 (dk_at dksX5_mark_0 6 rfl rfl)
theorem dX5_mark_7 : decode cX5_mark 7 = .ok (.putfield 19, 3) := dk_181 0 19 (dk_at dksX5_mark_0 7 rfl rfl)
theorem dX5_mark_10 : decode cX5_mark 10 = .ok (.aload_n 0, 1) := dk_42 (dk_at dksX5_mark_0 10 rfl rfl)
theorem dX5_mark_11 : decode cX5_mark 11 = .ok (.aload_n 0, 1) := dk_42 (dk_at dksX5_mark_0 11 rfl rfl)
theorem dX5_mark_12 : decode cX5_mark 12 = .ok (.getfield 19, 3) := dk_180 0 19 (dk_at dksX5_mark_0 12 rfl rfl)
theorem dX5_mark_15 : decode cX5_mark 15 = .ok (.invokevirtual 25, 3) := dk_182 0 25 (dk_at dksX5_mark_0 15 rfl rfl)
theorem dX5_mark_18 : decode cX5_mark 18 = .ok (.invokestatic 59, 3) := dk_184 0 59 (dk_at dksX5_mark_0 18 rfl rfl)
theorem dX5_mark_21 : decode cX5_mark 21 = .ok (.ifCond .eq 30, 3) := dk_153 0 30 (dk_at dksX5_mark_0 21 rfl rfl)
theorem dX5_mark_24 : decode cX5_mark 24 = .ok (.aload_n 0, 1) := dk_42 (dk_at dksX5_mark_1 0 rfl rfl)
theorem dX5_mark_25 : decode cX5_mark 25 = .ok (.getfield 19, 3) := dk_180 0 19 (dk_at dksX5_mark_1 1 rfl rfl)
theorem dX5_mark_28 : decode cX5_mark 28 = .ok (.aload_n 0, 1) := dk_42 (dk_at dksX5_mark_1 4 rfl rfl)
theorem dX5_mark_29 : decode cX5_mark 29 = .ok (.getfield 38, 3) := dk_180 0 38 (dk_at dksX5_mark_1 5 rfl rfl)
theorem dX5_mark_32 : decode cX5_mark 32 = .ok (.isub, 1) := dk_100 (dk_at dksX5_mark_1 8 rfl rfl)
theorem dX5_mark_33 : decode cX5_mark 33 = .ok (.bipush 31, 2) := dk_16 31 (dk_at dksX5_mark_1 9 rfl rfl)
theorem dX5_mark_35 : decode cX5_mark 35 = .ok (.if_icmp .gt 16, 3) := dk_163 0 16 (dk_at dksX5_mark_1 11 rfl rfl)
theorem dX5_mark_38 : decode cX5_mark 38 = .ok (.aload_n 0, 1) := dk_42 (dk_at dksX5_mark_1 14 rfl rfl)
theorem dX5_mark_39 : decode cX5_mark 39 = .ok (.dup, 1) := dk_89 (dk_at dksX5_mark_1 15 rfl rfl)
theorem dX5_mark_40 : decode cX5_mark 40 = .ok (.getfield 19, 3) := dk_180 0 19 (dk_at dksX5_mark_1 16 rfl rfl)
theorem dX5_mark_43 : decode cX5_mark 43 = .ok (.iconst 1, 1) := dk_4 (dk_at dksX5_mark_1 19 rfl rfl)
theorem dX5_mark_44 : decode cX5_mark 44 = .ok (.iadd, 1) := dk_96 (dk_at dksX5_mark_1 20 rfl rfl)
theorem dX5_mark_45 : decode cX5_mark 45 = .ok (.putfield 19, 3) := dk_181 0 19 (dk_at dksX5_mark_1 21 rfl rfl)
theorem dX5_mark_48 : decode cX5_mark 48 = .ok (.goto (-38), 3) := dk_167 255 218 (dk_at dksX5_mark_2 0 rfl rfl)
theorem dX5_mark_51 : decode cX5_mark 51 = .ok (.aload_n 0, 1) := dk_42 (dk_at dksX5_mark_2 3 rfl rfl)
theorem dX5_mark_52 : decode cX5_mark 52 = .ok (.aload_n 0, 1) := dk_42 (dk_at dksX5_mark_2 4 rfl rfl)
theorem dX5_mark_53 : decode cX5_mark 53 = .ok (.getfield 19, 3) := dk_180 0 19 (dk_at dksX5_mark_2 5 rfl rfl)
theorem dX5_mark_56 : decode cX5_mark 56 = .ok (.aload_n 0, 1) := dk_42 (dk_at dksX5_mark_2 8 rfl rfl)
theorem dX5_mark_57 : decode cX5_mark 57 = .ok (.getfield 38, 3) := dk_180 0 38 (dk_at dksX5_mark_2 9 rfl rfl)
theorem dX5_mark_60 : decode cX5_mark 60 = .ok (.iconst 1, 1) := dk_4 (dk_at dksX5_mark_2 12 rfl rfl)
theorem dX5_mark_61 : decode cX5_mark 61 = .ok (.iadd, 1) := dk_96 (dk_at dksX5_mark_2 13 rfl rfl)
theorem dX5_mark_62 : decode cX5_mark 62 = .ok (.if_icmp .le 8, 3) := dk_164 0 8 (dk_at dksX5_mark_2 14 rfl rfl)
theorem dX5_mark_65 : decode cX5_mark 65 = .ok (.bipush 6, 2) := dk_16 6 (dk_at dksX5_mark_2 17 rfl rfl)
theorem dX5_mark_67 : decode cX5_mark 67 = .ok (.goto 4, 3) := dk_167 0 4 (dk_at dksX5_mark_2 19 rfl rfl)
theorem dX5_mark_70 : decode cX5_mark 70 = .ok (.iconst 1, 1) := dk_4 (dk_at dksX5_mark_2 22 rfl rfl)
theorem dX5_mark_71 : decode cX5_mark 71 = .ok (.putfield 41, 3) := dk_181 0 41 (dk_at dksX5_mark_3 0 rfl rfl)
theorem dX5_mark_74 : decode cX5_mark 74 = .ok (.return_, 1) := dk_177 (dk_at dksX5_mark_3 3 rfl rfl)
theorem q372 : (Jvm.Cond.initialized "ContractLedger$Tokens") ∈ lw_all := lw_g (lw_at lw_m1 15 rfl) rfl
theorem q595 : (Jvm.Cond.instantiable "ContractLedger$Tokens" (5 : Nat)) ∈ lw_all := lw_g (lw_at lw_m1 238 rfl) rfl
theorem q597 : (Jvm.Cond.instanceMethod ({ cls := "ContractLedger$Tokens", name := "<init>", desc := "()V" } : Jvm.MethodName)) ∈ lw_all := lw_g (lw_at lw_m2 0 rfl) rfl
theorem q598 : (Jvm.Cond.code ({ cls := "ContractLedger$Tokens", name := "<init>", desc := "()V" } : Jvm.MethodName) prog_19_method_1_code (1 : Nat) (Option.none : Option Jvm.ClassFile.FieldType)) ∈ lw_all := lw_g (lw_at lw_m2 1 rfl) rfl
theorem q599 : (Jvm.Cond.methodLink "ContractLedger$Tokens" (3 : Nat) ({ cls := "java/lang/Object", name := "<init>", desc := "()V" } : Jvm.MethodName)) ∈ lw_all := lw_g (lw_at lw_m2 2 rfl) rfl
theorem q600 : (Jvm.Cond.fieldLink "ContractLedger$Tokens" (9 : Nat) "ContractLedger$Tokens" "text" "[B") ∈ lw_all := lw_g (lw_at lw_m2 3 rfl) rfl
theorem q602 : (Jvm.Cond.fieldLink "ContractLedger$Tokens" (15 : Nat) "ContractLedger$Tokens" "length" "I") ∈ lw_all := lw_g (lw_at lw_m2 5 rfl) rfl
theorem q604 : (Jvm.Cond.fieldLink "ContractLedger$Tokens" (41 : Nat) "ContractLedger$Tokens" "kind" "I") ∈ lw_all := lw_g (lw_at lw_m2 7 rfl) rfl
theorem q606 : (Jvm.Cond.fieldLink "ContractLedger$Tokens" (38 : Nat) "ContractLedger$Tokens" "start" "I") ∈ lw_all := lw_g (lw_at lw_m2 9 rfl) rfl
theorem q607 : (Jvm.Cond.fieldLink "ContractLedger$Tokens" (19 : Nat) "ContractLedger$Tokens" "end" "I") ∈ lw_all := lw_g (lw_at lw_m2 10 rfl) rfl
theorem q609 : (Jvm.Cond.lays "ContractLedger$Tokens" "ContractLedger$Tokens" "text" "[B") ∈ lw_all := lw_g (lw_at lw_m2 12 rfl) rfl
theorem q610 : (Jvm.Cond.soleField "ContractLedger$Tokens" "text") ∈ lw_all := lw_g (lw_at lw_m2 13 rfl) rfl
theorem q611 : (Jvm.Cond.lays "ContractLedger$Tokens" "ContractLedger$Tokens" "length" "I") ∈ lw_all := lw_g (lw_at lw_m2 14 rfl) rfl
theorem q612 : (Jvm.Cond.soleField "ContractLedger$Tokens" "length") ∈ lw_all := lw_g (lw_at lw_m2 15 rfl) rfl
theorem q613 : (Jvm.Cond.lays "ContractLedger$Tokens" "ContractLedger$Tokens" "kind" "I") ∈ lw_all := lw_g (lw_at lw_m2 16 rfl) rfl
theorem q614 : (Jvm.Cond.soleField "ContractLedger$Tokens" "kind") ∈ lw_all := lw_g (lw_at lw_m2 17 rfl) rfl
theorem q615 : (Jvm.Cond.lays "ContractLedger$Tokens" "ContractLedger$Tokens" "start" "I") ∈ lw_all := lw_g (lw_at lw_m2 18 rfl) rfl
theorem q616 : (Jvm.Cond.soleField "ContractLedger$Tokens" "start") ∈ lw_all := lw_g (lw_at lw_m2 19 rfl) rfl
theorem q617 : (Jvm.Cond.lays "ContractLedger$Tokens" "ContractLedger$Tokens" "end" "I") ∈ lw_all := lw_g (lw_at lw_m2 20 rfl) rfl
theorem q618 : (Jvm.Cond.soleField "ContractLedger$Tokens" "end") ∈ lw_all := lw_g (lw_at lw_m2 21 rfl) rfl
theorem q619 : (Jvm.Cond.superclass "ContractLedger$Tokens" "java/lang/Object") ∈ lw_all := lw_g (lw_at lw_m2 22 rfl) rfl
theorem q1680 : (Jvm.Cond.instanceMethod ({ cls := "ContractLedger$Tokens", name := "begin", desc := "([BI)V" } : Jvm.MethodName)) ∈ lw_all := lw_g (lw_at lw_m6 123 rfl) rfl
theorem q1681 : (Jvm.Cond.selects "ContractLedger$Tokens" ({ cls := "ContractLedger$Tokens", name := "begin", desc := "([BI)V" } : Jvm.MethodName) ({ cls := "ContractLedger$Tokens", name := "begin", desc := "([BI)V" } : Jvm.MethodName)) ∈ lw_all := lw_g (lw_at lw_m6 124 rfl) rfl
theorem q1682 : (Jvm.Cond.code ({ cls := "ContractLedger$Tokens", name := "begin", desc := "([BI)V" } : Jvm.MethodName) prog_19_method_2_code (3 : Nat) (Option.none : Option Jvm.ClassFile.FieldType)) ∈ lw_all := lw_g (lw_at lw_m6 125 rfl) rfl
theorem q1683 : (Jvm.Cond.methodLink "ContractLedger$Tokens" (22 : Nat) ({ cls := "ContractLedger$Tokens", name := "next", desc := "()V" } : Jvm.MethodName)) ∈ lw_all := lw_g (lw_at lw_m6 126 rfl) rfl
theorem q1684 : (Jvm.Cond.instanceMethod ({ cls := "ContractLedger$Tokens", name := "next", desc := "()V" } : Jvm.MethodName)) ∈ lw_all := lw_g (lw_at lw_m6 127 rfl) rfl
theorem q1685 : (Jvm.Cond.selects "ContractLedger$Tokens" ({ cls := "ContractLedger$Tokens", name := "next", desc := "()V" } : Jvm.MethodName) ({ cls := "ContractLedger$Tokens", name := "next", desc := "()V" } : Jvm.MethodName)) ∈ lw_all := lw_g (lw_at lw_m6 128 rfl) rfl
theorem q1686 : (Jvm.Cond.code ({ cls := "ContractLedger$Tokens", name := "next", desc := "()V" } : Jvm.MethodName) prog_19_method_5_code (3 : Nat) (Option.none : Option Jvm.ClassFile.FieldType)) ∈ lw_all := lw_g (lw_at lw_m6 129 rfl) rfl
theorem q1687 : (Jvm.Cond.methodLink "ContractLedger$Tokens" (35 : Nat) ({ cls := "ContractLedger$Tokens", name := "skip", desc := "()V" } : Jvm.MethodName)) ∈ lw_all := lw_g (lw_at lw_m6 130 rfl) rfl
theorem q1688 : (Jvm.Cond.privateMethod ({ cls := "ContractLedger$Tokens", name := "skip", desc := "()V" } : Jvm.MethodName)) ∈ lw_tbl := lw_at lw_m6 131 rfl
theorem q1689 : (Jvm.Cond.instanceMethod ({ cls := "ContractLedger$Tokens", name := "skip", desc := "()V" } : Jvm.MethodName)) ∈ lw_all := lw_g (lw_at lw_m6 132 rfl) rfl
theorem q1690 : (Jvm.Cond.code ({ cls := "ContractLedger$Tokens", name := "skip", desc := "()V" } : Jvm.MethodName) prog_19_method_4_code (2 : Nat) (Option.none : Option Jvm.ClassFile.FieldType)) ∈ lw_all := lw_g (lw_at lw_m6 133 rfl) rfl
theorem q1691 : (Jvm.Cond.methodLink "ContractLedger$Tokens" (25 : Nat) ({ cls := "ContractLedger$Tokens", name := "at", desc := "(I)I" } : Jvm.MethodName)) ∈ lw_all := lw_g (lw_at lw_m6 134 rfl) rfl
theorem q1692 : (Jvm.Cond.privateMethod ({ cls := "ContractLedger$Tokens", name := "at", desc := "(I)I" } : Jvm.MethodName)) ∈ lw_tbl := lw_at lw_m6 135 rfl
theorem q1693 : (Jvm.Cond.instanceMethod ({ cls := "ContractLedger$Tokens", name := "at", desc := "(I)I" } : Jvm.MethodName)) ∈ lw_all := lw_g (lw_at lw_m6 136 rfl) rfl
theorem q1694 : (Jvm.Cond.code ({ cls := "ContractLedger$Tokens", name := "at", desc := "(I)I" } : Jvm.MethodName) prog_19_method_3_code (2 : Nat) (Option.some Jvm.ClassFile.FieldType.int)) ∈ lw_all := lw_g (lw_at lw_m6 137 rfl) rfl
theorem q1695 : (Jvm.Cond.methodLink "ContractLedger$Tokens" (29 : Nat) ({ cls := "ContractLedger$Signs", name := "isBlank", desc := "(I)Z" } : Jvm.MethodName)) ∈ lw_all := lw_g (lw_at lw_m6 138 rfl) rfl
theorem q1698 : (Jvm.Cond.methodLink "ContractLedger$Tokens" (44 : Nat) ({ cls := "ContractLedger$Tokens", name := "bytes", desc := "()V" } : Jvm.MethodName)) ∈ lw_all := lw_g (lw_at lw_m6 141 rfl) rfl
theorem q1699 : (Jvm.Cond.privateMethod ({ cls := "ContractLedger$Tokens", name := "bytes", desc := "()V" } : Jvm.MethodName)) ∈ lw_tbl := lw_at lw_m6 142 rfl
theorem q1700 : (Jvm.Cond.instanceMethod ({ cls := "ContractLedger$Tokens", name := "bytes", desc := "()V" } : Jvm.MethodName)) ∈ lw_all := lw_g (lw_at lw_m6 143 rfl) rfl
theorem q1701 : (Jvm.Cond.code ({ cls := "ContractLedger$Tokens", name := "bytes", desc := "()V" } : Jvm.MethodName) prog_19_method_6_code (1 : Nat) (Option.none : Option Jvm.ClassFile.FieldType)) ∈ lw_all := lw_g (lw_at lw_m6 144 rfl) rfl
theorem q1702 : (Jvm.Cond.methodLink "ContractLedger$Tokens" (65 : Nat) ({ cls := "ContractLedger$Signs", name := "hex", desc := "(I)I" } : Jvm.MethodName)) ∈ lw_all := lw_g (lw_at lw_m6 145 rfl) rfl
theorem q1708 : (Jvm.Cond.methodLink "ContractLedger$Tokens" (47 : Nat) ({ cls := "ContractLedger$Signs", name := "isDigit", desc := "(I)Z" } : Jvm.MethodName)) ∈ lw_all := lw_g (lw_at lw_m6 151 rfl) rfl
theorem q1709 : (Jvm.Cond.methodLink "ContractLedger$Tokens" (50 : Nat) ({ cls := "ContractLedger$Tokens", name := "number", desc := "()V" } : Jvm.MethodName)) ∈ lw_all := lw_g (lw_at lw_m6 152 rfl) rfl
theorem q1710 : (Jvm.Cond.privateMethod ({ cls := "ContractLedger$Tokens", name := "number", desc := "()V" } : Jvm.MethodName)) ∈ lw_tbl := lw_at lw_m6 153 rfl
theorem q1711 : (Jvm.Cond.instanceMethod ({ cls := "ContractLedger$Tokens", name := "number", desc := "()V" } : Jvm.MethodName)) ∈ lw_all := lw_g (lw_at lw_m6 154 rfl) rfl
theorem q1712 : (Jvm.Cond.code ({ cls := "ContractLedger$Tokens", name := "number", desc := "()V" } : Jvm.MethodName) prog_19_method_7_code (1 : Nat) (Option.none : Option Jvm.ClassFile.FieldType)) ∈ lw_all := lw_g (lw_at lw_m6 155 rfl) rfl
theorem q1713 : (Jvm.Cond.methodLink "ContractLedger$Tokens" (53 : Nat) ({ cls := "ContractLedger$Tokens", name := "string", desc := "()V" } : Jvm.MethodName)) ∈ lw_all := lw_g (lw_at lw_m6 156 rfl) rfl
theorem q1714 : (Jvm.Cond.privateMethod ({ cls := "ContractLedger$Tokens", name := "string", desc := "()V" } : Jvm.MethodName)) ∈ lw_tbl := lw_at lw_m6 157 rfl
theorem q1715 : (Jvm.Cond.instanceMethod ({ cls := "ContractLedger$Tokens", name := "string", desc := "()V" } : Jvm.MethodName)) ∈ lw_all := lw_g (lw_at lw_m6 158 rfl) rfl
theorem q1716 : (Jvm.Cond.code ({ cls := "ContractLedger$Tokens", name := "string", desc := "()V" } : Jvm.MethodName) prog_19_method_8_code (2 : Nat) (Option.none : Option Jvm.ClassFile.FieldType)) ∈ lw_all := lw_g (lw_at lw_m6 159 rfl) rfl
theorem q1717 : (Jvm.Cond.methodLink "ContractLedger$Tokens" (68 : Nat) ({ cls := "ContractLedger$Signs", name := "isPlain", desc := "(I)Z" } : Jvm.MethodName)) ∈ lw_all := lw_g (lw_at lw_m6 160 rfl) rfl
theorem q1720 : (Jvm.Cond.methodLink "ContractLedger$Tokens" (56 : Nat) ({ cls := "ContractLedger$Signs", name := "isLetter", desc := "(I)Z" } : Jvm.MethodName)) ∈ lw_all := lw_g (lw_at lw_m6 163 rfl) rfl
theorem q1723 : (Jvm.Cond.methodLink "ContractLedger$Tokens" (59 : Nat) ({ cls := "ContractLedger$Signs", name := "isPart", desc := "(I)Z" } : Jvm.MethodName)) ∈ lw_all := lw_g (lw_at lw_m6 166 rfl) rfl
theorem q1727 : (Jvm.Cond.methodLink "ContractLedger$Tokens" (62 : Nat) ({ cls := "ContractLedger$Tokens", name := "mark", desc := "()V" } : Jvm.MethodName)) ∈ lw_all := lw_g (lw_at lw_m6 170 rfl) rfl
theorem q1728 : (Jvm.Cond.privateMethod ({ cls := "ContractLedger$Tokens", name := "mark", desc := "()V" } : Jvm.MethodName)) ∈ lw_tbl := lw_at lw_m6 171 rfl
theorem q1729 : (Jvm.Cond.instanceMethod ({ cls := "ContractLedger$Tokens", name := "mark", desc := "()V" } : Jvm.MethodName)) ∈ lw_all := lw_g (lw_at lw_m6 172 rfl) rfl
theorem q1730 : (Jvm.Cond.code ({ cls := "ContractLedger$Tokens", name := "mark", desc := "()V" } : Jvm.MethodName) prog_19_method_9_code (1 : Nat) (Option.none : Option Jvm.ClassFile.FieldType)) ∈ lw_all := lw_g (lw_at lw_m6 173 rfl) rfl
set_option maxRecDepth 100000
abbrev cX6_init : ByteArray := prog_23_method_1_code
def yX6_init : MethodName := ⟨RX6, "<init>", "(I)V"⟩
def dkwX6_init_0 : List UInt8 := [42, 183, 0, 1, 42, 27, 188, 10, 181, 0, 7, 177]
abbrev dktX6_init_0 : List UInt8 := dkwX6_init_0 ++ []
theorem dksX6_init_0 : cX6_init.data.toList.drop 0 = dktX6_init_0 := by decide +kernel
theorem dX6_init_0 : decode cX6_init 0 = .ok (.aload_n 0, 1) := dk_42 (dk_at dksX6_init_0 0 rfl rfl)
theorem dX6_init_1 : decode cX6_init 1 = .ok (.invokespecial 1, 3) := dk_183 0 1 (dk_at dksX6_init_0 1 rfl rfl)
theorem dX6_init_4 : decode cX6_init 4 = .ok (.aload_n 0, 1) := dk_42 (dk_at dksX6_init_0 4 rfl rfl)
theorem dX6_init_5 : decode cX6_init 5 = .ok (.iload_n 1, 1) := dk_27 (dk_at dksX6_init_0 5 rfl rfl)
theorem dX6_init_6 : decode cX6_init 6 = .ok (.newarray .int, 2) := dk_188_10 (dk_at dksX6_init_0 6 rfl rfl)
theorem dX6_init_8 : decode cX6_init 8 = .ok (.putfield 7, 3) := dk_181 0 7 (dk_at dksX6_init_0 8 rfl rfl)
theorem dX6_init_11 : decode cX6_init 11 = .ok (.return_, 1) := dk_177 (dk_at dksX6_init_0 11 rfl rfl)
abbrev cX6_set : ByteArray := prog_23_method_5_code
def yX6_set : MethodName := ⟨RX6, "set", "(J)V"⟩
def dkwX6_set_3 : List UInt8 := [177]
abbrev dktX6_set_3 : List UInt8 := dkwX6_set_3 ++ []
def dkwX6_set_2 : List UInt8 := [180, 0, 13, 90, 4, 96, 181, 0, 13, 33, 20, 0, 30, 127, 136, 79, 33, 16, 16, 125, 66, 167, 255, 223]
abbrev dktX6_set_2 : List UInt8 := dkwX6_set_2 ++ dktX6_set_3
def dkwX6_set_1 : List UInt8 := [156, 0, 8, 31, 117, 167, 0, 4, 31, 66, 33, 9, 148, 153, 0, 33, 42, 180, 0, 7, 42, 89]
abbrev dktX6_set_1 : List UInt8 := dkwX6_set_1 ++ dktX6_set_2
def dkwX6_set_0 : List UInt8 := [42, 182, 0, 27, 42, 31, 9, 148, 156, 0, 7, 4, 167, 0, 4, 3, 181, 0, 17, 31, 9, 148]
abbrev dktX6_set_0 : List UInt8 := dkwX6_set_0 ++ dktX6_set_1
theorem dksX6_set_0 : cX6_set.data.toList.drop 0 = dktX6_set_0 := by decide +kernel
theorem dksX6_set_1 : cX6_set.data.toList.drop 22 = dktX6_set_1 := dk_seg dksX6_set_0 22 rfl rfl
theorem dksX6_set_2 : cX6_set.data.toList.drop 44 = dktX6_set_2 := dk_seg dksX6_set_1 22 rfl rfl
theorem dksX6_set_3 : cX6_set.data.toList.drop 68 = dktX6_set_3 := dk_seg dksX6_set_2 24 rfl rfl
theorem dX6_set_0 : decode cX6_set 0 = .ok (.aload_n 0, 1) := dk_42 (dk_at dksX6_set_0 0 rfl rfl)
theorem dX6_set_1 : decode cX6_set 1 = .ok (.invokevirtual 27, 3) := dk_182 0 27 (dk_at dksX6_set_0 1 rfl rfl)
theorem dX6_set_4 : decode cX6_set 4 = .ok (.aload_n 0, 1) := dk_42 (dk_at dksX6_set_0 4 rfl rfl)
theorem dX6_set_5 : decode cX6_set 5 = .ok (.lload_n 1, 1) := dk_31 (dk_at dksX6_set_0 5 rfl rfl)
theorem dX6_set_6 : decode cX6_set 6 = .ok (.lconst 0, 1) := dk_9 (dk_at dksX6_set_0 6 rfl rfl)
theorem dX6_set_7 : decode cX6_set 7 = .ok (.lcmp, 1) := dk_148 (dk_at dksX6_set_0 7 rfl rfl)
theorem dX6_set_8 : decode cX6_set 8 = .ok (.ifCond .ge 7, 3) := dk_156 0 7 (dk_at dksX6_set_0 8 rfl rfl)
theorem dX6_set_11 : decode cX6_set 11 = .ok (.iconst 1, 1) := dk_4 (dk_at dksX6_set_0 11 rfl rfl)
theorem dX6_set_12 : decode cX6_set 12 = .ok (.goto 4, 3) := dk_167 0 4 (dk_at dksX6_set_0 12 rfl rfl)
theorem dX6_set_15 : decode cX6_set 15 = .ok (.iconst 0, 1) := dk_3 (dk_at dksX6_set_0 15 rfl rfl)
theorem dX6_set_16 : decode cX6_set 16 = .ok (.putfield 17, 3) := dk_181 0 17 (dk_at dksX6_set_0 16 rfl rfl)
theorem dX6_set_19 : decode cX6_set 19 = .ok (.lload_n 1, 1) := dk_31 (dk_at dksX6_set_0 19 rfl rfl)
theorem dX6_set_20 : decode cX6_set 20 = .ok (.lconst 0, 1) := dk_9 (dk_at dksX6_set_0 20 rfl rfl)
theorem dX6_set_21 : decode cX6_set 21 = .ok (.lcmp, 1) := dk_148 (dk_at dksX6_set_0 21 rfl rfl)
theorem dX6_set_22 : decode cX6_set 22 = .ok (.ifCond .ge 8, 3) := dk_156 0 8 (dk_at dksX6_set_1 0 rfl rfl)
theorem dX6_set_25 : decode cX6_set 25 = .ok (.lload_n 1, 1) := dk_31 (dk_at dksX6_set_1 3 rfl rfl)
theorem dX6_set_26 : decode cX6_set 26 = .ok (.lneg, 1) := dk_117 (dk_at dksX6_set_1 4 rfl rfl)
theorem dX6_set_27 : decode cX6_set 27 = .ok (.goto 4, 3) := dk_167 0 4 (dk_at dksX6_set_1 5 rfl rfl)
theorem dX6_set_30 : decode cX6_set 30 = .ok (.lload_n 1, 1) := dk_31 (dk_at dksX6_set_1 8 rfl rfl)
theorem dX6_set_31 : decode cX6_set 31 = .ok (.lstore_n 3, 1) := dk_66 (dk_at dksX6_set_1 9 rfl rfl)
theorem dX6_set_32 : decode cX6_set 32 = .ok (.lload_n 3, 1) := dk_33 (dk_at dksX6_set_1 10 rfl rfl)
theorem dX6_set_33 : decode cX6_set 33 = .ok (.lconst 0, 1) := dk_9 (dk_at dksX6_set_1 11 rfl rfl)
theorem dX6_set_34 : decode cX6_set 34 = .ok (.lcmp, 1) := dk_148 (dk_at dksX6_set_1 12 rfl rfl)
theorem dX6_set_35 : decode cX6_set 35 = .ok (.ifCond .eq 33, 3) := dk_153 0 33 (dk_at dksX6_set_1 13 rfl rfl)
theorem dX6_set_38 : decode cX6_set 38 = .ok (.aload_n 0, 1) := dk_42 (dk_at dksX6_set_1 16 rfl rfl)
theorem dX6_set_39 : decode cX6_set 39 = .ok (.getfield 7, 3) := dk_180 0 7 (dk_at dksX6_set_1 17 rfl rfl)
theorem dX6_set_42 : decode cX6_set 42 = .ok (.aload_n 0, 1) := dk_42 (dk_at dksX6_set_1 20 rfl rfl)
theorem dX6_set_43 : decode cX6_set 43 = .ok (.dup, 1) := dk_89 (dk_at dksX6_set_1 21 rfl rfl)
theorem dX6_set_44 : decode cX6_set 44 = .ok (.getfield 13, 3) := dk_180 0 13 (dk_at dksX6_set_2 0 rfl rfl)
theorem dX6_set_47 : decode cX6_set 47 = .ok (.dup_x1, 1) := dk_90 (dk_at dksX6_set_2 3 rfl rfl)
theorem dX6_set_48 : decode cX6_set 48 = .ok (.iconst 1, 1) := dk_4 (dk_at dksX6_set_2 4 rfl rfl)
theorem dX6_set_49 : decode cX6_set 49 = .ok (.iadd, 1) := dk_96 (dk_at dksX6_set_2 5 rfl rfl)
theorem dX6_set_50 : decode cX6_set 50 = .ok (.putfield 13, 3) := dk_181 0 13 (dk_at dksX6_set_2 6 rfl rfl)
theorem dX6_set_53 : decode cX6_set 53 = .ok (.lload_n 3, 1) := dk_33 (dk_at dksX6_set_2 9 rfl rfl)
theorem dX6_set_54 : decode cX6_set 54 = .ok (.ldc2_w 30, 3) := dk_20 0 30 (dk_at dksX6_set_2 10 rfl rfl)
theorem dX6_set_57 : decode cX6_set 57 = .ok (.land, 1) := dk_127 (dk_at dksX6_set_2 13 rfl rfl)
theorem dX6_set_58 : decode cX6_set 58 = .ok (.l2i, 1) := dk_136 (dk_at dksX6_set_2 14 rfl rfl)
theorem dX6_set_59 : decode cX6_set 59 = .ok (.iastore, 1) := dk_79 (dk_at dksX6_set_2 15 rfl rfl)
theorem dX6_set_60 : decode cX6_set 60 = .ok (.lload_n 3, 1) := dk_33 (dk_at dksX6_set_2 16 rfl rfl)
theorem dX6_set_61 : decode cX6_set 61 = .ok (.bipush 16, 2) := dk_16 16 (dk_at dksX6_set_2 17 rfl rfl)
theorem dX6_set_63 : decode cX6_set 63 = .ok (.lushr, 1) := dk_125 (dk_at dksX6_set_2 19 rfl rfl)
theorem dX6_set_64 : decode cX6_set 64 = .ok (.lstore_n 3, 1) := dk_66 (dk_at dksX6_set_2 20 rfl rfl)
theorem dX6_set_65 : decode cX6_set 65 = .ok (.goto (-33), 3) := dk_167 255 223 (dk_at dksX6_set_2 21 rfl rfl)
theorem dX6_set_68 : decode cX6_set 68 = .ok (.return_, 1) := dk_177 (dk_at dksX6_set_3 0 rfl rfl)
abbrev cX6_clear : ByteArray := prog_23_method_3_code
def yX6_clear : MethodName := ⟨RX6, "clear", "()V"⟩
def dkwX6_clear_0 : List UInt8 := [42, 3, 181, 0, 13, 42, 3, 181, 0, 17, 177]
abbrev dktX6_clear_0 : List UInt8 := dkwX6_clear_0 ++ []
theorem dksX6_clear_0 : cX6_clear.data.toList.drop 0 = dktX6_clear_0 := by decide +kernel
theorem dX6_clear_0 : decode cX6_clear 0 = .ok (.aload_n 0, 1) := dk_42 (dk_at dksX6_clear_0 0 rfl rfl)
theorem dX6_clear_1 : decode cX6_clear 1 = .ok (.iconst 0, 1) := dk_3 (dk_at dksX6_clear_0 1 rfl rfl)
theorem dX6_clear_2 : decode cX6_clear 2 = .ok (.putfield 13, 3) := dk_181 0 13 (dk_at dksX6_clear_0 2 rfl rfl)
theorem dX6_clear_5 : decode cX6_clear 5 = .ok (.aload_n 0, 1) := dk_42 (dk_at dksX6_clear_0 5 rfl rfl)
theorem dX6_clear_6 : decode cX6_clear 6 = .ok (.iconst 0, 1) := dk_3 (dk_at dksX6_clear_0 6 rfl rfl)
theorem dX6_clear_7 : decode cX6_clear 7 = .ok (.putfield 17, 3) := dk_181 0 17 (dk_at dksX6_clear_0 7 rfl rfl)
theorem dX6_clear_10 : decode cX6_clear 10 = .ok (.return_, 1) := dk_177 (dk_at dksX6_clear_0 10 rfl rfl)
abbrev cX6_bits : ByteArray := prog_23_method_8_code
def yX6_bits : MethodName := ⟨RX6, "bits", "()I"⟩
def dkwX6_bits_1 : List UInt8 := [180, 0, 13, 4, 100, 46, 184, 0, 32, 100, 16, 16, 96, 172]
abbrev dktX6_bits_1 : List UInt8 := dkwX6_bits_1 ++ []
def dkwX6_bits_0 : List UInt8 := [42, 180, 0, 13, 154, 0, 7, 3, 167, 0, 28, 16, 16, 42, 180, 0, 13, 104, 42, 180, 0, 7, 42]
abbrev dktX6_bits_0 : List UInt8 := dkwX6_bits_0 ++ dktX6_bits_1
theorem dksX6_bits_0 : cX6_bits.data.toList.drop 0 = dktX6_bits_0 := by decide +kernel
theorem dksX6_bits_1 : cX6_bits.data.toList.drop 23 = dktX6_bits_1 := dk_seg dksX6_bits_0 23 rfl rfl
theorem dX6_bits_0 : decode cX6_bits 0 = .ok (.aload_n 0, 1) := dk_42 (dk_at dksX6_bits_0 0 rfl rfl)
theorem dX6_bits_1 : decode cX6_bits 1 = .ok (.getfield 13, 3) := dk_180 0 13 (dk_at dksX6_bits_0 1 rfl rfl)
theorem dX6_bits_4 : decode cX6_bits 4 = .ok (.ifCond .ne 7, 3) := dk_154 0 7 (dk_at dksX6_bits_0 4 rfl rfl)
theorem dX6_bits_7 : decode cX6_bits 7 = .ok (.iconst 0, 1) := dk_3 (dk_at dksX6_bits_0 7 rfl rfl)
theorem dX6_bits_8 : decode cX6_bits 8 = .ok (.goto 28, 3) := dk_167 0 28 (dk_at dksX6_bits_0 8 rfl rfl)
theorem dX6_bits_11 : decode cX6_bits 11 = .ok (.bipush 16, 2) := dk_16 16 (dk_at dksX6_bits_0 11 rfl rfl)
theorem dX6_bits_13 : decode cX6_bits 13 = .ok (.aload_n 0, 1) := dk_42 (dk_at dksX6_bits_0 13 rfl rfl)
theorem dX6_bits_14 : decode cX6_bits 14 = .ok (.getfield 13, 3) := dk_180 0 13 (dk_at dksX6_bits_0 14 rfl rfl)
theorem dX6_bits_17 : decode cX6_bits 17 = .ok (.imul, 1) := dk_104 (dk_at dksX6_bits_0 17 rfl rfl)
theorem dX6_bits_18 : decode cX6_bits 18 = .ok (.aload_n 0, 1) := dk_42 (dk_at dksX6_bits_0 18 rfl rfl)
theorem dX6_bits_19 : decode cX6_bits 19 = .ok (.getfield 7, 3) := dk_180 0 7 (dk_at dksX6_bits_0 19 rfl rfl)
theorem dX6_bits_22 : decode cX6_bits 22 = .ok (.aload_n 0, 1) := dk_42 (dk_at dksX6_bits_0 22 rfl rfl)
theorem dX6_bits_23 : decode cX6_bits 23 = .ok (.getfield 13, 3) := dk_180 0 13 (dk_at dksX6_bits_1 0 rfl rfl)
theorem dX6_bits_26 : decode cX6_bits 26 = .ok (.iconst 1, 1) := dk_4 (dk_at dksX6_bits_1 3 rfl rfl)
theorem dX6_bits_27 : decode cX6_bits 27 = .ok (.isub, 1) := dk_100 (dk_at dksX6_bits_1 4 rfl rfl)
theorem dX6_bits_28 : decode cX6_bits 28 = .ok (.iaload, 1) := dk_46 (dk_at dksX6_bits_1 5 rfl rfl)
theorem dX6_bits_29 : decode cX6_bits 29 = .ok (.invokestatic 32, 3) := dk_184 0 32 (dk_at dksX6_bits_1 6 rfl rfl)
theorem dX6_bits_32 : decode cX6_bits 32 = .ok (.isub, 1) := dk_100 (dk_at dksX6_bits_1 9 rfl rfl)
theorem dX6_bits_33 : decode cX6_bits 33 = .ok (.bipush 16, 2) := dk_16 16 (dk_at dksX6_bits_1 10 rfl rfl)
theorem dX6_bits_35 : decode cX6_bits 35 = .ok (.iadd, 1) := dk_96 (dk_at dksX6_bits_1 12 rfl rfl)
theorem dX6_bits_36 : decode cX6_bits 36 = .ok (.ireturn, 1) := dk_172 (dk_at dksX6_bits_1 13 rfl rfl)
abbrev cX6_isZero : ByteArray := prog_23_method_2_code
def yX6_isZero : MethodName := ⟨RX6, "isZero", "()Z"⟩
def dkwX6_isZero_0 : List UInt8 := [42, 180, 0, 13, 154, 0, 7, 4, 167, 0, 4, 3, 172]
abbrev dktX6_isZero_0 : List UInt8 := dkwX6_isZero_0 ++ []
theorem dksX6_isZero_0 : cX6_isZero.data.toList.drop 0 = dktX6_isZero_0 := by decide +kernel
theorem dX6_isZero_0 : decode cX6_isZero 0 = .ok (.aload_n 0, 1) := dk_42 (dk_at dksX6_isZero_0 0 rfl rfl)
theorem dX6_isZero_1 : decode cX6_isZero 1 = .ok (.getfield 13, 3) := dk_180 0 13 (dk_at dksX6_isZero_0 1 rfl rfl)
theorem dX6_isZero_4 : decode cX6_isZero 4 = .ok (.ifCond .ne 7, 3) := dk_154 0 7 (dk_at dksX6_isZero_0 4 rfl rfl)
theorem dX6_isZero_7 : decode cX6_isZero 7 = .ok (.iconst 1, 1) := dk_4 (dk_at dksX6_isZero_0 7 rfl rfl)
theorem dX6_isZero_8 : decode cX6_isZero 8 = .ok (.goto 4, 3) := dk_167 0 4 (dk_at dksX6_isZero_0 8 rfl rfl)
theorem dX6_isZero_11 : decode cX6_isZero 11 = .ok (.iconst 0, 1) := dk_3 (dk_at dksX6_isZero_0 11 rfl rfl)
theorem dX6_isZero_12 : decode cX6_isZero 12 = .ok (.ireturn, 1) := dk_172 (dk_at dksX6_isZero_0 12 rfl rfl)
abbrev cX6_at : ByteArray := prog_23_method_7_code
def yX6_at : MethodName := ⟨RX6, "at", "(I)I"⟩
def dkwX6_at_0 : List UInt8 := [27, 42, 180, 0, 13, 162, 0, 12, 42, 180, 0, 7, 27, 46, 167, 0, 4, 3, 172]
abbrev dktX6_at_0 : List UInt8 := dkwX6_at_0 ++ []
theorem dksX6_at_0 : cX6_at.data.toList.drop 0 = dktX6_at_0 := by decide +kernel
theorem dX6_at_0 : decode cX6_at 0 = .ok (.iload_n 1, 1) := dk_27 (dk_at dksX6_at_0 0 rfl rfl)
theorem dX6_at_1 : decode cX6_at 1 = .ok (.aload_n 0, 1) := dk_42 (dk_at dksX6_at_0 1 rfl rfl)
theorem dX6_at_2 : decode cX6_at 2 = .ok (.getfield 13, 3) := dk_180 0 13 (dk_at dksX6_at_0 2 rfl rfl)
theorem dX6_at_5 : decode cX6_at 5 = .ok (.if_icmp .ge 12, 3) := dk_162 0 12 (dk_at dksX6_at_0 5 rfl rfl)
theorem dX6_at_8 : decode cX6_at 8 = .ok (.aload_n 0, 1) := dk_42 (dk_at dksX6_at_0 8 rfl rfl)
theorem dX6_at_9 : decode cX6_at 9 = .ok (.getfield 7, 3) := dk_180 0 7 (dk_at dksX6_at_0 9 rfl rfl)
theorem dX6_at_12 : decode cX6_at 12 = .ok (.iload_n 1, 1) := dk_27 (dk_at dksX6_at_0 12 rfl rfl)
theorem dX6_at_13 : decode cX6_at 13 = .ok (.iaload, 1) := dk_46 (dk_at dksX6_at_0 13 rfl rfl)
theorem dX6_at_14 : decode cX6_at 14 = .ok (.goto 4, 3) := dk_167 0 4 (dk_at dksX6_at_0 14 rfl rfl)
theorem dX6_at_17 : decode cX6_at 17 = .ok (.iconst 0, 1) := dk_3 (dk_at dksX6_at_0 17 rfl rfl)
theorem dX6_at_18 : decode cX6_at 18 = .ok (.ireturn, 1) := dk_172 (dk_at dksX6_at_0 18 rfl rfl)
abbrev cX6_trim : ByteArray := prog_23_method_6_code
def yX6_trim : MethodName := ⟨RX6, "trim", "(I)V"⟩
def dkwX6_trim_2 : List UInt8 := [180, 0, 13, 158, 0, 7, 4, 167, 0, 4, 3, 126, 181, 0, 17, 177]
abbrev dktX6_trim_2 : List UInt8 := dkwX6_trim_2 ++ []
def dkwX6_trim_1 : List UInt8 := [154, 0, 16, 42, 89, 180, 0, 13, 4, 100, 181, 0, 13, 167, 255, 225, 42, 89, 180, 0, 17, 42]
abbrev dktX6_trim_1 : List UInt8 := dkwX6_trim_1 ++ dktX6_trim_2
def dkwX6_trim_0 : List UInt8 := [42, 27, 181, 0, 13, 42, 180, 0, 13, 158, 0, 30, 42, 180, 0, 7, 42, 180, 0, 13, 4, 100, 46]
abbrev dktX6_trim_0 : List UInt8 := dkwX6_trim_0 ++ dktX6_trim_1
theorem dksX6_trim_0 : cX6_trim.data.toList.drop 0 = dktX6_trim_0 := by decide +kernel
theorem dksX6_trim_1 : cX6_trim.data.toList.drop 23 = dktX6_trim_1 := dk_seg dksX6_trim_0 23 rfl rfl
theorem dksX6_trim_2 : cX6_trim.data.toList.drop 45 = dktX6_trim_2 := dk_seg dksX6_trim_1 22 rfl rfl
theorem dX6_trim_0 : decode cX6_trim 0 = .ok (.aload_n 0, 1) := dk_42 (dk_at dksX6_trim_0 0 rfl rfl)
theorem dX6_trim_1 : decode cX6_trim 1 = .ok (.iload_n 1, 1) := dk_27 (dk_at dksX6_trim_0 1 rfl rfl)
theorem dX6_trim_2 : decode cX6_trim 2 = .ok (.putfield 13, 3) := dk_181 0 13 (dk_at dksX6_trim_0 2 rfl rfl)
theorem dX6_trim_5 : decode cX6_trim 5 = .ok (.aload_n 0, 1) := dk_42 (dk_at dksX6_trim_0 5 rfl rfl)
theorem dX6_trim_6 : decode cX6_trim 6 = .ok (.getfield 13, 3) := dk_180 0 13 (dk_at dksX6_trim_0 6 rfl rfl)
theorem dX6_trim_9 : decode cX6_trim 9 = .ok (.ifCond .le 30, 3) := dk_158 0 30 (dk_at dksX6_trim_0 9 rfl rfl)
theorem dX6_trim_12 : decode cX6_trim 12 = .ok (.aload_n 0, 1) := dk_42 (dk_at dksX6_trim_0 12 rfl rfl)
theorem dX6_trim_13 : decode cX6_trim 13 = .ok (.getfield 7, 3) := dk_180 0 7 (dk_at dksX6_trim_0 13 rfl rfl)
theorem dX6_trim_16 : decode cX6_trim 16 = .ok (.aload_n 0, 1) := dk_42 (dk_at dksX6_trim_0 16 rfl rfl)
theorem dX6_trim_17 : decode cX6_trim 17 = .ok (.getfield 13, 3) := dk_180 0 13 (dk_at dksX6_trim_0 17 rfl rfl)
theorem dX6_trim_20 : decode cX6_trim 20 = .ok (.iconst 1, 1) := dk_4 (dk_at dksX6_trim_0 20 rfl rfl)
theorem dX6_trim_21 : decode cX6_trim 21 = .ok (.isub, 1) := dk_100 (dk_at dksX6_trim_0 21 rfl rfl)
theorem dX6_trim_22 : decode cX6_trim 22 = .ok (.iaload, 1) := dk_46 (dk_at dksX6_trim_0 22 rfl rfl)
theorem dX6_trim_23 : decode cX6_trim 23 = .ok (.ifCond .ne 16, 3) := dk_154 0 16 (dk_at dksX6_trim_1 0 rfl rfl)
theorem dX6_trim_26 : decode cX6_trim 26 = .ok (.aload_n 0, 1) := dk_42 (dk_at dksX6_trim_1 3 rfl rfl)
theorem dX6_trim_27 : decode cX6_trim 27 = .ok (.dup, 1) := dk_89 (dk_at dksX6_trim_1 4 rfl rfl)
theorem dX6_trim_28 : decode cX6_trim 28 = .ok (.getfield 13, 3) := dk_180 0 13 (dk_at dksX6_trim_1 5 rfl rfl)
theorem dX6_trim_31 : decode cX6_trim 31 = .ok (.iconst 1, 1) := dk_4 (dk_at dksX6_trim_1 8 rfl rfl)
theorem dX6_trim_32 : decode cX6_trim 32 = .ok (.isub, 1) := dk_100 (dk_at dksX6_trim_1 9 rfl rfl)
theorem dX6_trim_33 : decode cX6_trim 33 = .ok (.putfield 13, 3) := dk_181 0 13 (dk_at dksX6_trim_1 10 rfl rfl)
theorem dX6_trim_36 : decode cX6_trim 36 = .ok (.goto (-31), 3) := dk_167 255 225 (dk_at dksX6_trim_1 13 rfl rfl)
theorem dX6_trim_39 : decode cX6_trim 39 = .ok (.aload_n 0, 1) := dk_42 (dk_at dksX6_trim_1 16 rfl rfl)
theorem dX6_trim_40 : decode cX6_trim 40 = .ok (.dup, 1) := dk_89 (dk_at dksX6_trim_1 17 rfl rfl)
theorem dX6_trim_41 : decode cX6_trim 41 = .ok (.getfield 17, 3) := dk_180 0 17 (dk_at dksX6_trim_1 18 rfl rfl)
theorem dX6_trim_44 : decode cX6_trim 44 = .ok (.aload_n 0, 1) := dk_42 (dk_at dksX6_trim_1 21 rfl rfl)
theorem dX6_trim_45 : decode cX6_trim 45 = .ok (.getfield 13, 3) := dk_180 0 13 (dk_at dksX6_trim_2 0 rfl rfl)
theorem dX6_trim_48 : decode cX6_trim 48 = .ok (.ifCond .le 7, 3) := dk_158 0 7 (dk_at dksX6_trim_2 3 rfl rfl)
theorem dX6_trim_51 : decode cX6_trim 51 = .ok (.iconst 1, 1) := dk_4 (dk_at dksX6_trim_2 6 rfl rfl)
theorem dX6_trim_52 : decode cX6_trim 52 = .ok (.goto 4, 3) := dk_167 0 4 (dk_at dksX6_trim_2 7 rfl rfl)
theorem dX6_trim_55 : decode cX6_trim 55 = .ok (.iconst 0, 1) := dk_3 (dk_at dksX6_trim_2 10 rfl rfl)
theorem dX6_trim_56 : decode cX6_trim 56 = .ok (.iand, 1) := dk_126 (dk_at dksX6_trim_2 11 rfl rfl)
theorem dX6_trim_57 : decode cX6_trim 57 = .ok (.putfield 17, 3) := dk_181 0 17 (dk_at dksX6_trim_2 12 rfl rfl)
theorem dX6_trim_60 : decode cX6_trim 60 = .ok (.return_, 1) := dk_177 (dk_at dksX6_trim_2 15 rfl rfl)
abbrev cX6_compare : ByteArray := prog_23_method_11_code
def yX6_compare : MethodName := ⟨RX6, "compare", "(LContractLedger$Whole;)I"⟩
def dkwX6_compare_1 : List UInt8 := [42, 180, 0, 17, 153, 0, 11, 43, 42, 182, 0, 42, 167, 0, 8, 42, 43, 182, 0, 42, 172]
abbrev dktX6_compare_1 : List UInt8 := dkwX6_compare_1 ++ []
def dkwX6_compare_0 : List UInt8 := [42, 180, 0, 17, 43, 180, 0, 17, 159, 0, 16, 42, 180, 0, 17, 153, 0, 7, 2, 167, 0, 4, 4, 172]
abbrev dktX6_compare_0 : List UInt8 := dkwX6_compare_0 ++ dktX6_compare_1
theorem dksX6_compare_0 : cX6_compare.data.toList.drop 0 = dktX6_compare_0 := by decide +kernel
theorem dksX6_compare_1 : cX6_compare.data.toList.drop 24 = dktX6_compare_1 := dk_seg dksX6_compare_0 24 rfl rfl
theorem dX6_compare_0 : decode cX6_compare 0 = .ok (.aload_n 0, 1) := dk_42 (dk_at dksX6_compare_0 0 rfl rfl)
theorem dX6_compare_1 : decode cX6_compare 1 = .ok (.getfield 17, 3) := dk_180 0 17 (dk_at dksX6_compare_0 1 rfl rfl)
theorem dX6_compare_4 : decode cX6_compare 4 = .ok (.aload_n 1, 1) := dk_43 (dk_at dksX6_compare_0 4 rfl rfl)
theorem dX6_compare_5 : decode cX6_compare 5 = .ok (.getfield 17, 3) := dk_180 0 17 (dk_at dksX6_compare_0 5 rfl rfl)
theorem dX6_compare_8 : decode cX6_compare 8 = .ok (.if_icmp .eq 16, 3) := dk_159 0 16 (dk_at dksX6_compare_0 8 rfl rfl)
theorem dX6_compare_11 : decode cX6_compare 11 = .ok (.aload_n 0, 1) := dk_42 (dk_at dksX6_compare_0 11 rfl rfl)
theorem dX6_compare_12 : decode cX6_compare 12 = .ok (.getfield 17, 3) := dk_180 0 17 (dk_at dksX6_compare_0 12 rfl rfl)
theorem dX6_compare_15 : decode cX6_compare 15 = .ok (.ifCond .eq 7, 3) := dk_153 0 7 (dk_at dksX6_compare_0 15 rfl rfl)
theorem dX6_compare_18 : decode cX6_compare 18 = .ok (.iconst (-1), 1) := dk_2 (dk_at dksX6_compare_0 18 rfl rfl)
theorem dX6_compare_19 : decode cX6_compare 19 = .ok (.goto 4, 3) := dk_167 0 4 (dk_at dksX6_compare_0 19 rfl rfl)
theorem dX6_compare_22 : decode cX6_compare 22 = .ok (.iconst 1, 1) := dk_4 (dk_at dksX6_compare_0 22 rfl rfl)
theorem dX6_compare_23 : decode cX6_compare 23 = .ok (.ireturn, 1) := dk_172 (dk_at dksX6_compare_0 23 rfl rfl)
theorem dX6_compare_24 : decode cX6_compare 24 = .ok (.aload_n 0, 1) := dk_42 (dk_at dksX6_compare_1 0 rfl rfl)
theorem dX6_compare_25 : decode cX6_compare 25 = .ok (.getfield 17, 3) := dk_180 0 17 (dk_at dksX6_compare_1 1 rfl rfl)
theorem dX6_compare_28 : decode cX6_compare 28 = .ok (.ifCond .eq 11, 3) := dk_153 0 11 (dk_at dksX6_compare_1 4 rfl rfl)
theorem dX6_compare_31 : decode cX6_compare 31 = .ok (.aload_n 1, 1) := dk_43 (dk_at dksX6_compare_1 7 rfl rfl)
theorem dX6_compare_32 : decode cX6_compare 32 = .ok (.aload_n 0, 1) := dk_42 (dk_at dksX6_compare_1 8 rfl rfl)
theorem dX6_compare_33 : decode cX6_compare 33 = .ok (.invokevirtual 42, 3) := dk_182 0 42 (dk_at dksX6_compare_1 9 rfl rfl)
theorem dX6_compare_36 : decode cX6_compare 36 = .ok (.goto 8, 3) := dk_167 0 8 (dk_at dksX6_compare_1 12 rfl rfl)
theorem dX6_compare_39 : decode cX6_compare 39 = .ok (.aload_n 0, 1) := dk_42 (dk_at dksX6_compare_1 15 rfl rfl)
theorem dX6_compare_40 : decode cX6_compare 40 = .ok (.aload_n 1, 1) := dk_43 (dk_at dksX6_compare_1 16 rfl rfl)
theorem dX6_compare_41 : decode cX6_compare 41 = .ok (.invokevirtual 42, 3) := dk_182 0 42 (dk_at dksX6_compare_1 17 rfl rfl)
theorem dX6_compare_44 : decode cX6_compare 44 = .ok (.ireturn, 1) := dk_172 (dk_at dksX6_compare_1 20 rfl rfl)
abbrev cX6_compareSize : ByteArray := prog_23_method_10_code
def yX6_compareSize : MethodName := ⟨RX6, "compareSize", "(LContractLedger$Whole;)I"⟩
def dkwX6_compareSize_3 : List UInt8 := [180, 0, 7, 28, 46, 43, 180, 0, 7, 28, 46, 162, 0, 7, 2, 167, 0, 4, 4, 172]
abbrev dktX6_compareSize_3 : List UInt8 := dkwX6_compareSize_3 ++ []
def dkwX6_compareSize_2 : List UInt8 := [180, 0, 7, 28, 46, 160, 0, 9, 132, 2, 255, 167, 255, 234, 28, 156, 0, 7, 3, 167, 0, 23, 42]
abbrev dktX6_compareSize_2 : List UInt8 := dkwX6_compareSize_2 ++ dktX6_compareSize_3
def dkwX6_compareSize_1 : List UInt8 := [167, 0, 4, 4, 172, 42, 180, 0, 13, 4, 100, 61, 28, 155, 0, 24, 42, 180, 0, 7, 28, 46, 43]
abbrev dktX6_compareSize_1 : List UInt8 := dkwX6_compareSize_1 ++ dktX6_compareSize_2
def dkwX6_compareSize_0 : List UInt8 := [42, 180, 0, 13, 43, 180, 0, 13, 159, 0, 20, 42, 180, 0, 13, 43, 180, 0, 13, 162, 0, 7, 2]
abbrev dktX6_compareSize_0 : List UInt8 := dkwX6_compareSize_0 ++ dktX6_compareSize_1
theorem dksX6_compareSize_0 : cX6_compareSize.data.toList.drop 0 = dktX6_compareSize_0 := by decide +kernel
theorem dksX6_compareSize_1 : cX6_compareSize.data.toList.drop 23 = dktX6_compareSize_1 := dk_seg dksX6_compareSize_0 23 rfl rfl
theorem dksX6_compareSize_2 : cX6_compareSize.data.toList.drop 46 = dktX6_compareSize_2 := dk_seg dksX6_compareSize_1 23 rfl rfl
theorem dksX6_compareSize_3 : cX6_compareSize.data.toList.drop 69 = dktX6_compareSize_3 := dk_seg dksX6_compareSize_2 23 rfl rfl
theorem dX6_compareSize_0 : decode cX6_compareSize 0 = .ok (.aload_n 0, 1) := dk_42 (dk_at dksX6_compareSize_0 0 rfl rfl)
theorem dX6_compareSize_1 : decode cX6_compareSize 1 = .ok (.getfield 13, 3) := dk_180 0 13 (dk_at dksX6_compareSize_0 1 rfl rfl)
theorem dX6_compareSize_4 : decode cX6_compareSize 4 = .ok (.aload_n 1, 1) := dk_43 (dk_at dksX6_compareSize_0 4 rfl rfl)
theorem dX6_compareSize_5 : decode cX6_compareSize 5 = .ok (.getfield 13, 3) := dk_180 0 13 (dk_at dksX6_compareSize_0 5 rfl rfl)
theorem dX6_compareSize_8 : decode cX6_compareSize 8 = .ok (.if_icmp .eq 20, 3) := dk_159 0 20 (dk_at dksX6_compareSize_0 8 rfl rfl)
theorem dX6_compareSize_11 : decode cX6_compareSize 11 = .ok (.aload_n 0, 1) := dk_42 (dk_at dksX6_compareSize_0 11 rfl rfl)
theorem dX6_compareSize_12 : decode cX6_compareSize 12 = .ok (.getfield 13, 3) := dk_180 0 13 (dk_at dksX6_compareSize_0 12 rfl rfl)
theorem dX6_compareSize_15 : decode cX6_compareSize 15 = .ok (.aload_n 1, 1) := dk_43 (dk_at dksX6_compareSize_0 15 rfl rfl)
theorem dX6_compareSize_16 : decode cX6_compareSize 16 = .ok (.getfield 13, 3) := dk_180 0 13 (dk_at dksX6_compareSize_0 16 rfl rfl)
theorem dX6_compareSize_19 : decode cX6_compareSize 19 = .ok (.if_icmp .ge 7, 3) := dk_162 0 7 (dk_at dksX6_compareSize_0 19 rfl rfl)
theorem dX6_compareSize_22 : decode cX6_compareSize 22 = .ok (.iconst (-1), 1) := dk_2 (dk_at dksX6_compareSize_0 22 rfl rfl)
theorem dX6_compareSize_23 : decode cX6_compareSize 23 = .ok (.goto 4, 3) := dk_167 0 4 (dk_at dksX6_compareSize_1 0 rfl rfl)
theorem dX6_compareSize_26 : decode cX6_compareSize 26 = .ok (.iconst 1, 1) := dk_4 (dk_at dksX6_compareSize_1 3 rfl rfl)
theorem dX6_compareSize_27 : decode cX6_compareSize 27 = .ok (.ireturn, 1) := dk_172 (dk_at dksX6_compareSize_1 4 rfl rfl)
theorem dX6_compareSize_28 : decode cX6_compareSize 28 = .ok (.aload_n 0, 1) := dk_42 (dk_at dksX6_compareSize_1 5 rfl rfl)
theorem dX6_compareSize_29 : decode cX6_compareSize 29 = .ok (.getfield 13, 3) := dk_180 0 13 (dk_at dksX6_compareSize_1 6 rfl rfl)
theorem dX6_compareSize_32 : decode cX6_compareSize 32 = .ok (.iconst 1, 1) := dk_4 (dk_at dksX6_compareSize_1 9 rfl rfl)
theorem dX6_compareSize_33 : decode cX6_compareSize 33 = .ok (.isub, 1) := dk_100 (dk_at dksX6_compareSize_1 10 rfl rfl)
theorem dX6_compareSize_34 : decode cX6_compareSize 34 = .ok (.istore_n 2, 1) := dk_61 (dk_at dksX6_compareSize_1 11 rfl rfl)
theorem dX6_compareSize_35 : decode cX6_compareSize 35 = .ok (.iload_n 2, 1) := dk_28 (dk_at dksX6_compareSize_1 12 rfl rfl)
theorem dX6_compareSize_36 : decode cX6_compareSize 36 = .ok (.ifCond .lt 24, 3) := dk_155 0 24 (dk_at dksX6_compareSize_1 13 rfl rfl)
theorem dX6_compareSize_39 : decode cX6_compareSize 39 = .ok (.aload_n 0, 1) := dk_42 (dk_at dksX6_compareSize_1 16 rfl rfl)
theorem dX6_compareSize_40 : decode cX6_compareSize 40 = .ok (.getfield 7, 3) := dk_180 0 7 (dk_at dksX6_compareSize_1 17 rfl rfl)
theorem dX6_compareSize_43 : decode cX6_compareSize 43 = .ok (.iload_n 2, 1) := dk_28 (dk_at dksX6_compareSize_1 20 rfl rfl)
theorem dX6_compareSize_44 : decode cX6_compareSize 44 = .ok (.iaload, 1) := dk_46 (dk_at dksX6_compareSize_1 21 rfl rfl)
theorem dX6_compareSize_45 : decode cX6_compareSize 45 = .ok (.aload_n 1, 1) := dk_43 (dk_at dksX6_compareSize_1 22 rfl rfl)
theorem dX6_compareSize_46 : decode cX6_compareSize 46 = .ok (.getfield 7, 3) := dk_180 0 7 (dk_at dksX6_compareSize_2 0 rfl rfl)
theorem dX6_compareSize_49 : decode cX6_compareSize 49 = .ok (.iload_n 2, 1) := dk_28 (dk_at dksX6_compareSize_2 3 rfl rfl)
theorem dX6_compareSize_50 : decode cX6_compareSize 50 = .ok (.iaload, 1) := dk_46 (dk_at dksX6_compareSize_2 4 rfl rfl)
theorem dX6_compareSize_51 : decode cX6_compareSize 51 = .ok (.if_icmp .ne 9, 3) := dk_160 0 9 (dk_at dksX6_compareSize_2 5 rfl rfl)
theorem dX6_compareSize_54 : decode cX6_compareSize 54 = .ok (.iinc 2 (-1), 3) := dk_132 2 255 (dk_at dksX6_compareSize_2 8 rfl rfl)
theorem dX6_compareSize_57 : decode cX6_compareSize 57 = .ok (.goto (-22), 3) := dk_167 255 234 (dk_at dksX6_compareSize_2 11 rfl rfl)
theorem dX6_compareSize_60 : decode cX6_compareSize 60 = .ok (.iload_n 2, 1) := dk_28 (dk_at dksX6_compareSize_2 14 rfl rfl)
theorem dX6_compareSize_61 : decode cX6_compareSize 61 = .ok (.ifCond .ge 7, 3) := dk_156 0 7 (dk_at dksX6_compareSize_2 15 rfl rfl)
theorem dX6_compareSize_64 : decode cX6_compareSize 64 = .ok (.iconst 0, 1) := dk_3 (dk_at dksX6_compareSize_2 18 rfl rfl)
theorem dX6_compareSize_65 : decode cX6_compareSize 65 = .ok (.goto 23, 3) := dk_167 0 23 (dk_at dksX6_compareSize_2 19 rfl rfl)
theorem dX6_compareSize_68 : decode cX6_compareSize 68 = .ok (.aload_n 0, 1) := dk_42 (dk_at dksX6_compareSize_2 22 rfl rfl)
theorem dX6_compareSize_69 : decode cX6_compareSize 69 = .ok (.getfield 7, 3) := dk_180 0 7 (dk_at dksX6_compareSize_3 0 rfl rfl)
theorem dX6_compareSize_72 : decode cX6_compareSize 72 = .ok (.iload_n 2, 1) := dk_28 (dk_at dksX6_compareSize_3 3 rfl rfl)
theorem dX6_compareSize_73 : decode cX6_compareSize 73 = .ok (.iaload, 1) := dk_46 (dk_at dksX6_compareSize_3 4 rfl rfl)
theorem dX6_compareSize_74 : decode cX6_compareSize 74 = .ok (.aload_n 1, 1) := dk_43 (dk_at dksX6_compareSize_3 5 rfl rfl)
theorem dX6_compareSize_75 : decode cX6_compareSize 75 = .ok (.getfield 7, 3) := dk_180 0 7 (dk_at dksX6_compareSize_3 6 rfl rfl)
theorem dX6_compareSize_78 : decode cX6_compareSize 78 = .ok (.iload_n 2, 1) := dk_28 (dk_at dksX6_compareSize_3 9 rfl rfl)
theorem dX6_compareSize_79 : decode cX6_compareSize 79 = .ok (.iaload, 1) := dk_46 (dk_at dksX6_compareSize_3 10 rfl rfl)
theorem dX6_compareSize_80 : decode cX6_compareSize 80 = .ok (.if_icmp .ge 7, 3) := dk_162 0 7 (dk_at dksX6_compareSize_3 11 rfl rfl)
theorem dX6_compareSize_83 : decode cX6_compareSize 83 = .ok (.iconst (-1), 1) := dk_2 (dk_at dksX6_compareSize_3 14 rfl rfl)
theorem dX6_compareSize_84 : decode cX6_compareSize 84 = .ok (.goto 4, 3) := dk_167 0 4 (dk_at dksX6_compareSize_3 15 rfl rfl)
theorem dX6_compareSize_87 : decode cX6_compareSize 87 = .ok (.iconst 1, 1) := dk_4 (dk_at dksX6_compareSize_3 18 rfl rfl)
theorem dX6_compareSize_88 : decode cX6_compareSize 88 = .ok (.ireturn, 1) := dk_172 (dk_at dksX6_compareSize_3 19 rfl rfl)
abbrev cX6_copy : ByteArray := prog_23_method_4_code
def yX6_copy : MethodName := ⟨RX6, "copy", "(LContractLedger$Whole;)V"⟩
def dkwX6_copy_1 : List UInt8 := [181, 0, 13, 42, 43, 180, 0, 17, 181, 0, 17, 177]
abbrev dktX6_copy_1 : List UInt8 := dkwX6_copy_1 ++ []
def dkwX6_copy_0 : List UInt8 := [43, 180, 0, 7, 3, 42, 180, 0, 7, 3, 43, 180, 0, 13, 184, 0, 21, 42, 43, 180, 0, 13]
abbrev dktX6_copy_0 : List UInt8 := dkwX6_copy_0 ++ dktX6_copy_1
theorem dksX6_copy_0 : cX6_copy.data.toList.drop 0 = dktX6_copy_0 := by decide +kernel
theorem dksX6_copy_1 : cX6_copy.data.toList.drop 22 = dktX6_copy_1 := dk_seg dksX6_copy_0 22 rfl rfl
theorem dX6_copy_0 : decode cX6_copy 0 = .ok (.aload_n 1, 1) := dk_43 (dk_at dksX6_copy_0 0 rfl rfl)
theorem dX6_copy_1 : decode cX6_copy 1 = .ok (.getfield 7, 3) := dk_180 0 7 (dk_at dksX6_copy_0 1 rfl rfl)
theorem dX6_copy_4 : decode cX6_copy 4 = .ok (.iconst 0, 1) := dk_3 (dk_at dksX6_copy_0 4 rfl rfl)
theorem dX6_copy_5 : decode cX6_copy 5 = .ok (.aload_n 0, 1) := dk_42 (dk_at dksX6_copy_0 5 rfl rfl)
theorem dX6_copy_6 : decode cX6_copy 6 = .ok (.getfield 7, 3) := dk_180 0 7 (dk_at dksX6_copy_0 6 rfl rfl)
theorem dX6_copy_9 : decode cX6_copy 9 = .ok (.iconst 0, 1) := dk_3 (dk_at dksX6_copy_0 9 rfl rfl)
theorem dX6_copy_10 : decode cX6_copy 10 = .ok (.aload_n 1, 1) := dk_43 (dk_at dksX6_copy_0 10 rfl rfl)
theorem dX6_copy_11 : decode cX6_copy 11 = .ok (.getfield 13, 3) := dk_180 0 13 (dk_at dksX6_copy_0 11 rfl rfl)
theorem dX6_copy_14 : decode cX6_copy 14 = .ok (.invokestatic 21, 3) := dk_184 0 21 (dk_at dksX6_copy_0 14 rfl rfl)
theorem dX6_copy_17 : decode cX6_copy 17 = .ok (.aload_n 0, 1) := dk_42 (dk_at dksX6_copy_0 17 rfl rfl)
theorem dX6_copy_18 : decode cX6_copy 18 = .ok (.aload_n 1, 1) := dk_43 (dk_at dksX6_copy_0 18 rfl rfl)
theorem dX6_copy_19 : decode cX6_copy 19 = .ok (.getfield 13, 3) := dk_180 0 13 (dk_at dksX6_copy_0 19 rfl rfl)
theorem dX6_copy_22 : decode cX6_copy 22 = .ok (.putfield 13, 3) := dk_181 0 13 (dk_at dksX6_copy_1 0 rfl rfl)
theorem dX6_copy_25 : decode cX6_copy 25 = .ok (.aload_n 0, 1) := dk_42 (dk_at dksX6_copy_1 3 rfl rfl)
theorem dX6_copy_26 : decode cX6_copy 26 = .ok (.aload_n 1, 1) := dk_43 (dk_at dksX6_copy_1 4 rfl rfl)
theorem dX6_copy_27 : decode cX6_copy 27 = .ok (.getfield 17, 3) := dk_180 0 17 (dk_at dksX6_copy_1 5 rfl rfl)
theorem dX6_copy_30 : decode cX6_copy 30 = .ok (.putfield 17, 3) := dk_181 0 17 (dk_at dksX6_copy_1 8 rfl rfl)
theorem dX6_copy_33 : decode cX6_copy 33 = .ok (.return_, 1) := dk_177 (dk_at dksX6_copy_1 11 rfl rfl)
abbrev cX6_endless : ByteArray := prog_23_method_9_code
def yX6_endless : MethodName := ⟨RX6, "endless", "(IZ)I"⟩
def dkwX6_endless_1 : List UInt8 := [116, 18, 41, 126, 167, 0, 13, 42, 27, 182, 0, 38, 2, 130, 18, 41, 126, 172]
abbrev dktX6_endless_1 : List UInt8 := dkwX6_endless_1 ++ []
def dkwX6_endless_0 : List UInt8 := [42, 180, 0, 17, 154, 0, 11, 42, 27, 182, 0, 38, 167, 0, 29, 28, 153, 0, 15, 42, 27, 182, 0, 38]
abbrev dktX6_endless_0 : List UInt8 := dkwX6_endless_0 ++ dktX6_endless_1
theorem dksX6_endless_0 : cX6_endless.data.toList.drop 0 = dktX6_endless_0 := by decide +kernel
theorem dksX6_endless_1 : cX6_endless.data.toList.drop 24 = dktX6_endless_1 := dk_seg dksX6_endless_0 24 rfl rfl
theorem dX6_endless_0 : decode cX6_endless 0 = .ok (.aload_n 0, 1) := dk_42 (dk_at dksX6_endless_0 0 rfl rfl)
theorem dX6_endless_1 : decode cX6_endless 1 = .ok (.getfield 17, 3) := dk_180 0 17 (dk_at dksX6_endless_0 1 rfl rfl)
theorem dX6_endless_4 : decode cX6_endless 4 = .ok (.ifCond .ne 11, 3) := dk_154 0 11 (dk_at dksX6_endless_0 4 rfl rfl)
theorem dX6_endless_7 : decode cX6_endless 7 = .ok (.aload_n 0, 1) := dk_42 (dk_at dksX6_endless_0 7 rfl rfl)
theorem dX6_endless_8 : decode cX6_endless 8 = .ok (.iload_n 1, 1) := dk_27 (dk_at dksX6_endless_0 8 rfl rfl)
theorem dX6_endless_9 : decode cX6_endless 9 = .ok (.invokevirtual 38, 3) := dk_182 0 38 (dk_at dksX6_endless_0 9 rfl rfl)
theorem dX6_endless_12 : decode cX6_endless 12 = .ok (.goto 29, 3) := dk_167 0 29 (dk_at dksX6_endless_0 12 rfl rfl)
theorem dX6_endless_15 : decode cX6_endless 15 = .ok (.iload_n 2, 1) := dk_28 (dk_at dksX6_endless_0 15 rfl rfl)
theorem dX6_endless_16 : decode cX6_endless 16 = .ok (.ifCond .eq 15, 3) := dk_153 0 15 (dk_at dksX6_endless_0 16 rfl rfl)
theorem dX6_endless_19 : decode cX6_endless 19 = .ok (.aload_n 0, 1) := dk_42 (dk_at dksX6_endless_0 19 rfl rfl)
theorem dX6_endless_20 : decode cX6_endless 20 = .ok (.iload_n 1, 1) := dk_27 (dk_at dksX6_endless_0 20 rfl rfl)
theorem dX6_endless_21 : decode cX6_endless 21 = .ok (.invokevirtual 38, 3) := dk_182 0 38 (dk_at dksX6_endless_0 21 rfl rfl)
theorem dX6_endless_24 : decode cX6_endless 24 = .ok (.ineg, 1) := dk_116 (dk_at dksX6_endless_1 0 rfl rfl)
theorem dX6_endless_25 : decode cX6_endless 25 = .ok (.ldc 41, 2) := dk_18 41 (dk_at dksX6_endless_1 1 rfl rfl)
theorem dX6_endless_27 : decode cX6_endless 27 = .ok (.iand, 1) := dk_126 (dk_at dksX6_endless_1 3 rfl rfl)
theorem dX6_endless_28 : decode cX6_endless 28 = .ok (.goto 13, 3) := dk_167 0 13 (dk_at dksX6_endless_1 4 rfl rfl)
theorem dX6_endless_31 : decode cX6_endless 31 = .ok (.aload_n 0, 1) := dk_42 (dk_at dksX6_endless_1 7 rfl rfl)
theorem dX6_endless_32 : decode cX6_endless 32 = .ok (.iload_n 1, 1) := dk_27 (dk_at dksX6_endless_1 8 rfl rfl)
theorem dX6_endless_33 : decode cX6_endless 33 = .ok (.invokevirtual 38, 3) := dk_182 0 38 (dk_at dksX6_endless_1 9 rfl rfl)
theorem dX6_endless_36 : decode cX6_endless 36 = .ok (.iconst (-1), 1) := dk_2 (dk_at dksX6_endless_1 12 rfl rfl)
theorem dX6_endless_37 : decode cX6_endless 37 = .ok (.ixor, 1) := dk_130 (dk_at dksX6_endless_1 13 rfl rfl)
theorem dX6_endless_38 : decode cX6_endless 38 = .ok (.ldc 41, 2) := dk_18 41 (dk_at dksX6_endless_1 14 rfl rfl)
theorem dX6_endless_40 : decode cX6_endless 40 = .ok (.iand, 1) := dk_126 (dk_at dksX6_endless_1 16 rfl rfl)
theorem dX6_endless_41 : decode cX6_endless 41 = .ok (.ireturn, 1) := dk_172 (dk_at dksX6_endless_1 17 rfl rfl)
theorem q373 : (Jvm.Cond.initialized "ContractLedger$Whole") ∈ lw_all := lw_g (lw_at lw_m1 16 rfl) rfl
theorem q621 : (Jvm.Cond.instantiable "ContractLedger$Whole" (3 : Nat)) ∈ lw_all := lw_g (lw_at lw_m2 24 rfl) rfl
theorem q623 : (Jvm.Cond.instanceMethod ({ cls := "ContractLedger$Whole", name := "<init>", desc := "(I)V" } : Jvm.MethodName)) ∈ lw_all := lw_g (lw_at lw_m2 26 rfl) rfl
theorem q624 : (Jvm.Cond.code ({ cls := "ContractLedger$Whole", name := "<init>", desc := "(I)V" } : Jvm.MethodName) prog_23_method_1_code (2 : Nat) (Option.none : Option Jvm.ClassFile.FieldType)) ∈ lw_all := lw_g (lw_at lw_m2 27 rfl) rfl
theorem q625 : (Jvm.Cond.methodLink "ContractLedger$Whole" (1 : Nat) ({ cls := "java/lang/Object", name := "<init>", desc := "()V" } : Jvm.MethodName)) ∈ lw_all := lw_g (lw_at lw_m2 28 rfl) rfl
theorem q626 : (Jvm.Cond.fieldLink "ContractLedger$Whole" (7 : Nat) "ContractLedger$Whole" "digits" "[I") ∈ lw_all := lw_g (lw_at lw_m2 29 rfl) rfl
theorem q631 : (Jvm.Cond.fieldLink "ContractLedger$Whole" (13 : Nat) "ContractLedger$Whole" "count" "I") ∈ lw_all := lw_g (lw_at lw_m2 34 rfl) rfl
theorem q635 : (Jvm.Cond.fieldLink "ContractLedger$Whole" (17 : Nat) "ContractLedger$Whole" "negative" "Z") ∈ lw_all := lw_g (lw_at lw_m2 38 rfl) rfl
theorem q643 : (Jvm.Cond.laysFinal "ContractLedger$Whole" "ContractLedger$Whole" "digits" "[I") ∈ lw_all := lw_g (lw_at lw_m2 46 rfl) rfl
theorem q644 : (Jvm.Cond.soleField "ContractLedger$Whole" "digits") ∈ lw_all := lw_g (lw_at lw_m2 47 rfl) rfl
theorem q645 : (Jvm.Cond.lays "ContractLedger$Whole" "ContractLedger$Whole" "count" "I") ∈ lw_all := lw_g (lw_at lw_m2 48 rfl) rfl
theorem q646 : (Jvm.Cond.soleField "ContractLedger$Whole" "count") ∈ lw_all := lw_g (lw_at lw_m2 49 rfl) rfl
theorem q647 : (Jvm.Cond.lays "ContractLedger$Whole" "ContractLedger$Whole" "negative" "Z") ∈ lw_all := lw_g (lw_at lw_m2 50 rfl) rfl
theorem q648 : (Jvm.Cond.soleField "ContractLedger$Whole" "negative") ∈ lw_all := lw_g (lw_at lw_m2 51 rfl) rfl
theorem q649 : (Jvm.Cond.superclass "ContractLedger$Whole" "java/lang/Object") ∈ lw_all := lw_g (lw_at lw_m2 52 rfl) rfl
theorem q1743 : (Jvm.Cond.instanceMethod ({ cls := "ContractLedger$Whole", name := "set", desc := "(J)V" } : Jvm.MethodName)) ∈ lw_all := lw_g (lw_at lw_m6 186 rfl) rfl
theorem q1744 : (Jvm.Cond.selects "ContractLedger$Whole" ({ cls := "ContractLedger$Whole", name := "set", desc := "(J)V" } : Jvm.MethodName) ({ cls := "ContractLedger$Whole", name := "set", desc := "(J)V" } : Jvm.MethodName)) ∈ lw_all := lw_g (lw_at lw_m6 187 rfl) rfl
theorem q1745 : (Jvm.Cond.code ({ cls := "ContractLedger$Whole", name := "set", desc := "(J)V" } : Jvm.MethodName) prog_23_method_5_code (5 : Nat) (Option.none : Option Jvm.ClassFile.FieldType)) ∈ lw_all := lw_g (lw_at lw_m6 188 rfl) rfl
theorem q1746 : (Jvm.Cond.methodLink "ContractLedger$Whole" (27 : Nat) ({ cls := "ContractLedger$Whole", name := "clear", desc := "()V" } : Jvm.MethodName)) ∈ lw_all := lw_g (lw_at lw_m6 189 rfl) rfl
theorem q1747 : (Jvm.Cond.instanceMethod ({ cls := "ContractLedger$Whole", name := "clear", desc := "()V" } : Jvm.MethodName)) ∈ lw_all := lw_g (lw_at lw_m6 190 rfl) rfl
theorem q1748 : (Jvm.Cond.selects "ContractLedger$Whole" ({ cls := "ContractLedger$Whole", name := "clear", desc := "()V" } : Jvm.MethodName) ({ cls := "ContractLedger$Whole", name := "clear", desc := "()V" } : Jvm.MethodName)) ∈ lw_all := lw_g (lw_at lw_m6 191 rfl) rfl
theorem q1749 : (Jvm.Cond.code ({ cls := "ContractLedger$Whole", name := "clear", desc := "()V" } : Jvm.MethodName) prog_23_method_3_code (1 : Nat) (Option.none : Option Jvm.ClassFile.FieldType)) ∈ lw_all := lw_g (lw_at lw_m6 192 rfl) rfl
theorem q1750 : (Jvm.Cond.constantLong "ContractLedger$Whole" (30 : Nat) (65535 : Int64)) ∈ lw_all := lw_g (lw_at lw_m6 193 rfl) rfl
theorem q1752 : (Jvm.Cond.instanceMethod ({ cls := "ContractLedger$Whole", name := "bits", desc := "()I" } : Jvm.MethodName)) ∈ lw_all := lw_g (lw_at lw_m6 195 rfl) rfl
theorem q1753 : (Jvm.Cond.selects "ContractLedger$Whole" ({ cls := "ContractLedger$Whole", name := "bits", desc := "()I" } : Jvm.MethodName) ({ cls := "ContractLedger$Whole", name := "bits", desc := "()I" } : Jvm.MethodName)) ∈ lw_all := lw_g (lw_at lw_m6 196 rfl) rfl
theorem q1754 : (Jvm.Cond.code ({ cls := "ContractLedger$Whole", name := "bits", desc := "()I" } : Jvm.MethodName) prog_23_method_8_code (1 : Nat) (Option.some Jvm.ClassFile.FieldType.int)) ∈ lw_all := lw_g (lw_at lw_m6 197 rfl) rfl
theorem q1755 : (Jvm.Cond.methodLink "ContractLedger$Whole" (32 : Nat) ({ cls := "java/lang/Integer", name := "numberOfLeadingZeros", desc := "(I)I" } : Jvm.MethodName)) ∈ lw_all := lw_g (lw_at lw_m6 198 rfl) rfl
theorem q1764 : (Jvm.Cond.instanceMethod ({ cls := "ContractLedger$Whole", name := "isZero", desc := "()Z" } : Jvm.MethodName)) ∈ lw_all := lw_g (lw_at lw_m6 207 rfl) rfl
theorem q1765 : (Jvm.Cond.selects "ContractLedger$Whole" ({ cls := "ContractLedger$Whole", name := "isZero", desc := "()Z" } : Jvm.MethodName) ({ cls := "ContractLedger$Whole", name := "isZero", desc := "()Z" } : Jvm.MethodName)) ∈ lw_all := lw_g (lw_at lw_m6 208 rfl) rfl
theorem q1766 : (Jvm.Cond.code ({ cls := "ContractLedger$Whole", name := "isZero", desc := "()Z" } : Jvm.MethodName) prog_23_method_2_code (1 : Nat) (Option.some Jvm.ClassFile.FieldType.boolean)) ∈ lw_all := lw_g (lw_at lw_m6 209 rfl) rfl
theorem q1962 : (Jvm.Cond.instanceMethod ({ cls := "ContractLedger$Whole", name := "at", desc := "(I)I" } : Jvm.MethodName)) ∈ lw_all := lw_g (lw_at lw_m7 165 rfl) rfl
theorem q1963 : (Jvm.Cond.selects "ContractLedger$Whole" ({ cls := "ContractLedger$Whole", name := "at", desc := "(I)I" } : Jvm.MethodName) ({ cls := "ContractLedger$Whole", name := "at", desc := "(I)I" } : Jvm.MethodName)) ∈ lw_all := lw_g (lw_at lw_m7 166 rfl) rfl
theorem q1964 : (Jvm.Cond.code ({ cls := "ContractLedger$Whole", name := "at", desc := "(I)I" } : Jvm.MethodName) prog_23_method_7_code (2 : Nat) (Option.some Jvm.ClassFile.FieldType.int)) ∈ lw_all := lw_g (lw_at lw_m7 167 rfl) rfl
theorem q2110 : (Jvm.Cond.instanceMethod ({ cls := "ContractLedger$Whole", name := "trim", desc := "(I)V" } : Jvm.MethodName)) ∈ lw_all := lw_g (lw_at lw_m8 73 rfl) rfl
theorem q2111 : (Jvm.Cond.selects "ContractLedger$Whole" ({ cls := "ContractLedger$Whole", name := "trim", desc := "(I)V" } : Jvm.MethodName) ({ cls := "ContractLedger$Whole", name := "trim", desc := "(I)V" } : Jvm.MethodName)) ∈ lw_all := lw_g (lw_at lw_m8 74 rfl) rfl
theorem q2112 : (Jvm.Cond.code ({ cls := "ContractLedger$Whole", name := "trim", desc := "(I)V" } : Jvm.MethodName) prog_23_method_6_code (2 : Nat) (Option.none : Option Jvm.ClassFile.FieldType)) ∈ lw_all := lw_g (lw_at lw_m8 75 rfl) rfl
theorem q2114 : (Jvm.Cond.instanceMethod ({ cls := "ContractLedger$Whole", name := "compare", desc := "(LContractLedger$Whole;)I" } : Jvm.MethodName)) ∈ lw_all := lw_g (lw_at lw_m8 77 rfl) rfl
theorem q2115 : (Jvm.Cond.selects "ContractLedger$Whole" ({ cls := "ContractLedger$Whole", name := "compare", desc := "(LContractLedger$Whole;)I" } : Jvm.MethodName) ({ cls := "ContractLedger$Whole", name := "compare", desc := "(LContractLedger$Whole;)I" } : Jvm.MethodName)) ∈ lw_all := lw_g (lw_at lw_m8 78 rfl) rfl
theorem q2116 : (Jvm.Cond.code ({ cls := "ContractLedger$Whole", name := "compare", desc := "(LContractLedger$Whole;)I" } : Jvm.MethodName) prog_23_method_11_code (2 : Nat) (Option.some Jvm.ClassFile.FieldType.int)) ∈ lw_all := lw_g (lw_at lw_m8 79 rfl) rfl
theorem q2117 : (Jvm.Cond.methodLink "ContractLedger$Whole" (42 : Nat) ({ cls := "ContractLedger$Whole", name := "compareSize", desc := "(LContractLedger$Whole;)I" } : Jvm.MethodName)) ∈ lw_all := lw_g (lw_at lw_m8 80 rfl) rfl
theorem q2118 : (Jvm.Cond.instanceMethod ({ cls := "ContractLedger$Whole", name := "compareSize", desc := "(LContractLedger$Whole;)I" } : Jvm.MethodName)) ∈ lw_all := lw_g (lw_at lw_m8 81 rfl) rfl
theorem q2119 : (Jvm.Cond.selects "ContractLedger$Whole" ({ cls := "ContractLedger$Whole", name := "compareSize", desc := "(LContractLedger$Whole;)I" } : Jvm.MethodName) ({ cls := "ContractLedger$Whole", name := "compareSize", desc := "(LContractLedger$Whole;)I" } : Jvm.MethodName)) ∈ lw_all := lw_g (lw_at lw_m8 82 rfl) rfl
theorem q2120 : (Jvm.Cond.code ({ cls := "ContractLedger$Whole", name := "compareSize", desc := "(LContractLedger$Whole;)I" } : Jvm.MethodName) prog_23_method_10_code (3 : Nat) (Option.some Jvm.ClassFile.FieldType.int)) ∈ lw_all := lw_g (lw_at lw_m8 83 rfl) rfl
theorem q2798 : (Jvm.Cond.instanceMethod ({ cls := "ContractLedger$Whole", name := "copy", desc := "(LContractLedger$Whole;)V" } : Jvm.MethodName)) ∈ lw_all := lw_g (lw_at lw_m11 41 rfl) rfl
theorem q2799 : (Jvm.Cond.selects "ContractLedger$Whole" ({ cls := "ContractLedger$Whole", name := "copy", desc := "(LContractLedger$Whole;)V" } : Jvm.MethodName) ({ cls := "ContractLedger$Whole", name := "copy", desc := "(LContractLedger$Whole;)V" } : Jvm.MethodName)) ∈ lw_all := lw_g (lw_at lw_m11 42 rfl) rfl
theorem q2800 : (Jvm.Cond.code ({ cls := "ContractLedger$Whole", name := "copy", desc := "(LContractLedger$Whole;)V" } : Jvm.MethodName) prog_23_method_4_code (2 : Nat) (Option.none : Option Jvm.ClassFile.FieldType)) ∈ lw_all := lw_g (lw_at lw_m11 43 rfl) rfl
theorem q2801 : (Jvm.Cond.methodLink "ContractLedger$Whole" (21 : Nat) ({ cls := "java/lang/System", name := "arraycopy", desc := "(Ljava/lang/Object;ILjava/lang/Object;II)V" } : Jvm.MethodName)) ∈ lw_all := lw_g (lw_at lw_m11 44 rfl) rfl
theorem q2825 : (Jvm.Cond.instanceMethod ({ cls := "ContractLedger$Whole", name := "endless", desc := "(IZ)I" } : Jvm.MethodName)) ∈ lw_all := lw_g (lw_at lw_m11 68 rfl) rfl
theorem q2826 : (Jvm.Cond.selects "ContractLedger$Whole" ({ cls := "ContractLedger$Whole", name := "endless", desc := "(IZ)I" } : Jvm.MethodName) ({ cls := "ContractLedger$Whole", name := "endless", desc := "(IZ)I" } : Jvm.MethodName)) ∈ lw_all := lw_g (lw_at lw_m11 69 rfl) rfl
theorem q2827 : (Jvm.Cond.code ({ cls := "ContractLedger$Whole", name := "endless", desc := "(IZ)I" } : Jvm.MethodName) prog_23_method_9_code (3 : Nat) (Option.some Jvm.ClassFile.FieldType.int)) ∈ lw_all := lw_g (lw_at lw_m11 70 rfl) rfl
theorem q2828 : (Jvm.Cond.methodLink "ContractLedger$Whole" (38 : Nat) ({ cls := "ContractLedger$Whole", name := "at", desc := "(I)I" } : Jvm.MethodName)) ∈ lw_all := lw_g (lw_at lw_m11 71 rfl) rfl
theorem q2829 : (Jvm.Cond.constant "ContractLedger$Whole" (41 : Nat) (65535 : Int32)) ∈ lw_all := lw_g (lw_at lw_m11 72 rfl) rfl
set_option maxRecDepth 100000
abbrev cX7_init : ByteArray := prog_22_method_1_code
def yX7_init : MethodName := ⟨RX7, "<init>", "()V"⟩
def dkwX7_init_4 : List UInt8 := [182, 0, 38, 87, 132, 1, 1, 167, 255, 239, 177]
abbrev dktX7_init_4 : List UInt8 := dkwX7_init_4 ++ []
def dkwX7_init_3 : List UInt8 := [180, 0, 33, 27, 2, 79, 132, 1, 1, 167, 255, 239, 3, 60, 27, 16, 9, 163, 0, 17, 42, 27, 2, 2]
abbrev dktX7_init_3 : List UInt8 := dkwX7_init_3 ++ dktX7_init_4
def dkwX7_init_2 : List UInt8 := [188, 10, 181, 0, 30, 42, 17, 16, 0, 188, 10, 181, 0, 33, 3, 60, 27, 17, 16, 0, 162, 0, 16, 42]
abbrev dktX7_init_2 : List UInt8 := dkwX7_init_2 ++ dktX7_init_3
def dkwX7_init_1 : List UInt8 := [188, 10, 181, 0, 20, 42, 18, 9, 188, 9, 181, 0, 23, 42, 18, 9, 188, 8, 181, 0, 27, 42, 18, 9]
abbrev dktX7_init_1 : List UInt8 := dkwX7_init_1 ++ dktX7_init_2
def dkwX7_init_0 : List UInt8 := [42, 183, 0, 3, 42, 18, 9, 188, 8, 181, 0, 10, 42, 18, 9, 188, 10, 181, 0, 16, 42, 18, 9]
abbrev dktX7_init_0 : List UInt8 := dkwX7_init_0 ++ dktX7_init_1
theorem dksX7_init_0 : cX7_init.data.toList.drop 0 = dktX7_init_0 := by decide +kernel
theorem dksX7_init_1 : cX7_init.data.toList.drop 23 = dktX7_init_1 := dk_seg dksX7_init_0 23 rfl rfl
theorem dksX7_init_2 : cX7_init.data.toList.drop 47 = dktX7_init_2 := dk_seg dksX7_init_1 24 rfl rfl
theorem dksX7_init_3 : cX7_init.data.toList.drop 71 = dktX7_init_3 := dk_seg dksX7_init_2 24 rfl rfl
theorem dksX7_init_4 : cX7_init.data.toList.drop 95 = dktX7_init_4 := dk_seg dksX7_init_3 24 rfl rfl
theorem dX7_init_0 : decode cX7_init 0 = .ok (.aload_n 0, 1) := dk_42 (dk_at dksX7_init_0 0 rfl rfl)
theorem dX7_init_1 : decode cX7_init 1 = .ok (.invokespecial 3, 3) := dk_183 0 3 (dk_at dksX7_init_0 1 rfl rfl)
theorem dX7_init_4 : decode cX7_init 4 = .ok (.aload_n 0, 1) := dk_42 (dk_at dksX7_init_0 4 rfl rfl)
theorem dX7_init_5 : decode cX7_init 5 = .ok (.ldc 9, 2) := dk_18 9 (dk_at dksX7_init_0 5 rfl rfl)
theorem dX7_init_7 : decode cX7_init 7 = .ok (.newarray .byte, 2) := dk_188_8 (dk_at dksX7_init_0 7 rfl rfl)
theorem dX7_init_9 : decode cX7_init 9 = .ok (.putfield 10, 3) := dk_181 0 10 (dk_at dksX7_init_0 9 rfl rfl)
theorem dX7_init_12 : decode cX7_init 12 = .ok (.aload_n 0, 1) := dk_42 (dk_at dksX7_init_0 12 rfl rfl)
theorem dX7_init_13 : decode cX7_init 13 = .ok (.ldc 9, 2) := dk_18 9 (dk_at dksX7_init_0 13 rfl rfl)
theorem dX7_init_15 : decode cX7_init 15 = .ok (.newarray .int, 2) := dk_188_10 (dk_at dksX7_init_0 15 rfl rfl)
theorem dX7_init_17 : decode cX7_init 17 = .ok (.putfield 16, 3) := dk_181 0 16 (dk_at dksX7_init_0 17 rfl rfl)
theorem dX7_init_20 : decode cX7_init 20 = .ok (.aload_n 0, 1) := dk_42 (dk_at dksX7_init_0 20 rfl rfl)
theorem dX7_init_21 : decode cX7_init 21 = .ok (.ldc 9, 2) := dk_18 9 (dk_at dksX7_init_0 21 rfl rfl)
theorem dX7_init_23 : decode cX7_init 23 = .ok (.newarray .int, 2) := dk_188_10 (dk_at dksX7_init_1 0 rfl rfl)
theorem dX7_init_25 : decode cX7_init 25 = .ok (.putfield 20, 3) := dk_181 0 20 (dk_at dksX7_init_1 2 rfl rfl)
theorem dX7_init_28 : decode cX7_init 28 = .ok (.aload_n 0, 1) := dk_42 (dk_at dksX7_init_1 5 rfl rfl)
theorem dX7_init_29 : decode cX7_init 29 = .ok (.ldc 9, 2) := dk_18 9 (dk_at dksX7_init_1 6 rfl rfl)
theorem dX7_init_31 : decode cX7_init 31 = .ok (.newarray .short, 2) := dk_188_9 (dk_at dksX7_init_1 8 rfl rfl)
theorem dX7_init_33 : decode cX7_init 33 = .ok (.putfield 23, 3) := dk_181 0 23 (dk_at dksX7_init_1 10 rfl rfl)
theorem dX7_init_36 : decode cX7_init 36 = .ok (.aload_n 0, 1) := dk_42 (dk_at dksX7_init_1 13 rfl rfl)
theorem dX7_init_37 : decode cX7_init 37 = .ok (.ldc 9, 2) := dk_18 9 (dk_at dksX7_init_1 14 rfl rfl)
theorem dX7_init_39 : decode cX7_init 39 = .ok (.newarray .byte, 2) := dk_188_8 (dk_at dksX7_init_1 16 rfl rfl)
theorem dX7_init_41 : decode cX7_init 41 = .ok (.putfield 27, 3) := dk_181 0 27 (dk_at dksX7_init_1 18 rfl rfl)
theorem dX7_init_44 : decode cX7_init 44 = .ok (.aload_n 0, 1) := dk_42 (dk_at dksX7_init_1 21 rfl rfl)
theorem dX7_init_45 : decode cX7_init 45 = .ok (.ldc 9, 2) := dk_18 9 (dk_at dksX7_init_1 22 rfl rfl)
theorem dX7_init_47 : decode cX7_init 47 = .ok (.newarray .int, 2) := dk_188_10 (dk_at dksX7_init_2 0 rfl rfl)
theorem dX7_init_49 : decode cX7_init 49 = .ok (.putfield 30, 3) := dk_181 0 30 (dk_at dksX7_init_2 2 rfl rfl)
theorem dX7_init_52 : decode cX7_init 52 = .ok (.aload_n 0, 1) := dk_42 (dk_at dksX7_init_2 5 rfl rfl)
theorem dX7_init_53 : decode cX7_init 53 = .ok (.sipush 4096, 3) := dk_17 16 0 (dk_at dksX7_init_2 6 rfl rfl)
theorem dX7_init_56 : decode cX7_init 56 = .ok (.newarray .int, 2) := dk_188_10 (dk_at dksX7_init_2 9 rfl rfl)
theorem dX7_init_58 : decode cX7_init 58 = .ok (.putfield 33, 3) := dk_181 0 33 (dk_at dksX7_init_2 11 rfl rfl)
theorem dX7_init_61 : decode cX7_init 61 = .ok (.iconst 0, 1) := dk_3 (dk_at dksX7_init_2 14 rfl rfl)
theorem dX7_init_62 : decode cX7_init 62 = .ok (.istore_n 1, 1) := dk_60 (dk_at dksX7_init_2 15 rfl rfl)
theorem dX7_init_63 : decode cX7_init 63 = .ok (.iload_n 1, 1) := dk_27 (dk_at dksX7_init_2 16 rfl rfl)
theorem dX7_init_64 : decode cX7_init 64 = .ok (.sipush 4096, 3) := dk_17 16 0 (dk_at dksX7_init_2 17 rfl rfl)
theorem dX7_init_67 : decode cX7_init 67 = .ok (.if_icmp .ge 16, 3) := dk_162 0 16 (dk_at dksX7_init_2 20 rfl rfl)
theorem dX7_init_70 : decode cX7_init 70 = .ok (.aload_n 0, 1) := dk_42 (dk_at dksX7_init_2 23 rfl rfl)
theorem dX7_init_71 : decode cX7_init 71 = .ok (.getfield 33, 3) := dk_180 0 33 (dk_at dksX7_init_3 0 rfl rfl)
theorem dX7_init_74 : decode cX7_init 74 = .ok (.iload_n 1, 1) := dk_27 (dk_at dksX7_init_3 3 rfl rfl)
theorem dX7_init_75 : decode cX7_init 75 = .ok (.iconst (-1), 1) := dk_2 (dk_at dksX7_init_3 4 rfl rfl)
theorem dX7_init_76 : decode cX7_init 76 = .ok (.iastore, 1) := dk_79 (dk_at dksX7_init_3 5 rfl rfl)
theorem dX7_init_77 : decode cX7_init 77 = .ok (.iinc 1 1, 3) := dk_132 1 1 (dk_at dksX7_init_3 6 rfl rfl)
theorem dX7_init_80 : decode cX7_init 80 = .ok (.goto (-17), 3) := dk_167 255 239 (dk_at dksX7_init_3 9 rfl rfl)
theorem dX7_init_83 : decode cX7_init 83 = .ok (.iconst 0, 1) := dk_3 (dk_at dksX7_init_3 12 rfl rfl)
theorem dX7_init_84 : decode cX7_init 84 = .ok (.istore_n 1, 1) := dk_60 (dk_at dksX7_init_3 13 rfl rfl)
theorem dX7_init_85 : decode cX7_init 85 = .ok (.iload_n 1, 1) := dk_27 (dk_at dksX7_init_3 14 rfl rfl)
theorem dX7_init_86 : decode cX7_init 86 = .ok (.bipush 9, 2) := dk_16 9 (dk_at dksX7_init_3 15 rfl rfl)
theorem dX7_init_88 : decode cX7_init 88 = .ok (.if_icmp .gt 17, 3) := dk_163 0 17 (dk_at dksX7_init_3 17 rfl rfl)
theorem dX7_init_91 : decode cX7_init 91 = .ok (.aload_n 0, 1) := dk_42 (dk_at dksX7_init_3 20 rfl rfl)
theorem dX7_init_92 : decode cX7_init 92 = .ok (.iload_n 1, 1) := dk_27 (dk_at dksX7_init_3 21 rfl rfl)
theorem dX7_init_93 : decode cX7_init 93 = .ok (.iconst (-1), 1) := dk_2 (dk_at dksX7_init_3 22 rfl rfl)
theorem dX7_init_94 : decode cX7_init 94 = .ok (.iconst (-1), 1) := dk_2 (dk_at dksX7_init_3 23 rfl rfl)
theorem dX7_init_95 : decode cX7_init 95 = .ok (.invokevirtual 38, 3) := dk_182 0 38 (dk_at dksX7_init_4 0 rfl rfl)
theorem dX7_init_98 : decode cX7_init 98 = .ok (.pop, 1) := dk_87 (dk_at dksX7_init_4 3 rfl rfl)
theorem dX7_init_99 : decode cX7_init 99 = .ok (.iinc 1 1, 3) := dk_132 1 1 (dk_at dksX7_init_4 4 rfl rfl)
theorem dX7_init_102 : decode cX7_init 102 = .ok (.goto (-17), 3) := dk_167 255 239 (dk_at dksX7_init_4 7 rfl rfl)
theorem dX7_init_105 : decode cX7_init 105 = .ok (.return_, 1) := dk_177 (dk_at dksX7_init_4 10 rfl rfl)
abbrev cX7_make : ByteArray := prog_22_method_8_code
def yX7_make : MethodName := ⟨RX7, "make", "(III)I"⟩
def dkwX7_make_7 : List UInt8 := [21, 6, 42, 180, 0, 33, 21, 5, 46, 79, 42, 180, 0, 33, 21, 5, 21, 6, 79, 21, 6, 172]
abbrev dktX7_make_7 : List UInt8 := dkwX7_make_7 ++ []
def dkwX7_make_6 : List UInt8 := [21, 4, 147, 86, 42, 180, 0, 27, 21, 6, 42, 27, 28, 29, 182, 0, 62, 145, 84, 42, 180, 0, 30]
abbrev dktX7_make_6 : List UInt8 := dkwX7_make_6 ++ dktX7_make_7
def dkwX7_make_5 : List UInt8 := [84, 42, 180, 0, 16, 21, 6, 28, 79, 42, 180, 0, 20, 21, 6, 29, 79, 42, 180, 0, 23, 21, 6]
abbrev dktX7_make_5 : List UInt8 := dkwX7_make_5 ++ dktX7_make_6
def dkwX7_make_4 : List UInt8 := [156, 0, 89, 42, 89, 180, 0, 43, 90, 4, 96, 181, 0, 43, 54, 6, 42, 180, 0, 10, 21, 6, 27, 145]
abbrev dktX7_make_4 : List UInt8 := dkwX7_make_4 ++ dktX7_make_5
def dkwX7_make_3 : List UInt8 := [180, 0, 20, 21, 6, 46, 29, 159, 0, 15, 42, 180, 0, 30, 21, 6, 46, 54, 6, 167, 255, 209, 21, 6]
abbrev dktX7_make_3 : List UInt8 := dkwX7_make_3 ++ dktX7_make_4
def dkwX7_make_2 : List UInt8 := [180, 0, 10, 21, 6, 51, 27, 160, 0, 25, 42, 180, 0, 16, 21, 6, 46, 28, 160, 0, 14, 42]
abbrev dktX7_make_2 : List UInt8 := dkwX7_make_2 ++ dktX7_make_3
def dkwX7_make_1 : List UInt8 := [172, 27, 28, 29, 184, 0, 47, 54, 5, 42, 180, 0, 33, 21, 5, 46, 54, 6, 21, 6, 155, 0, 48, 42]
abbrev dktX7_make_1 : List UInt8 := dkwX7_make_1 ++ dktX7_make_2
def dkwX7_make_0 : List UInt8 := [4, 42, 28, 182, 0, 58, 96, 42, 29, 182, 0, 58, 96, 54, 4, 21, 4, 17, 0, 200, 164, 0, 5, 2]
abbrev dktX7_make_0 : List UInt8 := dkwX7_make_0 ++ dktX7_make_1
theorem dksX7_make_0 : cX7_make.data.toList.drop 0 = dktX7_make_0 := by decide +kernel
theorem dksX7_make_1 : cX7_make.data.toList.drop 24 = dktX7_make_1 := dk_seg dksX7_make_0 24 rfl rfl
theorem dksX7_make_2 : cX7_make.data.toList.drop 48 = dktX7_make_2 := dk_seg dksX7_make_1 24 rfl rfl
theorem dksX7_make_3 : cX7_make.data.toList.drop 70 = dktX7_make_3 := dk_seg dksX7_make_2 22 rfl rfl
theorem dksX7_make_4 : cX7_make.data.toList.drop 94 = dktX7_make_4 := dk_seg dksX7_make_3 24 rfl rfl
theorem dksX7_make_5 : cX7_make.data.toList.drop 118 = dktX7_make_5 := dk_seg dksX7_make_4 24 rfl rfl
theorem dksX7_make_6 : cX7_make.data.toList.drop 141 = dktX7_make_6 := dk_seg dksX7_make_5 23 rfl rfl
theorem dksX7_make_7 : cX7_make.data.toList.drop 164 = dktX7_make_7 := dk_seg dksX7_make_6 23 rfl rfl
theorem dX7_make_0 : decode cX7_make 0 = .ok (.iconst 1, 1) := dk_4 (dk_at dksX7_make_0 0 rfl rfl)
theorem dX7_make_1 : decode cX7_make 1 = .ok (.aload_n 0, 1) := dk_42 (dk_at dksX7_make_0 1 rfl rfl)
theorem dX7_make_2 : decode cX7_make 2 = .ok (.iload_n 2, 1) := dk_28 (dk_at dksX7_make_0 2 rfl rfl)
theorem dX7_make_3 : decode cX7_make 3 = .ok (.invokevirtual 58, 3) := dk_182 0 58 (dk_at dksX7_make_0 3 rfl rfl)
theorem dX7_make_6 : decode cX7_make 6 = .ok (.iadd, 1) := dk_96 (dk_at dksX7_make_0 6 rfl rfl)
theorem dX7_make_7 : decode cX7_make 7 = .ok (.aload_n 0, 1) := dk_42 (dk_at dksX7_make_0 7 rfl rfl)
theorem dX7_make_8 : decode cX7_make 8 = .ok (.iload_n 3, 1) := dk_29 (dk_at dksX7_make_0 8 rfl rfl)
theorem dX7_make_9 : decode cX7_make 9 = .ok (.invokevirtual 58, 3) := dk_182 0 58 (dk_at dksX7_make_0 9 rfl rfl)
theorem dX7_make_12 : decode cX7_make 12 = .ok (.iadd, 1) := dk_96 (dk_at dksX7_make_0 12 rfl rfl)
theorem dX7_make_13 : decode cX7_make 13 = .ok (.istore 4, 2) := dk_54 4 (dk_at dksX7_make_0 13 rfl rfl)
theorem dX7_make_15 : decode cX7_make 15 = .ok (.iload 4, 2) := dk_21 4 (dk_at dksX7_make_0 15 rfl rfl)
theorem dX7_make_17 : decode cX7_make 17 = .ok (.sipush 200, 3) := dk_17 0 200 (dk_at dksX7_make_0 17 rfl rfl)
theorem dX7_make_20 : decode cX7_make 20 = .ok (.if_icmp .le 5, 3) := dk_164 0 5 (dk_at dksX7_make_0 20 rfl rfl)
theorem dX7_make_23 : decode cX7_make 23 = .ok (.iconst (-1), 1) := dk_2 (dk_at dksX7_make_0 23 rfl rfl)
theorem dX7_make_24 : decode cX7_make 24 = .ok (.ireturn, 1) := dk_172 (dk_at dksX7_make_1 0 rfl rfl)
theorem dX7_make_25 : decode cX7_make 25 = .ok (.iload_n 1, 1) := dk_27 (dk_at dksX7_make_1 1 rfl rfl)
theorem dX7_make_26 : decode cX7_make 26 = .ok (.iload_n 2, 1) := dk_28 (dk_at dksX7_make_1 2 rfl rfl)
theorem dX7_make_27 : decode cX7_make 27 = .ok (.iload_n 3, 1) := dk_29 (dk_at dksX7_make_1 3 rfl rfl)
theorem dX7_make_28 : decode cX7_make 28 = .ok (.invokestatic 47, 3) := dk_184 0 47 (dk_at dksX7_make_1 4 rfl rfl)
theorem dX7_make_31 : decode cX7_make 31 = .ok (.istore 5, 2) := dk_54 5 (dk_at dksX7_make_1 7 rfl rfl)
theorem dX7_make_33 : decode cX7_make 33 = .ok (.aload_n 0, 1) := dk_42 (dk_at dksX7_make_1 9 rfl rfl)
theorem dX7_make_34 : decode cX7_make 34 = .ok (.getfield 33, 3) := dk_180 0 33 (dk_at dksX7_make_1 10 rfl rfl)
theorem dX7_make_37 : decode cX7_make 37 = .ok (.iload 5, 2) := dk_21 5 (dk_at dksX7_make_1 13 rfl rfl)
theorem dX7_make_39 : decode cX7_make 39 = .ok (.iaload, 1) := dk_46 (dk_at dksX7_make_1 15 rfl rfl)
theorem dX7_make_40 : decode cX7_make 40 = .ok (.istore 6, 2) := dk_54 6 (dk_at dksX7_make_1 16 rfl rfl)
theorem dX7_make_42 : decode cX7_make 42 = .ok (.iload 6, 2) := dk_21 6 (dk_at dksX7_make_1 18 rfl rfl)
theorem dX7_make_44 : decode cX7_make 44 = .ok (.ifCond .lt 48, 3) := dk_155 0 48 (dk_at dksX7_make_1 20 rfl rfl)
theorem dX7_make_47 : decode cX7_make 47 = .ok (.aload_n 0, 1) := dk_42 (dk_at dksX7_make_1 23 rfl rfl)
theorem dX7_make_48 : decode cX7_make 48 = .ok (.getfield 10, 3) := dk_180 0 10 (dk_at dksX7_make_2 0 rfl rfl)
theorem dX7_make_51 : decode cX7_make 51 = .ok (.iload 6, 2) := dk_21 6 (dk_at dksX7_make_2 3 rfl rfl)
theorem dX7_make_53 : decode cX7_make 53 = .ok (.baload, 1) := dk_51 (dk_at dksX7_make_2 5 rfl rfl)
theorem dX7_make_54 : decode cX7_make 54 = .ok (.iload_n 1, 1) := dk_27 (dk_at dksX7_make_2 6 rfl rfl)
theorem dX7_make_55 : decode cX7_make 55 = .ok (.if_icmp .ne 25, 3) := dk_160 0 25 (dk_at dksX7_make_2 7 rfl rfl)
theorem dX7_make_58 : decode cX7_make 58 = .ok (.aload_n 0, 1) := dk_42 (dk_at dksX7_make_2 10 rfl rfl)
theorem dX7_make_59 : decode cX7_make 59 = .ok (.getfield 16, 3) := dk_180 0 16 (dk_at dksX7_make_2 11 rfl rfl)
theorem dX7_make_62 : decode cX7_make 62 = .ok (.iload 6, 2) := dk_21 6 (dk_at dksX7_make_2 14 rfl rfl)
theorem dX7_make_64 : decode cX7_make 64 = .ok (.iaload, 1) := dk_46 (dk_at dksX7_make_2 16 rfl rfl)
theorem dX7_make_65 : decode cX7_make 65 = .ok (.iload_n 2, 1) := dk_28 (dk_at dksX7_make_2 17 rfl rfl)
theorem dX7_make_66 : decode cX7_make 66 = .ok (.if_icmp .ne 14, 3) := dk_160 0 14 (dk_at dksX7_make_2 18 rfl rfl)
theorem dX7_make_69 : decode cX7_make 69 = .ok (.aload_n 0, 1) := dk_42 (dk_at dksX7_make_2 21 rfl rfl)
theorem dX7_make_70 : decode cX7_make 70 = .ok (.getfield 20, 3) := dk_180 0 20 (dk_at dksX7_make_3 0 rfl rfl)
theorem dX7_make_73 : decode cX7_make 73 = .ok (.iload 6, 2) := dk_21 6 (dk_at dksX7_make_3 3 rfl rfl)
theorem dX7_make_75 : decode cX7_make 75 = .ok (.iaload, 1) := dk_46 (dk_at dksX7_make_3 5 rfl rfl)
theorem dX7_make_76 : decode cX7_make 76 = .ok (.iload_n 3, 1) := dk_29 (dk_at dksX7_make_3 6 rfl rfl)
theorem dX7_make_77 : decode cX7_make 77 = .ok (.if_icmp .eq 15, 3) := dk_159 0 15 (dk_at dksX7_make_3 7 rfl rfl)
theorem dX7_make_80 : decode cX7_make 80 = .ok (.aload_n 0, 1) := dk_42 (dk_at dksX7_make_3 10 rfl rfl)
theorem dX7_make_81 : decode cX7_make 81 = .ok (.getfield 30, 3) := dk_180 0 30 (dk_at dksX7_make_3 11 rfl rfl)
theorem dX7_make_84 : decode cX7_make 84 = .ok (.iload 6, 2) := dk_21 6 (dk_at dksX7_make_3 14 rfl rfl)
theorem dX7_make_86 : decode cX7_make 86 = .ok (.iaload, 1) := dk_46 (dk_at dksX7_make_3 16 rfl rfl)
theorem dX7_make_87 : decode cX7_make 87 = .ok (.istore 6, 2) := dk_54 6 (dk_at dksX7_make_3 17 rfl rfl)
theorem dX7_make_89 : decode cX7_make 89 = .ok (.goto (-47), 3) := dk_167 255 209 (dk_at dksX7_make_3 19 rfl rfl)
theorem dX7_make_92 : decode cX7_make 92 = .ok (.iload 6, 2) := dk_21 6 (dk_at dksX7_make_3 22 rfl rfl)
theorem dX7_make_94 : decode cX7_make 94 = .ok (.ifCond .ge 89, 3) := dk_156 0 89 (dk_at dksX7_make_4 0 rfl rfl)
theorem dX7_make_97 : decode cX7_make 97 = .ok (.aload_n 0, 1) := dk_42 (dk_at dksX7_make_4 3 rfl rfl)
theorem dX7_make_98 : decode cX7_make 98 = .ok (.dup, 1) := dk_89 (dk_at dksX7_make_4 4 rfl rfl)
theorem dX7_make_99 : decode cX7_make 99 = .ok (.getfield 43, 3) := dk_180 0 43 (dk_at dksX7_make_4 5 rfl rfl)
theorem dX7_make_102 : decode cX7_make 102 = .ok (.dup_x1, 1) := dk_90 (dk_at dksX7_make_4 8 rfl rfl)
theorem dX7_make_103 : decode cX7_make 103 = .ok (.iconst 1, 1) := dk_4 (dk_at dksX7_make_4 9 rfl rfl)
theorem dX7_make_104 : decode cX7_make 104 = .ok (.iadd, 1) := dk_96 (dk_at dksX7_make_4 10 rfl rfl)
theorem dX7_make_105 : decode cX7_make 105 = .ok (.putfield 43, 3) := dk_181 0 43 (dk_at dksX7_make_4 11 rfl rfl)
theorem dX7_make_108 : decode cX7_make 108 = .ok (.istore 6, 2) := dk_54 6 (dk_at dksX7_make_4 14 rfl rfl)
theorem dX7_make_110 : decode cX7_make 110 = .ok (.aload_n 0, 1) := dk_42 (dk_at dksX7_make_4 16 rfl rfl)
theorem dX7_make_111 : decode cX7_make 111 = .ok (.getfield 10, 3) := dk_180 0 10 (dk_at dksX7_make_4 17 rfl rfl)
theorem dX7_make_114 : decode cX7_make 114 = .ok (.iload 6, 2) := dk_21 6 (dk_at dksX7_make_4 20 rfl rfl)
theorem dX7_make_116 : decode cX7_make 116 = .ok (.iload_n 1, 1) := dk_27 (dk_at dksX7_make_4 22 rfl rfl)
theorem dX7_make_117 : decode cX7_make 117 = .ok (.i2b, 1) := dk_145 (dk_at dksX7_make_4 23 rfl rfl)
theorem dX7_make_118 : decode cX7_make 118 = .ok (.bastore, 1) := dk_84 (dk_at dksX7_make_5 0 rfl rfl)
theorem dX7_make_119 : decode cX7_make 119 = .ok (.aload_n 0, 1) := dk_42 (dk_at dksX7_make_5 1 rfl rfl)
theorem dX7_make_120 : decode cX7_make 120 = .ok (.getfield 16, 3) := dk_180 0 16 (dk_at dksX7_make_5 2 rfl rfl)
theorem dX7_make_123 : decode cX7_make 123 = .ok (.iload 6, 2) := dk_21 6 (dk_at dksX7_make_5 5 rfl rfl)
theorem dX7_make_125 : decode cX7_make 125 = .ok (.iload_n 2, 1) := dk_28 (dk_at dksX7_make_5 7 rfl rfl)
theorem dX7_make_126 : decode cX7_make 126 = .ok (.iastore, 1) := dk_79 (dk_at dksX7_make_5 8 rfl rfl)
theorem dX7_make_127 : decode cX7_make 127 = .ok (.aload_n 0, 1) := dk_42 (dk_at dksX7_make_5 9 rfl rfl)
theorem dX7_make_128 : decode cX7_make 128 = .ok (.getfield 20, 3) := dk_180 0 20 (dk_at dksX7_make_5 10 rfl rfl)
theorem dX7_make_131 : decode cX7_make 131 = .ok (.iload 6, 2) := dk_21 6 (dk_at dksX7_make_5 13 rfl rfl)
theorem dX7_make_133 : decode cX7_make 133 = .ok (.iload_n 3, 1) := dk_29 (dk_at dksX7_make_5 15 rfl rfl)
theorem dX7_make_134 : decode cX7_make 134 = .ok (.iastore, 1) := dk_79 (dk_at dksX7_make_5 16 rfl rfl)
theorem dX7_make_135 : decode cX7_make 135 = .ok (.aload_n 0, 1) := dk_42 (dk_at dksX7_make_5 17 rfl rfl)
theorem dX7_make_136 : decode cX7_make 136 = .ok (.getfield 23, 3) := dk_180 0 23 (dk_at dksX7_make_5 18 rfl rfl)
theorem dX7_make_139 : decode cX7_make 139 = .ok (.iload 6, 2) := dk_21 6 (dk_at dksX7_make_5 21 rfl rfl)
theorem dX7_make_141 : decode cX7_make 141 = .ok (.iload 4, 2) := dk_21 4 (dk_at dksX7_make_6 0 rfl rfl)
theorem dX7_make_143 : decode cX7_make 143 = .ok (.i2s, 1) := dk_147 (dk_at dksX7_make_6 2 rfl rfl)
theorem dX7_make_144 : decode cX7_make 144 = .ok (.sastore, 1) := dk_86 (dk_at dksX7_make_6 3 rfl rfl)
theorem dX7_make_145 : decode cX7_make 145 = .ok (.aload_n 0, 1) := dk_42 (dk_at dksX7_make_6 4 rfl rfl)
theorem dX7_make_146 : decode cX7_make 146 = .ok (.getfield 27, 3) := dk_180 0 27 (dk_at dksX7_make_6 5 rfl rfl)
theorem dX7_make_149 : decode cX7_make 149 = .ok (.iload 6, 2) := dk_21 6 (dk_at dksX7_make_6 8 rfl rfl)
theorem dX7_make_151 : decode cX7_make 151 = .ok (.aload_n 0, 1) := dk_42 (dk_at dksX7_make_6 10 rfl rfl)
theorem dX7_make_152 : decode cX7_make 152 = .ok (.iload_n 1, 1) := dk_27 (dk_at dksX7_make_6 11 rfl rfl)
theorem dX7_make_153 : decode cX7_make 153 = .ok (.iload_n 2, 1) := dk_28 (dk_at dksX7_make_6 12 rfl rfl)
theorem dX7_make_154 : decode cX7_make 154 = .ok (.iload_n 3, 1) := dk_29 (dk_at dksX7_make_6 13 rfl rfl)
theorem dX7_make_155 : decode cX7_make 155 = .ok (.invokevirtual 62, 3) := dk_182 0 62 (dk_at dksX7_make_6 14 rfl rfl)
theorem dX7_make_158 : decode cX7_make 158 = .ok (.i2b, 1) := dk_145 (dk_at dksX7_make_6 17 rfl rfl)
theorem dX7_make_159 : decode cX7_make 159 = .ok (.bastore, 1) := dk_84 (dk_at dksX7_make_6 18 rfl rfl)
theorem dX7_make_160 : decode cX7_make 160 = .ok (.aload_n 0, 1) := dk_42 (dk_at dksX7_make_6 19 rfl rfl)
theorem dX7_make_161 : decode cX7_make 161 = .ok (.getfield 30, 3) := dk_180 0 30 (dk_at dksX7_make_6 20 rfl rfl)
theorem dX7_make_164 : decode cX7_make 164 = .ok (.iload 6, 2) := dk_21 6 (dk_at dksX7_make_7 0 rfl rfl)
theorem dX7_make_166 : decode cX7_make 166 = .ok (.aload_n 0, 1) := dk_42 (dk_at dksX7_make_7 2 rfl rfl)
theorem dX7_make_167 : decode cX7_make 167 = .ok (.getfield 33, 3) := dk_180 0 33 (dk_at dksX7_make_7 3 rfl rfl)
theorem dX7_make_170 : decode cX7_make 170 = .ok (.iload 5, 2) := dk_21 5 (dk_at dksX7_make_7 6 rfl rfl)
theorem dX7_make_172 : decode cX7_make 172 = .ok (.iaload, 1) := dk_46 (dk_at dksX7_make_7 8 rfl rfl)
theorem dX7_make_173 : decode cX7_make 173 = .ok (.iastore, 1) := dk_79 (dk_at dksX7_make_7 9 rfl rfl)
theorem dX7_make_174 : decode cX7_make 174 = .ok (.aload_n 0, 1) := dk_42 (dk_at dksX7_make_7 10 rfl rfl)
theorem dX7_make_175 : decode cX7_make 175 = .ok (.getfield 33, 3) := dk_180 0 33 (dk_at dksX7_make_7 11 rfl rfl)
theorem dX7_make_178 : decode cX7_make 178 = .ok (.iload 5, 2) := dk_21 5 (dk_at dksX7_make_7 14 rfl rfl)
theorem dX7_make_180 : decode cX7_make 180 = .ok (.iload 6, 2) := dk_21 6 (dk_at dksX7_make_7 16 rfl rfl)
theorem dX7_make_182 : decode cX7_make 182 = .ok (.iastore, 1) := dk_79 (dk_at dksX7_make_7 18 rfl rfl)
theorem dX7_make_183 : decode cX7_make 183 = .ok (.iload 6, 2) := dk_21 6 (dk_at dksX7_make_7 19 rfl rfl)
theorem dX7_make_185 : decode cX7_make 185 = .ok (.ireturn, 1) := dk_172 (dk_at dksX7_make_7 21 rfl rfl)
abbrev cX7_partsOf : ByteArray := prog_22_method_4_code
def yX7_partsOf : MethodName := ⟨RX7, "partsOf", "(I)I"⟩
def dkwX7_partsOf_0 : List UInt8 := [27, 156, 0, 7, 3, 167, 0, 9, 42, 180, 0, 23, 27, 53, 172]
abbrev dktX7_partsOf_0 : List UInt8 := dkwX7_partsOf_0 ++ []
theorem dksX7_partsOf_0 : cX7_partsOf.data.toList.drop 0 = dktX7_partsOf_0 := by decide +kernel
theorem dX7_partsOf_0 : decode cX7_partsOf 0 = .ok (.iload_n 1, 1) := dk_27 (dk_at dksX7_partsOf_0 0 rfl rfl)
theorem dX7_partsOf_1 : decode cX7_partsOf 1 = .ok (.ifCond .ge 7, 3) := dk_156 0 7 (dk_at dksX7_partsOf_0 1 rfl rfl)
theorem dX7_partsOf_4 : decode cX7_partsOf 4 = .ok (.iconst 0, 1) := dk_3 (dk_at dksX7_partsOf_0 4 rfl rfl)
theorem dX7_partsOf_5 : decode cX7_partsOf 5 = .ok (.goto 9, 3) := dk_167 0 9 (dk_at dksX7_partsOf_0 5 rfl rfl)
theorem dX7_partsOf_8 : decode cX7_partsOf 8 = .ok (.aload_n 0, 1) := dk_42 (dk_at dksX7_partsOf_0 8 rfl rfl)
theorem dX7_partsOf_9 : decode cX7_partsOf 9 = .ok (.getfield 23, 3) := dk_180 0 23 (dk_at dksX7_partsOf_0 9 rfl rfl)
theorem dX7_partsOf_12 : decode cX7_partsOf 12 = .ok (.iload_n 1, 1) := dk_27 (dk_at dksX7_partsOf_0 12 rfl rfl)
theorem dX7_partsOf_13 : decode cX7_partsOf 13 = .ok (.saload, 1) := dk_53 (dk_at dksX7_partsOf_0 13 rfl rfl)
theorem dX7_partsOf_14 : decode cX7_partsOf 14 = .ok (.ireturn, 1) := dk_172 (dk_at dksX7_partsOf_0 14 rfl rfl)
abbrev cX7_bucket : ByteArray := prog_22_method_2_code
def yX7_bucket : MethodName := ⟨RX7, "bucket", "(III)I"⟩
def dkwX7_bucket_1 : List UInt8 := [17, 15, 255, 126, 172]
abbrev dktX7_bucket_1 : List UInt8 := dkwX7_bucket_1 ++ []
def dkwX7_bucket_0 : List UInt8 := [26, 16, 31, 104, 27, 96, 18, 42, 104, 28, 17, 38, 245, 104, 96, 62, 29, 29, 16, 12, 124, 130]
abbrev dktX7_bucket_0 : List UInt8 := dkwX7_bucket_0 ++ dktX7_bucket_1
theorem dksX7_bucket_0 : cX7_bucket.data.toList.drop 0 = dktX7_bucket_0 := by decide +kernel
theorem dksX7_bucket_1 : cX7_bucket.data.toList.drop 22 = dktX7_bucket_1 := dk_seg dksX7_bucket_0 22 rfl rfl
theorem dX7_bucket_0 : decode cX7_bucket 0 = .ok (.iload_n 0, 1) := dk_26 (dk_at dksX7_bucket_0 0 rfl rfl)
theorem dX7_bucket_1 : decode cX7_bucket 1 = .ok (.bipush 31, 2) := dk_16 31 (dk_at dksX7_bucket_0 1 rfl rfl)
theorem dX7_bucket_3 : decode cX7_bucket 3 = .ok (.imul, 1) := dk_104 (dk_at dksX7_bucket_0 3 rfl rfl)
theorem dX7_bucket_4 : decode cX7_bucket 4 = .ok (.iload_n 1, 1) := dk_27 (dk_at dksX7_bucket_0 4 rfl rfl)
theorem dX7_bucket_5 : decode cX7_bucket 5 = .ok (.iadd, 1) := dk_96 (dk_at dksX7_bucket_0 5 rfl rfl)
theorem dX7_bucket_6 : decode cX7_bucket 6 = .ok (.ldc 42, 2) := dk_18 42 (dk_at dksX7_bucket_0 6 rfl rfl)
theorem dX7_bucket_8 : decode cX7_bucket 8 = .ok (.imul, 1) := dk_104 (dk_at dksX7_bucket_0 8 rfl rfl)
theorem dX7_bucket_9 : decode cX7_bucket 9 = .ok (.iload_n 2, 1) := dk_28 (dk_at dksX7_bucket_0 9 rfl rfl)
theorem dX7_bucket_10 : decode cX7_bucket 10 = .ok (.sipush 9973, 3) := dk_17 38 245 (dk_at dksX7_bucket_0 10 rfl rfl)
theorem dX7_bucket_13 : decode cX7_bucket 13 = .ok (.imul, 1) := dk_104 (dk_at dksX7_bucket_0 13 rfl rfl)
theorem dX7_bucket_14 : decode cX7_bucket 14 = .ok (.iadd, 1) := dk_96 (dk_at dksX7_bucket_0 14 rfl rfl)
theorem dX7_bucket_15 : decode cX7_bucket 15 = .ok (.istore_n 3, 1) := dk_62 (dk_at dksX7_bucket_0 15 rfl rfl)
theorem dX7_bucket_16 : decode cX7_bucket 16 = .ok (.iload_n 3, 1) := dk_29 (dk_at dksX7_bucket_0 16 rfl rfl)
theorem dX7_bucket_17 : decode cX7_bucket 17 = .ok (.iload_n 3, 1) := dk_29 (dk_at dksX7_bucket_0 17 rfl rfl)
theorem dX7_bucket_18 : decode cX7_bucket 18 = .ok (.bipush 12, 2) := dk_16 12 (dk_at dksX7_bucket_0 18 rfl rfl)
theorem dX7_bucket_20 : decode cX7_bucket 20 = .ok (.iushr, 1) := dk_124 (dk_at dksX7_bucket_0 20 rfl rfl)
theorem dX7_bucket_21 : decode cX7_bucket 21 = .ok (.ixor, 1) := dk_130 (dk_at dksX7_bucket_0 21 rfl rfl)
theorem dX7_bucket_22 : decode cX7_bucket 22 = .ok (.sipush 4095, 3) := dk_17 15 255 (dk_at dksX7_bucket_1 0 rfl rfl)
theorem dX7_bucket_25 : decode cX7_bucket 25 = .ok (.iand, 1) := dk_126 (dk_at dksX7_bucket_1 3 rfl rfl)
theorem dX7_bucket_26 : decode cX7_bucket 26 = .ok (.ireturn, 1) := dk_172 (dk_at dksX7_bucket_1 4 rfl rfl)
abbrev cX7_marksOf : ByteArray := prog_22_method_7_code
def yX7_marksOf : MethodName := ⟨RX7, "marksOf", "(III)I"⟩
def dkwX7_marksOf_5 : List UInt8 := [153, 0, 20, 42, 28, 29, 4, 182, 0, 54, 153, 0, 10, 21, 4, 4, 128, 167, 0, 5, 21, 4, 172]
abbrev dktX7_marksOf_5 : List UInt8 := dkwX7_marksOf_5 ++ []
def dkwX7_marksOf_4 : List UInt8 := [159, 0, 15, 27, 16, 14, 159, 0, 9, 27, 16, 18, 160, 0, 7, 4, 167, 0, 4, 3, 54, 5, 21, 5]
abbrev dktX7_marksOf_4 : List UInt8 := dkwX7_marksOf_4 ++ dktX7_marksOf_5
def dkwX7_marksOf_3 : List UInt8 := [160, 0, 17, 42, 28, 29, 7, 182, 0, 54, 153, 0, 7, 7, 167, 0, 4, 3, 54, 4, 27, 16, 10]
abbrev dktX7_marksOf_3 : List UInt8 := dkwX7_marksOf_3 ++ dktX7_marksOf_4
def dkwX7_marksOf_2 : List UInt8 := [167, 0, 4, 3, 172, 42, 28, 29, 5, 182, 0, 54, 153, 0, 8, 16, 6, 167, 0, 24, 27, 16, 18]
abbrev dktX7_marksOf_2 : List UInt8 := dkwX7_marksOf_2 ++ dktX7_marksOf_3
def dkwX7_marksOf_1 : List UInt8 := [16, 17, 160, 0, 5, 3, 172, 27, 16, 16, 160, 0, 18, 42, 29, 5, 182, 0, 50, 153, 0, 7, 7]
abbrev dktX7_marksOf_1 : List UInt8 := dkwX7_marksOf_1 ++ dktX7_marksOf_2
def dkwX7_marksOf_0 : List UInt8 := [28, 156, 0, 16, 27, 16, 9, 160, 0, 7, 3, 167, 0, 5, 16, 7, 172, 27, 16, 13, 159, 0, 9, 27]
abbrev dktX7_marksOf_0 : List UInt8 := dkwX7_marksOf_0 ++ dktX7_marksOf_1
theorem dksX7_marksOf_0 : cX7_marksOf.data.toList.drop 0 = dktX7_marksOf_0 := by decide +kernel
theorem dksX7_marksOf_1 : cX7_marksOf.data.toList.drop 24 = dktX7_marksOf_1 := dk_seg dksX7_marksOf_0 24 rfl rfl
theorem dksX7_marksOf_2 : cX7_marksOf.data.toList.drop 47 = dktX7_marksOf_2 := dk_seg dksX7_marksOf_1 23 rfl rfl
theorem dksX7_marksOf_3 : cX7_marksOf.data.toList.drop 70 = dktX7_marksOf_3 := dk_seg dksX7_marksOf_2 23 rfl rfl
theorem dksX7_marksOf_4 : cX7_marksOf.data.toList.drop 93 = dktX7_marksOf_4 := dk_seg dksX7_marksOf_3 23 rfl rfl
theorem dksX7_marksOf_5 : cX7_marksOf.data.toList.drop 117 = dktX7_marksOf_5 := dk_seg dksX7_marksOf_4 24 rfl rfl
theorem dX7_marksOf_0 : decode cX7_marksOf 0 = .ok (.iload_n 2, 1) := dk_28 (dk_at dksX7_marksOf_0 0 rfl rfl)
theorem dX7_marksOf_1 : decode cX7_marksOf 1 = .ok (.ifCond .ge 16, 3) := dk_156 0 16 (dk_at dksX7_marksOf_0 1 rfl rfl)
theorem dX7_marksOf_4 : decode cX7_marksOf 4 = .ok (.iload_n 1, 1) := dk_27 (dk_at dksX7_marksOf_0 4 rfl rfl)
theorem dX7_marksOf_5 : decode cX7_marksOf 5 = .ok (.bipush 9, 2) := dk_16 9 (dk_at dksX7_marksOf_0 5 rfl rfl)
theorem dX7_marksOf_7 : decode cX7_marksOf 7 = .ok (.if_icmp .ne 7, 3) := dk_160 0 7 (dk_at dksX7_marksOf_0 7 rfl rfl)
theorem dX7_marksOf_10 : decode cX7_marksOf 10 = .ok (.iconst 0, 1) := dk_3 (dk_at dksX7_marksOf_0 10 rfl rfl)
theorem dX7_marksOf_11 : decode cX7_marksOf 11 = .ok (.goto 5, 3) := dk_167 0 5 (dk_at dksX7_marksOf_0 11 rfl rfl)
theorem dX7_marksOf_14 : decode cX7_marksOf 14 = .ok (.bipush 7, 2) := dk_16 7 (dk_at dksX7_marksOf_0 14 rfl rfl)
theorem dX7_marksOf_16 : decode cX7_marksOf 16 = .ok (.ireturn, 1) := dk_172 (dk_at dksX7_marksOf_0 16 rfl rfl)
theorem dX7_marksOf_17 : decode cX7_marksOf 17 = .ok (.iload_n 1, 1) := dk_27 (dk_at dksX7_marksOf_0 17 rfl rfl)
theorem dX7_marksOf_18 : decode cX7_marksOf 18 = .ok (.bipush 13, 2) := dk_16 13 (dk_at dksX7_marksOf_0 18 rfl rfl)
theorem dX7_marksOf_20 : decode cX7_marksOf 20 = .ok (.if_icmp .eq 9, 3) := dk_159 0 9 (dk_at dksX7_marksOf_0 20 rfl rfl)
theorem dX7_marksOf_23 : decode cX7_marksOf 23 = .ok (.iload_n 1, 1) := dk_27 (dk_at dksX7_marksOf_0 23 rfl rfl)
theorem dX7_marksOf_24 : decode cX7_marksOf 24 = .ok (.bipush 17, 2) := dk_16 17 (dk_at dksX7_marksOf_1 0 rfl rfl)
theorem dX7_marksOf_26 : decode cX7_marksOf 26 = .ok (.if_icmp .ne 5, 3) := dk_160 0 5 (dk_at dksX7_marksOf_1 2 rfl rfl)
theorem dX7_marksOf_29 : decode cX7_marksOf 29 = .ok (.iconst 0, 1) := dk_3 (dk_at dksX7_marksOf_1 5 rfl rfl)
theorem dX7_marksOf_30 : decode cX7_marksOf 30 = .ok (.ireturn, 1) := dk_172 (dk_at dksX7_marksOf_1 6 rfl rfl)
theorem dX7_marksOf_31 : decode cX7_marksOf 31 = .ok (.iload_n 1, 1) := dk_27 (dk_at dksX7_marksOf_1 7 rfl rfl)
theorem dX7_marksOf_32 : decode cX7_marksOf 32 = .ok (.bipush 16, 2) := dk_16 16 (dk_at dksX7_marksOf_1 8 rfl rfl)
theorem dX7_marksOf_34 : decode cX7_marksOf 34 = .ok (.if_icmp .ne 18, 3) := dk_160 0 18 (dk_at dksX7_marksOf_1 10 rfl rfl)
theorem dX7_marksOf_37 : decode cX7_marksOf 37 = .ok (.aload_n 0, 1) := dk_42 (dk_at dksX7_marksOf_1 13 rfl rfl)
theorem dX7_marksOf_38 : decode cX7_marksOf 38 = .ok (.iload_n 3, 1) := dk_29 (dk_at dksX7_marksOf_1 14 rfl rfl)
theorem dX7_marksOf_39 : decode cX7_marksOf 39 = .ok (.iconst 2, 1) := dk_5 (dk_at dksX7_marksOf_1 15 rfl rfl)
theorem dX7_marksOf_40 : decode cX7_marksOf 40 = .ok (.invokevirtual 50, 3) := dk_182 0 50 (dk_at dksX7_marksOf_1 16 rfl rfl)
theorem dX7_marksOf_43 : decode cX7_marksOf 43 = .ok (.ifCond .eq 7, 3) := dk_153 0 7 (dk_at dksX7_marksOf_1 19 rfl rfl)
theorem dX7_marksOf_46 : decode cX7_marksOf 46 = .ok (.iconst 4, 1) := dk_7 (dk_at dksX7_marksOf_1 22 rfl rfl)
theorem dX7_marksOf_47 : decode cX7_marksOf 47 = .ok (.goto 4, 3) := dk_167 0 4 (dk_at dksX7_marksOf_2 0 rfl rfl)
theorem dX7_marksOf_50 : decode cX7_marksOf 50 = .ok (.iconst 0, 1) := dk_3 (dk_at dksX7_marksOf_2 3 rfl rfl)
theorem dX7_marksOf_51 : decode cX7_marksOf 51 = .ok (.ireturn, 1) := dk_172 (dk_at dksX7_marksOf_2 4 rfl rfl)
theorem dX7_marksOf_52 : decode cX7_marksOf 52 = .ok (.aload_n 0, 1) := dk_42 (dk_at dksX7_marksOf_2 5 rfl rfl)
theorem dX7_marksOf_53 : decode cX7_marksOf 53 = .ok (.iload_n 2, 1) := dk_28 (dk_at dksX7_marksOf_2 6 rfl rfl)
theorem dX7_marksOf_54 : decode cX7_marksOf 54 = .ok (.iload_n 3, 1) := dk_29 (dk_at dksX7_marksOf_2 7 rfl rfl)
theorem dX7_marksOf_55 : decode cX7_marksOf 55 = .ok (.iconst 2, 1) := dk_5 (dk_at dksX7_marksOf_2 8 rfl rfl)
theorem dX7_marksOf_56 : decode cX7_marksOf 56 = .ok (.invokevirtual 54, 3) := dk_182 0 54 (dk_at dksX7_marksOf_2 9 rfl rfl)
theorem dX7_marksOf_59 : decode cX7_marksOf 59 = .ok (.ifCond .eq 8, 3) := dk_153 0 8 (dk_at dksX7_marksOf_2 12 rfl rfl)
theorem dX7_marksOf_62 : decode cX7_marksOf 62 = .ok (.bipush 6, 2) := dk_16 6 (dk_at dksX7_marksOf_2 15 rfl rfl)
theorem dX7_marksOf_64 : decode cX7_marksOf 64 = .ok (.goto 24, 3) := dk_167 0 24 (dk_at dksX7_marksOf_2 17 rfl rfl)
theorem dX7_marksOf_67 : decode cX7_marksOf 67 = .ok (.iload_n 1, 1) := dk_27 (dk_at dksX7_marksOf_2 20 rfl rfl)
theorem dX7_marksOf_68 : decode cX7_marksOf 68 = .ok (.bipush 18, 2) := dk_16 18 (dk_at dksX7_marksOf_2 21 rfl rfl)
theorem dX7_marksOf_70 : decode cX7_marksOf 70 = .ok (.if_icmp .ne 17, 3) := dk_160 0 17 (dk_at dksX7_marksOf_3 0 rfl rfl)
theorem dX7_marksOf_73 : decode cX7_marksOf 73 = .ok (.aload_n 0, 1) := dk_42 (dk_at dksX7_marksOf_3 3 rfl rfl)
theorem dX7_marksOf_74 : decode cX7_marksOf 74 = .ok (.iload_n 2, 1) := dk_28 (dk_at dksX7_marksOf_3 4 rfl rfl)
theorem dX7_marksOf_75 : decode cX7_marksOf 75 = .ok (.iload_n 3, 1) := dk_29 (dk_at dksX7_marksOf_3 5 rfl rfl)
theorem dX7_marksOf_76 : decode cX7_marksOf 76 = .ok (.iconst 4, 1) := dk_7 (dk_at dksX7_marksOf_3 6 rfl rfl)
theorem dX7_marksOf_77 : decode cX7_marksOf 77 = .ok (.invokevirtual 54, 3) := dk_182 0 54 (dk_at dksX7_marksOf_3 7 rfl rfl)
theorem dX7_marksOf_80 : decode cX7_marksOf 80 = .ok (.ifCond .eq 7, 3) := dk_153 0 7 (dk_at dksX7_marksOf_3 10 rfl rfl)
theorem dX7_marksOf_83 : decode cX7_marksOf 83 = .ok (.iconst 4, 1) := dk_7 (dk_at dksX7_marksOf_3 13 rfl rfl)
theorem dX7_marksOf_84 : decode cX7_marksOf 84 = .ok (.goto 4, 3) := dk_167 0 4 (dk_at dksX7_marksOf_3 14 rfl rfl)
theorem dX7_marksOf_87 : decode cX7_marksOf 87 = .ok (.iconst 0, 1) := dk_3 (dk_at dksX7_marksOf_3 17 rfl rfl)
theorem dX7_marksOf_88 : decode cX7_marksOf 88 = .ok (.istore 4, 2) := dk_54 4 (dk_at dksX7_marksOf_3 18 rfl rfl)
theorem dX7_marksOf_90 : decode cX7_marksOf 90 = .ok (.iload_n 1, 1) := dk_27 (dk_at dksX7_marksOf_3 20 rfl rfl)
theorem dX7_marksOf_91 : decode cX7_marksOf 91 = .ok (.bipush 10, 2) := dk_16 10 (dk_at dksX7_marksOf_3 21 rfl rfl)
theorem dX7_marksOf_93 : decode cX7_marksOf 93 = .ok (.if_icmp .eq 15, 3) := dk_159 0 15 (dk_at dksX7_marksOf_4 0 rfl rfl)
theorem dX7_marksOf_96 : decode cX7_marksOf 96 = .ok (.iload_n 1, 1) := dk_27 (dk_at dksX7_marksOf_4 3 rfl rfl)
theorem dX7_marksOf_97 : decode cX7_marksOf 97 = .ok (.bipush 14, 2) := dk_16 14 (dk_at dksX7_marksOf_4 4 rfl rfl)
theorem dX7_marksOf_99 : decode cX7_marksOf 99 = .ok (.if_icmp .eq 9, 3) := dk_159 0 9 (dk_at dksX7_marksOf_4 6 rfl rfl)
theorem dX7_marksOf_102 : decode cX7_marksOf 102 = .ok (.iload_n 1, 1) := dk_27 (dk_at dksX7_marksOf_4 9 rfl rfl)
theorem dX7_marksOf_103 : decode cX7_marksOf 103 = .ok (.bipush 18, 2) := dk_16 18 (dk_at dksX7_marksOf_4 10 rfl rfl)
theorem dX7_marksOf_105 : decode cX7_marksOf 105 = .ok (.if_icmp .ne 7, 3) := dk_160 0 7 (dk_at dksX7_marksOf_4 12 rfl rfl)
theorem dX7_marksOf_108 : decode cX7_marksOf 108 = .ok (.iconst 1, 1) := dk_4 (dk_at dksX7_marksOf_4 15 rfl rfl)
theorem dX7_marksOf_109 : decode cX7_marksOf 109 = .ok (.goto 4, 3) := dk_167 0 4 (dk_at dksX7_marksOf_4 16 rfl rfl)
theorem dX7_marksOf_112 : decode cX7_marksOf 112 = .ok (.iconst 0, 1) := dk_3 (dk_at dksX7_marksOf_4 19 rfl rfl)
theorem dX7_marksOf_113 : decode cX7_marksOf 113 = .ok (.istore 5, 2) := dk_54 5 (dk_at dksX7_marksOf_4 20 rfl rfl)
theorem dX7_marksOf_115 : decode cX7_marksOf 115 = .ok (.iload 5, 2) := dk_21 5 (dk_at dksX7_marksOf_4 22 rfl rfl)
theorem dX7_marksOf_117 : decode cX7_marksOf 117 = .ok (.ifCond .eq 20, 3) := dk_153 0 20 (dk_at dksX7_marksOf_5 0 rfl rfl)
theorem dX7_marksOf_120 : decode cX7_marksOf 120 = .ok (.aload_n 0, 1) := dk_42 (dk_at dksX7_marksOf_5 3 rfl rfl)
theorem dX7_marksOf_121 : decode cX7_marksOf 121 = .ok (.iload_n 2, 1) := dk_28 (dk_at dksX7_marksOf_5 4 rfl rfl)
theorem dX7_marksOf_122 : decode cX7_marksOf 122 = .ok (.iload_n 3, 1) := dk_29 (dk_at dksX7_marksOf_5 5 rfl rfl)
theorem dX7_marksOf_123 : decode cX7_marksOf 123 = .ok (.iconst 1, 1) := dk_4 (dk_at dksX7_marksOf_5 6 rfl rfl)
theorem dX7_marksOf_124 : decode cX7_marksOf 124 = .ok (.invokevirtual 54, 3) := dk_182 0 54 (dk_at dksX7_marksOf_5 7 rfl rfl)
theorem dX7_marksOf_127 : decode cX7_marksOf 127 = .ok (.ifCond .eq 10, 3) := dk_153 0 10 (dk_at dksX7_marksOf_5 10 rfl rfl)
theorem dX7_marksOf_130 : decode cX7_marksOf 130 = .ok (.iload 4, 2) := dk_21 4 (dk_at dksX7_marksOf_5 13 rfl rfl)
theorem dX7_marksOf_132 : decode cX7_marksOf 132 = .ok (.iconst 1, 1) := dk_4 (dk_at dksX7_marksOf_5 15 rfl rfl)
theorem dX7_marksOf_133 : decode cX7_marksOf 133 = .ok (.ior, 1) := dk_128 (dk_at dksX7_marksOf_5 16 rfl rfl)
theorem dX7_marksOf_134 : decode cX7_marksOf 134 = .ok (.goto 5, 3) := dk_167 0 5 (dk_at dksX7_marksOf_5 17 rfl rfl)
theorem dX7_marksOf_137 : decode cX7_marksOf 137 = .ok (.iload 4, 2) := dk_21 4 (dk_at dksX7_marksOf_5 20 rfl rfl)
theorem dX7_marksOf_139 : decode cX7_marksOf 139 = .ok (.ireturn, 1) := dk_172 (dk_at dksX7_marksOf_5 22 rfl rfl)
abbrev cX7_is : ByteArray := prog_22_method_5_code
def yX7_is : MethodName := ⟨RX7, "is", "(II)Z"⟩
def dkwX7_is_0 : List UInt8 := [42, 180, 0, 27, 27, 51, 28, 126, 153, 0, 7, 4, 167, 0, 4, 3, 172]
abbrev dktX7_is_0 : List UInt8 := dkwX7_is_0 ++ []
theorem dksX7_is_0 : cX7_is.data.toList.drop 0 = dktX7_is_0 := by decide +kernel
theorem dX7_is_0 : decode cX7_is 0 = .ok (.aload_n 0, 1) := dk_42 (dk_at dksX7_is_0 0 rfl rfl)
theorem dX7_is_1 : decode cX7_is 1 = .ok (.getfield 27, 3) := dk_180 0 27 (dk_at dksX7_is_0 1 rfl rfl)
theorem dX7_is_4 : decode cX7_is 4 = .ok (.iload_n 1, 1) := dk_27 (dk_at dksX7_is_0 4 rfl rfl)
theorem dX7_is_5 : decode cX7_is 5 = .ok (.baload, 1) := dk_51 (dk_at dksX7_is_0 5 rfl rfl)
theorem dX7_is_6 : decode cX7_is 6 = .ok (.iload_n 2, 1) := dk_28 (dk_at dksX7_is_0 6 rfl rfl)
theorem dX7_is_7 : decode cX7_is 7 = .ok (.iand, 1) := dk_126 (dk_at dksX7_is_0 7 rfl rfl)
theorem dX7_is_8 : decode cX7_is 8 = .ok (.ifCond .eq 7, 3) := dk_153 0 7 (dk_at dksX7_is_0 8 rfl rfl)
theorem dX7_is_11 : decode cX7_is 11 = .ok (.iconst 1, 1) := dk_4 (dk_at dksX7_is_0 11 rfl rfl)
theorem dX7_is_12 : decode cX7_is 12 = .ok (.goto 4, 3) := dk_167 0 4 (dk_at dksX7_is_0 12 rfl rfl)
theorem dX7_is_15 : decode cX7_is 15 = .ok (.iconst 0, 1) := dk_3 (dk_at dksX7_is_0 15 rfl rfl)
theorem dX7_is_16 : decode cX7_is 16 = .ok (.ireturn, 1) := dk_172 (dk_at dksX7_is_0 16 rfl rfl)
abbrev cX7_both : ByteArray := prog_22_method_6_code
def yX7_both : MethodName := ⟨RX7, "both", "(III)Z"⟩
def dkwX7_both_1 : List UInt8 := [167, 0, 4, 3, 172]
abbrev dktX7_both_1 : List UInt8 := dkwX7_both_1 ++ []
def dkwX7_both_0 : List UInt8 := [42, 27, 29, 182, 0, 50, 153, 0, 20, 28, 155, 0, 12, 42, 28, 29, 182, 0, 50, 153, 0, 7, 4]
abbrev dktX7_both_0 : List UInt8 := dkwX7_both_0 ++ dktX7_both_1
theorem dksX7_both_0 : cX7_both.data.toList.drop 0 = dktX7_both_0 := by decide +kernel
theorem dksX7_both_1 : cX7_both.data.toList.drop 23 = dktX7_both_1 := dk_seg dksX7_both_0 23 rfl rfl
theorem dX7_both_0 : decode cX7_both 0 = .ok (.aload_n 0, 1) := dk_42 (dk_at dksX7_both_0 0 rfl rfl)
theorem dX7_both_1 : decode cX7_both 1 = .ok (.iload_n 1, 1) := dk_27 (dk_at dksX7_both_0 1 rfl rfl)
theorem dX7_both_2 : decode cX7_both 2 = .ok (.iload_n 3, 1) := dk_29 (dk_at dksX7_both_0 2 rfl rfl)
theorem dX7_both_3 : decode cX7_both 3 = .ok (.invokevirtual 50, 3) := dk_182 0 50 (dk_at dksX7_both_0 3 rfl rfl)
theorem dX7_both_6 : decode cX7_both 6 = .ok (.ifCond .eq 20, 3) := dk_153 0 20 (dk_at dksX7_both_0 6 rfl rfl)
theorem dX7_both_9 : decode cX7_both 9 = .ok (.iload_n 2, 1) := dk_28 (dk_at dksX7_both_0 9 rfl rfl)
theorem dX7_both_10 : decode cX7_both 10 = .ok (.ifCond .lt 12, 3) := dk_155 0 12 (dk_at dksX7_both_0 10 rfl rfl)
theorem dX7_both_13 : decode cX7_both 13 = .ok (.aload_n 0, 1) := dk_42 (dk_at dksX7_both_0 13 rfl rfl)
theorem dX7_both_14 : decode cX7_both 14 = .ok (.iload_n 2, 1) := dk_28 (dk_at dksX7_both_0 14 rfl rfl)
theorem dX7_both_15 : decode cX7_both 15 = .ok (.iload_n 3, 1) := dk_29 (dk_at dksX7_both_0 15 rfl rfl)
theorem dX7_both_16 : decode cX7_both 16 = .ok (.invokevirtual 50, 3) := dk_182 0 50 (dk_at dksX7_both_0 16 rfl rfl)
theorem dX7_both_19 : decode cX7_both 19 = .ok (.ifCond .eq 7, 3) := dk_153 0 7 (dk_at dksX7_both_0 19 rfl rfl)
theorem dX7_both_22 : decode cX7_both 22 = .ok (.iconst 1, 1) := dk_4 (dk_at dksX7_both_0 22 rfl rfl)
theorem dX7_both_23 : decode cX7_both 23 = .ok (.goto 4, 3) := dk_167 0 4 (dk_at dksX7_both_1 0 rfl rfl)
theorem dX7_both_26 : decode cX7_both 26 = .ok (.iconst 0, 1) := dk_3 (dk_at dksX7_both_1 3 rfl rfl)
theorem dX7_both_27 : decode cX7_both 27 = .ok (.ireturn, 1) := dk_172 (dk_at dksX7_both_1 4 rfl rfl)
abbrev cX7_of : ByteArray := prog_22_method_12_code
def yX7_of : MethodName := ⟨RX7, "of", "(LContractLedger$Terms;I)I"⟩
def dkwX7_of_8 : List UInt8 := [167, 0, 12, 42, 29, 21, 6, 21, 8, 182, 0, 38, 172]
abbrev dktX7_of_8 : List UInt8 := dkwX7_of_8 ++ []
def dkwX7_of_7 : List UInt8 := [160, 0, 8, 21, 8, 155, 0, 18, 21, 7, 153, 0, 17, 42, 21, 6, 4, 182, 0, 50, 154, 0, 7, 2]
abbrev dktX7_of_7 : List UInt8 := dkwX7_of_7 ++ dktX7_of_8
def dkwX7_of_6 : List UInt8 := [43, 180, 0, 89, 43, 180, 0, 83, 28, 46, 46, 182, 0, 86, 167, 0, 4, 2, 54, 8, 21, 4, 5]
abbrev dktX7_of_6 : List UInt8 := dkwX7_of_6 ++ dktX7_of_7
def dkwX7_of_5 : List UInt8 := [159, 0, 9, 29, 16, 16, 160, 0, 7, 4, 167, 0, 4, 3, 54, 7, 21, 4, 5, 160, 0, 22, 42, 43]
abbrev dktX7_of_5 : List UInt8 := dkwX7_of_5 ++ dktX7_of_6
def dkwX7_of_4 : List UInt8 := [28, 46, 182, 0, 86, 54, 6, 21, 6, 156, 0, 5, 2, 172, 29, 16, 12, 159, 0, 15, 29, 16, 15]
abbrev dktX7_of_4 : List UInt8 := dkwX7_of_4 ++ dktX7_of_5
def dkwX7_of_3 : List UInt8 := [154, 0, 5, 29, 172, 29, 16, 18, 160, 0, 10, 42, 43, 28, 182, 0, 79, 172, 42, 43, 43, 180, 0, 83]
abbrev dktX7_of_3 : List UInt8 := dkwX7_of_3 ++ dktX7_of_4
def dkwX7_of_2 : List UInt8 := [16, 18, 160, 0, 16, 21, 5, 5, 164, 0, 10, 21, 5, 16, 100, 164, 0, 5, 2, 172, 21, 4]
abbrev dktX7_of_2 : List UInt8 := dkwX7_of_2 ++ dktX7_of_3
def dkwX7_of_1 : List UInt8 := [54, 4, 43, 180, 0, 76, 28, 46, 54, 5, 21, 4, 155, 0, 29, 21, 5, 21, 4, 159, 0, 15, 29]
abbrev dktX7_of_1 : List UInt8 := dkwX7_of_1 ++ dktX7_of_2
def dkwX7_of_0 : List UInt8 := [43, 180, 0, 65, 28, 51, 16, 8, 159, 0, 5, 2, 172, 43, 180, 0, 70, 28, 51, 62, 29, 184, 0, 73]
abbrev dktX7_of_0 : List UInt8 := dkwX7_of_0 ++ dktX7_of_1
theorem dksX7_of_0 : cX7_of.data.toList.drop 0 = dktX7_of_0 := by decide +kernel
theorem dksX7_of_1 : cX7_of.data.toList.drop 24 = dktX7_of_1 := dk_seg dksX7_of_0 24 rfl rfl
theorem dksX7_of_2 : cX7_of.data.toList.drop 47 = dktX7_of_2 := dk_seg dksX7_of_1 23 rfl rfl
theorem dksX7_of_3 : cX7_of.data.toList.drop 69 = dktX7_of_3 := dk_seg dksX7_of_2 22 rfl rfl
theorem dksX7_of_4 : cX7_of.data.toList.drop 93 = dktX7_of_4 := dk_seg dksX7_of_3 24 rfl rfl
theorem dksX7_of_5 : cX7_of.data.toList.drop 116 = dktX7_of_5 := dk_seg dksX7_of_4 23 rfl rfl
theorem dksX7_of_6 : cX7_of.data.toList.drop 140 = dktX7_of_6 := dk_seg dksX7_of_5 24 rfl rfl
theorem dksX7_of_7 : cX7_of.data.toList.drop 163 = dktX7_of_7 := dk_seg dksX7_of_6 23 rfl rfl
theorem dksX7_of_8 : cX7_of.data.toList.drop 187 = dktX7_of_8 := dk_seg dksX7_of_7 24 rfl rfl
theorem dX7_of_0 : decode cX7_of 0 = .ok (.aload_n 1, 1) := dk_43 (dk_at dksX7_of_0 0 rfl rfl)
theorem dX7_of_1 : decode cX7_of 1 = .ok (.getfield 65, 3) := dk_180 0 65 (dk_at dksX7_of_0 1 rfl rfl)
theorem dX7_of_4 : decode cX7_of 4 = .ok (.iload_n 2, 1) := dk_28 (dk_at dksX7_of_0 4 rfl rfl)
theorem dX7_of_5 : decode cX7_of 5 = .ok (.baload, 1) := dk_51 (dk_at dksX7_of_0 5 rfl rfl)
theorem dX7_of_6 : decode cX7_of 6 = .ok (.bipush 8, 2) := dk_16 8 (dk_at dksX7_of_0 6 rfl rfl)
theorem dX7_of_8 : decode cX7_of 8 = .ok (.if_icmp .eq 5, 3) := dk_159 0 5 (dk_at dksX7_of_0 8 rfl rfl)
theorem dX7_of_11 : decode cX7_of 11 = .ok (.iconst (-1), 1) := dk_2 (dk_at dksX7_of_0 11 rfl rfl)
theorem dX7_of_12 : decode cX7_of 12 = .ok (.ireturn, 1) := dk_172 (dk_at dksX7_of_0 12 rfl rfl)
theorem dX7_of_13 : decode cX7_of 13 = .ok (.aload_n 1, 1) := dk_43 (dk_at dksX7_of_0 13 rfl rfl)
theorem dX7_of_14 : decode cX7_of 14 = .ok (.getfield 70, 3) := dk_180 0 70 (dk_at dksX7_of_0 14 rfl rfl)
theorem dX7_of_17 : decode cX7_of 17 = .ok (.iload_n 2, 1) := dk_28 (dk_at dksX7_of_0 17 rfl rfl)
theorem dX7_of_18 : decode cX7_of 18 = .ok (.baload, 1) := dk_51 (dk_at dksX7_of_0 18 rfl rfl)
theorem dX7_of_19 : decode cX7_of 19 = .ok (.istore_n 3, 1) := dk_62 (dk_at dksX7_of_0 19 rfl rfl)
theorem dX7_of_20 : decode cX7_of 20 = .ok (.iload_n 3, 1) := dk_29 (dk_at dksX7_of_0 20 rfl rfl)
theorem dX7_of_21 : decode cX7_of 21 = .ok (.invokestatic 73, 3) := dk_184 0 73 (dk_at dksX7_of_0 21 rfl rfl)
theorem dX7_of_24 : decode cX7_of 24 = .ok (.istore 4, 2) := dk_54 4 (dk_at dksX7_of_1 0 rfl rfl)
theorem dX7_of_26 : decode cX7_of 26 = .ok (.aload_n 1, 1) := dk_43 (dk_at dksX7_of_1 2 rfl rfl)
theorem dX7_of_27 : decode cX7_of 27 = .ok (.getfield 76, 3) := dk_180 0 76 (dk_at dksX7_of_1 3 rfl rfl)
theorem dX7_of_30 : decode cX7_of 30 = .ok (.iload_n 2, 1) := dk_28 (dk_at dksX7_of_1 6 rfl rfl)
theorem dX7_of_31 : decode cX7_of 31 = .ok (.iaload, 1) := dk_46 (dk_at dksX7_of_1 7 rfl rfl)
theorem dX7_of_32 : decode cX7_of 32 = .ok (.istore 5, 2) := dk_54 5 (dk_at dksX7_of_1 8 rfl rfl)
theorem dX7_of_34 : decode cX7_of 34 = .ok (.iload 4, 2) := dk_21 4 (dk_at dksX7_of_1 10 rfl rfl)
theorem dX7_of_36 : decode cX7_of 36 = .ok (.ifCond .lt 29, 3) := dk_155 0 29 (dk_at dksX7_of_1 12 rfl rfl)
theorem dX7_of_39 : decode cX7_of 39 = .ok (.iload 5, 2) := dk_21 5 (dk_at dksX7_of_1 15 rfl rfl)
theorem dX7_of_41 : decode cX7_of 41 = .ok (.iload 4, 2) := dk_21 4 (dk_at dksX7_of_1 17 rfl rfl)
theorem dX7_of_43 : decode cX7_of 43 = .ok (.if_icmp .eq 15, 3) := dk_159 0 15 (dk_at dksX7_of_1 19 rfl rfl)
theorem dX7_of_46 : decode cX7_of 46 = .ok (.iload_n 3, 1) := dk_29 (dk_at dksX7_of_1 22 rfl rfl)
theorem dX7_of_47 : decode cX7_of 47 = .ok (.bipush 18, 2) := dk_16 18 (dk_at dksX7_of_2 0 rfl rfl)
theorem dX7_of_49 : decode cX7_of 49 = .ok (.if_icmp .ne 16, 3) := dk_160 0 16 (dk_at dksX7_of_2 2 rfl rfl)
theorem dX7_of_52 : decode cX7_of 52 = .ok (.iload 5, 2) := dk_21 5 (dk_at dksX7_of_2 5 rfl rfl)
theorem dX7_of_54 : decode cX7_of 54 = .ok (.iconst 2, 1) := dk_5 (dk_at dksX7_of_2 7 rfl rfl)
theorem dX7_of_55 : decode cX7_of 55 = .ok (.if_icmp .le 10, 3) := dk_164 0 10 (dk_at dksX7_of_2 8 rfl rfl)
theorem dX7_of_58 : decode cX7_of 58 = .ok (.iload 5, 2) := dk_21 5 (dk_at dksX7_of_2 11 rfl rfl)
theorem dX7_of_60 : decode cX7_of 60 = .ok (.bipush 100, 2) := dk_16 100 (dk_at dksX7_of_2 13 rfl rfl)
theorem dX7_of_62 : decode cX7_of 62 = .ok (.if_icmp .le 5, 3) := dk_164 0 5 (dk_at dksX7_of_2 15 rfl rfl)
theorem dX7_of_65 : decode cX7_of 65 = .ok (.iconst (-1), 1) := dk_2 (dk_at dksX7_of_2 18 rfl rfl)
theorem dX7_of_66 : decode cX7_of 66 = .ok (.ireturn, 1) := dk_172 (dk_at dksX7_of_2 19 rfl rfl)
theorem dX7_of_67 : decode cX7_of 67 = .ok (.iload 4, 2) := dk_21 4 (dk_at dksX7_of_2 20 rfl rfl)
theorem dX7_of_69 : decode cX7_of 69 = .ok (.ifCond .ne 5, 3) := dk_154 0 5 (dk_at dksX7_of_3 0 rfl rfl)
theorem dX7_of_72 : decode cX7_of 72 = .ok (.iload_n 3, 1) := dk_29 (dk_at dksX7_of_3 3 rfl rfl)
theorem dX7_of_73 : decode cX7_of 73 = .ok (.ireturn, 1) := dk_172 (dk_at dksX7_of_3 4 rfl rfl)
theorem dX7_of_74 : decode cX7_of 74 = .ok (.iload_n 3, 1) := dk_29 (dk_at dksX7_of_3 5 rfl rfl)
theorem dX7_of_75 : decode cX7_of 75 = .ok (.bipush 18, 2) := dk_16 18 (dk_at dksX7_of_3 6 rfl rfl)
theorem dX7_of_77 : decode cX7_of 77 = .ok (.if_icmp .ne 10, 3) := dk_160 0 10 (dk_at dksX7_of_3 8 rfl rfl)
theorem dX7_of_80 : decode cX7_of 80 = .ok (.aload_n 0, 1) := dk_42 (dk_at dksX7_of_3 11 rfl rfl)
theorem dX7_of_81 : decode cX7_of 81 = .ok (.aload_n 1, 1) := dk_43 (dk_at dksX7_of_3 12 rfl rfl)
theorem dX7_of_82 : decode cX7_of 82 = .ok (.iload_n 2, 1) := dk_28 (dk_at dksX7_of_3 13 rfl rfl)
theorem dX7_of_83 : decode cX7_of 83 = .ok (.invokevirtual 79, 3) := dk_182 0 79 (dk_at dksX7_of_3 14 rfl rfl)
theorem dX7_of_86 : decode cX7_of 86 = .ok (.ireturn, 1) := dk_172 (dk_at dksX7_of_3 17 rfl rfl)
theorem dX7_of_87 : decode cX7_of 87 = .ok (.aload_n 0, 1) := dk_42 (dk_at dksX7_of_3 18 rfl rfl)
theorem dX7_of_88 : decode cX7_of 88 = .ok (.aload_n 1, 1) := dk_43 (dk_at dksX7_of_3 19 rfl rfl)
theorem dX7_of_89 : decode cX7_of 89 = .ok (.aload_n 1, 1) := dk_43 (dk_at dksX7_of_3 20 rfl rfl)
theorem dX7_of_90 : decode cX7_of 90 = .ok (.getfield 83, 3) := dk_180 0 83 (dk_at dksX7_of_3 21 rfl rfl)
theorem dX7_of_93 : decode cX7_of 93 = .ok (.iload_n 2, 1) := dk_28 (dk_at dksX7_of_4 0 rfl rfl)
theorem dX7_of_94 : decode cX7_of 94 = .ok (.iaload, 1) := dk_46 (dk_at dksX7_of_4 1 rfl rfl)
theorem dX7_of_95 : decode cX7_of 95 = .ok (.invokevirtual 86, 3) := dk_182 0 86 (dk_at dksX7_of_4 2 rfl rfl)
theorem dX7_of_98 : decode cX7_of 98 = .ok (.istore 6, 2) := dk_54 6 (dk_at dksX7_of_4 5 rfl rfl)
theorem dX7_of_100 : decode cX7_of 100 = .ok (.iload 6, 2) := dk_21 6 (dk_at dksX7_of_4 7 rfl rfl)
theorem dX7_of_102 : decode cX7_of 102 = .ok (.ifCond .ge 5, 3) := dk_156 0 5 (dk_at dksX7_of_4 9 rfl rfl)
theorem dX7_of_105 : decode cX7_of 105 = .ok (.iconst (-1), 1) := dk_2 (dk_at dksX7_of_4 12 rfl rfl)
theorem dX7_of_106 : decode cX7_of 106 = .ok (.ireturn, 1) := dk_172 (dk_at dksX7_of_4 13 rfl rfl)
theorem dX7_of_107 : decode cX7_of 107 = .ok (.iload_n 3, 1) := dk_29 (dk_at dksX7_of_4 14 rfl rfl)
theorem dX7_of_108 : decode cX7_of 108 = .ok (.bipush 12, 2) := dk_16 12 (dk_at dksX7_of_4 15 rfl rfl)
theorem dX7_of_110 : decode cX7_of 110 = .ok (.if_icmp .eq 15, 3) := dk_159 0 15 (dk_at dksX7_of_4 17 rfl rfl)
theorem dX7_of_113 : decode cX7_of 113 = .ok (.iload_n 3, 1) := dk_29 (dk_at dksX7_of_4 20 rfl rfl)
theorem dX7_of_114 : decode cX7_of 114 = .ok (.bipush 15, 2) := dk_16 15 (dk_at dksX7_of_4 21 rfl rfl)
theorem dX7_of_116 : decode cX7_of 116 = .ok (.if_icmp .eq 9, 3) := dk_159 0 9 (dk_at dksX7_of_5 0 rfl rfl)
theorem dX7_of_119 : decode cX7_of 119 = .ok (.iload_n 3, 1) := dk_29 (dk_at dksX7_of_5 3 rfl rfl)
theorem dX7_of_120 : decode cX7_of 120 = .ok (.bipush 16, 2) := dk_16 16 (dk_at dksX7_of_5 4 rfl rfl)
theorem dX7_of_122 : decode cX7_of 122 = .ok (.if_icmp .ne 7, 3) := dk_160 0 7 (dk_at dksX7_of_5 6 rfl rfl)
theorem dX7_of_125 : decode cX7_of 125 = .ok (.iconst 1, 1) := dk_4 (dk_at dksX7_of_5 9 rfl rfl)
theorem dX7_of_126 : decode cX7_of 126 = .ok (.goto 4, 3) := dk_167 0 4 (dk_at dksX7_of_5 10 rfl rfl)
theorem dX7_of_129 : decode cX7_of 129 = .ok (.iconst 0, 1) := dk_3 (dk_at dksX7_of_5 13 rfl rfl)
theorem dX7_of_130 : decode cX7_of 130 = .ok (.istore 7, 2) := dk_54 7 (dk_at dksX7_of_5 14 rfl rfl)
theorem dX7_of_132 : decode cX7_of 132 = .ok (.iload 4, 2) := dk_21 4 (dk_at dksX7_of_5 16 rfl rfl)
theorem dX7_of_134 : decode cX7_of 134 = .ok (.iconst 2, 1) := dk_5 (dk_at dksX7_of_5 18 rfl rfl)
theorem dX7_of_135 : decode cX7_of 135 = .ok (.if_icmp .ne 22, 3) := dk_160 0 22 (dk_at dksX7_of_5 19 rfl rfl)
theorem dX7_of_138 : decode cX7_of 138 = .ok (.aload_n 0, 1) := dk_42 (dk_at dksX7_of_5 22 rfl rfl)
theorem dX7_of_139 : decode cX7_of 139 = .ok (.aload_n 1, 1) := dk_43 (dk_at dksX7_of_5 23 rfl rfl)
theorem dX7_of_140 : decode cX7_of 140 = .ok (.aload_n 1, 1) := dk_43 (dk_at dksX7_of_6 0 rfl rfl)
theorem dX7_of_141 : decode cX7_of 141 = .ok (.getfield 89, 3) := dk_180 0 89 (dk_at dksX7_of_6 1 rfl rfl)
theorem dX7_of_144 : decode cX7_of 144 = .ok (.aload_n 1, 1) := dk_43 (dk_at dksX7_of_6 4 rfl rfl)
theorem dX7_of_145 : decode cX7_of 145 = .ok (.getfield 83, 3) := dk_180 0 83 (dk_at dksX7_of_6 5 rfl rfl)
theorem dX7_of_148 : decode cX7_of 148 = .ok (.iload_n 2, 1) := dk_28 (dk_at dksX7_of_6 8 rfl rfl)
theorem dX7_of_149 : decode cX7_of 149 = .ok (.iaload, 1) := dk_46 (dk_at dksX7_of_6 9 rfl rfl)
theorem dX7_of_150 : decode cX7_of 150 = .ok (.iaload, 1) := dk_46 (dk_at dksX7_of_6 10 rfl rfl)
theorem dX7_of_151 : decode cX7_of 151 = .ok (.invokevirtual 86, 3) := dk_182 0 86 (dk_at dksX7_of_6 11 rfl rfl)
theorem dX7_of_154 : decode cX7_of 154 = .ok (.goto 4, 3) := dk_167 0 4 (dk_at dksX7_of_6 14 rfl rfl)
theorem dX7_of_157 : decode cX7_of 157 = .ok (.iconst (-1), 1) := dk_2 (dk_at dksX7_of_6 17 rfl rfl)
theorem dX7_of_158 : decode cX7_of 158 = .ok (.istore 8, 2) := dk_54 8 (dk_at dksX7_of_6 18 rfl rfl)
theorem dX7_of_160 : decode cX7_of 160 = .ok (.iload 4, 2) := dk_21 4 (dk_at dksX7_of_6 20 rfl rfl)
theorem dX7_of_162 : decode cX7_of 162 = .ok (.iconst 2, 1) := dk_5 (dk_at dksX7_of_6 22 rfl rfl)
theorem dX7_of_163 : decode cX7_of 163 = .ok (.if_icmp .ne 8, 3) := dk_160 0 8 (dk_at dksX7_of_7 0 rfl rfl)
theorem dX7_of_166 : decode cX7_of 166 = .ok (.iload 8, 2) := dk_21 8 (dk_at dksX7_of_7 3 rfl rfl)
theorem dX7_of_168 : decode cX7_of 168 = .ok (.ifCond .lt 18, 3) := dk_155 0 18 (dk_at dksX7_of_7 5 rfl rfl)
theorem dX7_of_171 : decode cX7_of 171 = .ok (.iload 7, 2) := dk_21 7 (dk_at dksX7_of_7 8 rfl rfl)
theorem dX7_of_173 : decode cX7_of 173 = .ok (.ifCond .eq 17, 3) := dk_153 0 17 (dk_at dksX7_of_7 10 rfl rfl)
theorem dX7_of_176 : decode cX7_of 176 = .ok (.aload_n 0, 1) := dk_42 (dk_at dksX7_of_7 13 rfl rfl)
theorem dX7_of_177 : decode cX7_of 177 = .ok (.iload 6, 2) := dk_21 6 (dk_at dksX7_of_7 14 rfl rfl)
theorem dX7_of_179 : decode cX7_of 179 = .ok (.iconst 1, 1) := dk_4 (dk_at dksX7_of_7 16 rfl rfl)
theorem dX7_of_180 : decode cX7_of 180 = .ok (.invokevirtual 50, 3) := dk_182 0 50 (dk_at dksX7_of_7 17 rfl rfl)
theorem dX7_of_183 : decode cX7_of 183 = .ok (.ifCond .ne 7, 3) := dk_154 0 7 (dk_at dksX7_of_7 20 rfl rfl)
theorem dX7_of_186 : decode cX7_of 186 = .ok (.iconst (-1), 1) := dk_2 (dk_at dksX7_of_7 23 rfl rfl)
theorem dX7_of_187 : decode cX7_of 187 = .ok (.goto 12, 3) := dk_167 0 12 (dk_at dksX7_of_8 0 rfl rfl)
theorem dX7_of_190 : decode cX7_of 190 = .ok (.aload_n 0, 1) := dk_42 (dk_at dksX7_of_8 3 rfl rfl)
theorem dX7_of_191 : decode cX7_of 191 = .ok (.iload_n 3, 1) := dk_29 (dk_at dksX7_of_8 4 rfl rfl)
theorem dX7_of_192 : decode cX7_of 192 = .ok (.iload 6, 2) := dk_21 6 (dk_at dksX7_of_8 5 rfl rfl)
theorem dX7_of_194 : decode cX7_of 194 = .ok (.iload 8, 2) := dk_21 8 (dk_at dksX7_of_8 7 rfl rfl)
theorem dX7_of_196 : decode cX7_of 196 = .ok (.invokevirtual 38, 3) := dk_182 0 38 (dk_at dksX7_of_8 9 rfl rfl)
theorem dX7_of_199 : decode cX7_of 199 = .ok (.ireturn, 1) := dk_172 (dk_at dksX7_of_8 12 rfl rfl)
abbrev cX7_arguments : ByteArray := prog_22_method_11_code
def yX7_arguments : MethodName := ⟨RX7, "arguments", "(I)I"⟩
def dkwX7_arguments_1 : List UInt8 := [26, 16, 13, 163, 0, 7, 4, 167, 0, 4, 5, 172]
abbrev dktX7_arguments_1 : List UInt8 := dkwX7_arguments_1 ++ []
def dkwX7_arguments_0 : List UInt8 := [26, 155, 0, 9, 26, 16, 18, 164, 0, 7, 2, 167, 0, 24, 26, 16, 9, 163, 0, 7, 3, 167, 0, 14]
abbrev dktX7_arguments_0 : List UInt8 := dkwX7_arguments_0 ++ dktX7_arguments_1
theorem dksX7_arguments_0 : cX7_arguments.data.toList.drop 0 = dktX7_arguments_0 := by decide +kernel
theorem dksX7_arguments_1 : cX7_arguments.data.toList.drop 24 = dktX7_arguments_1 := dk_seg dksX7_arguments_0 24 rfl rfl
theorem dX7_arguments_0 : decode cX7_arguments 0 = .ok (.iload_n 0, 1) := dk_26 (dk_at dksX7_arguments_0 0 rfl rfl)
theorem dX7_arguments_1 : decode cX7_arguments 1 = .ok (.ifCond .lt 9, 3) := dk_155 0 9 (dk_at dksX7_arguments_0 1 rfl rfl)
theorem dX7_arguments_4 : decode cX7_arguments 4 = .ok (.iload_n 0, 1) := dk_26 (dk_at dksX7_arguments_0 4 rfl rfl)
theorem dX7_arguments_5 : decode cX7_arguments 5 = .ok (.bipush 18, 2) := dk_16 18 (dk_at dksX7_arguments_0 5 rfl rfl)
theorem dX7_arguments_7 : decode cX7_arguments 7 = .ok (.if_icmp .le 7, 3) := dk_164 0 7 (dk_at dksX7_arguments_0 7 rfl rfl)
theorem dX7_arguments_10 : decode cX7_arguments 10 = .ok (.iconst (-1), 1) := dk_2 (dk_at dksX7_arguments_0 10 rfl rfl)
theorem dX7_arguments_11 : decode cX7_arguments 11 = .ok (.goto 24, 3) := dk_167 0 24 (dk_at dksX7_arguments_0 11 rfl rfl)
theorem dX7_arguments_14 : decode cX7_arguments 14 = .ok (.iload_n 0, 1) := dk_26 (dk_at dksX7_arguments_0 14 rfl rfl)
theorem dX7_arguments_15 : decode cX7_arguments 15 = .ok (.bipush 9, 2) := dk_16 9 (dk_at dksX7_arguments_0 15 rfl rfl)
theorem dX7_arguments_17 : decode cX7_arguments 17 = .ok (.if_icmp .gt 7, 3) := dk_163 0 7 (dk_at dksX7_arguments_0 17 rfl rfl)
theorem dX7_arguments_20 : decode cX7_arguments 20 = .ok (.iconst 0, 1) := dk_3 (dk_at dksX7_arguments_0 20 rfl rfl)
theorem dX7_arguments_21 : decode cX7_arguments 21 = .ok (.goto 14, 3) := dk_167 0 14 (dk_at dksX7_arguments_0 21 rfl rfl)
theorem dX7_arguments_24 : decode cX7_arguments 24 = .ok (.iload_n 0, 1) := dk_26 (dk_at dksX7_arguments_1 0 rfl rfl)
theorem dX7_arguments_25 : decode cX7_arguments 25 = .ok (.bipush 13, 2) := dk_16 13 (dk_at dksX7_arguments_1 1 rfl rfl)
theorem dX7_arguments_27 : decode cX7_arguments 27 = .ok (.if_icmp .gt 7, 3) := dk_163 0 7 (dk_at dksX7_arguments_1 3 rfl rfl)
theorem dX7_arguments_30 : decode cX7_arguments 30 = .ok (.iconst 1, 1) := dk_4 (dk_at dksX7_arguments_1 6 rfl rfl)
theorem dX7_arguments_31 : decode cX7_arguments 31 = .ok (.goto 4, 3) := dk_167 0 4 (dk_at dksX7_arguments_1 7 rfl rfl)
theorem dX7_arguments_34 : decode cX7_arguments 34 = .ok (.iconst 2, 1) := dk_5 (dk_at dksX7_arguments_1 10 rfl rfl)
theorem dX7_arguments_35 : decode cX7_arguments 35 = .ok (.ireturn, 1) := dk_172 (dk_at dksX7_arguments_1 11 rfl rfl)
abbrev cX7_comb : ByteArray := prog_22_method_13_code
def yX7_comb : MethodName := ⟨RX7, "comb", "(LContractLedger$Terms;I)I"⟩
def dkwX7_comb_3 : List UInt8 := [132, 4, 255, 167, 255, 213, 29, 172]
abbrev dktX7_comb_3 : List UInt8 := dkwX7_comb_3 ++ []
def dkwX7_comb_2 : List UInt8 := [182, 0, 86, 54, 5, 21, 5, 156, 0, 7, 2, 167, 0, 10, 42, 21, 5, 29, 182, 0, 96, 62]
abbrev dktX7_comb_2 : List UInt8 := dkwX7_comb_2 ++ dktX7_comb_3
def dkwX7_comb_1 : List UInt8 := [46, 5, 100, 54, 4, 21, 4, 155, 0, 44, 29, 155, 0, 40, 42, 43, 43, 28, 21, 4, 182, 0, 92]
abbrev dktX7_comb_1 : List UInt8 := dkwX7_comb_1 ++ dktX7_comb_2
def dkwX7_comb_0 : List UInt8 := [42, 43, 43, 28, 43, 180, 0, 76, 28, 46, 4, 100, 182, 0, 92, 182, 0, 86, 62, 43, 180, 0, 76, 28]
abbrev dktX7_comb_0 : List UInt8 := dkwX7_comb_0 ++ dktX7_comb_1
theorem dksX7_comb_0 : cX7_comb.data.toList.drop 0 = dktX7_comb_0 := by decide +kernel
theorem dksX7_comb_1 : cX7_comb.data.toList.drop 24 = dktX7_comb_1 := dk_seg dksX7_comb_0 24 rfl rfl
theorem dksX7_comb_2 : cX7_comb.data.toList.drop 47 = dktX7_comb_2 := dk_seg dksX7_comb_1 23 rfl rfl
theorem dksX7_comb_3 : cX7_comb.data.toList.drop 69 = dktX7_comb_3 := dk_seg dksX7_comb_2 22 rfl rfl
theorem dX7_comb_0 : decode cX7_comb 0 = .ok (.aload_n 0, 1) := dk_42 (dk_at dksX7_comb_0 0 rfl rfl)
theorem dX7_comb_1 : decode cX7_comb 1 = .ok (.aload_n 1, 1) := dk_43 (dk_at dksX7_comb_0 1 rfl rfl)
theorem dX7_comb_2 : decode cX7_comb 2 = .ok (.aload_n 1, 1) := dk_43 (dk_at dksX7_comb_0 2 rfl rfl)
theorem dX7_comb_3 : decode cX7_comb 3 = .ok (.iload_n 2, 1) := dk_28 (dk_at dksX7_comb_0 3 rfl rfl)
theorem dX7_comb_4 : decode cX7_comb 4 = .ok (.aload_n 1, 1) := dk_43 (dk_at dksX7_comb_0 4 rfl rfl)
theorem dX7_comb_5 : decode cX7_comb 5 = .ok (.getfield 76, 3) := dk_180 0 76 (dk_at dksX7_comb_0 5 rfl rfl)
theorem dX7_comb_8 : decode cX7_comb 8 = .ok (.iload_n 2, 1) := dk_28 (dk_at dksX7_comb_0 8 rfl rfl)
theorem dX7_comb_9 : decode cX7_comb 9 = .ok (.iaload, 1) := dk_46 (dk_at dksX7_comb_0 9 rfl rfl)
theorem dX7_comb_10 : decode cX7_comb 10 = .ok (.iconst 1, 1) := dk_4 (dk_at dksX7_comb_0 10 rfl rfl)
theorem dX7_comb_11 : decode cX7_comb 11 = .ok (.isub, 1) := dk_100 (dk_at dksX7_comb_0 11 rfl rfl)
theorem dX7_comb_12 : decode cX7_comb 12 = .ok (.invokevirtual 92, 3) := dk_182 0 92 (dk_at dksX7_comb_0 12 rfl rfl)
theorem dX7_comb_15 : decode cX7_comb 15 = .ok (.invokevirtual 86, 3) := dk_182 0 86 (dk_at dksX7_comb_0 15 rfl rfl)
theorem dX7_comb_18 : decode cX7_comb 18 = .ok (.istore_n 3, 1) := dk_62 (dk_at dksX7_comb_0 18 rfl rfl)
theorem dX7_comb_19 : decode cX7_comb 19 = .ok (.aload_n 1, 1) := dk_43 (dk_at dksX7_comb_0 19 rfl rfl)
theorem dX7_comb_20 : decode cX7_comb 20 = .ok (.getfield 76, 3) := dk_180 0 76 (dk_at dksX7_comb_0 20 rfl rfl)
theorem dX7_comb_23 : decode cX7_comb 23 = .ok (.iload_n 2, 1) := dk_28 (dk_at dksX7_comb_0 23 rfl rfl)
theorem dX7_comb_24 : decode cX7_comb 24 = .ok (.iaload, 1) := dk_46 (dk_at dksX7_comb_1 0 rfl rfl)
theorem dX7_comb_25 : decode cX7_comb 25 = .ok (.iconst 2, 1) := dk_5 (dk_at dksX7_comb_1 1 rfl rfl)
theorem dX7_comb_26 : decode cX7_comb 26 = .ok (.isub, 1) := dk_100 (dk_at dksX7_comb_1 2 rfl rfl)
theorem dX7_comb_27 : decode cX7_comb 27 = .ok (.istore 4, 2) := dk_54 4 (dk_at dksX7_comb_1 3 rfl rfl)
theorem dX7_comb_29 : decode cX7_comb 29 = .ok (.iload 4, 2) := dk_21 4 (dk_at dksX7_comb_1 5 rfl rfl)
theorem dX7_comb_31 : decode cX7_comb 31 = .ok (.ifCond .lt 44, 3) := dk_155 0 44 (dk_at dksX7_comb_1 7 rfl rfl)
theorem dX7_comb_34 : decode cX7_comb 34 = .ok (.iload_n 3, 1) := dk_29 (dk_at dksX7_comb_1 10 rfl rfl)
theorem dX7_comb_35 : decode cX7_comb 35 = .ok (.ifCond .lt 40, 3) := dk_155 0 40 (dk_at dksX7_comb_1 11 rfl rfl)
theorem dX7_comb_38 : decode cX7_comb 38 = .ok (.aload_n 0, 1) := dk_42 (dk_at dksX7_comb_1 14 rfl rfl)
theorem dX7_comb_39 : decode cX7_comb 39 = .ok (.aload_n 1, 1) := dk_43 (dk_at dksX7_comb_1 15 rfl rfl)
theorem dX7_comb_40 : decode cX7_comb 40 = .ok (.aload_n 1, 1) := dk_43 (dk_at dksX7_comb_1 16 rfl rfl)
theorem dX7_comb_41 : decode cX7_comb 41 = .ok (.iload_n 2, 1) := dk_28 (dk_at dksX7_comb_1 17 rfl rfl)
theorem dX7_comb_42 : decode cX7_comb 42 = .ok (.iload 4, 2) := dk_21 4 (dk_at dksX7_comb_1 18 rfl rfl)
theorem dX7_comb_44 : decode cX7_comb 44 = .ok (.invokevirtual 92, 3) := dk_182 0 92 (dk_at dksX7_comb_1 20 rfl rfl)
theorem dX7_comb_47 : decode cX7_comb 47 = .ok (.invokevirtual 86, 3) := dk_182 0 86 (dk_at dksX7_comb_2 0 rfl rfl)
theorem dX7_comb_50 : decode cX7_comb 50 = .ok (.istore 5, 2) := dk_54 5 (dk_at dksX7_comb_2 3 rfl rfl)
theorem dX7_comb_52 : decode cX7_comb 52 = .ok (.iload 5, 2) := dk_21 5 (dk_at dksX7_comb_2 5 rfl rfl)
theorem dX7_comb_54 : decode cX7_comb 54 = .ok (.ifCond .ge 7, 3) := dk_156 0 7 (dk_at dksX7_comb_2 7 rfl rfl)
theorem dX7_comb_57 : decode cX7_comb 57 = .ok (.iconst (-1), 1) := dk_2 (dk_at dksX7_comb_2 10 rfl rfl)
theorem dX7_comb_58 : decode cX7_comb 58 = .ok (.goto 10, 3) := dk_167 0 10 (dk_at dksX7_comb_2 11 rfl rfl)
theorem dX7_comb_61 : decode cX7_comb 61 = .ok (.aload_n 0, 1) := dk_42 (dk_at dksX7_comb_2 14 rfl rfl)
theorem dX7_comb_62 : decode cX7_comb 62 = .ok (.iload 5, 2) := dk_21 5 (dk_at dksX7_comb_2 15 rfl rfl)
theorem dX7_comb_64 : decode cX7_comb 64 = .ok (.iload_n 3, 1) := dk_29 (dk_at dksX7_comb_2 17 rfl rfl)
theorem dX7_comb_65 : decode cX7_comb 65 = .ok (.invokevirtual 96, 3) := dk_182 0 96 (dk_at dksX7_comb_2 18 rfl rfl)
theorem dX7_comb_68 : decode cX7_comb 68 = .ok (.istore_n 3, 1) := dk_62 (dk_at dksX7_comb_2 21 rfl rfl)
theorem dX7_comb_69 : decode cX7_comb 69 = .ok (.iinc 4 (-1), 3) := dk_132 4 255 (dk_at dksX7_comb_3 0 rfl rfl)
theorem dX7_comb_72 : decode cX7_comb 72 = .ok (.goto (-43), 3) := dk_167 255 213 (dk_at dksX7_comb_3 3 rfl rfl)
theorem dX7_comb_75 : decode cX7_comb 75 = .ok (.iload_n 3, 1) := dk_29 (dk_at dksX7_comb_3 6 rfl rfl)
theorem dX7_comb_76 : decode cX7_comb 76 = .ok (.ireturn, 1) := dk_172 (dk_at dksX7_comb_3 7 rfl rfl)
abbrev cX7_pair : ByteArray := prog_22_method_9_code
def yX7_pair : MethodName := ⟨RX7, "pair", "(II)I"⟩
def dkwX7_pair_0 : List UInt8 := [42, 16, 18, 27, 28, 182, 0, 38, 172]
abbrev dktX7_pair_0 : List UInt8 := dkwX7_pair_0 ++ []
theorem dksX7_pair_0 : cX7_pair.data.toList.drop 0 = dktX7_pair_0 := by decide +kernel
theorem dX7_pair_0 : decode cX7_pair 0 = .ok (.aload_n 0, 1) := dk_42 (dk_at dksX7_pair_0 0 rfl rfl)
theorem dX7_pair_1 : decode cX7_pair 1 = .ok (.bipush 18, 2) := dk_16 18 (dk_at dksX7_pair_0 1 rfl rfl)
theorem dX7_pair_3 : decode cX7_pair 3 = .ok (.iload_n 1, 1) := dk_27 (dk_at dksX7_pair_0 3 rfl rfl)
theorem dX7_pair_4 : decode cX7_pair 4 = .ok (.iload_n 2, 1) := dk_28 (dk_at dksX7_pair_0 4 rfl rfl)
theorem dX7_pair_5 : decode cX7_pair 5 = .ok (.invokevirtual 38, 3) := dk_182 0 38 (dk_at dksX7_pair_0 5 rfl rfl)
theorem dX7_pair_8 : decode cX7_pair 8 = .ok (.ireturn, 1) := dk_172 (dk_at dksX7_pair_0 8 rfl rfl)
abbrev cX7_option : ByteArray := prog_22_method_10_code
def yX7_option : MethodName := ⟨RX7, "option", "(I)I"⟩
def dkwX7_option_0 : List UInt8 := [42, 16, 10, 27, 2, 182, 0, 38, 172]
abbrev dktX7_option_0 : List UInt8 := dkwX7_option_0 ++ []
theorem dksX7_option_0 : cX7_option.data.toList.drop 0 = dktX7_option_0 := by decide +kernel
theorem dX7_option_0 : decode cX7_option 0 = .ok (.aload_n 0, 1) := dk_42 (dk_at dksX7_option_0 0 rfl rfl)
theorem dX7_option_1 : decode cX7_option 1 = .ok (.bipush 10, 2) := dk_16 10 (dk_at dksX7_option_0 1 rfl rfl)
theorem dX7_option_3 : decode cX7_option 3 = .ok (.iload_n 1, 1) := dk_27 (dk_at dksX7_option_0 3 rfl rfl)
theorem dX7_option_4 : decode cX7_option 4 = .ok (.iconst (-1), 1) := dk_2 (dk_at dksX7_option_0 4 rfl rfl)
theorem dX7_option_5 : decode cX7_option 5 = .ok (.invokevirtual 38, 3) := dk_182 0 38 (dk_at dksX7_option_0 5 rfl rfl)
theorem dX7_option_8 : decode cX7_option 8 = .ok (.ireturn, 1) := dk_172 (dk_at dksX7_option_0 8 rfl rfl)
abbrev cX7_drop : ByteArray := prog_22_method_3_code
def yX7_drop : MethodName := ⟨RX7, "drop", "(I)V"⟩
def dkwX7_drop_2 : List UInt8 := [180, 0, 43, 46, 184, 0, 47, 42, 180, 0, 30, 42, 180, 0, 43, 46, 79, 167, 255, 194, 177]
abbrev dktX7_drop_2 : List UInt8 := dkwX7_drop_2 ++ []
def dkwX7_drop_1 : List UInt8 := [180, 0, 10, 42, 180, 0, 43, 51, 42, 180, 0, 16, 42, 180, 0, 43, 46, 42, 180, 0, 20, 42]
abbrev dktX7_drop_1 : List UInt8 := dkwX7_drop_1 ++ dktX7_drop_2
def dkwX7_drop_0 : List UInt8 := [42, 180, 0, 43, 27, 164, 0, 60, 42, 89, 180, 0, 43, 4, 100, 181, 0, 43, 42, 180, 0, 33, 42]
abbrev dktX7_drop_0 : List UInt8 := dkwX7_drop_0 ++ dktX7_drop_1
theorem dksX7_drop_0 : cX7_drop.data.toList.drop 0 = dktX7_drop_0 := by decide +kernel
theorem dksX7_drop_1 : cX7_drop.data.toList.drop 23 = dktX7_drop_1 := dk_seg dksX7_drop_0 23 rfl rfl
theorem dksX7_drop_2 : cX7_drop.data.toList.drop 45 = dktX7_drop_2 := dk_seg dksX7_drop_1 22 rfl rfl
theorem dX7_drop_0 : decode cX7_drop 0 = .ok (.aload_n 0, 1) := dk_42 (dk_at dksX7_drop_0 0 rfl rfl)
theorem dX7_drop_1 : decode cX7_drop 1 = .ok (.getfield 43, 3) := dk_180 0 43 (dk_at dksX7_drop_0 1 rfl rfl)
theorem dX7_drop_4 : decode cX7_drop 4 = .ok (.iload_n 1, 1) := dk_27 (dk_at dksX7_drop_0 4 rfl rfl)
theorem dX7_drop_5 : decode cX7_drop 5 = .ok (.if_icmp .le 60, 3) := dk_164 0 60 (dk_at dksX7_drop_0 5 rfl rfl)
theorem dX7_drop_8 : decode cX7_drop 8 = .ok (.aload_n 0, 1) := dk_42 (dk_at dksX7_drop_0 8 rfl rfl)
theorem dX7_drop_9 : decode cX7_drop 9 = .ok (.dup, 1) := dk_89 (dk_at dksX7_drop_0 9 rfl rfl)
theorem dX7_drop_10 : decode cX7_drop 10 = .ok (.getfield 43, 3) := dk_180 0 43 (dk_at dksX7_drop_0 10 rfl rfl)
theorem dX7_drop_13 : decode cX7_drop 13 = .ok (.iconst 1, 1) := dk_4 (dk_at dksX7_drop_0 13 rfl rfl)
theorem dX7_drop_14 : decode cX7_drop 14 = .ok (.isub, 1) := dk_100 (dk_at dksX7_drop_0 14 rfl rfl)
theorem dX7_drop_15 : decode cX7_drop 15 = .ok (.putfield 43, 3) := dk_181 0 43 (dk_at dksX7_drop_0 15 rfl rfl)
theorem dX7_drop_18 : decode cX7_drop 18 = .ok (.aload_n 0, 1) := dk_42 (dk_at dksX7_drop_0 18 rfl rfl)
theorem dX7_drop_19 : decode cX7_drop 19 = .ok (.getfield 33, 3) := dk_180 0 33 (dk_at dksX7_drop_0 19 rfl rfl)
theorem dX7_drop_22 : decode cX7_drop 22 = .ok (.aload_n 0, 1) := dk_42 (dk_at dksX7_drop_0 22 rfl rfl)
theorem dX7_drop_23 : decode cX7_drop 23 = .ok (.getfield 10, 3) := dk_180 0 10 (dk_at dksX7_drop_1 0 rfl rfl)
theorem dX7_drop_26 : decode cX7_drop 26 = .ok (.aload_n 0, 1) := dk_42 (dk_at dksX7_drop_1 3 rfl rfl)
theorem dX7_drop_27 : decode cX7_drop 27 = .ok (.getfield 43, 3) := dk_180 0 43 (dk_at dksX7_drop_1 4 rfl rfl)
theorem dX7_drop_30 : decode cX7_drop 30 = .ok (.baload, 1) := dk_51 (dk_at dksX7_drop_1 7 rfl rfl)
theorem dX7_drop_31 : decode cX7_drop 31 = .ok (.aload_n 0, 1) := dk_42 (dk_at dksX7_drop_1 8 rfl rfl)
theorem dX7_drop_32 : decode cX7_drop 32 = .ok (.getfield 16, 3) := dk_180 0 16 (dk_at dksX7_drop_1 9 rfl rfl)
theorem dX7_drop_35 : decode cX7_drop 35 = .ok (.aload_n 0, 1) := dk_42 (dk_at dksX7_drop_1 12 rfl rfl)
theorem dX7_drop_36 : decode cX7_drop 36 = .ok (.getfield 43, 3) := dk_180 0 43 (dk_at dksX7_drop_1 13 rfl rfl)
theorem dX7_drop_39 : decode cX7_drop 39 = .ok (.iaload, 1) := dk_46 (dk_at dksX7_drop_1 16 rfl rfl)
theorem dX7_drop_40 : decode cX7_drop 40 = .ok (.aload_n 0, 1) := dk_42 (dk_at dksX7_drop_1 17 rfl rfl)
theorem dX7_drop_41 : decode cX7_drop 41 = .ok (.getfield 20, 3) := dk_180 0 20 (dk_at dksX7_drop_1 18 rfl rfl)
theorem dX7_drop_44 : decode cX7_drop 44 = .ok (.aload_n 0, 1) := dk_42 (dk_at dksX7_drop_1 21 rfl rfl)
theorem dX7_drop_45 : decode cX7_drop 45 = .ok (.getfield 43, 3) := dk_180 0 43 (dk_at dksX7_drop_2 0 rfl rfl)
theorem dX7_drop_48 : decode cX7_drop 48 = .ok (.iaload, 1) := dk_46 (dk_at dksX7_drop_2 3 rfl rfl)
theorem dX7_drop_49 : decode cX7_drop 49 = .ok (.invokestatic 47, 3) := dk_184 0 47 (dk_at dksX7_drop_2 4 rfl rfl)
theorem dX7_drop_52 : decode cX7_drop 52 = .ok (.aload_n 0, 1) := dk_42 (dk_at dksX7_drop_2 7 rfl rfl)
theorem dX7_drop_53 : decode cX7_drop 53 = .ok (.getfield 30, 3) := dk_180 0 30 (dk_at dksX7_drop_2 8 rfl rfl)
theorem dX7_drop_56 : decode cX7_drop 56 = .ok (.aload_n 0, 1) := dk_42 (dk_at dksX7_drop_2 11 rfl rfl)
theorem dX7_drop_57 : decode cX7_drop 57 = .ok (.getfield 43, 3) := dk_180 0 43 (dk_at dksX7_drop_2 12 rfl rfl)
theorem dX7_drop_60 : decode cX7_drop 60 = .ok (.iaload, 1) := dk_46 (dk_at dksX7_drop_2 15 rfl rfl)
theorem dX7_drop_61 : decode cX7_drop 61 = .ok (.iastore, 1) := dk_79 (dk_at dksX7_drop_2 16 rfl rfl)
theorem dX7_drop_62 : decode cX7_drop 62 = .ok (.goto (-62), 3) := dk_167 255 194 (dk_at dksX7_drop_2 17 rfl rfl)
theorem dX7_drop_65 : decode cX7_drop 65 = .ok (.return_, 1) := dk_177 (dk_at dksX7_drop_2 20 rfl rfl)
theorem q374 : (Jvm.Cond.initialized "ContractLedger$Types") ∈ lw_all := lw_g (lw_at lw_m1 17 rfl) rfl
theorem q655 : (Jvm.Cond.fieldLink "ContractLedger$Types" (65 : Nat) "ContractLedger$Terms" "kinds" "[B") ∈ lw_all := lw_g (lw_at lw_m2 58 rfl) rfl
theorem q659 : (Jvm.Cond.fieldLink "ContractLedger$Types" (70 : Nat) "ContractLedger$Terms" "names" "[B") ∈ lw_all := lw_g (lw_at lw_m2 62 rfl) rfl
theorem q675 : (Jvm.Cond.fieldLink "ContractLedger$Types" (83 : Nat) "ContractLedger$Terms" "firsts" "[I") ∈ lw_all := lw_g (lw_at lw_m2 78 rfl) rfl
theorem q679 : (Jvm.Cond.fieldLink "ContractLedger$Types" (89 : Nat) "ContractLedger$Terms" "nexts" "[I") ∈ lw_all := lw_g (lw_at lw_m2 82 rfl) rfl
theorem q685 : (Jvm.Cond.fieldLink "ContractLedger$Types" (76 : Nat) "ContractLedger$Terms" "counts" "[I") ∈ lw_all := lw_g (lw_at lw_m2 88 rfl) rfl
theorem q721 : (Jvm.Cond.instantiable "ContractLedger$Types" (8 : Nat)) ∈ lw_all := lw_g (lw_at lw_m2 124 rfl) rfl
theorem q723 : (Jvm.Cond.instanceMethod ({ cls := "ContractLedger$Types", name := "<init>", desc := "()V" } : Jvm.MethodName)) ∈ lw_all := lw_g (lw_at lw_m2 126 rfl) rfl
theorem q724 : (Jvm.Cond.code ({ cls := "ContractLedger$Types", name := "<init>", desc := "()V" } : Jvm.MethodName) prog_22_method_1_code (2 : Nat) (Option.none : Option Jvm.ClassFile.FieldType)) ∈ lw_all := lw_g (lw_at lw_m2 127 rfl) rfl
theorem q725 : (Jvm.Cond.methodLink "ContractLedger$Types" (3 : Nat) ({ cls := "java/lang/Object", name := "<init>", desc := "()V" } : Jvm.MethodName)) ∈ lw_all := lw_g (lw_at lw_m2 128 rfl) rfl
theorem q726 : (Jvm.Cond.constant "ContractLedger$Types" (9 : Nat) (60000 : Int32)) ∈ lw_all := lw_g (lw_at lw_m2 129 rfl) rfl
theorem q727 : (Jvm.Cond.methodLink "ContractLedger$Types" (38 : Nat) ({ cls := "ContractLedger$Types", name := "make", desc := "(III)I" } : Jvm.MethodName)) ∈ lw_all := lw_g (lw_at lw_m2 130 rfl) rfl
theorem q728 : (Jvm.Cond.instanceMethod ({ cls := "ContractLedger$Types", name := "make", desc := "(III)I" } : Jvm.MethodName)) ∈ lw_all := lw_g (lw_at lw_m2 131 rfl) rfl
theorem q729 : (Jvm.Cond.selects "ContractLedger$Types" ({ cls := "ContractLedger$Types", name := "make", desc := "(III)I" } : Jvm.MethodName) ({ cls := "ContractLedger$Types", name := "make", desc := "(III)I" } : Jvm.MethodName)) ∈ lw_all := lw_g (lw_at lw_m2 132 rfl) rfl
theorem q730 : (Jvm.Cond.code ({ cls := "ContractLedger$Types", name := "make", desc := "(III)I" } : Jvm.MethodName) prog_22_method_8_code (7 : Nat) (Option.some Jvm.ClassFile.FieldType.int)) ∈ lw_all := lw_g (lw_at lw_m2 133 rfl) rfl
theorem q731 : (Jvm.Cond.methodLink "ContractLedger$Types" (58 : Nat) ({ cls := "ContractLedger$Types", name := "partsOf", desc := "(I)I" } : Jvm.MethodName)) ∈ lw_all := lw_g (lw_at lw_m2 134 rfl) rfl
theorem q732 : (Jvm.Cond.privateMethod ({ cls := "ContractLedger$Types", name := "partsOf", desc := "(I)I" } : Jvm.MethodName)) ∈ lw_tbl := lw_at lw_m2 135 rfl
theorem q733 : (Jvm.Cond.instanceMethod ({ cls := "ContractLedger$Types", name := "partsOf", desc := "(I)I" } : Jvm.MethodName)) ∈ lw_all := lw_g (lw_at lw_m2 136 rfl) rfl
theorem q734 : (Jvm.Cond.code ({ cls := "ContractLedger$Types", name := "partsOf", desc := "(I)I" } : Jvm.MethodName) prog_22_method_4_code (2 : Nat) (Option.some Jvm.ClassFile.FieldType.int)) ∈ lw_all := lw_g (lw_at lw_m2 137 rfl) rfl
theorem q735 : (Jvm.Cond.methodLink "ContractLedger$Types" (47 : Nat) ({ cls := "ContractLedger$Types", name := "bucket", desc := "(III)I" } : Jvm.MethodName)) ∈ lw_all := lw_g (lw_at lw_m2 138 rfl) rfl
theorem q736 : (Jvm.Cond.static ({ cls := "ContractLedger$Types", name := "bucket", desc := "(III)I" } : Jvm.MethodName)) ∈ lw_all := lw_g (lw_at lw_m2 139 rfl) rfl
theorem q737 : (Jvm.Cond.code ({ cls := "ContractLedger$Types", name := "bucket", desc := "(III)I" } : Jvm.MethodName) prog_22_method_2_code (4 : Nat) (Option.some Jvm.ClassFile.FieldType.int)) ∈ lw_all := lw_g (lw_at lw_m2 140 rfl) rfl
theorem q738 : (Jvm.Cond.constant "ContractLedger$Types" (42 : Nat) (40503 : Int32)) ∈ lw_all := lw_g (lw_at lw_m2 141 rfl) rfl
theorem q739 : (Jvm.Cond.methodLink "ContractLedger$Types" (62 : Nat) ({ cls := "ContractLedger$Types", name := "marksOf", desc := "(III)I" } : Jvm.MethodName)) ∈ lw_all := lw_g (lw_at lw_m2 142 rfl) rfl
theorem q740 : (Jvm.Cond.privateMethod ({ cls := "ContractLedger$Types", name := "marksOf", desc := "(III)I" } : Jvm.MethodName)) ∈ lw_tbl := lw_at lw_m2 143 rfl
theorem q741 : (Jvm.Cond.instanceMethod ({ cls := "ContractLedger$Types", name := "marksOf", desc := "(III)I" } : Jvm.MethodName)) ∈ lw_all := lw_g (lw_at lw_m2 144 rfl) rfl
theorem q742 : (Jvm.Cond.code ({ cls := "ContractLedger$Types", name := "marksOf", desc := "(III)I" } : Jvm.MethodName) prog_22_method_7_code (6 : Nat) (Option.some Jvm.ClassFile.FieldType.int)) ∈ lw_all := lw_g (lw_at lw_m2 145 rfl) rfl
theorem q743 : (Jvm.Cond.methodLink "ContractLedger$Types" (50 : Nat) ({ cls := "ContractLedger$Types", name := "is", desc := "(II)Z" } : Jvm.MethodName)) ∈ lw_all := lw_g (lw_at lw_m2 146 rfl) rfl
theorem q744 : (Jvm.Cond.instanceMethod ({ cls := "ContractLedger$Types", name := "is", desc := "(II)Z" } : Jvm.MethodName)) ∈ lw_all := lw_g (lw_at lw_m2 147 rfl) rfl
theorem q745 : (Jvm.Cond.selects "ContractLedger$Types" ({ cls := "ContractLedger$Types", name := "is", desc := "(II)Z" } : Jvm.MethodName) ({ cls := "ContractLedger$Types", name := "is", desc := "(II)Z" } : Jvm.MethodName)) ∈ lw_all := lw_g (lw_at lw_m2 148 rfl) rfl
theorem q746 : (Jvm.Cond.code ({ cls := "ContractLedger$Types", name := "is", desc := "(II)Z" } : Jvm.MethodName) prog_22_method_5_code (3 : Nat) (Option.some Jvm.ClassFile.FieldType.boolean)) ∈ lw_all := lw_g (lw_at lw_m2 149 rfl) rfl
theorem q747 : (Jvm.Cond.methodLink "ContractLedger$Types" (54 : Nat) ({ cls := "ContractLedger$Types", name := "both", desc := "(III)Z" } : Jvm.MethodName)) ∈ lw_all := lw_g (lw_at lw_m2 150 rfl) rfl
theorem q748 : (Jvm.Cond.privateMethod ({ cls := "ContractLedger$Types", name := "both", desc := "(III)Z" } : Jvm.MethodName)) ∈ lw_tbl := lw_at lw_m2 151 rfl
theorem q749 : (Jvm.Cond.instanceMethod ({ cls := "ContractLedger$Types", name := "both", desc := "(III)Z" } : Jvm.MethodName)) ∈ lw_all := lw_g (lw_at lw_m2 152 rfl) rfl
theorem q750 : (Jvm.Cond.code ({ cls := "ContractLedger$Types", name := "both", desc := "(III)Z" } : Jvm.MethodName) prog_22_method_6_code (4 : Nat) (Option.some Jvm.ClassFile.FieldType.boolean)) ∈ lw_all := lw_g (lw_at lw_m2 153 rfl) rfl
theorem q751 : (Jvm.Cond.fieldLink "ContractLedger$Types" (10 : Nat) "ContractLedger$Types" "words" "[B") ∈ lw_all := lw_g (lw_at lw_m2 154 rfl) rfl
theorem q757 : (Jvm.Cond.fieldLink "ContractLedger$Types" (16 : Nat) "ContractLedger$Types" "lefts" "[I") ∈ lw_all := lw_g (lw_at lw_m2 160 rfl) rfl
theorem q763 : (Jvm.Cond.fieldLink "ContractLedger$Types" (20 : Nat) "ContractLedger$Types" "rights" "[I") ∈ lw_all := lw_g (lw_at lw_m2 166 rfl) rfl
theorem q769 : (Jvm.Cond.fieldLink "ContractLedger$Types" (23 : Nat) "ContractLedger$Types" "parts" "[S") ∈ lw_all := lw_g (lw_at lw_m2 172 rfl) rfl
theorem q770 : (Jvm.Cond.fieldLink "ContractLedger$Types" (27 : Nat) "ContractLedger$Types" "marks" "[B") ∈ lw_all := lw_g (lw_at lw_m2 173 rfl) rfl
theorem q771 : (Jvm.Cond.fieldLink "ContractLedger$Types" (30 : Nat) "ContractLedger$Types" "others" "[I") ∈ lw_all := lw_g (lw_at lw_m2 174 rfl) rfl
theorem q772 : (Jvm.Cond.fieldLink "ContractLedger$Types" (33 : Nat) "ContractLedger$Types" "buckets" "[I") ∈ lw_all := lw_g (lw_at lw_m2 175 rfl) rfl
theorem q773 : (Jvm.Cond.fieldLink "ContractLedger$Types" (43 : Nat) "ContractLedger$Types" "count" "I") ∈ lw_all := lw_g (lw_at lw_m2 176 rfl) rfl
theorem q775 : (Jvm.Cond.laysFinal "ContractLedger$Types" "ContractLedger$Types" "words" "[B") ∈ lw_all := lw_g (lw_at lw_m2 178 rfl) rfl
theorem q776 : (Jvm.Cond.soleField "ContractLedger$Types" "words") ∈ lw_all := lw_g (lw_at lw_m2 179 rfl) rfl
theorem q777 : (Jvm.Cond.laysFinal "ContractLedger$Types" "ContractLedger$Types" "lefts" "[I") ∈ lw_all := lw_g (lw_at lw_m2 180 rfl) rfl
theorem q778 : (Jvm.Cond.soleField "ContractLedger$Types" "lefts") ∈ lw_all := lw_g (lw_at lw_m2 181 rfl) rfl
theorem q779 : (Jvm.Cond.laysFinal "ContractLedger$Types" "ContractLedger$Types" "rights" "[I") ∈ lw_all := lw_g (lw_at lw_m2 182 rfl) rfl
theorem q780 : (Jvm.Cond.soleField "ContractLedger$Types" "rights") ∈ lw_all := lw_g (lw_at lw_m2 183 rfl) rfl
theorem q781 : (Jvm.Cond.laysFinal "ContractLedger$Types" "ContractLedger$Types" "parts" "[S") ∈ lw_all := lw_g (lw_at lw_m2 184 rfl) rfl
theorem q782 : (Jvm.Cond.soleField "ContractLedger$Types" "parts") ∈ lw_all := lw_g (lw_at lw_m2 185 rfl) rfl
theorem q783 : (Jvm.Cond.laysFinal "ContractLedger$Types" "ContractLedger$Types" "marks" "[B") ∈ lw_all := lw_g (lw_at lw_m2 186 rfl) rfl
theorem q784 : (Jvm.Cond.soleField "ContractLedger$Types" "marks") ∈ lw_all := lw_g (lw_at lw_m2 187 rfl) rfl
theorem q785 : (Jvm.Cond.laysFinal "ContractLedger$Types" "ContractLedger$Types" "others" "[I") ∈ lw_all := lw_g (lw_at lw_m2 188 rfl) rfl
theorem q786 : (Jvm.Cond.soleField "ContractLedger$Types" "others") ∈ lw_all := lw_g (lw_at lw_m2 189 rfl) rfl
theorem q787 : (Jvm.Cond.laysFinal "ContractLedger$Types" "ContractLedger$Types" "buckets" "[I") ∈ lw_all := lw_g (lw_at lw_m2 190 rfl) rfl
theorem q788 : (Jvm.Cond.soleField "ContractLedger$Types" "buckets") ∈ lw_all := lw_g (lw_at lw_m2 191 rfl) rfl
theorem q789 : (Jvm.Cond.lays "ContractLedger$Types" "ContractLedger$Types" "count" "I") ∈ lw_all := lw_g (lw_at lw_m2 192 rfl) rfl
theorem q790 : (Jvm.Cond.soleField "ContractLedger$Types" "count") ∈ lw_all := lw_g (lw_at lw_m2 193 rfl) rfl
theorem q791 : (Jvm.Cond.superclass "ContractLedger$Types" "java/lang/Object") ∈ lw_all := lw_g (lw_at lw_m2 194 rfl) rfl
theorem q1850 : (Jvm.Cond.instanceMethod ({ cls := "ContractLedger$Types", name := "of", desc := "(LContractLedger$Terms;I)I" } : Jvm.MethodName)) ∈ lw_all := lw_g (lw_at lw_m7 53 rfl) rfl
theorem q1851 : (Jvm.Cond.selects "ContractLedger$Types" ({ cls := "ContractLedger$Types", name := "of", desc := "(LContractLedger$Terms;I)I" } : Jvm.MethodName) ({ cls := "ContractLedger$Types", name := "of", desc := "(LContractLedger$Terms;I)I" } : Jvm.MethodName)) ∈ lw_all := lw_g (lw_at lw_m7 54 rfl) rfl
theorem q1852 : (Jvm.Cond.code ({ cls := "ContractLedger$Types", name := "of", desc := "(LContractLedger$Terms;I)I" } : Jvm.MethodName) prog_22_method_12_code (9 : Nat) (Option.some Jvm.ClassFile.FieldType.int)) ∈ lw_all := lw_g (lw_at lw_m7 55 rfl) rfl
theorem q1853 : (Jvm.Cond.methodLink "ContractLedger$Types" (73 : Nat) ({ cls := "ContractLedger$Types", name := "arguments", desc := "(I)I" } : Jvm.MethodName)) ∈ lw_all := lw_g (lw_at lw_m7 56 rfl) rfl
theorem q1854 : (Jvm.Cond.static ({ cls := "ContractLedger$Types", name := "arguments", desc := "(I)I" } : Jvm.MethodName)) ∈ lw_all := lw_g (lw_at lw_m7 57 rfl) rfl
theorem q1855 : (Jvm.Cond.code ({ cls := "ContractLedger$Types", name := "arguments", desc := "(I)I" } : Jvm.MethodName) prog_22_method_11_code (1 : Nat) (Option.some Jvm.ClassFile.FieldType.int)) ∈ lw_all := lw_g (lw_at lw_m7 58 rfl) rfl
theorem q1856 : (Jvm.Cond.methodLink "ContractLedger$Types" (79 : Nat) ({ cls := "ContractLedger$Types", name := "comb", desc := "(LContractLedger$Terms;I)I" } : Jvm.MethodName)) ∈ lw_all := lw_g (lw_at lw_m7 59 rfl) rfl
theorem q1857 : (Jvm.Cond.privateMethod ({ cls := "ContractLedger$Types", name := "comb", desc := "(LContractLedger$Terms;I)I" } : Jvm.MethodName)) ∈ lw_tbl := lw_at lw_m7 60 rfl
theorem q1858 : (Jvm.Cond.instanceMethod ({ cls := "ContractLedger$Types", name := "comb", desc := "(LContractLedger$Terms;I)I" } : Jvm.MethodName)) ∈ lw_all := lw_g (lw_at lw_m7 61 rfl) rfl
theorem q1859 : (Jvm.Cond.code ({ cls := "ContractLedger$Types", name := "comb", desc := "(LContractLedger$Terms;I)I" } : Jvm.MethodName) prog_22_method_13_code (6 : Nat) (Option.some Jvm.ClassFile.FieldType.int)) ∈ lw_all := lw_g (lw_at lw_m7 62 rfl) rfl
theorem q1860 : (Jvm.Cond.methodLink "ContractLedger$Types" (92 : Nat) ({ cls := "ContractLedger$Terms", name := "child", desc := "(II)I" } : Jvm.MethodName)) ∈ lw_all := lw_g (lw_at lw_m7 63 rfl) rfl
theorem q1861 : (Jvm.Cond.methodLink "ContractLedger$Types" (86 : Nat) ({ cls := "ContractLedger$Types", name := "of", desc := "(LContractLedger$Terms;I)I" } : Jvm.MethodName)) ∈ lw_all := lw_g (lw_at lw_m7 64 rfl) rfl
theorem q1862 : (Jvm.Cond.methodLink "ContractLedger$Types" (96 : Nat) ({ cls := "ContractLedger$Types", name := "pair", desc := "(II)I" } : Jvm.MethodName)) ∈ lw_all := lw_g (lw_at lw_m7 65 rfl) rfl
theorem q1863 : (Jvm.Cond.instanceMethod ({ cls := "ContractLedger$Types", name := "pair", desc := "(II)I" } : Jvm.MethodName)) ∈ lw_all := lw_g (lw_at lw_m7 66 rfl) rfl
theorem q1864 : (Jvm.Cond.selects "ContractLedger$Types" ({ cls := "ContractLedger$Types", name := "pair", desc := "(II)I" } : Jvm.MethodName) ({ cls := "ContractLedger$Types", name := "pair", desc := "(II)I" } : Jvm.MethodName)) ∈ lw_all := lw_g (lw_at lw_m7 67 rfl) rfl
theorem q1865 : (Jvm.Cond.code ({ cls := "ContractLedger$Types", name := "pair", desc := "(II)I" } : Jvm.MethodName) prog_22_method_9_code (3 : Nat) (Option.some Jvm.ClassFile.FieldType.int)) ∈ lw_all := lw_g (lw_at lw_m7 68 rfl) rfl
theorem q2200 : (Jvm.Cond.instanceMethod ({ cls := "ContractLedger$Types", name := "option", desc := "(I)I" } : Jvm.MethodName)) ∈ lw_all := lw_g (lw_at lw_m8 163 rfl) rfl
theorem q2201 : (Jvm.Cond.selects "ContractLedger$Types" ({ cls := "ContractLedger$Types", name := "option", desc := "(I)I" } : Jvm.MethodName) ({ cls := "ContractLedger$Types", name := "option", desc := "(I)I" } : Jvm.MethodName)) ∈ lw_all := lw_g (lw_at lw_m8 164 rfl) rfl
theorem q2202 : (Jvm.Cond.code ({ cls := "ContractLedger$Types", name := "option", desc := "(I)I" } : Jvm.MethodName) prog_22_method_10_code (2 : Nat) (Option.some Jvm.ClassFile.FieldType.int)) ∈ lw_all := lw_g (lw_at lw_m8 165 rfl) rfl
theorem q2315 : (Jvm.Cond.instanceMethod ({ cls := "ContractLedger$Types", name := "drop", desc := "(I)V" } : Jvm.MethodName)) ∈ lw_all := lw_g (lw_at lw_m9 38 rfl) rfl
theorem q2316 : (Jvm.Cond.selects "ContractLedger$Types" ({ cls := "ContractLedger$Types", name := "drop", desc := "(I)V" } : Jvm.MethodName) ({ cls := "ContractLedger$Types", name := "drop", desc := "(I)V" } : Jvm.MethodName)) ∈ lw_all := lw_g (lw_at lw_m9 39 rfl) rfl
theorem q2317 : (Jvm.Cond.code ({ cls := "ContractLedger$Types", name := "drop", desc := "(I)V" } : Jvm.MethodName) prog_22_method_3_code (2 : Nat) (Option.none : Option Jvm.ClassFile.FieldType)) ∈ lw_all := lw_g (lw_at lw_m9 40 rfl) rfl
set_option maxRecDepth 100000
abbrev cX8_init : ByteArray := prog_10_method_1_code
def yX8_init : MethodName := ⟨RX8, "<init>", "(LContractLedger$Failing;)V"⟩
def dkwX8_init_2 : List UInt8 := [17, 0, 200, 183, 0, 32, 181, 0, 35, 42, 43, 181, 0, 39, 177]
abbrev dktX8_init_2 : List UInt8 := dkwX8_init_2 ++ []
def dkwX8_init_1 : List UInt8 := [181, 0, 19, 42, 18, 23, 188, 10, 181, 0, 24, 42, 16, 16, 181, 0, 27, 42, 187, 0, 30, 89]
abbrev dktX8_init_1 : List UInt8 := dkwX8_init_1 ++ dktX8_init_2
def dkwX8_init_0 : List UInt8 := [42, 183, 0, 3, 42, 18, 9, 188, 10, 181, 0, 10, 42, 18, 9, 188, 10, 181, 0, 16, 42, 16, 16]
abbrev dktX8_init_0 : List UInt8 := dkwX8_init_0 ++ dktX8_init_1
theorem dksX8_init_0 : cX8_init.data.toList.drop 0 = dktX8_init_0 := by decide +kernel
theorem dksX8_init_1 : cX8_init.data.toList.drop 23 = dktX8_init_1 := dk_seg dksX8_init_0 23 rfl rfl
theorem dksX8_init_2 : cX8_init.data.toList.drop 45 = dktX8_init_2 := dk_seg dksX8_init_1 22 rfl rfl
theorem dX8_init_0 : decode cX8_init 0 = .ok (.aload_n 0, 1) := dk_42 (dk_at dksX8_init_0 0 rfl rfl)
theorem dX8_init_1 : decode cX8_init 1 = .ok (.invokespecial 3, 3) := dk_183 0 3 (dk_at dksX8_init_0 1 rfl rfl)
theorem dX8_init_4 : decode cX8_init 4 = .ok (.aload_n 0, 1) := dk_42 (dk_at dksX8_init_0 4 rfl rfl)
theorem dX8_init_5 : decode cX8_init 5 = .ok (.ldc 9, 2) := dk_18 9 (dk_at dksX8_init_0 5 rfl rfl)
theorem dX8_init_7 : decode cX8_init 7 = .ok (.newarray .int, 2) := dk_188_10 (dk_at dksX8_init_0 7 rfl rfl)
theorem dX8_init_9 : decode cX8_init 9 = .ok (.putfield 10, 3) := dk_181 0 10 (dk_at dksX8_init_0 9 rfl rfl)
theorem dX8_init_12 : decode cX8_init 12 = .ok (.aload_n 0, 1) := dk_42 (dk_at dksX8_init_0 12 rfl rfl)
theorem dX8_init_13 : decode cX8_init 13 = .ok (.ldc 9, 2) := dk_18 9 (dk_at dksX8_init_0 13 rfl rfl)
theorem dX8_init_15 : decode cX8_init 15 = .ok (.newarray .int, 2) := dk_188_10 (dk_at dksX8_init_0 15 rfl rfl)
theorem dX8_init_17 : decode cX8_init 17 = .ok (.putfield 16, 3) := dk_181 0 16 (dk_at dksX8_init_0 17 rfl rfl)
theorem dX8_init_20 : decode cX8_init 20 = .ok (.aload_n 0, 1) := dk_42 (dk_at dksX8_init_0 20 rfl rfl)
theorem dX8_init_21 : decode cX8_init 21 = .ok (.bipush 16, 2) := dk_16 16 (dk_at dksX8_init_0 21 rfl rfl)
theorem dX8_init_23 : decode cX8_init 23 = .ok (.putfield 19, 3) := dk_181 0 19 (dk_at dksX8_init_1 0 rfl rfl)
theorem dX8_init_26 : decode cX8_init 26 = .ok (.aload_n 0, 1) := dk_42 (dk_at dksX8_init_1 3 rfl rfl)
theorem dX8_init_27 : decode cX8_init 27 = .ok (.ldc 23, 2) := dk_18 23 (dk_at dksX8_init_1 4 rfl rfl)
theorem dX8_init_29 : decode cX8_init 29 = .ok (.newarray .int, 2) := dk_188_10 (dk_at dksX8_init_1 6 rfl rfl)
theorem dX8_init_31 : decode cX8_init 31 = .ok (.putfield 24, 3) := dk_181 0 24 (dk_at dksX8_init_1 8 rfl rfl)
theorem dX8_init_34 : decode cX8_init 34 = .ok (.aload_n 0, 1) := dk_42 (dk_at dksX8_init_1 11 rfl rfl)
theorem dX8_init_35 : decode cX8_init 35 = .ok (.bipush 16, 2) := dk_16 16 (dk_at dksX8_init_1 12 rfl rfl)
theorem dX8_init_37 : decode cX8_init 37 = .ok (.putfield 27, 3) := dk_181 0 27 (dk_at dksX8_init_1 14 rfl rfl)
theorem dX8_init_40 : decode cX8_init 40 = .ok (.aload_n 0, 1) := dk_42 (dk_at dksX8_init_1 17 rfl rfl)
theorem dX8_init_41 : decode cX8_init 41 = .ok (.new 30, 3) := dk_187 0 30 (dk_at dksX8_init_1 18 rfl rfl)
theorem dX8_init_44 : decode cX8_init 44 = .ok (.dup, 1) := dk_89 (dk_at dksX8_init_1 21 rfl rfl)
theorem dX8_init_45 : decode cX8_init 45 = .ok (.sipush 200, 3) := dk_17 0 200 (dk_at dksX8_init_2 0 rfl rfl)
theorem dX8_init_48 : decode cX8_init 48 = .ok (.invokespecial 32, 3) := dk_183 0 32 (dk_at dksX8_init_2 3 rfl rfl)
theorem dX8_init_51 : decode cX8_init 51 = .ok (.putfield 35, 3) := dk_181 0 35 (dk_at dksX8_init_2 6 rfl rfl)
theorem dX8_init_54 : decode cX8_init 54 = .ok (.aload_n 0, 1) := dk_42 (dk_at dksX8_init_2 9 rfl rfl)
theorem dX8_init_55 : decode cX8_init 55 = .ok (.aload_n 1, 1) := dk_43 (dk_at dksX8_init_2 10 rfl rfl)
theorem dX8_init_56 : decode cX8_init 56 = .ok (.putfield 39, 3) := dk_181 0 39 (dk_at dksX8_init_2 11 rfl rfl)
theorem dX8_init_59 : decode cX8_init 59 = .ok (.return_, 1) := dk_177 (dk_at dksX8_init_2 14 rfl rfl)
abbrev cX8_fixedTop : ByteArray := prog_10_method_7_code
def yX8_fixedTop : MethodName := ⟨RX8, "fixedTop", "()I"⟩
theorem dX8_fixedTop_0 : decode cX8_fixedTop 0 = .ok (.aload_n 0, 1) := by decide +kernel
theorem dX8_fixedTop_1 : decode cX8_fixedTop 1 = .ok (.getfield 27, 3) := by decide +kernel
theorem dX8_fixedTop_4 : decode cX8_fixedTop 4 = .ok (.ireturn, 1) := by decide +kernel
abbrev cX8_ofWhole : ByteArray := prog_10_method_20_code
def yX8_ofWhole : MethodName := ⟨RX8, "ofWhole", "(LContractLedger$Whole;)I"⟩
def dkwX8_ofWhole_6 : List UInt8 := [182, 0, 135, 16, 16, 120, 128, 182, 0, 55, 132, 5, 2, 167, 255, 217, 21, 4, 172]
abbrev dktX8_ofWhole_6 : List UInt8 := dkwX8_ofWhole_6 ++ []
def dkwX8_ofWhole_5 : List UInt8 := [162, 0, 39, 42, 21, 4, 6, 21, 5, 4, 122, 96, 43, 21, 5, 182, 0, 135, 43, 21, 5, 4, 96]
abbrev dktX8_ofWhole_5 : List UInt8 := dkwX8_ofWhole_5 ++ dktX8_ofWhole_6
def dkwX8_ofWhole_4 : List UInt8 := [180, 0, 138, 153, 0, 8, 18, 148, 167, 0, 4, 3, 128, 182, 0, 55, 3, 54, 5, 21, 5, 29]
abbrev dktX8_ofWhole_4 : List UInt8 := dkwX8_ofWhole_4 ++ dktX8_ofWhole_5
def dkwX8_ofWhole_3 : List UInt8 := [28, 184, 0, 102, 6, 29, 4, 96, 4, 122, 96, 182, 0, 144, 54, 4, 42, 21, 4, 5, 29, 43]
abbrev dktX8_ofWhole_3 : List UInt8 := dkwX8_ofWhole_3 ++ dktX8_ofWhole_4
def dkwX8_ofWhole_2 : List UInt8 := [43, 180, 0, 138, 153, 0, 8, 29, 116, 167, 0, 4, 29, 184, 0, 115, 172, 43, 180, 0, 141, 62, 42, 4]
abbrev dktX8_ofWhole_2 : List UInt8 := dkwX8_ofWhole_2 ++ dktX8_ofWhole_3
def dkwX8_ofWhole_1 : List UInt8 := [182, 0, 131, 28, 16, 30, 163, 0, 35, 43, 3, 182, 0, 135, 43, 4, 182, 0, 135, 16, 16, 120, 128, 62]
abbrev dktX8_ofWhole_1 : List UInt8 := dkwX8_ofWhole_1 ++ dktX8_ofWhole_2
def dkwX8_ofWhole_0 : List UInt8 := [43, 182, 0, 125, 61, 42, 180, 0, 39, 28, 17, 4, 0, 163, 0, 7, 4, 167, 0, 4, 3, 5]
abbrev dktX8_ofWhole_0 : List UInt8 := dkwX8_ofWhole_0 ++ dktX8_ofWhole_1
theorem dksX8_ofWhole_0 : cX8_ofWhole.data.toList.drop 0 = dktX8_ofWhole_0 := by decide +kernel
theorem dksX8_ofWhole_1 : cX8_ofWhole.data.toList.drop 22 = dktX8_ofWhole_1 := dk_seg dksX8_ofWhole_0 22 rfl rfl
theorem dksX8_ofWhole_2 : cX8_ofWhole.data.toList.drop 46 = dktX8_ofWhole_2 := dk_seg dksX8_ofWhole_1 24 rfl rfl
theorem dksX8_ofWhole_3 : cX8_ofWhole.data.toList.drop 70 = dktX8_ofWhole_3 := dk_seg dksX8_ofWhole_2 24 rfl rfl
theorem dksX8_ofWhole_4 : cX8_ofWhole.data.toList.drop 92 = dktX8_ofWhole_4 := dk_seg dksX8_ofWhole_3 22 rfl rfl
theorem dksX8_ofWhole_5 : cX8_ofWhole.data.toList.drop 114 = dktX8_ofWhole_5 := dk_seg dksX8_ofWhole_4 22 rfl rfl
theorem dksX8_ofWhole_6 : cX8_ofWhole.data.toList.drop 137 = dktX8_ofWhole_6 := dk_seg dksX8_ofWhole_5 23 rfl rfl
theorem dX8_ofWhole_0 : decode cX8_ofWhole 0 = .ok (.aload_n 1, 1) := dk_43 (dk_at dksX8_ofWhole_0 0 rfl rfl)
theorem dX8_ofWhole_1 : decode cX8_ofWhole 1 = .ok (.invokevirtual 125, 3) := dk_182 0 125 (dk_at dksX8_ofWhole_0 1 rfl rfl)
theorem dX8_ofWhole_4 : decode cX8_ofWhole 4 = .ok (.istore_n 2, 1) := dk_61 (dk_at dksX8_ofWhole_0 4 rfl rfl)
theorem dX8_ofWhole_5 : decode cX8_ofWhole 5 = .ok (.aload_n 0, 1) := dk_42 (dk_at dksX8_ofWhole_0 5 rfl rfl)
theorem dX8_ofWhole_6 : decode cX8_ofWhole 6 = .ok (.getfield 39, 3) := dk_180 0 39 (dk_at dksX8_ofWhole_0 6 rfl rfl)
theorem dX8_ofWhole_9 : decode cX8_ofWhole 9 = .ok (.iload_n 2, 1) := dk_28 (dk_at dksX8_ofWhole_0 9 rfl rfl)
theorem dX8_ofWhole_10 : decode cX8_ofWhole 10 = .ok (.sipush 1024, 3) := dk_17 4 0 (dk_at dksX8_ofWhole_0 10 rfl rfl)
theorem dX8_ofWhole_13 : decode cX8_ofWhole 13 = .ok (.if_icmp .gt 7, 3) := dk_163 0 7 (dk_at dksX8_ofWhole_0 13 rfl rfl)
theorem dX8_ofWhole_16 : decode cX8_ofWhole 16 = .ok (.iconst 1, 1) := dk_4 (dk_at dksX8_ofWhole_0 16 rfl rfl)
theorem dX8_ofWhole_17 : decode cX8_ofWhole 17 = .ok (.goto 4, 3) := dk_167 0 4 (dk_at dksX8_ofWhole_0 17 rfl rfl)
theorem dX8_ofWhole_20 : decode cX8_ofWhole 20 = .ok (.iconst 0, 1) := dk_3 (dk_at dksX8_ofWhole_0 20 rfl rfl)
theorem dX8_ofWhole_21 : decode cX8_ofWhole 21 = .ok (.iconst 2, 1) := dk_5 (dk_at dksX8_ofWhole_0 21 rfl rfl)
theorem dX8_ofWhole_22 : decode cX8_ofWhole 22 = .ok (.invokevirtual 131, 3) := dk_182 0 131 (dk_at dksX8_ofWhole_1 0 rfl rfl)
theorem dX8_ofWhole_25 : decode cX8_ofWhole 25 = .ok (.iload_n 2, 1) := dk_28 (dk_at dksX8_ofWhole_1 3 rfl rfl)
theorem dX8_ofWhole_26 : decode cX8_ofWhole 26 = .ok (.bipush 30, 2) := dk_16 30 (dk_at dksX8_ofWhole_1 4 rfl rfl)
theorem dX8_ofWhole_28 : decode cX8_ofWhole 28 = .ok (.if_icmp .gt 35, 3) := dk_163 0 35 (dk_at dksX8_ofWhole_1 6 rfl rfl)
theorem dX8_ofWhole_31 : decode cX8_ofWhole 31 = .ok (.aload_n 1, 1) := dk_43 (dk_at dksX8_ofWhole_1 9 rfl rfl)
theorem dX8_ofWhole_32 : decode cX8_ofWhole 32 = .ok (.iconst 0, 1) := dk_3 (dk_at dksX8_ofWhole_1 10 rfl rfl)
theorem dX8_ofWhole_33 : decode cX8_ofWhole 33 = .ok (.invokevirtual 135, 3) := dk_182 0 135 (dk_at dksX8_ofWhole_1 11 rfl rfl)
theorem dX8_ofWhole_36 : decode cX8_ofWhole 36 = .ok (.aload_n 1, 1) := dk_43 (dk_at dksX8_ofWhole_1 14 rfl rfl)
theorem dX8_ofWhole_37 : decode cX8_ofWhole 37 = .ok (.iconst 1, 1) := dk_4 (dk_at dksX8_ofWhole_1 15 rfl rfl)
theorem dX8_ofWhole_38 : decode cX8_ofWhole 38 = .ok (.invokevirtual 135, 3) := dk_182 0 135 (dk_at dksX8_ofWhole_1 16 rfl rfl)
theorem dX8_ofWhole_41 : decode cX8_ofWhole 41 = .ok (.bipush 16, 2) := dk_16 16 (dk_at dksX8_ofWhole_1 19 rfl rfl)
theorem dX8_ofWhole_43 : decode cX8_ofWhole 43 = .ok (.ishl, 1) := dk_120 (dk_at dksX8_ofWhole_1 21 rfl rfl)
theorem dX8_ofWhole_44 : decode cX8_ofWhole 44 = .ok (.ior, 1) := dk_128 (dk_at dksX8_ofWhole_1 22 rfl rfl)
theorem dX8_ofWhole_45 : decode cX8_ofWhole 45 = .ok (.istore_n 3, 1) := dk_62 (dk_at dksX8_ofWhole_1 23 rfl rfl)
theorem dX8_ofWhole_46 : decode cX8_ofWhole 46 = .ok (.aload_n 1, 1) := dk_43 (dk_at dksX8_ofWhole_2 0 rfl rfl)
theorem dX8_ofWhole_47 : decode cX8_ofWhole 47 = .ok (.getfield 138, 3) := dk_180 0 138 (dk_at dksX8_ofWhole_2 1 rfl rfl)
theorem dX8_ofWhole_50 : decode cX8_ofWhole 50 = .ok (.ifCond .eq 8, 3) := dk_153 0 8 (dk_at dksX8_ofWhole_2 4 rfl rfl)
theorem dX8_ofWhole_53 : decode cX8_ofWhole 53 = .ok (.iload_n 3, 1) := dk_29 (dk_at dksX8_ofWhole_2 7 rfl rfl)
theorem dX8_ofWhole_54 : decode cX8_ofWhole 54 = .ok (.ineg, 1) := dk_116 (dk_at dksX8_ofWhole_2 8 rfl rfl)
theorem dX8_ofWhole_55 : decode cX8_ofWhole 55 = .ok (.goto 4, 3) := dk_167 0 4 (dk_at dksX8_ofWhole_2 9 rfl rfl)
theorem dX8_ofWhole_58 : decode cX8_ofWhole 58 = .ok (.iload_n 3, 1) := dk_29 (dk_at dksX8_ofWhole_2 12 rfl rfl)
theorem dX8_ofWhole_59 : decode cX8_ofWhole 59 = .ok (.invokestatic 115, 3) := dk_184 0 115 (dk_at dksX8_ofWhole_2 13 rfl rfl)
theorem dX8_ofWhole_62 : decode cX8_ofWhole 62 = .ok (.ireturn, 1) := dk_172 (dk_at dksX8_ofWhole_2 16 rfl rfl)
theorem dX8_ofWhole_63 : decode cX8_ofWhole 63 = .ok (.aload_n 1, 1) := dk_43 (dk_at dksX8_ofWhole_2 17 rfl rfl)
theorem dX8_ofWhole_64 : decode cX8_ofWhole 64 = .ok (.getfield 141, 3) := dk_180 0 141 (dk_at dksX8_ofWhole_2 18 rfl rfl)
theorem dX8_ofWhole_67 : decode cX8_ofWhole 67 = .ok (.istore_n 3, 1) := dk_62 (dk_at dksX8_ofWhole_2 21 rfl rfl)
theorem dX8_ofWhole_68 : decode cX8_ofWhole 68 = .ok (.aload_n 0, 1) := dk_42 (dk_at dksX8_ofWhole_2 22 rfl rfl)
theorem dX8_ofWhole_69 : decode cX8_ofWhole 69 = .ok (.iconst 1, 1) := dk_4 (dk_at dksX8_ofWhole_2 23 rfl rfl)
theorem dX8_ofWhole_70 : decode cX8_ofWhole 70 = .ok (.iload_n 2, 1) := dk_28 (dk_at dksX8_ofWhole_3 0 rfl rfl)
theorem dX8_ofWhole_71 : decode cX8_ofWhole 71 = .ok (.invokestatic 102, 3) := dk_184 0 102 (dk_at dksX8_ofWhole_3 1 rfl rfl)
theorem dX8_ofWhole_74 : decode cX8_ofWhole 74 = .ok (.iconst 3, 1) := dk_6 (dk_at dksX8_ofWhole_3 4 rfl rfl)
theorem dX8_ofWhole_75 : decode cX8_ofWhole 75 = .ok (.iload_n 3, 1) := dk_29 (dk_at dksX8_ofWhole_3 5 rfl rfl)
theorem dX8_ofWhole_76 : decode cX8_ofWhole 76 = .ok (.iconst 1, 1) := dk_4 (dk_at dksX8_ofWhole_3 6 rfl rfl)
theorem dX8_ofWhole_77 : decode cX8_ofWhole 77 = .ok (.iadd, 1) := dk_96 (dk_at dksX8_ofWhole_3 7 rfl rfl)
theorem dX8_ofWhole_78 : decode cX8_ofWhole 78 = .ok (.iconst 1, 1) := dk_4 (dk_at dksX8_ofWhole_3 8 rfl rfl)
theorem dX8_ofWhole_79 : decode cX8_ofWhole 79 = .ok (.ishr, 1) := dk_122 (dk_at dksX8_ofWhole_3 9 rfl rfl)
theorem dX8_ofWhole_80 : decode cX8_ofWhole 80 = .ok (.iadd, 1) := dk_96 (dk_at dksX8_ofWhole_3 10 rfl rfl)
theorem dX8_ofWhole_81 : decode cX8_ofWhole 81 = .ok (.invokevirtual 144, 3) := dk_182 0 144 (dk_at dksX8_ofWhole_3 11 rfl rfl)
theorem dX8_ofWhole_84 : decode cX8_ofWhole 84 = .ok (.istore 4, 2) := dk_54 4 (dk_at dksX8_ofWhole_3 14 rfl rfl)
theorem dX8_ofWhole_86 : decode cX8_ofWhole 86 = .ok (.aload_n 0, 1) := dk_42 (dk_at dksX8_ofWhole_3 16 rfl rfl)
theorem dX8_ofWhole_87 : decode cX8_ofWhole 87 = .ok (.iload 4, 2) := dk_21 4 (dk_at dksX8_ofWhole_3 17 rfl rfl)
theorem dX8_ofWhole_89 : decode cX8_ofWhole 89 = .ok (.iconst 2, 1) := dk_5 (dk_at dksX8_ofWhole_3 19 rfl rfl)
theorem dX8_ofWhole_90 : decode cX8_ofWhole 90 = .ok (.iload_n 3, 1) := dk_29 (dk_at dksX8_ofWhole_3 20 rfl rfl)
theorem dX8_ofWhole_91 : decode cX8_ofWhole 91 = .ok (.aload_n 1, 1) := dk_43 (dk_at dksX8_ofWhole_3 21 rfl rfl)
theorem dX8_ofWhole_92 : decode cX8_ofWhole 92 = .ok (.getfield 138, 3) := dk_180 0 138 (dk_at dksX8_ofWhole_4 0 rfl rfl)
theorem dX8_ofWhole_95 : decode cX8_ofWhole 95 = .ok (.ifCond .eq 8, 3) := dk_153 0 8 (dk_at dksX8_ofWhole_4 3 rfl rfl)
theorem dX8_ofWhole_98 : decode cX8_ofWhole 98 = .ok (.ldc 148, 2) := dk_18 148 (dk_at dksX8_ofWhole_4 6 rfl rfl)
theorem dX8_ofWhole_100 : decode cX8_ofWhole 100 = .ok (.goto 4, 3) := dk_167 0 4 (dk_at dksX8_ofWhole_4 8 rfl rfl)
theorem dX8_ofWhole_103 : decode cX8_ofWhole 103 = .ok (.iconst 0, 1) := dk_3 (dk_at dksX8_ofWhole_4 11 rfl rfl)
theorem dX8_ofWhole_104 : decode cX8_ofWhole 104 = .ok (.ior, 1) := dk_128 (dk_at dksX8_ofWhole_4 12 rfl rfl)
theorem dX8_ofWhole_105 : decode cX8_ofWhole 105 = .ok (.invokevirtual 55, 3) := dk_182 0 55 (dk_at dksX8_ofWhole_4 13 rfl rfl)
theorem dX8_ofWhole_108 : decode cX8_ofWhole 108 = .ok (.iconst 0, 1) := dk_3 (dk_at dksX8_ofWhole_4 16 rfl rfl)
theorem dX8_ofWhole_109 : decode cX8_ofWhole 109 = .ok (.istore 5, 2) := dk_54 5 (dk_at dksX8_ofWhole_4 17 rfl rfl)
theorem dX8_ofWhole_111 : decode cX8_ofWhole 111 = .ok (.iload 5, 2) := dk_21 5 (dk_at dksX8_ofWhole_4 19 rfl rfl)
theorem dX8_ofWhole_113 : decode cX8_ofWhole 113 = .ok (.iload_n 3, 1) := dk_29 (dk_at dksX8_ofWhole_4 21 rfl rfl)
theorem dX8_ofWhole_114 : decode cX8_ofWhole 114 = .ok (.if_icmp .ge 39, 3) := dk_162 0 39 (dk_at dksX8_ofWhole_5 0 rfl rfl)
theorem dX8_ofWhole_117 : decode cX8_ofWhole 117 = .ok (.aload_n 0, 1) := dk_42 (dk_at dksX8_ofWhole_5 3 rfl rfl)
theorem dX8_ofWhole_118 : decode cX8_ofWhole 118 = .ok (.iload 4, 2) := dk_21 4 (dk_at dksX8_ofWhole_5 4 rfl rfl)
theorem dX8_ofWhole_120 : decode cX8_ofWhole 120 = .ok (.iconst 3, 1) := dk_6 (dk_at dksX8_ofWhole_5 6 rfl rfl)
theorem dX8_ofWhole_121 : decode cX8_ofWhole 121 = .ok (.iload 5, 2) := dk_21 5 (dk_at dksX8_ofWhole_5 7 rfl rfl)
theorem dX8_ofWhole_123 : decode cX8_ofWhole 123 = .ok (.iconst 1, 1) := dk_4 (dk_at dksX8_ofWhole_5 9 rfl rfl)
theorem dX8_ofWhole_124 : decode cX8_ofWhole 124 = .ok (.ishr, 1) := dk_122 (dk_at dksX8_ofWhole_5 10 rfl rfl)
theorem dX8_ofWhole_125 : decode cX8_ofWhole 125 = .ok (.iadd, 1) := dk_96 (dk_at dksX8_ofWhole_5 11 rfl rfl)
theorem dX8_ofWhole_126 : decode cX8_ofWhole 126 = .ok (.aload_n 1, 1) := dk_43 (dk_at dksX8_ofWhole_5 12 rfl rfl)
theorem dX8_ofWhole_127 : decode cX8_ofWhole 127 = .ok (.iload 5, 2) := dk_21 5 (dk_at dksX8_ofWhole_5 13 rfl rfl)
theorem dX8_ofWhole_129 : decode cX8_ofWhole 129 = .ok (.invokevirtual 135, 3) := dk_182 0 135 (dk_at dksX8_ofWhole_5 15 rfl rfl)
theorem dX8_ofWhole_132 : decode cX8_ofWhole 132 = .ok (.aload_n 1, 1) := dk_43 (dk_at dksX8_ofWhole_5 18 rfl rfl)
theorem dX8_ofWhole_133 : decode cX8_ofWhole 133 = .ok (.iload 5, 2) := dk_21 5 (dk_at dksX8_ofWhole_5 19 rfl rfl)
theorem dX8_ofWhole_135 : decode cX8_ofWhole 135 = .ok (.iconst 1, 1) := dk_4 (dk_at dksX8_ofWhole_5 21 rfl rfl)
theorem dX8_ofWhole_136 : decode cX8_ofWhole 136 = .ok (.iadd, 1) := dk_96 (dk_at dksX8_ofWhole_5 22 rfl rfl)
theorem dX8_ofWhole_137 : decode cX8_ofWhole 137 = .ok (.invokevirtual 135, 3) := dk_182 0 135 (dk_at dksX8_ofWhole_6 0 rfl rfl)
theorem dX8_ofWhole_140 : decode cX8_ofWhole 140 = .ok (.bipush 16, 2) := dk_16 16 (dk_at dksX8_ofWhole_6 3 rfl rfl)
theorem dX8_ofWhole_142 : decode cX8_ofWhole 142 = .ok (.ishl, 1) := dk_120 (dk_at dksX8_ofWhole_6 5 rfl rfl)
theorem dX8_ofWhole_143 : decode cX8_ofWhole 143 = .ok (.ior, 1) := dk_128 (dk_at dksX8_ofWhole_6 6 rfl rfl)
theorem dX8_ofWhole_144 : decode cX8_ofWhole 144 = .ok (.invokevirtual 55, 3) := dk_182 0 55 (dk_at dksX8_ofWhole_6 7 rfl rfl)
theorem dX8_ofWhole_147 : decode cX8_ofWhole 147 = .ok (.iinc 5 2, 3) := dk_132 5 2 (dk_at dksX8_ofWhole_6 10 rfl rfl)
theorem dX8_ofWhole_150 : decode cX8_ofWhole 150 = .ok (.goto (-39), 3) := dk_167 255 217 (dk_at dksX8_ofWhole_6 13 rfl rfl)
theorem dX8_ofWhole_153 : decode cX8_ofWhole 153 = .ok (.iload 4, 2) := dk_21 4 (dk_at dksX8_ofWhole_6 16 rfl rfl)
theorem dX8_ofWhole_155 : decode cX8_ofWhole 155 = .ok (.ireturn, 1) := dk_172 (dk_at dksX8_ofWhole_6 18 rfl rfl)
abbrev cX8_small : ByteArray := prog_10_method_18_code
def yX8_small : MethodName := ⟨RX8, "small", "(I)I"⟩
def dkwX8_small_0 : List UInt8 := [26, 4, 120, 4, 128, 172]
abbrev dktX8_small_0 : List UInt8 := dkwX8_small_0 ++ []
theorem dksX8_small_0 : cX8_small.data.toList.drop 0 = dktX8_small_0 := by decide +kernel
theorem dX8_small_0 : decode cX8_small 0 = .ok (.iload_n 0, 1) := dk_26 (dk_at dksX8_small_0 0 rfl rfl)
theorem dX8_small_1 : decode cX8_small 1 = .ok (.iconst 1, 1) := dk_4 (dk_at dksX8_small_0 1 rfl rfl)
theorem dX8_small_2 : decode cX8_small 2 = .ok (.ishl, 1) := dk_120 (dk_at dksX8_small_0 2 rfl rfl)
theorem dX8_small_3 : decode cX8_small 3 = .ok (.iconst 1, 1) := dk_4 (dk_at dksX8_small_0 3 rfl rfl)
theorem dX8_small_4 : decode cX8_small 4 = .ok (.ior, 1) := dk_128 (dk_at dksX8_small_0 4 rfl rfl)
theorem dX8_small_5 : decode cX8_small 5 = .ok (.ireturn, 1) := dk_172 (dk_at dksX8_small_0 5 rfl rfl)
abbrev cX8_numberLength : ByteArray := prog_10_method_16_code
def yX8_numberLength : MethodName := ⟨RX8, "numberLength", "(I)I"⟩
def dkwX8_numberLength_0 : List UInt8 := [5, 26, 16, 6, 163, 0, 7, 3, 167, 0, 13, 26, 16, 6, 100, 16, 6, 96, 16, 7, 108, 96, 172]
abbrev dktX8_numberLength_0 : List UInt8 := dkwX8_numberLength_0 ++ []
theorem dksX8_numberLength_0 : cX8_numberLength.data.toList.drop 0 = dktX8_numberLength_0 := by decide +kernel
theorem dX8_numberLength_0 : decode cX8_numberLength 0 = .ok (.iconst 2, 1) := dk_5 (dk_at dksX8_numberLength_0 0 rfl rfl)
theorem dX8_numberLength_1 : decode cX8_numberLength 1 = .ok (.iload_n 0, 1) := dk_26 (dk_at dksX8_numberLength_0 1 rfl rfl)
theorem dX8_numberLength_2 : decode cX8_numberLength 2 = .ok (.bipush 6, 2) := dk_16 6 (dk_at dksX8_numberLength_0 2 rfl rfl)
theorem dX8_numberLength_4 : decode cX8_numberLength 4 = .ok (.if_icmp .gt 7, 3) := dk_163 0 7 (dk_at dksX8_numberLength_0 4 rfl rfl)
theorem dX8_numberLength_7 : decode cX8_numberLength 7 = .ok (.iconst 0, 1) := dk_3 (dk_at dksX8_numberLength_0 7 rfl rfl)
theorem dX8_numberLength_8 : decode cX8_numberLength 8 = .ok (.goto 13, 3) := dk_167 0 13 (dk_at dksX8_numberLength_0 8 rfl rfl)
theorem dX8_numberLength_11 : decode cX8_numberLength 11 = .ok (.iload_n 0, 1) := dk_26 (dk_at dksX8_numberLength_0 11 rfl rfl)
theorem dX8_numberLength_12 : decode cX8_numberLength 12 = .ok (.bipush 6, 2) := dk_16 6 (dk_at dksX8_numberLength_0 12 rfl rfl)
theorem dX8_numberLength_14 : decode cX8_numberLength 14 = .ok (.isub, 1) := dk_100 (dk_at dksX8_numberLength_0 14 rfl rfl)
theorem dX8_numberLength_15 : decode cX8_numberLength 15 = .ok (.bipush 6, 2) := dk_16 6 (dk_at dksX8_numberLength_0 15 rfl rfl)
theorem dX8_numberLength_17 : decode cX8_numberLength 17 = .ok (.iadd, 1) := dk_96 (dk_at dksX8_numberLength_0 17 rfl rfl)
theorem dX8_numberLength_18 : decode cX8_numberLength 18 = .ok (.bipush 7, 2) := dk_16 7 (dk_at dksX8_numberLength_0 18 rfl rfl)
theorem dX8_numberLength_20 : decode cX8_numberLength 20 = .ok (.idiv, 1) := dk_108 (dk_at dksX8_numberLength_0 20 rfl rfl)
theorem dX8_numberLength_21 : decode cX8_numberLength 21 = .ok (.iadd, 1) := dk_96 (dk_at dksX8_numberLength_0 21 rfl rfl)
theorem dX8_numberLength_22 : decode cX8_numberLength 22 = .ok (.ireturn, 1) := dk_172 (dk_at dksX8_numberLength_0 22 rfl rfl)
abbrev cX8_make : ByteArray := prog_10_method_9_code
def yX8_make : MethodName := ⟨RX8, "make", "(III)I"⟩
def dkwX8_make_2 : List UInt8 := [3, 27, 182, 0, 55, 42, 5, 21, 4, 104, 4, 28, 182, 0, 55, 5, 21, 4, 104, 172]
abbrev dktX8_make_2 : List UInt8 := dkwX8_make_2 ++ []
def dkwX8_make_1 : List UInt8 := [167, 0, 19, 42, 180, 0, 19, 54, 4, 42, 89, 180, 0, 19, 29, 96, 181, 0, 19, 42, 5, 21, 4, 104]
abbrev dktX8_make_1 : List UInt8 := dkwX8_make_1 ++ dktX8_make_2
def dkwX8_make_0 : List UInt8 := [42, 180, 0, 51, 153, 0, 23, 42, 180, 0, 27, 116, 54, 4, 42, 89, 180, 0, 27, 29, 96, 181, 0, 27]
abbrev dktX8_make_0 : List UInt8 := dkwX8_make_0 ++ dktX8_make_1
theorem dksX8_make_0 : cX8_make.data.toList.drop 0 = dktX8_make_0 := by decide +kernel
theorem dksX8_make_1 : cX8_make.data.toList.drop 24 = dktX8_make_1 := dk_seg dksX8_make_0 24 rfl rfl
theorem dksX8_make_2 : cX8_make.data.toList.drop 48 = dktX8_make_2 := dk_seg dksX8_make_1 24 rfl rfl
theorem dX8_make_0 : decode cX8_make 0 = .ok (.aload_n 0, 1) := dk_42 (dk_at dksX8_make_0 0 rfl rfl)
theorem dX8_make_1 : decode cX8_make 1 = .ok (.getfield 51, 3) := dk_180 0 51 (dk_at dksX8_make_0 1 rfl rfl)
theorem dX8_make_4 : decode cX8_make 4 = .ok (.ifCond .eq 23, 3) := dk_153 0 23 (dk_at dksX8_make_0 4 rfl rfl)
theorem dX8_make_7 : decode cX8_make 7 = .ok (.aload_n 0, 1) := dk_42 (dk_at dksX8_make_0 7 rfl rfl)
theorem dX8_make_8 : decode cX8_make 8 = .ok (.getfield 27, 3) := dk_180 0 27 (dk_at dksX8_make_0 8 rfl rfl)
theorem dX8_make_11 : decode cX8_make 11 = .ok (.ineg, 1) := dk_116 (dk_at dksX8_make_0 11 rfl rfl)
theorem dX8_make_12 : decode cX8_make 12 = .ok (.istore 4, 2) := dk_54 4 (dk_at dksX8_make_0 12 rfl rfl)
theorem dX8_make_14 : decode cX8_make 14 = .ok (.aload_n 0, 1) := dk_42 (dk_at dksX8_make_0 14 rfl rfl)
theorem dX8_make_15 : decode cX8_make 15 = .ok (.dup, 1) := dk_89 (dk_at dksX8_make_0 15 rfl rfl)
theorem dX8_make_16 : decode cX8_make 16 = .ok (.getfield 27, 3) := dk_180 0 27 (dk_at dksX8_make_0 16 rfl rfl)
theorem dX8_make_19 : decode cX8_make 19 = .ok (.iload_n 3, 1) := dk_29 (dk_at dksX8_make_0 19 rfl rfl)
theorem dX8_make_20 : decode cX8_make 20 = .ok (.iadd, 1) := dk_96 (dk_at dksX8_make_0 20 rfl rfl)
theorem dX8_make_21 : decode cX8_make 21 = .ok (.putfield 27, 3) := dk_181 0 27 (dk_at dksX8_make_0 21 rfl rfl)
theorem dX8_make_24 : decode cX8_make 24 = .ok (.goto 19, 3) := dk_167 0 19 (dk_at dksX8_make_1 0 rfl rfl)
theorem dX8_make_27 : decode cX8_make 27 = .ok (.aload_n 0, 1) := dk_42 (dk_at dksX8_make_1 3 rfl rfl)
theorem dX8_make_28 : decode cX8_make 28 = .ok (.getfield 19, 3) := dk_180 0 19 (dk_at dksX8_make_1 4 rfl rfl)
theorem dX8_make_31 : decode cX8_make 31 = .ok (.istore 4, 2) := dk_54 4 (dk_at dksX8_make_1 7 rfl rfl)
theorem dX8_make_33 : decode cX8_make 33 = .ok (.aload_n 0, 1) := dk_42 (dk_at dksX8_make_1 9 rfl rfl)
theorem dX8_make_34 : decode cX8_make 34 = .ok (.dup, 1) := dk_89 (dk_at dksX8_make_1 10 rfl rfl)
theorem dX8_make_35 : decode cX8_make 35 = .ok (.getfield 19, 3) := dk_180 0 19 (dk_at dksX8_make_1 11 rfl rfl)
theorem dX8_make_38 : decode cX8_make 38 = .ok (.iload_n 3, 1) := dk_29 (dk_at dksX8_make_1 14 rfl rfl)
theorem dX8_make_39 : decode cX8_make 39 = .ok (.iadd, 1) := dk_96 (dk_at dksX8_make_1 15 rfl rfl)
theorem dX8_make_40 : decode cX8_make 40 = .ok (.putfield 19, 3) := dk_181 0 19 (dk_at dksX8_make_1 16 rfl rfl)
theorem dX8_make_43 : decode cX8_make 43 = .ok (.aload_n 0, 1) := dk_42 (dk_at dksX8_make_1 19 rfl rfl)
theorem dX8_make_44 : decode cX8_make 44 = .ok (.iconst 2, 1) := dk_5 (dk_at dksX8_make_1 20 rfl rfl)
theorem dX8_make_45 : decode cX8_make 45 = .ok (.iload 4, 2) := dk_21 4 (dk_at dksX8_make_1 21 rfl rfl)
theorem dX8_make_47 : decode cX8_make 47 = .ok (.imul, 1) := dk_104 (dk_at dksX8_make_1 23 rfl rfl)
theorem dX8_make_48 : decode cX8_make 48 = .ok (.iconst 0, 1) := dk_3 (dk_at dksX8_make_2 0 rfl rfl)
theorem dX8_make_49 : decode cX8_make 49 = .ok (.iload_n 1, 1) := dk_27 (dk_at dksX8_make_2 1 rfl rfl)
theorem dX8_make_50 : decode cX8_make 50 = .ok (.invokevirtual 55, 3) := dk_182 0 55 (dk_at dksX8_make_2 2 rfl rfl)
theorem dX8_make_53 : decode cX8_make 53 = .ok (.aload_n 0, 1) := dk_42 (dk_at dksX8_make_2 5 rfl rfl)
theorem dX8_make_54 : decode cX8_make 54 = .ok (.iconst 2, 1) := dk_5 (dk_at dksX8_make_2 6 rfl rfl)
theorem dX8_make_55 : decode cX8_make 55 = .ok (.iload 4, 2) := dk_21 4 (dk_at dksX8_make_2 7 rfl rfl)
theorem dX8_make_57 : decode cX8_make 57 = .ok (.imul, 1) := dk_104 (dk_at dksX8_make_2 9 rfl rfl)
theorem dX8_make_58 : decode cX8_make 58 = .ok (.iconst 1, 1) := dk_4 (dk_at dksX8_make_2 10 rfl rfl)
theorem dX8_make_59 : decode cX8_make 59 = .ok (.iload_n 2, 1) := dk_28 (dk_at dksX8_make_2 11 rfl rfl)
theorem dX8_make_60 : decode cX8_make 60 = .ok (.invokevirtual 55, 3) := dk_182 0 55 (dk_at dksX8_make_2 12 rfl rfl)
theorem dX8_make_63 : decode cX8_make 63 = .ok (.iconst 2, 1) := dk_5 (dk_at dksX8_make_2 15 rfl rfl)
theorem dX8_make_64 : decode cX8_make 64 = .ok (.iload 4, 2) := dk_21 4 (dk_at dksX8_make_2 16 rfl rfl)
theorem dX8_make_66 : decode cX8_make 66 = .ok (.imul, 1) := dk_104 (dk_at dksX8_make_2 18 rfl rfl)
theorem dX8_make_67 : decode cX8_make 67 = .ok (.ireturn, 1) := dk_172 (dk_at dksX8_make_2 19 rfl rfl)
abbrev cX8_set : ByteArray := prog_10_method_5_code
def yX8_set : MethodName := ⟨RX8, "set", "(III)V"⟩
def dkwX8_set_1 : List UInt8 := [4, 122, 28, 96, 29, 79, 177]
abbrev dktX8_set_1 : List UInt8 := dkwX8_set_1 ++ []
def dkwX8_set_0 : List UInt8 := [27, 158, 0, 17, 42, 180, 0, 10, 27, 4, 122, 28, 96, 29, 79, 167, 0, 15, 42, 180, 0, 24, 27, 116]
abbrev dktX8_set_0 : List UInt8 := dkwX8_set_0 ++ dktX8_set_1
theorem dksX8_set_0 : cX8_set.data.toList.drop 0 = dktX8_set_0 := by decide +kernel
theorem dksX8_set_1 : cX8_set.data.toList.drop 24 = dktX8_set_1 := dk_seg dksX8_set_0 24 rfl rfl
theorem dX8_set_0 : decode cX8_set 0 = .ok (.iload_n 1, 1) := dk_27 (dk_at dksX8_set_0 0 rfl rfl)
theorem dX8_set_1 : decode cX8_set 1 = .ok (.ifCond .le 17, 3) := dk_158 0 17 (dk_at dksX8_set_0 1 rfl rfl)
theorem dX8_set_4 : decode cX8_set 4 = .ok (.aload_n 0, 1) := dk_42 (dk_at dksX8_set_0 4 rfl rfl)
theorem dX8_set_5 : decode cX8_set 5 = .ok (.getfield 10, 3) := dk_180 0 10 (dk_at dksX8_set_0 5 rfl rfl)
theorem dX8_set_8 : decode cX8_set 8 = .ok (.iload_n 1, 1) := dk_27 (dk_at dksX8_set_0 8 rfl rfl)
theorem dX8_set_9 : decode cX8_set 9 = .ok (.iconst 1, 1) := dk_4 (dk_at dksX8_set_0 9 rfl rfl)
theorem dX8_set_10 : decode cX8_set 10 = .ok (.ishr, 1) := dk_122 (dk_at dksX8_set_0 10 rfl rfl)
theorem dX8_set_11 : decode cX8_set 11 = .ok (.iload_n 2, 1) := dk_28 (dk_at dksX8_set_0 11 rfl rfl)
theorem dX8_set_12 : decode cX8_set 12 = .ok (.iadd, 1) := dk_96 (dk_at dksX8_set_0 12 rfl rfl)
theorem dX8_set_13 : decode cX8_set 13 = .ok (.iload_n 3, 1) := dk_29 (dk_at dksX8_set_0 13 rfl rfl)
theorem dX8_set_14 : decode cX8_set 14 = .ok (.iastore, 1) := dk_79 (dk_at dksX8_set_0 14 rfl rfl)
theorem dX8_set_15 : decode cX8_set 15 = .ok (.goto 15, 3) := dk_167 0 15 (dk_at dksX8_set_0 15 rfl rfl)
theorem dX8_set_18 : decode cX8_set 18 = .ok (.aload_n 0, 1) := dk_42 (dk_at dksX8_set_0 18 rfl rfl)
theorem dX8_set_19 : decode cX8_set 19 = .ok (.getfield 24, 3) := dk_180 0 24 (dk_at dksX8_set_0 19 rfl rfl)
theorem dX8_set_22 : decode cX8_set 22 = .ok (.iload_n 1, 1) := dk_27 (dk_at dksX8_set_0 22 rfl rfl)
theorem dX8_set_23 : decode cX8_set 23 = .ok (.ineg, 1) := dk_116 (dk_at dksX8_set_0 23 rfl rfl)
theorem dX8_set_24 : decode cX8_set 24 = .ok (.iconst 1, 1) := dk_4 (dk_at dksX8_set_1 0 rfl rfl)
theorem dX8_set_25 : decode cX8_set 25 = .ok (.ishr, 1) := dk_122 (dk_at dksX8_set_1 1 rfl rfl)
theorem dX8_set_26 : decode cX8_set 26 = .ok (.iload_n 2, 1) := dk_28 (dk_at dksX8_set_1 2 rfl rfl)
theorem dX8_set_27 : decode cX8_set 27 = .ok (.iadd, 1) := dk_96 (dk_at dksX8_set_1 3 rfl rfl)
theorem dX8_set_28 : decode cX8_set 28 = .ok (.iload_n 3, 1) := dk_29 (dk_at dksX8_set_1 4 rfl rfl)
theorem dX8_set_29 : decode cX8_set 29 = .ok (.iastore, 1) := dk_79 (dk_at dksX8_set_1 5 rfl rfl)
theorem dX8_set_30 : decode cX8_set 30 = .ok (.return_, 1) := dk_177 (dk_at dksX8_set_1 6 rfl rfl)
abbrev cX8_ofBytes : ByteArray := prog_10_method_28_code
def yX8_ofBytes : MethodName := ⟨RX8, "ofBytes", "([BII)I"⟩
def dkwX8_ofBytes_1 : List UInt8 := [21, 5, 96, 51, 182, 0, 162, 132, 5, 1, 167, 255, 233, 21, 4, 172]
abbrev dktX8_ofBytes_1 : List UInt8 := dkwX8_ofBytes_1 ++ []
def dkwX8_ofBytes_0 : List UInt8 := [42, 29, 182, 0, 159, 54, 4, 3, 54, 5, 21, 5, 29, 162, 0, 23, 42, 21, 4, 21, 5, 43, 28]
abbrev dktX8_ofBytes_0 : List UInt8 := dkwX8_ofBytes_0 ++ dktX8_ofBytes_1
theorem dksX8_ofBytes_0 : cX8_ofBytes.data.toList.drop 0 = dktX8_ofBytes_0 := by decide +kernel
theorem dksX8_ofBytes_1 : cX8_ofBytes.data.toList.drop 23 = dktX8_ofBytes_1 := dk_seg dksX8_ofBytes_0 23 rfl rfl
theorem dX8_ofBytes_0 : decode cX8_ofBytes 0 = .ok (.aload_n 0, 1) := dk_42 (dk_at dksX8_ofBytes_0 0 rfl rfl)
theorem dX8_ofBytes_1 : decode cX8_ofBytes 1 = .ok (.iload_n 3, 1) := dk_29 (dk_at dksX8_ofBytes_0 1 rfl rfl)
theorem dX8_ofBytes_2 : decode cX8_ofBytes 2 = .ok (.invokevirtual 159, 3) := dk_182 0 159 (dk_at dksX8_ofBytes_0 2 rfl rfl)
theorem dX8_ofBytes_5 : decode cX8_ofBytes 5 = .ok (.istore 4, 2) := dk_54 4 (dk_at dksX8_ofBytes_0 5 rfl rfl)
theorem dX8_ofBytes_7 : decode cX8_ofBytes 7 = .ok (.iconst 0, 1) := dk_3 (dk_at dksX8_ofBytes_0 7 rfl rfl)
theorem dX8_ofBytes_8 : decode cX8_ofBytes 8 = .ok (.istore 5, 2) := dk_54 5 (dk_at dksX8_ofBytes_0 8 rfl rfl)
theorem dX8_ofBytes_10 : decode cX8_ofBytes 10 = .ok (.iload 5, 2) := dk_21 5 (dk_at dksX8_ofBytes_0 10 rfl rfl)
theorem dX8_ofBytes_12 : decode cX8_ofBytes 12 = .ok (.iload_n 3, 1) := dk_29 (dk_at dksX8_ofBytes_0 12 rfl rfl)
theorem dX8_ofBytes_13 : decode cX8_ofBytes 13 = .ok (.if_icmp .ge 23, 3) := dk_162 0 23 (dk_at dksX8_ofBytes_0 13 rfl rfl)
theorem dX8_ofBytes_16 : decode cX8_ofBytes 16 = .ok (.aload_n 0, 1) := dk_42 (dk_at dksX8_ofBytes_0 16 rfl rfl)
theorem dX8_ofBytes_17 : decode cX8_ofBytes 17 = .ok (.iload 4, 2) := dk_21 4 (dk_at dksX8_ofBytes_0 17 rfl rfl)
theorem dX8_ofBytes_19 : decode cX8_ofBytes 19 = .ok (.iload 5, 2) := dk_21 5 (dk_at dksX8_ofBytes_0 19 rfl rfl)
theorem dX8_ofBytes_21 : decode cX8_ofBytes 21 = .ok (.aload_n 1, 1) := dk_43 (dk_at dksX8_ofBytes_0 21 rfl rfl)
theorem dX8_ofBytes_22 : decode cX8_ofBytes 22 = .ok (.iload_n 2, 1) := dk_28 (dk_at dksX8_ofBytes_0 22 rfl rfl)
theorem dX8_ofBytes_23 : decode cX8_ofBytes 23 = .ok (.iload 5, 2) := dk_21 5 (dk_at dksX8_ofBytes_1 0 rfl rfl)
theorem dX8_ofBytes_25 : decode cX8_ofBytes 25 = .ok (.iadd, 1) := dk_96 (dk_at dksX8_ofBytes_1 2 rfl rfl)
theorem dX8_ofBytes_26 : decode cX8_ofBytes 26 = .ok (.baload, 1) := dk_51 (dk_at dksX8_ofBytes_1 3 rfl rfl)
theorem dX8_ofBytes_27 : decode cX8_ofBytes 27 = .ok (.invokevirtual 162, 3) := dk_182 0 162 (dk_at dksX8_ofBytes_1 4 rfl rfl)
theorem dX8_ofBytes_30 : decode cX8_ofBytes 30 = .ok (.iinc 5 1, 3) := dk_132 5 1 (dk_at dksX8_ofBytes_1 7 rfl rfl)
theorem dX8_ofBytes_33 : decode cX8_ofBytes 33 = .ok (.goto (-23), 3) := dk_167 255 233 (dk_at dksX8_ofBytes_1 10 rfl rfl)
theorem dX8_ofBytes_36 : decode cX8_ofBytes 36 = .ok (.iload 4, 2) := dk_21 4 (dk_at dksX8_ofBytes_1 13 rfl rfl)
theorem dX8_ofBytes_38 : decode cX8_ofBytes 38 = .ok (.ireturn, 1) := dk_172 (dk_at dksX8_ofBytes_1 15 rfl rfl)
abbrev cX8_bytes : ByteArray := prog_10_method_24_code
def yX8_bytes : MethodName := ⟨RX8, "bytes", "(I)I"⟩
def dkwX8_bytes_2 : List UInt8 := [21, 4, 28, 162, 0, 19, 42, 29, 6, 21, 4, 96, 3, 182, 0, 55, 132, 4, 1, 167, 255, 237, 29, 172]
abbrev dktX8_bytes_2 : List UInt8 := dkwX8_bytes_2 ++ []
def dkwX8_bytes_1 : List UInt8 := [122, 61, 42, 5, 8, 27, 96, 6, 28, 96, 182, 0, 144, 62, 42, 29, 5, 27, 182, 0, 55, 3, 54, 4]
abbrev dktX8_bytes_1 : List UInt8 := dkwX8_bytes_1 ++ dktX8_bytes_2
def dkwX8_bytes_0 : List UInt8 := [42, 180, 0, 39, 27, 17, 32, 0, 163, 0, 7, 4, 167, 0, 4, 3, 5, 182, 0, 131, 27, 6, 96, 5]
abbrev dktX8_bytes_0 : List UInt8 := dkwX8_bytes_0 ++ dktX8_bytes_1
theorem dksX8_bytes_0 : cX8_bytes.data.toList.drop 0 = dktX8_bytes_0 := by decide +kernel
theorem dksX8_bytes_1 : cX8_bytes.data.toList.drop 24 = dktX8_bytes_1 := dk_seg dksX8_bytes_0 24 rfl rfl
theorem dksX8_bytes_2 : cX8_bytes.data.toList.drop 48 = dktX8_bytes_2 := dk_seg dksX8_bytes_1 24 rfl rfl
theorem dX8_bytes_0 : decode cX8_bytes 0 = .ok (.aload_n 0, 1) := dk_42 (dk_at dksX8_bytes_0 0 rfl rfl)
theorem dX8_bytes_1 : decode cX8_bytes 1 = .ok (.getfield 39, 3) := dk_180 0 39 (dk_at dksX8_bytes_0 1 rfl rfl)
theorem dX8_bytes_4 : decode cX8_bytes 4 = .ok (.iload_n 1, 1) := dk_27 (dk_at dksX8_bytes_0 4 rfl rfl)
theorem dX8_bytes_5 : decode cX8_bytes 5 = .ok (.sipush 8192, 3) := dk_17 32 0 (dk_at dksX8_bytes_0 5 rfl rfl)
theorem dX8_bytes_8 : decode cX8_bytes 8 = .ok (.if_icmp .gt 7, 3) := dk_163 0 7 (dk_at dksX8_bytes_0 8 rfl rfl)
theorem dX8_bytes_11 : decode cX8_bytes 11 = .ok (.iconst 1, 1) := dk_4 (dk_at dksX8_bytes_0 11 rfl rfl)
theorem dX8_bytes_12 : decode cX8_bytes 12 = .ok (.goto 4, 3) := dk_167 0 4 (dk_at dksX8_bytes_0 12 rfl rfl)
theorem dX8_bytes_15 : decode cX8_bytes 15 = .ok (.iconst 0, 1) := dk_3 (dk_at dksX8_bytes_0 15 rfl rfl)
theorem dX8_bytes_16 : decode cX8_bytes 16 = .ok (.iconst 2, 1) := dk_5 (dk_at dksX8_bytes_0 16 rfl rfl)
theorem dX8_bytes_17 : decode cX8_bytes 17 = .ok (.invokevirtual 131, 3) := dk_182 0 131 (dk_at dksX8_bytes_0 17 rfl rfl)
theorem dX8_bytes_20 : decode cX8_bytes 20 = .ok (.iload_n 1, 1) := dk_27 (dk_at dksX8_bytes_0 20 rfl rfl)
theorem dX8_bytes_21 : decode cX8_bytes 21 = .ok (.iconst 3, 1) := dk_6 (dk_at dksX8_bytes_0 21 rfl rfl)
theorem dX8_bytes_22 : decode cX8_bytes 22 = .ok (.iadd, 1) := dk_96 (dk_at dksX8_bytes_0 22 rfl rfl)
theorem dX8_bytes_23 : decode cX8_bytes 23 = .ok (.iconst 2, 1) := dk_5 (dk_at dksX8_bytes_0 23 rfl rfl)
theorem dX8_bytes_24 : decode cX8_bytes 24 = .ok (.ishr, 1) := dk_122 (dk_at dksX8_bytes_1 0 rfl rfl)
theorem dX8_bytes_25 : decode cX8_bytes 25 = .ok (.istore_n 2, 1) := dk_61 (dk_at dksX8_bytes_1 1 rfl rfl)
theorem dX8_bytes_26 : decode cX8_bytes 26 = .ok (.aload_n 0, 1) := dk_42 (dk_at dksX8_bytes_1 2 rfl rfl)
theorem dX8_bytes_27 : decode cX8_bytes 27 = .ok (.iconst 2, 1) := dk_5 (dk_at dksX8_bytes_1 3 rfl rfl)
theorem dX8_bytes_28 : decode cX8_bytes 28 = .ok (.iconst 5, 1) := dk_8 (dk_at dksX8_bytes_1 4 rfl rfl)
theorem dX8_bytes_29 : decode cX8_bytes 29 = .ok (.iload_n 1, 1) := dk_27 (dk_at dksX8_bytes_1 5 rfl rfl)
theorem dX8_bytes_30 : decode cX8_bytes 30 = .ok (.iadd, 1) := dk_96 (dk_at dksX8_bytes_1 6 rfl rfl)
theorem dX8_bytes_31 : decode cX8_bytes 31 = .ok (.iconst 3, 1) := dk_6 (dk_at dksX8_bytes_1 7 rfl rfl)
theorem dX8_bytes_32 : decode cX8_bytes 32 = .ok (.iload_n 2, 1) := dk_28 (dk_at dksX8_bytes_1 8 rfl rfl)
theorem dX8_bytes_33 : decode cX8_bytes 33 = .ok (.iadd, 1) := dk_96 (dk_at dksX8_bytes_1 9 rfl rfl)
theorem dX8_bytes_34 : decode cX8_bytes 34 = .ok (.invokevirtual 144, 3) := dk_182 0 144 (dk_at dksX8_bytes_1 10 rfl rfl)
theorem dX8_bytes_37 : decode cX8_bytes 37 = .ok (.istore_n 3, 1) := dk_62 (dk_at dksX8_bytes_1 13 rfl rfl)
theorem dX8_bytes_38 : decode cX8_bytes 38 = .ok (.aload_n 0, 1) := dk_42 (dk_at dksX8_bytes_1 14 rfl rfl)
theorem dX8_bytes_39 : decode cX8_bytes 39 = .ok (.iload_n 3, 1) := dk_29 (dk_at dksX8_bytes_1 15 rfl rfl)
theorem dX8_bytes_40 : decode cX8_bytes 40 = .ok (.iconst 2, 1) := dk_5 (dk_at dksX8_bytes_1 16 rfl rfl)
theorem dX8_bytes_41 : decode cX8_bytes 41 = .ok (.iload_n 1, 1) := dk_27 (dk_at dksX8_bytes_1 17 rfl rfl)
theorem dX8_bytes_42 : decode cX8_bytes 42 = .ok (.invokevirtual 55, 3) := dk_182 0 55 (dk_at dksX8_bytes_1 18 rfl rfl)
theorem dX8_bytes_45 : decode cX8_bytes 45 = .ok (.iconst 0, 1) := dk_3 (dk_at dksX8_bytes_1 21 rfl rfl)
theorem dX8_bytes_46 : decode cX8_bytes 46 = .ok (.istore 4, 2) := dk_54 4 (dk_at dksX8_bytes_1 22 rfl rfl)
theorem dX8_bytes_48 : decode cX8_bytes 48 = .ok (.iload 4, 2) := dk_21 4 (dk_at dksX8_bytes_2 0 rfl rfl)
theorem dX8_bytes_50 : decode cX8_bytes 50 = .ok (.iload_n 2, 1) := dk_28 (dk_at dksX8_bytes_2 2 rfl rfl)
theorem dX8_bytes_51 : decode cX8_bytes 51 = .ok (.if_icmp .ge 19, 3) := dk_162 0 19 (dk_at dksX8_bytes_2 3 rfl rfl)
theorem dX8_bytes_54 : decode cX8_bytes 54 = .ok (.aload_n 0, 1) := dk_42 (dk_at dksX8_bytes_2 6 rfl rfl)
theorem dX8_bytes_55 : decode cX8_bytes 55 = .ok (.iload_n 3, 1) := dk_29 (dk_at dksX8_bytes_2 7 rfl rfl)
theorem dX8_bytes_56 : decode cX8_bytes 56 = .ok (.iconst 3, 1) := dk_6 (dk_at dksX8_bytes_2 8 rfl rfl)
theorem dX8_bytes_57 : decode cX8_bytes 57 = .ok (.iload 4, 2) := dk_21 4 (dk_at dksX8_bytes_2 9 rfl rfl)
theorem dX8_bytes_59 : decode cX8_bytes 59 = .ok (.iadd, 1) := dk_96 (dk_at dksX8_bytes_2 11 rfl rfl)
theorem dX8_bytes_60 : decode cX8_bytes 60 = .ok (.iconst 0, 1) := dk_3 (dk_at dksX8_bytes_2 12 rfl rfl)
theorem dX8_bytes_61 : decode cX8_bytes 61 = .ok (.invokevirtual 55, 3) := dk_182 0 55 (dk_at dksX8_bytes_2 13 rfl rfl)
theorem dX8_bytes_64 : decode cX8_bytes 64 = .ok (.iinc 4 1, 3) := dk_132 4 1 (dk_at dksX8_bytes_2 16 rfl rfl)
theorem dX8_bytes_67 : decode cX8_bytes 67 = .ok (.goto (-19), 3) := dk_167 255 237 (dk_at dksX8_bytes_2 19 rfl rfl)
theorem dX8_bytes_70 : decode cX8_bytes 70 = .ok (.iload_n 3, 1) := dk_29 (dk_at dksX8_bytes_2 22 rfl rfl)
theorem dX8_bytes_71 : decode cX8_bytes 71 = .ok (.ireturn, 1) := dk_172 (dk_at dksX8_bytes_2 23 rfl rfl)
abbrev cX8_setByte : ByteArray := prog_10_method_27_code
def yX8_setByte : MethodName := ⟨RX8, "setByte", "(III)V"⟩
def dkwX8_setByte_2 : List UInt8 := [177]
abbrev dktX8_setByte_2 : List UInt8 := dkwX8_setByte_2 ++ []
def dkwX8_setByte_1 : List UInt8 := [182, 0, 47, 17, 0, 255, 21, 4, 120, 2, 130, 126, 29, 17, 0, 255, 126, 21, 4, 120, 128, 182, 0, 55]
abbrev dktX8_setByte_1 : List UInt8 := dkwX8_setByte_1 ++ dktX8_setByte_2
def dkwX8_setByte_0 : List UInt8 := [16, 8, 28, 6, 126, 104, 54, 4, 6, 28, 5, 122, 96, 54, 5, 42, 27, 21, 5, 42, 27, 21, 5]
abbrev dktX8_setByte_0 : List UInt8 := dkwX8_setByte_0 ++ dktX8_setByte_1
theorem dksX8_setByte_0 : cX8_setByte.data.toList.drop 0 = dktX8_setByte_0 := by decide +kernel
theorem dksX8_setByte_1 : cX8_setByte.data.toList.drop 23 = dktX8_setByte_1 := dk_seg dksX8_setByte_0 23 rfl rfl
theorem dksX8_setByte_2 : cX8_setByte.data.toList.drop 47 = dktX8_setByte_2 := dk_seg dksX8_setByte_1 24 rfl rfl
theorem dX8_setByte_0 : decode cX8_setByte 0 = .ok (.bipush 8, 2) := dk_16 8 (dk_at dksX8_setByte_0 0 rfl rfl)
theorem dX8_setByte_2 : decode cX8_setByte 2 = .ok (.iload_n 2, 1) := dk_28 (dk_at dksX8_setByte_0 2 rfl rfl)
theorem dX8_setByte_3 : decode cX8_setByte 3 = .ok (.iconst 3, 1) := dk_6 (dk_at dksX8_setByte_0 3 rfl rfl)
theorem dX8_setByte_4 : decode cX8_setByte 4 = .ok (.iand, 1) := dk_126 (dk_at dksX8_setByte_0 4 rfl rfl)
theorem dX8_setByte_5 : decode cX8_setByte 5 = .ok (.imul, 1) := dk_104 (dk_at dksX8_setByte_0 5 rfl rfl)
theorem dX8_setByte_6 : decode cX8_setByte 6 = .ok (.istore 4, 2) := dk_54 4 (dk_at dksX8_setByte_0 6 rfl rfl)
theorem dX8_setByte_8 : decode cX8_setByte 8 = .ok (.iconst 3, 1) := dk_6 (dk_at dksX8_setByte_0 8 rfl rfl)
theorem dX8_setByte_9 : decode cX8_setByte 9 = .ok (.iload_n 2, 1) := dk_28 (dk_at dksX8_setByte_0 9 rfl rfl)
theorem dX8_setByte_10 : decode cX8_setByte 10 = .ok (.iconst 2, 1) := dk_5 (dk_at dksX8_setByte_0 10 rfl rfl)
theorem dX8_setByte_11 : decode cX8_setByte 11 = .ok (.ishr, 1) := dk_122 (dk_at dksX8_setByte_0 11 rfl rfl)
theorem dX8_setByte_12 : decode cX8_setByte 12 = .ok (.iadd, 1) := dk_96 (dk_at dksX8_setByte_0 12 rfl rfl)
theorem dX8_setByte_13 : decode cX8_setByte 13 = .ok (.istore 5, 2) := dk_54 5 (dk_at dksX8_setByte_0 13 rfl rfl)
theorem dX8_setByte_15 : decode cX8_setByte 15 = .ok (.aload_n 0, 1) := dk_42 (dk_at dksX8_setByte_0 15 rfl rfl)
theorem dX8_setByte_16 : decode cX8_setByte 16 = .ok (.iload_n 1, 1) := dk_27 (dk_at dksX8_setByte_0 16 rfl rfl)
theorem dX8_setByte_17 : decode cX8_setByte 17 = .ok (.iload 5, 2) := dk_21 5 (dk_at dksX8_setByte_0 17 rfl rfl)
theorem dX8_setByte_19 : decode cX8_setByte 19 = .ok (.aload_n 0, 1) := dk_42 (dk_at dksX8_setByte_0 19 rfl rfl)
theorem dX8_setByte_20 : decode cX8_setByte 20 = .ok (.iload_n 1, 1) := dk_27 (dk_at dksX8_setByte_0 20 rfl rfl)
theorem dX8_setByte_21 : decode cX8_setByte 21 = .ok (.iload 5, 2) := dk_21 5 (dk_at dksX8_setByte_0 21 rfl rfl)
theorem dX8_setByte_23 : decode cX8_setByte 23 = .ok (.invokevirtual 47, 3) := dk_182 0 47 (dk_at dksX8_setByte_1 0 rfl rfl)
theorem dX8_setByte_26 : decode cX8_setByte 26 = .ok (.sipush 255, 3) := dk_17 0 255 (dk_at dksX8_setByte_1 3 rfl rfl)
theorem dX8_setByte_29 : decode cX8_setByte 29 = .ok (.iload 4, 2) := dk_21 4 (dk_at dksX8_setByte_1 6 rfl rfl)
theorem dX8_setByte_31 : decode cX8_setByte 31 = .ok (.ishl, 1) := dk_120 (dk_at dksX8_setByte_1 8 rfl rfl)
theorem dX8_setByte_32 : decode cX8_setByte 32 = .ok (.iconst (-1), 1) := dk_2 (dk_at dksX8_setByte_1 9 rfl rfl)
theorem dX8_setByte_33 : decode cX8_setByte 33 = .ok (.ixor, 1) := dk_130 (dk_at dksX8_setByte_1 10 rfl rfl)
theorem dX8_setByte_34 : decode cX8_setByte 34 = .ok (.iand, 1) := dk_126 (dk_at dksX8_setByte_1 11 rfl rfl)
theorem dX8_setByte_35 : decode cX8_setByte 35 = .ok (.iload_n 3, 1) := dk_29 (dk_at dksX8_setByte_1 12 rfl rfl)
theorem dX8_setByte_36 : decode cX8_setByte 36 = .ok (.sipush 255, 3) := dk_17 0 255 (dk_at dksX8_setByte_1 13 rfl rfl)
theorem dX8_setByte_39 : decode cX8_setByte 39 = .ok (.iand, 1) := dk_126 (dk_at dksX8_setByte_1 16 rfl rfl)
theorem dX8_setByte_40 : decode cX8_setByte 40 = .ok (.iload 4, 2) := dk_21 4 (dk_at dksX8_setByte_1 17 rfl rfl)
theorem dX8_setByte_42 : decode cX8_setByte 42 = .ok (.ishl, 1) := dk_120 (dk_at dksX8_setByte_1 19 rfl rfl)
theorem dX8_setByte_43 : decode cX8_setByte 43 = .ok (.ior, 1) := dk_128 (dk_at dksX8_setByte_1 20 rfl rfl)
theorem dX8_setByte_44 : decode cX8_setByte 44 = .ok (.invokevirtual 55, 3) := dk_182 0 55 (dk_at dksX8_setByte_1 21 rfl rfl)
theorem dX8_setByte_47 : decode cX8_setByte 47 = .ok (.return_, 1) := dk_177 (dk_at dksX8_setByte_2 0 rfl rfl)
abbrev cX8_cell : ByteArray := prog_10_method_4_code
def yX8_cell : MethodName := ⟨RX8, "cell", "(II)I"⟩
def dkwX8_cell_1 : List UInt8 := [122, 28, 96, 46, 172]
abbrev dktX8_cell_1 : List UInt8 := dkwX8_cell_1 ++ []
def dkwX8_cell_0 : List UInt8 := [27, 158, 0, 16, 42, 180, 0, 10, 27, 4, 122, 28, 96, 46, 167, 0, 14, 42, 180, 0, 24, 27, 116, 4]
abbrev dktX8_cell_0 : List UInt8 := dkwX8_cell_0 ++ dktX8_cell_1
theorem dksX8_cell_0 : cX8_cell.data.toList.drop 0 = dktX8_cell_0 := by decide +kernel
theorem dksX8_cell_1 : cX8_cell.data.toList.drop 24 = dktX8_cell_1 := dk_seg dksX8_cell_0 24 rfl rfl
theorem dX8_cell_0 : decode cX8_cell 0 = .ok (.iload_n 1, 1) := dk_27 (dk_at dksX8_cell_0 0 rfl rfl)
theorem dX8_cell_1 : decode cX8_cell 1 = .ok (.ifCond .le 16, 3) := dk_158 0 16 (dk_at dksX8_cell_0 1 rfl rfl)
theorem dX8_cell_4 : decode cX8_cell 4 = .ok (.aload_n 0, 1) := dk_42 (dk_at dksX8_cell_0 4 rfl rfl)
theorem dX8_cell_5 : decode cX8_cell 5 = .ok (.getfield 10, 3) := dk_180 0 10 (dk_at dksX8_cell_0 5 rfl rfl)
theorem dX8_cell_8 : decode cX8_cell 8 = .ok (.iload_n 1, 1) := dk_27 (dk_at dksX8_cell_0 8 rfl rfl)
theorem dX8_cell_9 : decode cX8_cell 9 = .ok (.iconst 1, 1) := dk_4 (dk_at dksX8_cell_0 9 rfl rfl)
theorem dX8_cell_10 : decode cX8_cell 10 = .ok (.ishr, 1) := dk_122 (dk_at dksX8_cell_0 10 rfl rfl)
theorem dX8_cell_11 : decode cX8_cell 11 = .ok (.iload_n 2, 1) := dk_28 (dk_at dksX8_cell_0 11 rfl rfl)
theorem dX8_cell_12 : decode cX8_cell 12 = .ok (.iadd, 1) := dk_96 (dk_at dksX8_cell_0 12 rfl rfl)
theorem dX8_cell_13 : decode cX8_cell 13 = .ok (.iaload, 1) := dk_46 (dk_at dksX8_cell_0 13 rfl rfl)
theorem dX8_cell_14 : decode cX8_cell 14 = .ok (.goto 14, 3) := dk_167 0 14 (dk_at dksX8_cell_0 14 rfl rfl)
theorem dX8_cell_17 : decode cX8_cell 17 = .ok (.aload_n 0, 1) := dk_42 (dk_at dksX8_cell_0 17 rfl rfl)
theorem dX8_cell_18 : decode cX8_cell 18 = .ok (.getfield 24, 3) := dk_180 0 24 (dk_at dksX8_cell_0 18 rfl rfl)
theorem dX8_cell_21 : decode cX8_cell 21 = .ok (.iload_n 1, 1) := dk_27 (dk_at dksX8_cell_0 21 rfl rfl)
theorem dX8_cell_22 : decode cX8_cell 22 = .ok (.ineg, 1) := dk_116 (dk_at dksX8_cell_0 22 rfl rfl)
theorem dX8_cell_23 : decode cX8_cell 23 = .ok (.iconst 1, 1) := dk_4 (dk_at dksX8_cell_0 23 rfl rfl)
theorem dX8_cell_24 : decode cX8_cell 24 = .ok (.ishr, 1) := dk_122 (dk_at dksX8_cell_1 0 rfl rfl)
theorem dX8_cell_25 : decode cX8_cell 25 = .ok (.iload_n 2, 1) := dk_28 (dk_at dksX8_cell_1 1 rfl rfl)
theorem dX8_cell_26 : decode cX8_cell 26 = .ok (.iadd, 1) := dk_96 (dk_at dksX8_cell_1 2 rfl rfl)
theorem dX8_cell_27 : decode cX8_cell 27 = .ok (.iaload, 1) := dk_46 (dk_at dksX8_cell_1 3 rfl rfl)
theorem dX8_cell_28 : decode cX8_cell 28 = .ok (.ireturn, 1) := dk_172 (dk_at dksX8_cell_1 4 rfl rfl)
abbrev cX8_wrap : ByteArray := prog_10_method_30_code
def yX8_wrap : MethodName := ⟨RX8, "wrap", "(II)I"⟩
def dkwX8_wrap_1 : List UInt8 := [172]
abbrev dktX8_wrap_1 : List UInt8 := dkwX8_wrap_1 ++ []
def dkwX8_wrap_0 : List UInt8 := [42, 27, 5, 42, 28, 182, 0, 165, 184, 0, 108, 6, 182, 0, 144, 62, 42, 29, 5, 28, 182, 0, 55, 29]
abbrev dktX8_wrap_0 : List UInt8 := dkwX8_wrap_0 ++ dktX8_wrap_1
theorem dksX8_wrap_0 : cX8_wrap.data.toList.drop 0 = dktX8_wrap_0 := by decide +kernel
theorem dksX8_wrap_1 : cX8_wrap.data.toList.drop 24 = dktX8_wrap_1 := dk_seg dksX8_wrap_0 24 rfl rfl
theorem dX8_wrap_0 : decode cX8_wrap 0 = .ok (.aload_n 0, 1) := dk_42 (dk_at dksX8_wrap_0 0 rfl rfl)
theorem dX8_wrap_1 : decode cX8_wrap 1 = .ok (.iload_n 1, 1) := dk_27 (dk_at dksX8_wrap_0 1 rfl rfl)
theorem dX8_wrap_2 : decode cX8_wrap 2 = .ok (.iconst 2, 1) := dk_5 (dk_at dksX8_wrap_0 2 rfl rfl)
theorem dX8_wrap_3 : decode cX8_wrap 3 = .ok (.aload_n 0, 1) := dk_42 (dk_at dksX8_wrap_0 3 rfl rfl)
theorem dX8_wrap_4 : decode cX8_wrap 4 = .ok (.iload_n 2, 1) := dk_28 (dk_at dksX8_wrap_0 4 rfl rfl)
theorem dX8_wrap_5 : decode cX8_wrap 5 = .ok (.invokevirtual 165, 3) := dk_182 0 165 (dk_at dksX8_wrap_0 5 rfl rfl)
theorem dX8_wrap_8 : decode cX8_wrap 8 = .ok (.invokestatic 108, 3) := dk_184 0 108 (dk_at dksX8_wrap_0 8 rfl rfl)
theorem dX8_wrap_11 : decode cX8_wrap 11 = .ok (.iconst 3, 1) := dk_6 (dk_at dksX8_wrap_0 11 rfl rfl)
theorem dX8_wrap_12 : decode cX8_wrap 12 = .ok (.invokevirtual 144, 3) := dk_182 0 144 (dk_at dksX8_wrap_0 12 rfl rfl)
theorem dX8_wrap_15 : decode cX8_wrap 15 = .ok (.istore_n 3, 1) := dk_62 (dk_at dksX8_wrap_0 15 rfl rfl)
theorem dX8_wrap_16 : decode cX8_wrap 16 = .ok (.aload_n 0, 1) := dk_42 (dk_at dksX8_wrap_0 16 rfl rfl)
theorem dX8_wrap_17 : decode cX8_wrap 17 = .ok (.iload_n 3, 1) := dk_29 (dk_at dksX8_wrap_0 17 rfl rfl)
theorem dX8_wrap_18 : decode cX8_wrap 18 = .ok (.iconst 2, 1) := dk_5 (dk_at dksX8_wrap_0 18 rfl rfl)
theorem dX8_wrap_19 : decode cX8_wrap 19 = .ok (.iload_n 2, 1) := dk_28 (dk_at dksX8_wrap_0 19 rfl rfl)
theorem dX8_wrap_20 : decode cX8_wrap 20 = .ok (.invokevirtual 55, 3) := dk_182 0 55 (dk_at dksX8_wrap_0 20 rfl rfl)
theorem dX8_wrap_23 : decode cX8_wrap 23 = .ok (.iload_n 3, 1) := dk_29 (dk_at dksX8_wrap_0 23 rfl rfl)
theorem dX8_wrap_24 : decode cX8_wrap 24 = .ok (.ireturn, 1) := dk_172 (dk_at dksX8_wrap_1 0 rfl rfl)
abbrev cX8_length : ByteArray := prog_10_method_17_code
def yX8_length : MethodName := ⟨RX8, "length", "(I)I"⟩
def dkwX8_length_3 : List UInt8 := [167, 0, 4, 28, 172]
abbrev dktX8_length_3 : List UInt8 := dkwX8_length_3 ++ []
def dkwX8_length_2 : List UInt8 := [42, 27, 4, 182, 0, 47, 61, 42, 27, 182, 0, 105, 16, 8, 160, 0, 11, 28, 8, 184, 0, 108]
abbrev dktX8_length_2 : List UInt8 := dkwX8_length_2 ++ dktX8_length_3
def dkwX8_length_1 : List UInt8 := [184, 0, 43, 154, 0, 21, 27, 16, 10, 159, 0, 9, 27, 16, 12, 160, 0, 7, 8, 167, 0, 4, 5, 172]
abbrev dktX8_length_1 : List UInt8 := dkwX8_length_1 ++ dktX8_length_2
def dkwX8_length_0 : List UInt8 := [27, 184, 0, 89, 153, 0, 19, 16, 32, 27, 4, 122, 184, 0, 92, 184, 0, 97, 100, 184, 0, 102, 172, 27]
abbrev dktX8_length_0 : List UInt8 := dkwX8_length_0 ++ dktX8_length_1
theorem dksX8_length_0 : cX8_length.data.toList.drop 0 = dktX8_length_0 := by decide +kernel
theorem dksX8_length_1 : cX8_length.data.toList.drop 24 = dktX8_length_1 := dk_seg dksX8_length_0 24 rfl rfl
theorem dksX8_length_2 : cX8_length.data.toList.drop 48 = dktX8_length_2 := dk_seg dksX8_length_1 24 rfl rfl
theorem dksX8_length_3 : cX8_length.data.toList.drop 70 = dktX8_length_3 := dk_seg dksX8_length_2 22 rfl rfl
theorem dX8_length_0 : decode cX8_length 0 = .ok (.iload_n 1, 1) := dk_27 (dk_at dksX8_length_0 0 rfl rfl)
theorem dX8_length_1 : decode cX8_length 1 = .ok (.invokestatic 89, 3) := dk_184 0 89 (dk_at dksX8_length_0 1 rfl rfl)
theorem dX8_length_4 : decode cX8_length 4 = .ok (.ifCond .eq 19, 3) := dk_153 0 19 (dk_at dksX8_length_0 4 rfl rfl)
theorem dX8_length_7 : decode cX8_length 7 = .ok (.bipush 32, 2) := dk_16 32 (dk_at dksX8_length_0 7 rfl rfl)
theorem dX8_length_9 : decode cX8_length 9 = .ok (.iload_n 1, 1) := dk_27 (dk_at dksX8_length_0 9 rfl rfl)
theorem dX8_length_10 : decode cX8_length 10 = .ok (.iconst 1, 1) := dk_4 (dk_at dksX8_length_0 10 rfl rfl)
theorem dX8_length_11 : decode cX8_length 11 = .ok (.ishr, 1) := dk_122 (dk_at dksX8_length_0 11 rfl rfl)
theorem dX8_length_12 : decode cX8_length 12 = .ok (.invokestatic 92, 3) := dk_184 0 92 (dk_at dksX8_length_0 12 rfl rfl)
theorem dX8_length_15 : decode cX8_length 15 = .ok (.invokestatic 97, 3) := dk_184 0 97 (dk_at dksX8_length_0 15 rfl rfl)
theorem dX8_length_18 : decode cX8_length 18 = .ok (.isub, 1) := dk_100 (dk_at dksX8_length_0 18 rfl rfl)
theorem dX8_length_19 : decode cX8_length 19 = .ok (.invokestatic 102, 3) := dk_184 0 102 (dk_at dksX8_length_0 19 rfl rfl)
theorem dX8_length_22 : decode cX8_length 22 = .ok (.ireturn, 1) := dk_172 (dk_at dksX8_length_0 22 rfl rfl)
theorem dX8_length_23 : decode cX8_length 23 = .ok (.iload_n 1, 1) := dk_27 (dk_at dksX8_length_0 23 rfl rfl)
theorem dX8_length_24 : decode cX8_length 24 = .ok (.invokestatic 43, 3) := dk_184 0 43 (dk_at dksX8_length_1 0 rfl rfl)
theorem dX8_length_27 : decode cX8_length 27 = .ok (.ifCond .ne 21, 3) := dk_154 0 21 (dk_at dksX8_length_1 3 rfl rfl)
theorem dX8_length_30 : decode cX8_length 30 = .ok (.iload_n 1, 1) := dk_27 (dk_at dksX8_length_1 6 rfl rfl)
theorem dX8_length_31 : decode cX8_length 31 = .ok (.bipush 10, 2) := dk_16 10 (dk_at dksX8_length_1 7 rfl rfl)
theorem dX8_length_33 : decode cX8_length 33 = .ok (.if_icmp .eq 9, 3) := dk_159 0 9 (dk_at dksX8_length_1 9 rfl rfl)
theorem dX8_length_36 : decode cX8_length 36 = .ok (.iload_n 1, 1) := dk_27 (dk_at dksX8_length_1 12 rfl rfl)
theorem dX8_length_37 : decode cX8_length 37 = .ok (.bipush 12, 2) := dk_16 12 (dk_at dksX8_length_1 13 rfl rfl)
theorem dX8_length_39 : decode cX8_length 39 = .ok (.if_icmp .ne 7, 3) := dk_160 0 7 (dk_at dksX8_length_1 15 rfl rfl)
theorem dX8_length_42 : decode cX8_length 42 = .ok (.iconst 5, 1) := dk_8 (dk_at dksX8_length_1 18 rfl rfl)
theorem dX8_length_43 : decode cX8_length 43 = .ok (.goto 4, 3) := dk_167 0 4 (dk_at dksX8_length_1 19 rfl rfl)
theorem dX8_length_46 : decode cX8_length 46 = .ok (.iconst 2, 1) := dk_5 (dk_at dksX8_length_1 22 rfl rfl)
theorem dX8_length_47 : decode cX8_length 47 = .ok (.ireturn, 1) := dk_172 (dk_at dksX8_length_1 23 rfl rfl)
theorem dX8_length_48 : decode cX8_length 48 = .ok (.aload_n 0, 1) := dk_42 (dk_at dksX8_length_2 0 rfl rfl)
theorem dX8_length_49 : decode cX8_length 49 = .ok (.iload_n 1, 1) := dk_27 (dk_at dksX8_length_2 1 rfl rfl)
theorem dX8_length_50 : decode cX8_length 50 = .ok (.iconst 1, 1) := dk_4 (dk_at dksX8_length_2 2 rfl rfl)
theorem dX8_length_51 : decode cX8_length 51 = .ok (.invokevirtual 47, 3) := dk_182 0 47 (dk_at dksX8_length_2 3 rfl rfl)
theorem dX8_length_54 : decode cX8_length 54 = .ok (.istore_n 2, 1) := dk_61 (dk_at dksX8_length_2 6 rfl rfl)
theorem dX8_length_55 : decode cX8_length 55 = .ok (.aload_n 0, 1) := dk_42 (dk_at dksX8_length_2 7 rfl rfl)
theorem dX8_length_56 : decode cX8_length 56 = .ok (.iload_n 1, 1) := dk_27 (dk_at dksX8_length_2 8 rfl rfl)
theorem dX8_length_57 : decode cX8_length 57 = .ok (.invokevirtual 105, 3) := dk_182 0 105 (dk_at dksX8_length_2 9 rfl rfl)
theorem dX8_length_60 : decode cX8_length 60 = .ok (.bipush 8, 2) := dk_16 8 (dk_at dksX8_length_2 12 rfl rfl)
theorem dX8_length_62 : decode cX8_length 62 = .ok (.if_icmp .ne 11, 3) := dk_160 0 11 (dk_at dksX8_length_2 14 rfl rfl)
theorem dX8_length_65 : decode cX8_length 65 = .ok (.iload_n 2, 1) := dk_28 (dk_at dksX8_length_2 17 rfl rfl)
theorem dX8_length_66 : decode cX8_length 66 = .ok (.iconst 5, 1) := dk_8 (dk_at dksX8_length_2 18 rfl rfl)
theorem dX8_length_67 : decode cX8_length 67 = .ok (.invokestatic 108, 3) := dk_184 0 108 (dk_at dksX8_length_2 19 rfl rfl)
theorem dX8_length_70 : decode cX8_length 70 = .ok (.goto 4, 3) := dk_167 0 4 (dk_at dksX8_length_3 0 rfl rfl)
theorem dX8_length_73 : decode cX8_length 73 = .ok (.iload_n 2, 1) := dk_28 (dk_at dksX8_length_3 3 rfl rfl)
theorem dX8_length_74 : decode cX8_length 74 = .ok (.ireturn, 1) := dk_172 (dk_at dksX8_length_3 4 rfl rfl)
abbrev cX8_isSmall : ByteArray := prog_10_method_2_code
def yX8_isSmall : MethodName := ⟨RX8, "isSmall", "(I)Z"⟩
def dkwX8_isSmall_0 : List UInt8 := [26, 4, 126, 153, 0, 7, 4, 167, 0, 4, 3, 172]
abbrev dktX8_isSmall_0 : List UInt8 := dkwX8_isSmall_0 ++ []
theorem dksX8_isSmall_0 : cX8_isSmall.data.toList.drop 0 = dktX8_isSmall_0 := by decide +kernel
theorem dX8_isSmall_0 : decode cX8_isSmall 0 = .ok (.iload_n 0, 1) := dk_26 (dk_at dksX8_isSmall_0 0 rfl rfl)
theorem dX8_isSmall_1 : decode cX8_isSmall 1 = .ok (.iconst 1, 1) := dk_4 (dk_at dksX8_isSmall_0 1 rfl rfl)
theorem dX8_isSmall_2 : decode cX8_isSmall 2 = .ok (.iand, 1) := dk_126 (dk_at dksX8_isSmall_0 2 rfl rfl)
theorem dX8_isSmall_3 : decode cX8_isSmall 3 = .ok (.ifCond .eq 7, 3) := dk_153 0 7 (dk_at dksX8_isSmall_0 3 rfl rfl)
theorem dX8_isSmall_6 : decode cX8_isSmall 6 = .ok (.iconst 1, 1) := dk_4 (dk_at dksX8_isSmall_0 6 rfl rfl)
theorem dX8_isSmall_7 : decode cX8_isSmall 7 = .ok (.goto 4, 3) := dk_167 0 4 (dk_at dksX8_isSmall_0 7 rfl rfl)
theorem dX8_isSmall_10 : decode cX8_isSmall 10 = .ok (.iconst 0, 1) := dk_3 (dk_at dksX8_isSmall_0 10 rfl rfl)
theorem dX8_isSmall_11 : decode cX8_isSmall 11 = .ok (.ireturn, 1) := dk_172 (dk_at dksX8_isSmall_0 11 rfl rfl)
abbrev cX8_isPlace : ByteArray := prog_10_method_3_code
def yX8_isPlace : MethodName := ⟨RX8, "isPlace", "(I)Z"⟩
def dkwX8_isPlace_0 : List UInt8 := [26, 4, 126, 154, 0, 17, 26, 155, 0, 9, 26, 16, 32, 161, 0, 7, 4, 167, 0, 4, 3, 172]
abbrev dktX8_isPlace_0 : List UInt8 := dkwX8_isPlace_0 ++ []
theorem dksX8_isPlace_0 : cX8_isPlace.data.toList.drop 0 = dktX8_isPlace_0 := by decide +kernel
theorem dX8_isPlace_0 : decode cX8_isPlace 0 = .ok (.iload_n 0, 1) := dk_26 (dk_at dksX8_isPlace_0 0 rfl rfl)
theorem dX8_isPlace_1 : decode cX8_isPlace 1 = .ok (.iconst 1, 1) := dk_4 (dk_at dksX8_isPlace_0 1 rfl rfl)
theorem dX8_isPlace_2 : decode cX8_isPlace 2 = .ok (.iand, 1) := dk_126 (dk_at dksX8_isPlace_0 2 rfl rfl)
theorem dX8_isPlace_3 : decode cX8_isPlace 3 = .ok (.ifCond .ne 17, 3) := dk_154 0 17 (dk_at dksX8_isPlace_0 3 rfl rfl)
theorem dX8_isPlace_6 : decode cX8_isPlace 6 = .ok (.iload_n 0, 1) := dk_26 (dk_at dksX8_isPlace_0 6 rfl rfl)
theorem dX8_isPlace_7 : decode cX8_isPlace 7 = .ok (.ifCond .lt 9, 3) := dk_155 0 9 (dk_at dksX8_isPlace_0 7 rfl rfl)
theorem dX8_isPlace_10 : decode cX8_isPlace 10 = .ok (.iload_n 0, 1) := dk_26 (dk_at dksX8_isPlace_0 10 rfl rfl)
theorem dX8_isPlace_11 : decode cX8_isPlace 11 = .ok (.bipush 32, 2) := dk_16 32 (dk_at dksX8_isPlace_0 11 rfl rfl)
theorem dX8_isPlace_13 : decode cX8_isPlace 13 = .ok (.if_icmp .lt 7, 3) := dk_161 0 7 (dk_at dksX8_isPlace_0 13 rfl rfl)
theorem dX8_isPlace_16 : decode cX8_isPlace 16 = .ok (.iconst 1, 1) := dk_4 (dk_at dksX8_isPlace_0 16 rfl rfl)
theorem dX8_isPlace_17 : decode cX8_isPlace 17 = .ok (.goto 4, 3) := dk_167 0 4 (dk_at dksX8_isPlace_0 17 rfl rfl)
theorem dX8_isPlace_20 : decode cX8_isPlace 20 = .ok (.iconst 0, 1) := dk_3 (dk_at dksX8_isPlace_0 20 rfl rfl)
theorem dX8_isPlace_21 : decode cX8_isPlace 21 = .ok (.ireturn, 1) := dk_172 (dk_at dksX8_isPlace_0 21 rfl rfl)
abbrev cX8_kind : ByteArray := prog_10_method_6_code
def yX8_kind : MethodName := ⟨RX8, "kind", "(I)I"⟩
def dkwX8_kind_0 : List UInt8 := [27, 184, 0, 43, 153, 0, 12, 42, 27, 3, 182, 0, 47, 167, 0, 4, 3, 172]
abbrev dktX8_kind_0 : List UInt8 := dkwX8_kind_0 ++ []
theorem dksX8_kind_0 : cX8_kind.data.toList.drop 0 = dktX8_kind_0 := by decide +kernel
theorem dX8_kind_0 : decode cX8_kind 0 = .ok (.iload_n 1, 1) := dk_27 (dk_at dksX8_kind_0 0 rfl rfl)
theorem dX8_kind_1 : decode cX8_kind 1 = .ok (.invokestatic 43, 3) := dk_184 0 43 (dk_at dksX8_kind_0 1 rfl rfl)
theorem dX8_kind_4 : decode cX8_kind 4 = .ok (.ifCond .eq 12, 3) := dk_153 0 12 (dk_at dksX8_kind_0 4 rfl rfl)
theorem dX8_kind_7 : decode cX8_kind 7 = .ok (.aload_n 0, 1) := dk_42 (dk_at dksX8_kind_0 7 rfl rfl)
theorem dX8_kind_8 : decode cX8_kind 8 = .ok (.iload_n 1, 1) := dk_27 (dk_at dksX8_kind_0 8 rfl rfl)
theorem dX8_kind_9 : decode cX8_kind 9 = .ok (.iconst 0, 1) := dk_3 (dk_at dksX8_kind_0 9 rfl rfl)
theorem dX8_kind_10 : decode cX8_kind 10 = .ok (.invokevirtual 47, 3) := dk_182 0 47 (dk_at dksX8_kind_0 10 rfl rfl)
theorem dX8_kind_13 : decode cX8_kind 13 = .ok (.goto 4, 3) := dk_167 0 4 (dk_at dksX8_kind_0 13 rfl rfl)
theorem dX8_kind_16 : decode cX8_kind 16 = .ok (.iconst 0, 1) := dk_3 (dk_at dksX8_kind_0 16 rfl rfl)
theorem dX8_kind_17 : decode cX8_kind 17 = .ok (.ireturn, 1) := dk_172 (dk_at dksX8_kind_0 17 rfl rfl)
abbrev cX8_sum : ByteArray := prog_10_method_15_code
def yX8_sum : MethodName := ⟨RX8, "sum", "(II)I"⟩
def dkwX8_sum_0 : List UInt8 := [26, 18, 88, 27, 100, 161, 0, 8, 18, 88, 167, 0, 6, 26, 27, 96, 172]
abbrev dktX8_sum_0 : List UInt8 := dkwX8_sum_0 ++ []
theorem dksX8_sum_0 : cX8_sum.data.toList.drop 0 = dktX8_sum_0 := by decide +kernel
theorem dX8_sum_0 : decode cX8_sum 0 = .ok (.iload_n 0, 1) := dk_26 (dk_at dksX8_sum_0 0 rfl rfl)
theorem dX8_sum_1 : decode cX8_sum 1 = .ok (.ldc 88, 2) := dk_18 88 (dk_at dksX8_sum_0 1 rfl rfl)
theorem dX8_sum_3 : decode cX8_sum 3 = .ok (.iload_n 1, 1) := dk_27 (dk_at dksX8_sum_0 3 rfl rfl)
theorem dX8_sum_4 : decode cX8_sum 4 = .ok (.isub, 1) := dk_100 (dk_at dksX8_sum_0 4 rfl rfl)
theorem dX8_sum_5 : decode cX8_sum 5 = .ok (.if_icmp .lt 8, 3) := dk_161 0 8 (dk_at dksX8_sum_0 5 rfl rfl)
theorem dX8_sum_8 : decode cX8_sum 8 = .ok (.ldc 88, 2) := dk_18 88 (dk_at dksX8_sum_0 8 rfl rfl)
theorem dX8_sum_10 : decode cX8_sum 10 = .ok (.goto 6, 3) := dk_167 0 6 (dk_at dksX8_sum_0 10 rfl rfl)
theorem dX8_sum_13 : decode cX8_sum 13 = .ok (.iload_n 0, 1) := dk_26 (dk_at dksX8_sum_0 13 rfl rfl)
theorem dX8_sum_14 : decode cX8_sum 14 = .ok (.iload_n 1, 1) := dk_27 (dk_at dksX8_sum_0 14 rfl rfl)
theorem dX8_sum_15 : decode cX8_sum 15 = .ok (.iadd, 1) := dk_96 (dk_at dksX8_sum_0 15 rfl rfl)
theorem dX8_sum_16 : decode cX8_sum 16 = .ok (.ireturn, 1) := dk_172 (dk_at dksX8_sum_0 16 rfl rfl)
abbrev cX8_pair : ByteArray := prog_10_method_29_code
def yX8_pair : MethodName := ⟨RX8, "pair", "(II)I"⟩
def dkwX8_pair_1 : List UInt8 := [42, 29, 5, 27, 182, 0, 55, 42, 29, 6, 28, 182, 0, 55, 29, 172]
abbrev dktX8_pair_1 : List UInt8 := dkwX8_pair_1 ++ []
def dkwX8_pair_0 : List UInt8 := [42, 6, 5, 42, 27, 182, 0, 165, 42, 28, 182, 0, 165, 184, 0, 108, 184, 0, 108, 7, 182, 0, 144, 62]
abbrev dktX8_pair_0 : List UInt8 := dkwX8_pair_0 ++ dktX8_pair_1
theorem dksX8_pair_0 : cX8_pair.data.toList.drop 0 = dktX8_pair_0 := by decide +kernel
theorem dksX8_pair_1 : cX8_pair.data.toList.drop 24 = dktX8_pair_1 := dk_seg dksX8_pair_0 24 rfl rfl
theorem dX8_pair_0 : decode cX8_pair 0 = .ok (.aload_n 0, 1) := dk_42 (dk_at dksX8_pair_0 0 rfl rfl)
theorem dX8_pair_1 : decode cX8_pair 1 = .ok (.iconst 3, 1) := dk_6 (dk_at dksX8_pair_0 1 rfl rfl)
theorem dX8_pair_2 : decode cX8_pair 2 = .ok (.iconst 2, 1) := dk_5 (dk_at dksX8_pair_0 2 rfl rfl)
theorem dX8_pair_3 : decode cX8_pair 3 = .ok (.aload_n 0, 1) := dk_42 (dk_at dksX8_pair_0 3 rfl rfl)
theorem dX8_pair_4 : decode cX8_pair 4 = .ok (.iload_n 1, 1) := dk_27 (dk_at dksX8_pair_0 4 rfl rfl)
theorem dX8_pair_5 : decode cX8_pair 5 = .ok (.invokevirtual 165, 3) := dk_182 0 165 (dk_at dksX8_pair_0 5 rfl rfl)
theorem dX8_pair_8 : decode cX8_pair 8 = .ok (.aload_n 0, 1) := dk_42 (dk_at dksX8_pair_0 8 rfl rfl)
theorem dX8_pair_9 : decode cX8_pair 9 = .ok (.iload_n 2, 1) := dk_28 (dk_at dksX8_pair_0 9 rfl rfl)
theorem dX8_pair_10 : decode cX8_pair 10 = .ok (.invokevirtual 165, 3) := dk_182 0 165 (dk_at dksX8_pair_0 10 rfl rfl)
theorem dX8_pair_13 : decode cX8_pair 13 = .ok (.invokestatic 108, 3) := dk_184 0 108 (dk_at dksX8_pair_0 13 rfl rfl)
theorem dX8_pair_16 : decode cX8_pair 16 = .ok (.invokestatic 108, 3) := dk_184 0 108 (dk_at dksX8_pair_0 16 rfl rfl)
theorem dX8_pair_19 : decode cX8_pair 19 = .ok (.iconst 4, 1) := dk_7 (dk_at dksX8_pair_0 19 rfl rfl)
theorem dX8_pair_20 : decode cX8_pair 20 = .ok (.invokevirtual 144, 3) := dk_182 0 144 (dk_at dksX8_pair_0 20 rfl rfl)
theorem dX8_pair_23 : decode cX8_pair 23 = .ok (.istore_n 3, 1) := dk_62 (dk_at dksX8_pair_0 23 rfl rfl)
theorem dX8_pair_24 : decode cX8_pair 24 = .ok (.aload_n 0, 1) := dk_42 (dk_at dksX8_pair_1 0 rfl rfl)
theorem dX8_pair_25 : decode cX8_pair 25 = .ok (.iload_n 3, 1) := dk_29 (dk_at dksX8_pair_1 1 rfl rfl)
theorem dX8_pair_26 : decode cX8_pair 26 = .ok (.iconst 2, 1) := dk_5 (dk_at dksX8_pair_1 2 rfl rfl)
theorem dX8_pair_27 : decode cX8_pair 27 = .ok (.iload_n 1, 1) := dk_27 (dk_at dksX8_pair_1 3 rfl rfl)
theorem dX8_pair_28 : decode cX8_pair 28 = .ok (.invokevirtual 55, 3) := dk_182 0 55 (dk_at dksX8_pair_1 4 rfl rfl)
theorem dX8_pair_31 : decode cX8_pair 31 = .ok (.aload_n 0, 1) := dk_42 (dk_at dksX8_pair_1 7 rfl rfl)
theorem dX8_pair_32 : decode cX8_pair 32 = .ok (.iload_n 3, 1) := dk_29 (dk_at dksX8_pair_1 8 rfl rfl)
theorem dX8_pair_33 : decode cX8_pair 33 = .ok (.iconst 3, 1) := dk_6 (dk_at dksX8_pair_1 9 rfl rfl)
theorem dX8_pair_34 : decode cX8_pair 34 = .ok (.iload_n 2, 1) := dk_28 (dk_at dksX8_pair_1 10 rfl rfl)
theorem dX8_pair_35 : decode cX8_pair 35 = .ok (.invokevirtual 55, 3) := dk_182 0 55 (dk_at dksX8_pair_1 11 rfl rfl)
theorem dX8_pair_38 : decode cX8_pair 38 = .ok (.iload_n 3, 1) := dk_29 (dk_at dksX8_pair_1 14 rfl rfl)
theorem dX8_pair_39 : decode cX8_pair 39 = .ok (.ireturn, 1) := dk_172 (dk_at dksX8_pair_1 15 rfl rfl)
abbrev cX8_cons : ByteArray := prog_10_method_31_code
def yX8_cons : MethodName := ⟨RX8, "cons", "(II)I"⟩
def dkwX8_cons_2 : List UInt8 := [29, 172]
abbrev dktX8_cons_2 : List UInt8 := dkwX8_cons_2 ++ []
def dkwX8_cons_1 : List UInt8 := [27, 182, 0, 55, 42, 29, 6, 28, 182, 0, 55, 42, 29, 7, 4, 42, 28, 182, 0, 168, 96, 182, 0, 55]
abbrev dktX8_cons_1 : List UInt8 := dkwX8_cons_1 ++ dktX8_cons_2
def dkwX8_cons_0 : List UInt8 := [42, 16, 7, 42, 27, 182, 0, 165, 42, 28, 182, 0, 165, 184, 0, 108, 8, 182, 0, 144, 62, 42, 29, 5]
abbrev dktX8_cons_0 : List UInt8 := dkwX8_cons_0 ++ dktX8_cons_1
theorem dksX8_cons_0 : cX8_cons.data.toList.drop 0 = dktX8_cons_0 := by decide +kernel
theorem dksX8_cons_1 : cX8_cons.data.toList.drop 24 = dktX8_cons_1 := dk_seg dksX8_cons_0 24 rfl rfl
theorem dksX8_cons_2 : cX8_cons.data.toList.drop 48 = dktX8_cons_2 := dk_seg dksX8_cons_1 24 rfl rfl
theorem dX8_cons_0 : decode cX8_cons 0 = .ok (.aload_n 0, 1) := dk_42 (dk_at dksX8_cons_0 0 rfl rfl)
theorem dX8_cons_1 : decode cX8_cons 1 = .ok (.bipush 7, 2) := dk_16 7 (dk_at dksX8_cons_0 1 rfl rfl)
theorem dX8_cons_3 : decode cX8_cons 3 = .ok (.aload_n 0, 1) := dk_42 (dk_at dksX8_cons_0 3 rfl rfl)
theorem dX8_cons_4 : decode cX8_cons 4 = .ok (.iload_n 1, 1) := dk_27 (dk_at dksX8_cons_0 4 rfl rfl)
theorem dX8_cons_5 : decode cX8_cons 5 = .ok (.invokevirtual 165, 3) := dk_182 0 165 (dk_at dksX8_cons_0 5 rfl rfl)
theorem dX8_cons_8 : decode cX8_cons 8 = .ok (.aload_n 0, 1) := dk_42 (dk_at dksX8_cons_0 8 rfl rfl)
theorem dX8_cons_9 : decode cX8_cons 9 = .ok (.iload_n 2, 1) := dk_28 (dk_at dksX8_cons_0 9 rfl rfl)
theorem dX8_cons_10 : decode cX8_cons 10 = .ok (.invokevirtual 165, 3) := dk_182 0 165 (dk_at dksX8_cons_0 10 rfl rfl)
theorem dX8_cons_13 : decode cX8_cons 13 = .ok (.invokestatic 108, 3) := dk_184 0 108 (dk_at dksX8_cons_0 13 rfl rfl)
theorem dX8_cons_16 : decode cX8_cons 16 = .ok (.iconst 5, 1) := dk_8 (dk_at dksX8_cons_0 16 rfl rfl)
theorem dX8_cons_17 : decode cX8_cons 17 = .ok (.invokevirtual 144, 3) := dk_182 0 144 (dk_at dksX8_cons_0 17 rfl rfl)
theorem dX8_cons_20 : decode cX8_cons 20 = .ok (.istore_n 3, 1) := dk_62 (dk_at dksX8_cons_0 20 rfl rfl)
theorem dX8_cons_21 : decode cX8_cons 21 = .ok (.aload_n 0, 1) := dk_42 (dk_at dksX8_cons_0 21 rfl rfl)
theorem dX8_cons_22 : decode cX8_cons 22 = .ok (.iload_n 3, 1) := dk_29 (dk_at dksX8_cons_0 22 rfl rfl)
theorem dX8_cons_23 : decode cX8_cons 23 = .ok (.iconst 2, 1) := dk_5 (dk_at dksX8_cons_0 23 rfl rfl)
theorem dX8_cons_24 : decode cX8_cons 24 = .ok (.iload_n 1, 1) := dk_27 (dk_at dksX8_cons_1 0 rfl rfl)
theorem dX8_cons_25 : decode cX8_cons 25 = .ok (.invokevirtual 55, 3) := dk_182 0 55 (dk_at dksX8_cons_1 1 rfl rfl)
theorem dX8_cons_28 : decode cX8_cons 28 = .ok (.aload_n 0, 1) := dk_42 (dk_at dksX8_cons_1 4 rfl rfl)
theorem dX8_cons_29 : decode cX8_cons 29 = .ok (.iload_n 3, 1) := dk_29 (dk_at dksX8_cons_1 5 rfl rfl)
theorem dX8_cons_30 : decode cX8_cons 30 = .ok (.iconst 3, 1) := dk_6 (dk_at dksX8_cons_1 6 rfl rfl)
theorem dX8_cons_31 : decode cX8_cons 31 = .ok (.iload_n 2, 1) := dk_28 (dk_at dksX8_cons_1 7 rfl rfl)
theorem dX8_cons_32 : decode cX8_cons 32 = .ok (.invokevirtual 55, 3) := dk_182 0 55 (dk_at dksX8_cons_1 8 rfl rfl)
theorem dX8_cons_35 : decode cX8_cons 35 = .ok (.aload_n 0, 1) := dk_42 (dk_at dksX8_cons_1 11 rfl rfl)
theorem dX8_cons_36 : decode cX8_cons 36 = .ok (.iload_n 3, 1) := dk_29 (dk_at dksX8_cons_1 12 rfl rfl)
theorem dX8_cons_37 : decode cX8_cons 37 = .ok (.iconst 4, 1) := dk_7 (dk_at dksX8_cons_1 13 rfl rfl)
theorem dX8_cons_38 : decode cX8_cons 38 = .ok (.iconst 1, 1) := dk_4 (dk_at dksX8_cons_1 14 rfl rfl)
theorem dX8_cons_39 : decode cX8_cons 39 = .ok (.aload_n 0, 1) := dk_42 (dk_at dksX8_cons_1 15 rfl rfl)
theorem dX8_cons_40 : decode cX8_cons 40 = .ok (.iload_n 2, 1) := dk_28 (dk_at dksX8_cons_1 16 rfl rfl)
theorem dX8_cons_41 : decode cX8_cons 41 = .ok (.invokevirtual 168, 3) := dk_182 0 168 (dk_at dksX8_cons_1 17 rfl rfl)
theorem dX8_cons_44 : decode cX8_cons 44 = .ok (.iadd, 1) := dk_96 (dk_at dksX8_cons_1 20 rfl rfl)
theorem dX8_cons_45 : decode cX8_cons 45 = .ok (.invokevirtual 55, 3) := dk_182 0 55 (dk_at dksX8_cons_1 21 rfl rfl)
theorem dX8_cons_48 : decode cX8_cons 48 = .ok (.iload_n 3, 1) := dk_29 (dk_at dksX8_cons_2 0 rfl rfl)
theorem dX8_cons_49 : decode cX8_cons 49 = .ok (.ireturn, 1) := dk_172 (dk_at dksX8_cons_2 1 rfl rfl)
abbrev cX8_listCount : ByteArray := prog_10_method_32_code
def yX8_listCount : MethodName := ⟨RX8, "listCount", "(I)I"⟩
def dkwX8_listCount_0 : List UInt8 := [27, 16, 10, 160, 0, 7, 3, 167, 0, 9, 42, 27, 7, 182, 0, 47, 172]
abbrev dktX8_listCount_0 : List UInt8 := dkwX8_listCount_0 ++ []
theorem dksX8_listCount_0 : cX8_listCount.data.toList.drop 0 = dktX8_listCount_0 := by decide +kernel
theorem dX8_listCount_0 : decode cX8_listCount 0 = .ok (.iload_n 1, 1) := dk_27 (dk_at dksX8_listCount_0 0 rfl rfl)
theorem dX8_listCount_1 : decode cX8_listCount 1 = .ok (.bipush 10, 2) := dk_16 10 (dk_at dksX8_listCount_0 1 rfl rfl)
theorem dX8_listCount_3 : decode cX8_listCount 3 = .ok (.if_icmp .ne 7, 3) := dk_160 0 7 (dk_at dksX8_listCount_0 3 rfl rfl)
theorem dX8_listCount_6 : decode cX8_listCount 6 = .ok (.iconst 0, 1) := dk_3 (dk_at dksX8_listCount_0 6 rfl rfl)
theorem dX8_listCount_7 : decode cX8_listCount 7 = .ok (.goto 9, 3) := dk_167 0 9 (dk_at dksX8_listCount_0 7 rfl rfl)
theorem dX8_listCount_10 : decode cX8_listCount 10 = .ok (.aload_n 0, 1) := dk_42 (dk_at dksX8_listCount_0 10 rfl rfl)
theorem dX8_listCount_11 : decode cX8_listCount 11 = .ok (.iload_n 1, 1) := dk_27 (dk_at dksX8_listCount_0 11 rfl rfl)
theorem dX8_listCount_12 : decode cX8_listCount 12 = .ok (.iconst 4, 1) := dk_7 (dk_at dksX8_listCount_0 12 rfl rfl)
theorem dX8_listCount_13 : decode cX8_listCount 13 = .ok (.invokevirtual 47, 3) := dk_182 0 47 (dk_at dksX8_listCount_0 13 rfl rfl)
theorem dX8_listCount_16 : decode cX8_listCount 16 = .ok (.ireturn, 1) := dk_172 (dk_at dksX8_listCount_0 16 rfl rfl)
abbrev cX8_count : ByteArray := prog_10_method_25_code
def yX8_count : MethodName := ⟨RX8, "count", "(I)I"⟩
def dkwX8_count_0 : List UInt8 := [42, 27, 5, 182, 0, 47, 172]
abbrev dktX8_count_0 : List UInt8 := dkwX8_count_0 ++ []
theorem dksX8_count_0 : cX8_count.data.toList.drop 0 = dktX8_count_0 := by decide +kernel
theorem dX8_count_0 : decode cX8_count 0 = .ok (.aload_n 0, 1) := dk_42 (dk_at dksX8_count_0 0 rfl rfl)
theorem dX8_count_1 : decode cX8_count 1 = .ok (.iload_n 1, 1) := dk_27 (dk_at dksX8_count_0 1 rfl rfl)
theorem dX8_count_2 : decode cX8_count 2 = .ok (.iconst 2, 1) := dk_5 (dk_at dksX8_count_0 2 rfl rfl)
theorem dX8_count_3 : decode cX8_count 3 = .ok (.invokevirtual 47, 3) := dk_182 0 47 (dk_at dksX8_count_0 3 rfl rfl)
theorem dX8_count_6 : decode cX8_count 6 = .ok (.ireturn, 1) := dk_172 (dk_at dksX8_count_0 6 rfl rfl)
abbrev cX8_byteAt : ByteArray := prog_10_method_26_code
def yX8_byteAt : MethodName := ⟨RX8, "byteAt", "(II)I"⟩
def dkwX8_byteAt_0 : List UInt8 := [42, 27, 6, 28, 5, 122, 96, 182, 0, 47, 16, 8, 28, 6, 126, 104, 124, 17, 0, 255, 126, 172]
abbrev dktX8_byteAt_0 : List UInt8 := dkwX8_byteAt_0 ++ []
theorem dksX8_byteAt_0 : cX8_byteAt.data.toList.drop 0 = dktX8_byteAt_0 := by decide +kernel
theorem dX8_byteAt_0 : decode cX8_byteAt 0 = .ok (.aload_n 0, 1) := dk_42 (dk_at dksX8_byteAt_0 0 rfl rfl)
theorem dX8_byteAt_1 : decode cX8_byteAt 1 = .ok (.iload_n 1, 1) := dk_27 (dk_at dksX8_byteAt_0 1 rfl rfl)
theorem dX8_byteAt_2 : decode cX8_byteAt 2 = .ok (.iconst 3, 1) := dk_6 (dk_at dksX8_byteAt_0 2 rfl rfl)
theorem dX8_byteAt_3 : decode cX8_byteAt 3 = .ok (.iload_n 2, 1) := dk_28 (dk_at dksX8_byteAt_0 3 rfl rfl)
theorem dX8_byteAt_4 : decode cX8_byteAt 4 = .ok (.iconst 2, 1) := dk_5 (dk_at dksX8_byteAt_0 4 rfl rfl)
theorem dX8_byteAt_5 : decode cX8_byteAt 5 = .ok (.ishr, 1) := dk_122 (dk_at dksX8_byteAt_0 5 rfl rfl)
theorem dX8_byteAt_6 : decode cX8_byteAt 6 = .ok (.iadd, 1) := dk_96 (dk_at dksX8_byteAt_0 6 rfl rfl)
theorem dX8_byteAt_7 : decode cX8_byteAt 7 = .ok (.invokevirtual 47, 3) := dk_182 0 47 (dk_at dksX8_byteAt_0 7 rfl rfl)
theorem dX8_byteAt_10 : decode cX8_byteAt 10 = .ok (.bipush 8, 2) := dk_16 8 (dk_at dksX8_byteAt_0 10 rfl rfl)
theorem dX8_byteAt_12 : decode cX8_byteAt 12 = .ok (.iload_n 2, 1) := dk_28 (dk_at dksX8_byteAt_0 12 rfl rfl)
theorem dX8_byteAt_13 : decode cX8_byteAt 13 = .ok (.iconst 3, 1) := dk_6 (dk_at dksX8_byteAt_0 13 rfl rfl)
theorem dX8_byteAt_14 : decode cX8_byteAt 14 = .ok (.iand, 1) := dk_126 (dk_at dksX8_byteAt_0 14 rfl rfl)
theorem dX8_byteAt_15 : decode cX8_byteAt 15 = .ok (.imul, 1) := dk_104 (dk_at dksX8_byteAt_0 15 rfl rfl)
theorem dX8_byteAt_16 : decode cX8_byteAt 16 = .ok (.iushr, 1) := dk_124 (dk_at dksX8_byteAt_0 16 rfl rfl)
theorem dX8_byteAt_17 : decode cX8_byteAt 17 = .ok (.sipush 255, 3) := dk_17 0 255 (dk_at dksX8_byteAt_0 17 rfl rfl)
theorem dX8_byteAt_20 : decode cX8_byteAt 20 = .ok (.iand, 1) := dk_126 (dk_at dksX8_byteAt_0 20 rfl rfl)
theorem dX8_byteAt_21 : decode cX8_byteAt 21 = .ok (.ireturn, 1) := dk_172 (dk_at dksX8_byteAt_0 21 rfl rfl)
abbrev cX8_load : ByteArray := prog_10_method_21_code
def yX8_load : MethodName := ⟨RX8, "load", "(ILContractLedger$Whole;)V"⟩
def dkwX8_load_4 : List UInt8 := [177]
abbrev dktX8_load_4 : List UInt8 := dkwX8_load_4 ++ []
def dkwX8_load_3 : List UInt8 := [27, 5, 182, 0, 47, 16, 16, 122, 153, 0, 7, 4, 167, 0, 4, 3, 181, 0, 138, 44, 29, 182, 0, 152]
abbrev dktX8_load_3 : List UInt8 := dkwX8_load_3 ++ dktX8_load_4
def dkwX8_load_2 : List UInt8 := [96, 182, 0, 47, 16, 16, 21, 4, 4, 126, 104, 124, 18, 59, 126, 79, 132, 4, 1, 167, 255, 218, 44, 42]
abbrev dktX8_load_2 : List UInt8 := dkwX8_load_2 ++ dktX8_load_3
def dkwX8_load_1 : List UInt8 := [126, 62, 3, 54, 4, 21, 4, 29, 162, 0, 38, 44, 180, 0, 149, 21, 4, 42, 27, 6, 21, 4, 4, 122]
abbrev dktX8_load_1 : List UInt8 := dkwX8_load_1 ++ dktX8_load_2
def dkwX8_load_0 : List UInt8 := [27, 184, 0, 89, 153, 0, 12, 44, 27, 4, 122, 133, 182, 0, 118, 177, 42, 27, 5, 182, 0, 47, 18, 59]
abbrev dktX8_load_0 : List UInt8 := dkwX8_load_0 ++ dktX8_load_1
theorem dksX8_load_0 : cX8_load.data.toList.drop 0 = dktX8_load_0 := by decide +kernel
theorem dksX8_load_1 : cX8_load.data.toList.drop 24 = dktX8_load_1 := dk_seg dksX8_load_0 24 rfl rfl
theorem dksX8_load_2 : cX8_load.data.toList.drop 48 = dktX8_load_2 := dk_seg dksX8_load_1 24 rfl rfl
theorem dksX8_load_3 : cX8_load.data.toList.drop 72 = dktX8_load_3 := dk_seg dksX8_load_2 24 rfl rfl
theorem dksX8_load_4 : cX8_load.data.toList.drop 96 = dktX8_load_4 := dk_seg dksX8_load_3 24 rfl rfl
theorem dX8_load_0 : decode cX8_load 0 = .ok (.iload_n 1, 1) := dk_27 (dk_at dksX8_load_0 0 rfl rfl)
theorem dX8_load_1 : decode cX8_load 1 = .ok (.invokestatic 89, 3) := dk_184 0 89 (dk_at dksX8_load_0 1 rfl rfl)
theorem dX8_load_4 : decode cX8_load 4 = .ok (.ifCond .eq 12, 3) := dk_153 0 12 (dk_at dksX8_load_0 4 rfl rfl)
theorem dX8_load_7 : decode cX8_load 7 = .ok (.aload_n 2, 1) := dk_44 (dk_at dksX8_load_0 7 rfl rfl)
theorem dX8_load_8 : decode cX8_load 8 = .ok (.iload_n 1, 1) := dk_27 (dk_at dksX8_load_0 8 rfl rfl)
theorem dX8_load_9 : decode cX8_load 9 = .ok (.iconst 1, 1) := dk_4 (dk_at dksX8_load_0 9 rfl rfl)
theorem dX8_load_10 : decode cX8_load 10 = .ok (.ishr, 1) := dk_122 (dk_at dksX8_load_0 10 rfl rfl)
theorem dX8_load_11 : decode cX8_load 11 = .ok (.i2l, 1) := dk_133 (dk_at dksX8_load_0 11 rfl rfl)
theorem dX8_load_12 : decode cX8_load 12 = .ok (.invokevirtual 118, 3) := dk_182 0 118 (dk_at dksX8_load_0 12 rfl rfl)
theorem dX8_load_15 : decode cX8_load 15 = .ok (.return_, 1) := dk_177 (dk_at dksX8_load_0 15 rfl rfl)
theorem dX8_load_16 : decode cX8_load 16 = .ok (.aload_n 0, 1) := dk_42 (dk_at dksX8_load_0 16 rfl rfl)
theorem dX8_load_17 : decode cX8_load 17 = .ok (.iload_n 1, 1) := dk_27 (dk_at dksX8_load_0 17 rfl rfl)
theorem dX8_load_18 : decode cX8_load 18 = .ok (.iconst 2, 1) := dk_5 (dk_at dksX8_load_0 18 rfl rfl)
theorem dX8_load_19 : decode cX8_load 19 = .ok (.invokevirtual 47, 3) := dk_182 0 47 (dk_at dksX8_load_0 19 rfl rfl)
theorem dX8_load_22 : decode cX8_load 22 = .ok (.ldc 59, 2) := dk_18 59 (dk_at dksX8_load_0 22 rfl rfl)
theorem dX8_load_24 : decode cX8_load 24 = .ok (.iand, 1) := dk_126 (dk_at dksX8_load_1 0 rfl rfl)
theorem dX8_load_25 : decode cX8_load 25 = .ok (.istore_n 3, 1) := dk_62 (dk_at dksX8_load_1 1 rfl rfl)
theorem dX8_load_26 : decode cX8_load 26 = .ok (.iconst 0, 1) := dk_3 (dk_at dksX8_load_1 2 rfl rfl)
theorem dX8_load_27 : decode cX8_load 27 = .ok (.istore 4, 2) := dk_54 4 (dk_at dksX8_load_1 3 rfl rfl)
theorem dX8_load_29 : decode cX8_load 29 = .ok (.iload 4, 2) := dk_21 4 (dk_at dksX8_load_1 5 rfl rfl)
theorem dX8_load_31 : decode cX8_load 31 = .ok (.iload_n 3, 1) := dk_29 (dk_at dksX8_load_1 7 rfl rfl)
theorem dX8_load_32 : decode cX8_load 32 = .ok (.if_icmp .ge 38, 3) := dk_162 0 38 (dk_at dksX8_load_1 8 rfl rfl)
theorem dX8_load_35 : decode cX8_load 35 = .ok (.aload_n 2, 1) := dk_44 (dk_at dksX8_load_1 11 rfl rfl)
theorem dX8_load_36 : decode cX8_load 36 = .ok (.getfield 149, 3) := dk_180 0 149 (dk_at dksX8_load_1 12 rfl rfl)
theorem dX8_load_39 : decode cX8_load 39 = .ok (.iload 4, 2) := dk_21 4 (dk_at dksX8_load_1 15 rfl rfl)
theorem dX8_load_41 : decode cX8_load 41 = .ok (.aload_n 0, 1) := dk_42 (dk_at dksX8_load_1 17 rfl rfl)
theorem dX8_load_42 : decode cX8_load 42 = .ok (.iload_n 1, 1) := dk_27 (dk_at dksX8_load_1 18 rfl rfl)
theorem dX8_load_43 : decode cX8_load 43 = .ok (.iconst 3, 1) := dk_6 (dk_at dksX8_load_1 19 rfl rfl)
theorem dX8_load_44 : decode cX8_load 44 = .ok (.iload 4, 2) := dk_21 4 (dk_at dksX8_load_1 20 rfl rfl)
theorem dX8_load_46 : decode cX8_load 46 = .ok (.iconst 1, 1) := dk_4 (dk_at dksX8_load_1 22 rfl rfl)
theorem dX8_load_47 : decode cX8_load 47 = .ok (.ishr, 1) := dk_122 (dk_at dksX8_load_1 23 rfl rfl)
theorem dX8_load_48 : decode cX8_load 48 = .ok (.iadd, 1) := dk_96 (dk_at dksX8_load_2 0 rfl rfl)
theorem dX8_load_49 : decode cX8_load 49 = .ok (.invokevirtual 47, 3) := dk_182 0 47 (dk_at dksX8_load_2 1 rfl rfl)
theorem dX8_load_52 : decode cX8_load 52 = .ok (.bipush 16, 2) := dk_16 16 (dk_at dksX8_load_2 4 rfl rfl)
theorem dX8_load_54 : decode cX8_load 54 = .ok (.iload 4, 2) := dk_21 4 (dk_at dksX8_load_2 6 rfl rfl)
theorem dX8_load_56 : decode cX8_load 56 = .ok (.iconst 1, 1) := dk_4 (dk_at dksX8_load_2 8 rfl rfl)
theorem dX8_load_57 : decode cX8_load 57 = .ok (.iand, 1) := dk_126 (dk_at dksX8_load_2 9 rfl rfl)
theorem dX8_load_58 : decode cX8_load 58 = .ok (.imul, 1) := dk_104 (dk_at dksX8_load_2 10 rfl rfl)
theorem dX8_load_59 : decode cX8_load 59 = .ok (.iushr, 1) := dk_124 (dk_at dksX8_load_2 11 rfl rfl)
theorem dX8_load_60 : decode cX8_load 60 = .ok (.ldc 59, 2) := dk_18 59 (dk_at dksX8_load_2 12 rfl rfl)
theorem dX8_load_62 : decode cX8_load 62 = .ok (.iand, 1) := dk_126 (dk_at dksX8_load_2 14 rfl rfl)
theorem dX8_load_63 : decode cX8_load 63 = .ok (.iastore, 1) := dk_79 (dk_at dksX8_load_2 15 rfl rfl)
theorem dX8_load_64 : decode cX8_load 64 = .ok (.iinc 4 1, 3) := dk_132 4 1 (dk_at dksX8_load_2 16 rfl rfl)
theorem dX8_load_67 : decode cX8_load 67 = .ok (.goto (-38), 3) := dk_167 255 218 (dk_at dksX8_load_2 19 rfl rfl)
theorem dX8_load_70 : decode cX8_load 70 = .ok (.aload_n 2, 1) := dk_44 (dk_at dksX8_load_2 22 rfl rfl)
theorem dX8_load_71 : decode cX8_load 71 = .ok (.aload_n 0, 1) := dk_42 (dk_at dksX8_load_2 23 rfl rfl)
theorem dX8_load_72 : decode cX8_load 72 = .ok (.iload_n 1, 1) := dk_27 (dk_at dksX8_load_3 0 rfl rfl)
theorem dX8_load_73 : decode cX8_load 73 = .ok (.iconst 2, 1) := dk_5 (dk_at dksX8_load_3 1 rfl rfl)
theorem dX8_load_74 : decode cX8_load 74 = .ok (.invokevirtual 47, 3) := dk_182 0 47 (dk_at dksX8_load_3 2 rfl rfl)
theorem dX8_load_77 : decode cX8_load 77 = .ok (.bipush 16, 2) := dk_16 16 (dk_at dksX8_load_3 5 rfl rfl)
theorem dX8_load_79 : decode cX8_load 79 = .ok (.ishr, 1) := dk_122 (dk_at dksX8_load_3 7 rfl rfl)
theorem dX8_load_80 : decode cX8_load 80 = .ok (.ifCond .eq 7, 3) := dk_153 0 7 (dk_at dksX8_load_3 8 rfl rfl)
theorem dX8_load_83 : decode cX8_load 83 = .ok (.iconst 1, 1) := dk_4 (dk_at dksX8_load_3 11 rfl rfl)
theorem dX8_load_84 : decode cX8_load 84 = .ok (.goto 4, 3) := dk_167 0 4 (dk_at dksX8_load_3 12 rfl rfl)
theorem dX8_load_87 : decode cX8_load 87 = .ok (.iconst 0, 1) := dk_3 (dk_at dksX8_load_3 15 rfl rfl)
theorem dX8_load_88 : decode cX8_load 88 = .ok (.putfield 138, 3) := dk_181 0 138 (dk_at dksX8_load_3 16 rfl rfl)
theorem dX8_load_91 : decode cX8_load 91 = .ok (.aload_n 2, 1) := dk_44 (dk_at dksX8_load_3 19 rfl rfl)
theorem dX8_load_92 : decode cX8_load 92 = .ok (.iload_n 3, 1) := dk_29 (dk_at dksX8_load_3 20 rfl rfl)
theorem dX8_load_93 : decode cX8_load 93 = .ok (.invokevirtual 152, 3) := dk_182 0 152 (dk_at dksX8_load_3 21 rfl rfl)
theorem dX8_load_96 : decode cX8_load 96 = .ok (.return_, 1) := dk_177 (dk_at dksX8_load_4 0 rfl rfl)
abbrev cX8_node : ByteArray := prog_10_method_40_code
def yX8_node : MethodName := ⟨RX8, "node", "(IIII)I"⟩
def dkwX8_node_5 : List UInt8 := [16, 7, 4, 42, 29, 182, 0, 177, 42, 21, 4, 182, 0, 177, 184, 0, 180, 96, 182, 0, 55, 21, 6, 172]
abbrev dktX8_node_5 : List UInt8 := dkwX8_node_5 ++ []
def dkwX8_node_4 : List UInt8 := [21, 6, 16, 6, 4, 42, 29, 182, 0, 174, 96, 42, 21, 4, 182, 0, 174, 96, 182, 0, 55, 42, 21, 6]
abbrev dktX8_node_4 : List UInt8 := dkwX8_node_4 ++ dktX8_node_5
def dkwX8_node_3 : List UInt8 := [6, 28, 182, 0, 55, 42, 21, 6, 7, 29, 182, 0, 55, 42, 21, 6, 8, 21, 4, 182, 0, 55, 42]
abbrev dktX8_node_3 : List UInt8 := dkwX8_node_3 ++ dktX8_node_4
def dkwX8_node_2 : List UInt8 := [184, 0, 108, 184, 0, 108, 16, 8, 182, 0, 144, 54, 6, 42, 21, 6, 5, 27, 182, 0, 55, 42, 21, 6]
abbrev dktX8_node_2 : List UInt8 := dkwX8_node_2 ++ dktX8_node_3
def dkwX8_node_1 : List UInt8 := [184, 0, 108, 184, 0, 108, 54, 5, 42, 16, 8, 21, 5, 42, 29, 182, 0, 171, 42, 21, 4, 182, 0, 171]
abbrev dktX8_node_1 : List UInt8 := dkwX8_node_1 ++ dktX8_node_2
def dkwX8_node_0 : List UInt8 := [28, 154, 0, 11, 42, 27, 182, 0, 165, 167, 0, 20, 5, 42, 27, 182, 0, 165, 42, 28, 182, 0, 165]
abbrev dktX8_node_0 : List UInt8 := dkwX8_node_0 ++ dktX8_node_1
theorem dksX8_node_0 : cX8_node.data.toList.drop 0 = dktX8_node_0 := by decide +kernel
theorem dksX8_node_1 : cX8_node.data.toList.drop 23 = dktX8_node_1 := dk_seg dksX8_node_0 23 rfl rfl
theorem dksX8_node_2 : cX8_node.data.toList.drop 47 = dktX8_node_2 := dk_seg dksX8_node_1 24 rfl rfl
theorem dksX8_node_3 : cX8_node.data.toList.drop 71 = dktX8_node_3 := dk_seg dksX8_node_2 24 rfl rfl
theorem dksX8_node_4 : cX8_node.data.toList.drop 94 = dktX8_node_4 := dk_seg dksX8_node_3 23 rfl rfl
theorem dksX8_node_5 : cX8_node.data.toList.drop 118 = dktX8_node_5 := dk_seg dksX8_node_4 24 rfl rfl
theorem dX8_node_0 : decode cX8_node 0 = .ok (.iload_n 2, 1) := dk_28 (dk_at dksX8_node_0 0 rfl rfl)
theorem dX8_node_1 : decode cX8_node 1 = .ok (.ifCond .ne 11, 3) := dk_154 0 11 (dk_at dksX8_node_0 1 rfl rfl)
theorem dX8_node_4 : decode cX8_node 4 = .ok (.aload_n 0, 1) := dk_42 (dk_at dksX8_node_0 4 rfl rfl)
theorem dX8_node_5 : decode cX8_node 5 = .ok (.iload_n 1, 1) := dk_27 (dk_at dksX8_node_0 5 rfl rfl)
theorem dX8_node_6 : decode cX8_node 6 = .ok (.invokevirtual 165, 3) := dk_182 0 165 (dk_at dksX8_node_0 6 rfl rfl)
theorem dX8_node_9 : decode cX8_node 9 = .ok (.goto 20, 3) := dk_167 0 20 (dk_at dksX8_node_0 9 rfl rfl)
theorem dX8_node_12 : decode cX8_node 12 = .ok (.iconst 2, 1) := dk_5 (dk_at dksX8_node_0 12 rfl rfl)
theorem dX8_node_13 : decode cX8_node 13 = .ok (.aload_n 0, 1) := dk_42 (dk_at dksX8_node_0 13 rfl rfl)
theorem dX8_node_14 : decode cX8_node 14 = .ok (.iload_n 1, 1) := dk_27 (dk_at dksX8_node_0 14 rfl rfl)
theorem dX8_node_15 : decode cX8_node 15 = .ok (.invokevirtual 165, 3) := dk_182 0 165 (dk_at dksX8_node_0 15 rfl rfl)
theorem dX8_node_18 : decode cX8_node 18 = .ok (.aload_n 0, 1) := dk_42 (dk_at dksX8_node_0 18 rfl rfl)
theorem dX8_node_19 : decode cX8_node 19 = .ok (.iload_n 2, 1) := dk_28 (dk_at dksX8_node_0 19 rfl rfl)
theorem dX8_node_20 : decode cX8_node 20 = .ok (.invokevirtual 165, 3) := dk_182 0 165 (dk_at dksX8_node_0 20 rfl rfl)
theorem dX8_node_23 : decode cX8_node 23 = .ok (.invokestatic 108, 3) := dk_184 0 108 (dk_at dksX8_node_1 0 rfl rfl)
theorem dX8_node_26 : decode cX8_node 26 = .ok (.invokestatic 108, 3) := dk_184 0 108 (dk_at dksX8_node_1 3 rfl rfl)
theorem dX8_node_29 : decode cX8_node 29 = .ok (.istore 5, 2) := dk_54 5 (dk_at dksX8_node_1 6 rfl rfl)
theorem dX8_node_31 : decode cX8_node 31 = .ok (.aload_n 0, 1) := dk_42 (dk_at dksX8_node_1 8 rfl rfl)
theorem dX8_node_32 : decode cX8_node 32 = .ok (.bipush 8, 2) := dk_16 8 (dk_at dksX8_node_1 9 rfl rfl)
theorem dX8_node_34 : decode cX8_node 34 = .ok (.iload 5, 2) := dk_21 5 (dk_at dksX8_node_1 11 rfl rfl)
theorem dX8_node_36 : decode cX8_node 36 = .ok (.aload_n 0, 1) := dk_42 (dk_at dksX8_node_1 13 rfl rfl)
theorem dX8_node_37 : decode cX8_node 37 = .ok (.iload_n 3, 1) := dk_29 (dk_at dksX8_node_1 14 rfl rfl)
theorem dX8_node_38 : decode cX8_node 38 = .ok (.invokevirtual 171, 3) := dk_182 0 171 (dk_at dksX8_node_1 15 rfl rfl)
theorem dX8_node_41 : decode cX8_node 41 = .ok (.aload_n 0, 1) := dk_42 (dk_at dksX8_node_1 18 rfl rfl)
theorem dX8_node_42 : decode cX8_node 42 = .ok (.iload 4, 2) := dk_21 4 (dk_at dksX8_node_1 19 rfl rfl)
theorem dX8_node_44 : decode cX8_node 44 = .ok (.invokevirtual 171, 3) := dk_182 0 171 (dk_at dksX8_node_1 21 rfl rfl)
theorem dX8_node_47 : decode cX8_node 47 = .ok (.invokestatic 108, 3) := dk_184 0 108 (dk_at dksX8_node_2 0 rfl rfl)
theorem dX8_node_50 : decode cX8_node 50 = .ok (.invokestatic 108, 3) := dk_184 0 108 (dk_at dksX8_node_2 3 rfl rfl)
theorem dX8_node_53 : decode cX8_node 53 = .ok (.bipush 8, 2) := dk_16 8 (dk_at dksX8_node_2 6 rfl rfl)
theorem dX8_node_55 : decode cX8_node 55 = .ok (.invokevirtual 144, 3) := dk_182 0 144 (dk_at dksX8_node_2 8 rfl rfl)
theorem dX8_node_58 : decode cX8_node 58 = .ok (.istore 6, 2) := dk_54 6 (dk_at dksX8_node_2 11 rfl rfl)
theorem dX8_node_60 : decode cX8_node 60 = .ok (.aload_n 0, 1) := dk_42 (dk_at dksX8_node_2 13 rfl rfl)
theorem dX8_node_61 : decode cX8_node 61 = .ok (.iload 6, 2) := dk_21 6 (dk_at dksX8_node_2 14 rfl rfl)
theorem dX8_node_63 : decode cX8_node 63 = .ok (.iconst 2, 1) := dk_5 (dk_at dksX8_node_2 16 rfl rfl)
theorem dX8_node_64 : decode cX8_node 64 = .ok (.iload_n 1, 1) := dk_27 (dk_at dksX8_node_2 17 rfl rfl)
theorem dX8_node_65 : decode cX8_node 65 = .ok (.invokevirtual 55, 3) := dk_182 0 55 (dk_at dksX8_node_2 18 rfl rfl)
theorem dX8_node_68 : decode cX8_node 68 = .ok (.aload_n 0, 1) := dk_42 (dk_at dksX8_node_2 21 rfl rfl)
theorem dX8_node_69 : decode cX8_node 69 = .ok (.iload 6, 2) := dk_21 6 (dk_at dksX8_node_2 22 rfl rfl)
theorem dX8_node_71 : decode cX8_node 71 = .ok (.iconst 3, 1) := dk_6 (dk_at dksX8_node_3 0 rfl rfl)
theorem dX8_node_72 : decode cX8_node 72 = .ok (.iload_n 2, 1) := dk_28 (dk_at dksX8_node_3 1 rfl rfl)
theorem dX8_node_73 : decode cX8_node 73 = .ok (.invokevirtual 55, 3) := dk_182 0 55 (dk_at dksX8_node_3 2 rfl rfl)
theorem dX8_node_76 : decode cX8_node 76 = .ok (.aload_n 0, 1) := dk_42 (dk_at dksX8_node_3 5 rfl rfl)
theorem dX8_node_77 : decode cX8_node 77 = .ok (.iload 6, 2) := dk_21 6 (dk_at dksX8_node_3 6 rfl rfl)
theorem dX8_node_79 : decode cX8_node 79 = .ok (.iconst 4, 1) := dk_7 (dk_at dksX8_node_3 8 rfl rfl)
theorem dX8_node_80 : decode cX8_node 80 = .ok (.iload_n 3, 1) := dk_29 (dk_at dksX8_node_3 9 rfl rfl)
theorem dX8_node_81 : decode cX8_node 81 = .ok (.invokevirtual 55, 3) := dk_182 0 55 (dk_at dksX8_node_3 10 rfl rfl)
theorem dX8_node_84 : decode cX8_node 84 = .ok (.aload_n 0, 1) := dk_42 (dk_at dksX8_node_3 13 rfl rfl)
theorem dX8_node_85 : decode cX8_node 85 = .ok (.iload 6, 2) := dk_21 6 (dk_at dksX8_node_3 14 rfl rfl)
theorem dX8_node_87 : decode cX8_node 87 = .ok (.iconst 5, 1) := dk_8 (dk_at dksX8_node_3 16 rfl rfl)
theorem dX8_node_88 : decode cX8_node 88 = .ok (.iload 4, 2) := dk_21 4 (dk_at dksX8_node_3 17 rfl rfl)
theorem dX8_node_90 : decode cX8_node 90 = .ok (.invokevirtual 55, 3) := dk_182 0 55 (dk_at dksX8_node_3 19 rfl rfl)
theorem dX8_node_93 : decode cX8_node 93 = .ok (.aload_n 0, 1) := dk_42 (dk_at dksX8_node_3 22 rfl rfl)
theorem dX8_node_94 : decode cX8_node 94 = .ok (.iload 6, 2) := dk_21 6 (dk_at dksX8_node_4 0 rfl rfl)
theorem dX8_node_96 : decode cX8_node 96 = .ok (.bipush 6, 2) := dk_16 6 (dk_at dksX8_node_4 2 rfl rfl)
theorem dX8_node_98 : decode cX8_node 98 = .ok (.iconst 1, 1) := dk_4 (dk_at dksX8_node_4 4 rfl rfl)
theorem dX8_node_99 : decode cX8_node 99 = .ok (.aload_n 0, 1) := dk_42 (dk_at dksX8_node_4 5 rfl rfl)
theorem dX8_node_100 : decode cX8_node 100 = .ok (.iload_n 3, 1) := dk_29 (dk_at dksX8_node_4 6 rfl rfl)
theorem dX8_node_101 : decode cX8_node 101 = .ok (.invokevirtual 174, 3) := dk_182 0 174 (dk_at dksX8_node_4 7 rfl rfl)
theorem dX8_node_104 : decode cX8_node 104 = .ok (.iadd, 1) := dk_96 (dk_at dksX8_node_4 10 rfl rfl)
theorem dX8_node_105 : decode cX8_node 105 = .ok (.aload_n 0, 1) := dk_42 (dk_at dksX8_node_4 11 rfl rfl)
theorem dX8_node_106 : decode cX8_node 106 = .ok (.iload 4, 2) := dk_21 4 (dk_at dksX8_node_4 12 rfl rfl)
theorem dX8_node_108 : decode cX8_node 108 = .ok (.invokevirtual 174, 3) := dk_182 0 174 (dk_at dksX8_node_4 14 rfl rfl)
theorem dX8_node_111 : decode cX8_node 111 = .ok (.iadd, 1) := dk_96 (dk_at dksX8_node_4 17 rfl rfl)
theorem dX8_node_112 : decode cX8_node 112 = .ok (.invokevirtual 55, 3) := dk_182 0 55 (dk_at dksX8_node_4 18 rfl rfl)
theorem dX8_node_115 : decode cX8_node 115 = .ok (.aload_n 0, 1) := dk_42 (dk_at dksX8_node_4 21 rfl rfl)
theorem dX8_node_116 : decode cX8_node 116 = .ok (.iload 6, 2) := dk_21 6 (dk_at dksX8_node_4 22 rfl rfl)
theorem dX8_node_118 : decode cX8_node 118 = .ok (.bipush 7, 2) := dk_16 7 (dk_at dksX8_node_5 0 rfl rfl)
theorem dX8_node_120 : decode cX8_node 120 = .ok (.iconst 1, 1) := dk_4 (dk_at dksX8_node_5 2 rfl rfl)
theorem dX8_node_121 : decode cX8_node 121 = .ok (.aload_n 0, 1) := dk_42 (dk_at dksX8_node_5 3 rfl rfl)
theorem dX8_node_122 : decode cX8_node 122 = .ok (.iload_n 3, 1) := dk_29 (dk_at dksX8_node_5 4 rfl rfl)
theorem dX8_node_123 : decode cX8_node 123 = .ok (.invokevirtual 177, 3) := dk_182 0 177 (dk_at dksX8_node_5 5 rfl rfl)
theorem dX8_node_126 : decode cX8_node 126 = .ok (.aload_n 0, 1) := dk_42 (dk_at dksX8_node_5 8 rfl rfl)
theorem dX8_node_127 : decode cX8_node 127 = .ok (.iload 4, 2) := dk_21 4 (dk_at dksX8_node_5 9 rfl rfl)
theorem dX8_node_129 : decode cX8_node 129 = .ok (.invokevirtual 177, 3) := dk_182 0 177 (dk_at dksX8_node_5 11 rfl rfl)
theorem dX8_node_132 : decode cX8_node 132 = .ok (.invokestatic 180, 3) := dk_184 0 180 (dk_at dksX8_node_5 14 rfl rfl)
theorem dX8_node_135 : decode cX8_node 135 = .ok (.iadd, 1) := dk_96 (dk_at dksX8_node_5 17 rfl rfl)
theorem dX8_node_136 : decode cX8_node 136 = .ok (.invokevirtual 55, 3) := dk_182 0 55 (dk_at dksX8_node_5 18 rfl rfl)
theorem dX8_node_139 : decode cX8_node 139 = .ok (.iload 6, 2) := dk_21 6 (dk_at dksX8_node_5 21 rfl rfl)
theorem dX8_node_141 : decode cX8_node 141 = .ok (.ireturn, 1) := dk_172 (dk_at dksX8_node_5 23 rfl rfl)
abbrev cX8_total : ByteArray := prog_10_method_39_code
def yX8_total : MethodName := ⟨RX8, "total", "(I)I"⟩
def dkwX8_total_0 : List UInt8 := [27, 16, 12, 160, 0, 7, 3, 167, 0, 9, 42, 27, 4, 182, 0, 47, 172]
abbrev dktX8_total_0 : List UInt8 := dkwX8_total_0 ++ []
theorem dksX8_total_0 : cX8_total.data.toList.drop 0 = dktX8_total_0 := by decide +kernel
theorem dX8_total_0 : decode cX8_total 0 = .ok (.iload_n 1, 1) := dk_27 (dk_at dksX8_total_0 0 rfl rfl)
theorem dX8_total_1 : decode cX8_total 1 = .ok (.bipush 12, 2) := dk_16 12 (dk_at dksX8_total_0 1 rfl rfl)
theorem dX8_total_3 : decode cX8_total 3 = .ok (.if_icmp .ne 7, 3) := dk_160 0 7 (dk_at dksX8_total_0 3 rfl rfl)
theorem dX8_total_6 : decode cX8_total 6 = .ok (.iconst 0, 1) := dk_3 (dk_at dksX8_total_0 6 rfl rfl)
theorem dX8_total_7 : decode cX8_total 7 = .ok (.goto 9, 3) := dk_167 0 9 (dk_at dksX8_total_0 7 rfl rfl)
theorem dX8_total_10 : decode cX8_total 10 = .ok (.aload_n 0, 1) := dk_42 (dk_at dksX8_total_0 10 rfl rfl)
theorem dX8_total_11 : decode cX8_total 11 = .ok (.iload_n 1, 1) := dk_27 (dk_at dksX8_total_0 11 rfl rfl)
theorem dX8_total_12 : decode cX8_total 12 = .ok (.iconst 1, 1) := dk_4 (dk_at dksX8_total_0 12 rfl rfl)
theorem dX8_total_13 : decode cX8_total 13 = .ok (.invokevirtual 47, 3) := dk_182 0 47 (dk_at dksX8_total_0 13 rfl rfl)
theorem dX8_total_16 : decode cX8_total 16 = .ok (.ireturn, 1) := dk_172 (dk_at dksX8_total_0 16 rfl rfl)
abbrev cX8_many : ByteArray := prog_10_method_37_code
def yX8_many : MethodName := ⟨RX8, "many", "(I)I"⟩
def dkwX8_many_0 : List UInt8 := [27, 16, 12, 160, 0, 7, 3, 167, 0, 10, 42, 27, 16, 6, 182, 0, 47, 172]
abbrev dktX8_many_0 : List UInt8 := dkwX8_many_0 ++ []
theorem dksX8_many_0 : cX8_many.data.toList.drop 0 = dktX8_many_0 := by decide +kernel
theorem dX8_many_0 : decode cX8_many 0 = .ok (.iload_n 1, 1) := dk_27 (dk_at dksX8_many_0 0 rfl rfl)
theorem dX8_many_1 : decode cX8_many 1 = .ok (.bipush 12, 2) := dk_16 12 (dk_at dksX8_many_0 1 rfl rfl)
theorem dX8_many_3 : decode cX8_many 3 = .ok (.if_icmp .ne 7, 3) := dk_160 0 7 (dk_at dksX8_many_0 3 rfl rfl)
theorem dX8_many_6 : decode cX8_many 6 = .ok (.iconst 0, 1) := dk_3 (dk_at dksX8_many_0 6 rfl rfl)
theorem dX8_many_7 : decode cX8_many 7 = .ok (.goto 10, 3) := dk_167 0 10 (dk_at dksX8_many_0 7 rfl rfl)
theorem dX8_many_10 : decode cX8_many 10 = .ok (.aload_n 0, 1) := dk_42 (dk_at dksX8_many_0 10 rfl rfl)
theorem dX8_many_11 : decode cX8_many 11 = .ok (.iload_n 1, 1) := dk_27 (dk_at dksX8_many_0 11 rfl rfl)
theorem dX8_many_12 : decode cX8_many 12 = .ok (.bipush 6, 2) := dk_16 6 (dk_at dksX8_many_0 12 rfl rfl)
theorem dX8_many_14 : decode cX8_many 14 = .ok (.invokevirtual 47, 3) := dk_182 0 47 (dk_at dksX8_many_0 14 rfl rfl)
theorem dX8_many_17 : decode cX8_many 17 = .ok (.ireturn, 1) := dk_172 (dk_at dksX8_many_0 17 rfl rfl)
abbrev cX8_height : ByteArray := prog_10_method_38_code
def yX8_height : MethodName := ⟨RX8, "height", "(I)I"⟩
def dkwX8_height_0 : List UInt8 := [27, 16, 12, 160, 0, 7, 3, 167, 0, 10, 42, 27, 16, 7, 182, 0, 47, 172]
abbrev dktX8_height_0 : List UInt8 := dkwX8_height_0 ++ []
theorem dksX8_height_0 : cX8_height.data.toList.drop 0 = dktX8_height_0 := by decide +kernel
theorem dX8_height_0 : decode cX8_height 0 = .ok (.iload_n 1, 1) := dk_27 (dk_at dksX8_height_0 0 rfl rfl)
theorem dX8_height_1 : decode cX8_height 1 = .ok (.bipush 12, 2) := dk_16 12 (dk_at dksX8_height_0 1 rfl rfl)
theorem dX8_height_3 : decode cX8_height 3 = .ok (.if_icmp .ne 7, 3) := dk_160 0 7 (dk_at dksX8_height_0 3 rfl rfl)
theorem dX8_height_6 : decode cX8_height 6 = .ok (.iconst 0, 1) := dk_3 (dk_at dksX8_height_0 6 rfl rfl)
theorem dX8_height_7 : decode cX8_height 7 = .ok (.goto 10, 3) := dk_167 0 10 (dk_at dksX8_height_0 7 rfl rfl)
theorem dX8_height_10 : decode cX8_height 10 = .ok (.aload_n 0, 1) := dk_42 (dk_at dksX8_height_0 10 rfl rfl)
theorem dX8_height_11 : decode cX8_height 11 = .ok (.iload_n 1, 1) := dk_27 (dk_at dksX8_height_0 11 rfl rfl)
theorem dX8_height_12 : decode cX8_height 12 = .ok (.bipush 7, 2) := dk_16 7 (dk_at dksX8_height_0 12 rfl rfl)
theorem dX8_height_14 : decode cX8_height 14 = .ok (.invokevirtual 47, 3) := dk_182 0 47 (dk_at dksX8_height_0 14 rfl rfl)
theorem dX8_height_17 : decode cX8_height 17 = .ok (.ireturn, 1) := dk_172 (dk_at dksX8_height_0 17 rfl rfl)
abbrev cX8_dropFixed : ByteArray := prog_10_method_8_code
def yX8_dropFixed : MethodName := ⟨RX8, "dropFixed", "(I)V"⟩
def dkwX8_dropFixed_0 : List UInt8 := [42, 27, 181, 0, 27, 177]
abbrev dktX8_dropFixed_0 : List UInt8 := dkwX8_dropFixed_0 ++ []
theorem dksX8_dropFixed_0 : cX8_dropFixed.data.toList.drop 0 = dktX8_dropFixed_0 := by decide +kernel
theorem dX8_dropFixed_0 : decode cX8_dropFixed 0 = .ok (.aload_n 0, 1) := dk_42 (dk_at dksX8_dropFixed_0 0 rfl rfl)
theorem dX8_dropFixed_1 : decode cX8_dropFixed 1 = .ok (.iload_n 1, 1) := dk_27 (dk_at dksX8_dropFixed_0 1 rfl rfl)
theorem dX8_dropFixed_2 : decode cX8_dropFixed 2 = .ok (.putfield 27, 3) := dk_181 0 27 (dk_at dksX8_dropFixed_0 2 rfl rfl)
theorem dX8_dropFixed_5 : decode cX8_dropFixed 5 = .ok (.return_, 1) := dk_177 (dk_at dksX8_dropFixed_0 5 rfl rfl)
abbrev cX8_tidy : ByteArray := prog_10_method_13_code
def yX8_tidy : MethodName := ⟨RX8, "tidy", "(ILContractLedger$Roots;)V"⟩
def dkwX8_tidy_3 : List UInt8 := [182, 0, 85, 96, 54, 4, 167, 255, 230, 177]
abbrev dktX8_tidy_3 : List UInt8 := dkwX8_tidy_3 ++ []
def dkwX8_tidy_2 : List UInt8 := [54, 4, 21, 4, 42, 180, 0, 19, 162, 0, 23, 42, 21, 4, 182, 0, 82, 21, 4, 42, 21, 4]
abbrev dktX8_tidy_2 : List UInt8 := dkwX8_tidy_2 ++ dktX8_tidy_3
def dkwX8_tidy_1 : List UInt8 := [180, 0, 16, 181, 0, 10, 42, 45, 181, 0, 16, 42, 16, 16, 181, 0, 19, 44, 42, 182, 0, 77, 16, 16]
abbrev dktX8_tidy_1 : List UInt8 := dkwX8_tidy_1 ++ dktX8_tidy_2
def dkwX8_tidy_0 : List UInt8 := [42, 180, 0, 19, 27, 96, 42, 180, 0, 10, 190, 163, 0, 4, 177, 42, 180, 0, 10, 78, 42, 42]
abbrev dktX8_tidy_0 : List UInt8 := dkwX8_tidy_0 ++ dktX8_tidy_1
theorem dksX8_tidy_0 : cX8_tidy.data.toList.drop 0 = dktX8_tidy_0 := by decide +kernel
theorem dksX8_tidy_1 : cX8_tidy.data.toList.drop 22 = dktX8_tidy_1 := dk_seg dksX8_tidy_0 22 rfl rfl
theorem dksX8_tidy_2 : cX8_tidy.data.toList.drop 46 = dktX8_tidy_2 := dk_seg dksX8_tidy_1 24 rfl rfl
theorem dksX8_tidy_3 : cX8_tidy.data.toList.drop 68 = dktX8_tidy_3 := dk_seg dksX8_tidy_2 22 rfl rfl
theorem dX8_tidy_0 : decode cX8_tidy 0 = .ok (.aload_n 0, 1) := dk_42 (dk_at dksX8_tidy_0 0 rfl rfl)
theorem dX8_tidy_1 : decode cX8_tidy 1 = .ok (.getfield 19, 3) := dk_180 0 19 (dk_at dksX8_tidy_0 1 rfl rfl)
theorem dX8_tidy_4 : decode cX8_tidy 4 = .ok (.iload_n 1, 1) := dk_27 (dk_at dksX8_tidy_0 4 rfl rfl)
theorem dX8_tidy_5 : decode cX8_tidy 5 = .ok (.iadd, 1) := dk_96 (dk_at dksX8_tidy_0 5 rfl rfl)
theorem dX8_tidy_6 : decode cX8_tidy 6 = .ok (.aload_n 0, 1) := dk_42 (dk_at dksX8_tidy_0 6 rfl rfl)
theorem dX8_tidy_7 : decode cX8_tidy 7 = .ok (.getfield 10, 3) := dk_180 0 10 (dk_at dksX8_tidy_0 7 rfl rfl)
theorem dX8_tidy_10 : decode cX8_tidy 10 = .ok (.arraylength, 1) := dk_190 (dk_at dksX8_tidy_0 10 rfl rfl)
theorem dX8_tidy_11 : decode cX8_tidy 11 = .ok (.if_icmp .gt 4, 3) := dk_163 0 4 (dk_at dksX8_tidy_0 11 rfl rfl)
theorem dX8_tidy_14 : decode cX8_tidy 14 = .ok (.return_, 1) := dk_177 (dk_at dksX8_tidy_0 14 rfl rfl)
theorem dX8_tidy_15 : decode cX8_tidy 15 = .ok (.aload_n 0, 1) := dk_42 (dk_at dksX8_tidy_0 15 rfl rfl)
theorem dX8_tidy_16 : decode cX8_tidy 16 = .ok (.getfield 10, 3) := dk_180 0 10 (dk_at dksX8_tidy_0 16 rfl rfl)
theorem dX8_tidy_19 : decode cX8_tidy 19 = .ok (.astore_n 3, 1) := dk_78 (dk_at dksX8_tidy_0 19 rfl rfl)
theorem dX8_tidy_20 : decode cX8_tidy 20 = .ok (.aload_n 0, 1) := dk_42 (dk_at dksX8_tidy_0 20 rfl rfl)
theorem dX8_tidy_21 : decode cX8_tidy 21 = .ok (.aload_n 0, 1) := dk_42 (dk_at dksX8_tidy_0 21 rfl rfl)
theorem dX8_tidy_22 : decode cX8_tidy 22 = .ok (.getfield 16, 3) := dk_180 0 16 (dk_at dksX8_tidy_1 0 rfl rfl)
theorem dX8_tidy_25 : decode cX8_tidy 25 = .ok (.putfield 10, 3) := dk_181 0 10 (dk_at dksX8_tidy_1 3 rfl rfl)
theorem dX8_tidy_28 : decode cX8_tidy 28 = .ok (.aload_n 0, 1) := dk_42 (dk_at dksX8_tidy_1 6 rfl rfl)
theorem dX8_tidy_29 : decode cX8_tidy 29 = .ok (.aload_n 3, 1) := dk_45 (dk_at dksX8_tidy_1 7 rfl rfl)
theorem dX8_tidy_30 : decode cX8_tidy 30 = .ok (.putfield 16, 3) := dk_181 0 16 (dk_at dksX8_tidy_1 8 rfl rfl)
theorem dX8_tidy_33 : decode cX8_tidy 33 = .ok (.aload_n 0, 1) := dk_42 (dk_at dksX8_tidy_1 11 rfl rfl)
theorem dX8_tidy_34 : decode cX8_tidy 34 = .ok (.bipush 16, 2) := dk_16 16 (dk_at dksX8_tidy_1 12 rfl rfl)
theorem dX8_tidy_36 : decode cX8_tidy 36 = .ok (.putfield 19, 3) := dk_181 0 19 (dk_at dksX8_tidy_1 14 rfl rfl)
theorem dX8_tidy_39 : decode cX8_tidy 39 = .ok (.aload_n 2, 1) := dk_44 (dk_at dksX8_tidy_1 17 rfl rfl)
theorem dX8_tidy_40 : decode cX8_tidy 40 = .ok (.aload_n 0, 1) := dk_42 (dk_at dksX8_tidy_1 18 rfl rfl)
theorem dX8_tidy_41 : decode cX8_tidy 41 = .ok (.invokevirtual 77, 3) := dk_182 0 77 (dk_at dksX8_tidy_1 19 rfl rfl)
theorem dX8_tidy_44 : decode cX8_tidy 44 = .ok (.bipush 16, 2) := dk_16 16 (dk_at dksX8_tidy_1 22 rfl rfl)
theorem dX8_tidy_46 : decode cX8_tidy 46 = .ok (.istore 4, 2) := dk_54 4 (dk_at dksX8_tidy_2 0 rfl rfl)
theorem dX8_tidy_48 : decode cX8_tidy 48 = .ok (.iload 4, 2) := dk_21 4 (dk_at dksX8_tidy_2 2 rfl rfl)
theorem dX8_tidy_50 : decode cX8_tidy 50 = .ok (.aload_n 0, 1) := dk_42 (dk_at dksX8_tidy_2 4 rfl rfl)
theorem dX8_tidy_51 : decode cX8_tidy 51 = .ok (.getfield 19, 3) := dk_180 0 19 (dk_at dksX8_tidy_2 5 rfl rfl)
theorem dX8_tidy_54 : decode cX8_tidy 54 = .ok (.if_icmp .ge 23, 3) := dk_162 0 23 (dk_at dksX8_tidy_2 8 rfl rfl)
theorem dX8_tidy_57 : decode cX8_tidy 57 = .ok (.aload_n 0, 1) := dk_42 (dk_at dksX8_tidy_2 11 rfl rfl)
theorem dX8_tidy_58 : decode cX8_tidy 58 = .ok (.iload 4, 2) := dk_21 4 (dk_at dksX8_tidy_2 12 rfl rfl)
theorem dX8_tidy_60 : decode cX8_tidy 60 = .ok (.invokevirtual 82, 3) := dk_182 0 82 (dk_at dksX8_tidy_2 14 rfl rfl)
theorem dX8_tidy_63 : decode cX8_tidy 63 = .ok (.iload 4, 2) := dk_21 4 (dk_at dksX8_tidy_2 17 rfl rfl)
theorem dX8_tidy_65 : decode cX8_tidy 65 = .ok (.aload_n 0, 1) := dk_42 (dk_at dksX8_tidy_2 19 rfl rfl)
theorem dX8_tidy_66 : decode cX8_tidy 66 = .ok (.iload 4, 2) := dk_21 4 (dk_at dksX8_tidy_2 20 rfl rfl)
theorem dX8_tidy_68 : decode cX8_tidy 68 = .ok (.invokevirtual 85, 3) := dk_182 0 85 (dk_at dksX8_tidy_3 0 rfl rfl)
theorem dX8_tidy_71 : decode cX8_tidy 71 = .ok (.iadd, 1) := dk_96 (dk_at dksX8_tidy_3 3 rfl rfl)
theorem dX8_tidy_72 : decode cX8_tidy 72 = .ok (.istore 4, 2) := dk_54 4 (dk_at dksX8_tidy_3 4 rfl rfl)
theorem dX8_tidy_74 : decode cX8_tidy 74 = .ok (.goto (-26), 3) := dk_167 255 230 (dk_at dksX8_tidy_3 6 rfl rfl)
theorem dX8_tidy_77 : decode cX8_tidy 77 = .ok (.return_, 1) := dk_177 (dk_at dksX8_tidy_3 9 rfl rfl)
abbrev cX8_keep : ByteArray := prog_10_method_11_code
def yX8_keep : MethodName := ⟨RX8, "keep", "(I)I"⟩
def dkwX8_keep_4 : List UInt8 := [172]
abbrev dktX8_keep_4 : List UInt8 := dkwX8_keep_4 ++ []
def dkwX8_keep_3 : List UInt8 := [29, 96, 181, 0, 19, 42, 180, 0, 16, 28, 2, 79, 42, 180, 0, 16, 28, 4, 96, 21, 4, 79, 21, 4]
abbrev dktX8_keep_3 : List UInt8 := dkwX8_keep_3 ++ dktX8_keep_4
def dkwX8_keep_2 : List UInt8 := [180, 0, 10, 42, 180, 0, 19, 29, 184, 0, 68, 5, 42, 180, 0, 19, 104, 54, 4, 42, 89, 180, 0, 19]
abbrev dktX8_keep_2 : List UInt8 := dkwX8_keep_2 ++ dktX8_keep_3
def dkwX8_keep_1 : List UInt8 := [160, 0, 12, 42, 180, 0, 16, 28, 4, 96, 46, 172, 42, 28, 182, 0, 64, 62, 42, 180, 0, 16, 28, 42]
abbrev dktX8_keep_1 : List UInt8 := dkwX8_keep_1 ++ dktX8_keep_2
def dkwX8_keep_0 : List UInt8 := [27, 184, 0, 43, 153, 0, 7, 27, 156, 0, 5, 27, 172, 27, 4, 122, 61, 42, 180, 0, 16, 28, 46, 2]
abbrev dktX8_keep_0 : List UInt8 := dkwX8_keep_0 ++ dktX8_keep_1
theorem dksX8_keep_0 : cX8_keep.data.toList.drop 0 = dktX8_keep_0 := by decide +kernel
theorem dksX8_keep_1 : cX8_keep.data.toList.drop 24 = dktX8_keep_1 := dk_seg dksX8_keep_0 24 rfl rfl
theorem dksX8_keep_2 : cX8_keep.data.toList.drop 48 = dktX8_keep_2 := dk_seg dksX8_keep_1 24 rfl rfl
theorem dksX8_keep_3 : cX8_keep.data.toList.drop 72 = dktX8_keep_3 := dk_seg dksX8_keep_2 24 rfl rfl
theorem dksX8_keep_4 : cX8_keep.data.toList.drop 96 = dktX8_keep_4 := dk_seg dksX8_keep_3 24 rfl rfl
theorem dX8_keep_0 : decode cX8_keep 0 = .ok (.iload_n 1, 1) := dk_27 (dk_at dksX8_keep_0 0 rfl rfl)
theorem dX8_keep_1 : decode cX8_keep 1 = .ok (.invokestatic 43, 3) := dk_184 0 43 (dk_at dksX8_keep_0 1 rfl rfl)
theorem dX8_keep_4 : decode cX8_keep 4 = .ok (.ifCond .eq 7, 3) := dk_153 0 7 (dk_at dksX8_keep_0 4 rfl rfl)
theorem dX8_keep_7 : decode cX8_keep 7 = .ok (.iload_n 1, 1) := dk_27 (dk_at dksX8_keep_0 7 rfl rfl)
theorem dX8_keep_8 : decode cX8_keep 8 = .ok (.ifCond .ge 5, 3) := dk_156 0 5 (dk_at dksX8_keep_0 8 rfl rfl)
theorem dX8_keep_11 : decode cX8_keep 11 = .ok (.iload_n 1, 1) := dk_27 (dk_at dksX8_keep_0 11 rfl rfl)
theorem dX8_keep_12 : decode cX8_keep 12 = .ok (.ireturn, 1) := dk_172 (dk_at dksX8_keep_0 12 rfl rfl)
theorem dX8_keep_13 : decode cX8_keep 13 = .ok (.iload_n 1, 1) := dk_27 (dk_at dksX8_keep_0 13 rfl rfl)
theorem dX8_keep_14 : decode cX8_keep 14 = .ok (.iconst 1, 1) := dk_4 (dk_at dksX8_keep_0 14 rfl rfl)
theorem dX8_keep_15 : decode cX8_keep 15 = .ok (.ishr, 1) := dk_122 (dk_at dksX8_keep_0 15 rfl rfl)
theorem dX8_keep_16 : decode cX8_keep 16 = .ok (.istore_n 2, 1) := dk_61 (dk_at dksX8_keep_0 16 rfl rfl)
theorem dX8_keep_17 : decode cX8_keep 17 = .ok (.aload_n 0, 1) := dk_42 (dk_at dksX8_keep_0 17 rfl rfl)
theorem dX8_keep_18 : decode cX8_keep 18 = .ok (.getfield 16, 3) := dk_180 0 16 (dk_at dksX8_keep_0 18 rfl rfl)
theorem dX8_keep_21 : decode cX8_keep 21 = .ok (.iload_n 2, 1) := dk_28 (dk_at dksX8_keep_0 21 rfl rfl)
theorem dX8_keep_22 : decode cX8_keep 22 = .ok (.iaload, 1) := dk_46 (dk_at dksX8_keep_0 22 rfl rfl)
theorem dX8_keep_23 : decode cX8_keep 23 = .ok (.iconst (-1), 1) := dk_2 (dk_at dksX8_keep_0 23 rfl rfl)
theorem dX8_keep_24 : decode cX8_keep 24 = .ok (.if_icmp .ne 12, 3) := dk_160 0 12 (dk_at dksX8_keep_1 0 rfl rfl)
theorem dX8_keep_27 : decode cX8_keep 27 = .ok (.aload_n 0, 1) := dk_42 (dk_at dksX8_keep_1 3 rfl rfl)
theorem dX8_keep_28 : decode cX8_keep 28 = .ok (.getfield 16, 3) := dk_180 0 16 (dk_at dksX8_keep_1 4 rfl rfl)
theorem dX8_keep_31 : decode cX8_keep 31 = .ok (.iload_n 2, 1) := dk_28 (dk_at dksX8_keep_1 7 rfl rfl)
theorem dX8_keep_32 : decode cX8_keep 32 = .ok (.iconst 1, 1) := dk_4 (dk_at dksX8_keep_1 8 rfl rfl)
theorem dX8_keep_33 : decode cX8_keep 33 = .ok (.iadd, 1) := dk_96 (dk_at dksX8_keep_1 9 rfl rfl)
theorem dX8_keep_34 : decode cX8_keep 34 = .ok (.iaload, 1) := dk_46 (dk_at dksX8_keep_1 10 rfl rfl)
theorem dX8_keep_35 : decode cX8_keep 35 = .ok (.ireturn, 1) := dk_172 (dk_at dksX8_keep_1 11 rfl rfl)
theorem dX8_keep_36 : decode cX8_keep 36 = .ok (.aload_n 0, 1) := dk_42 (dk_at dksX8_keep_1 12 rfl rfl)
theorem dX8_keep_37 : decode cX8_keep 37 = .ok (.iload_n 2, 1) := dk_28 (dk_at dksX8_keep_1 13 rfl rfl)
theorem dX8_keep_38 : decode cX8_keep 38 = .ok (.invokevirtual 64, 3) := dk_182 0 64 (dk_at dksX8_keep_1 14 rfl rfl)
theorem dX8_keep_41 : decode cX8_keep 41 = .ok (.istore_n 3, 1) := dk_62 (dk_at dksX8_keep_1 17 rfl rfl)
theorem dX8_keep_42 : decode cX8_keep 42 = .ok (.aload_n 0, 1) := dk_42 (dk_at dksX8_keep_1 18 rfl rfl)
theorem dX8_keep_43 : decode cX8_keep 43 = .ok (.getfield 16, 3) := dk_180 0 16 (dk_at dksX8_keep_1 19 rfl rfl)
theorem dX8_keep_46 : decode cX8_keep 46 = .ok (.iload_n 2, 1) := dk_28 (dk_at dksX8_keep_1 22 rfl rfl)
theorem dX8_keep_47 : decode cX8_keep 47 = .ok (.aload_n 0, 1) := dk_42 (dk_at dksX8_keep_1 23 rfl rfl)
theorem dX8_keep_48 : decode cX8_keep 48 = .ok (.getfield 10, 3) := dk_180 0 10 (dk_at dksX8_keep_2 0 rfl rfl)
theorem dX8_keep_51 : decode cX8_keep 51 = .ok (.aload_n 0, 1) := dk_42 (dk_at dksX8_keep_2 3 rfl rfl)
theorem dX8_keep_52 : decode cX8_keep 52 = .ok (.getfield 19, 3) := dk_180 0 19 (dk_at dksX8_keep_2 4 rfl rfl)
theorem dX8_keep_55 : decode cX8_keep 55 = .ok (.iload_n 3, 1) := dk_29 (dk_at dksX8_keep_2 7 rfl rfl)
theorem dX8_keep_56 : decode cX8_keep 56 = .ok (.invokestatic 68, 3) := dk_184 0 68 (dk_at dksX8_keep_2 8 rfl rfl)
theorem dX8_keep_59 : decode cX8_keep 59 = .ok (.iconst 2, 1) := dk_5 (dk_at dksX8_keep_2 11 rfl rfl)
theorem dX8_keep_60 : decode cX8_keep 60 = .ok (.aload_n 0, 1) := dk_42 (dk_at dksX8_keep_2 12 rfl rfl)
theorem dX8_keep_61 : decode cX8_keep 61 = .ok (.getfield 19, 3) := dk_180 0 19 (dk_at dksX8_keep_2 13 rfl rfl)
theorem dX8_keep_64 : decode cX8_keep 64 = .ok (.imul, 1) := dk_104 (dk_at dksX8_keep_2 16 rfl rfl)
theorem dX8_keep_65 : decode cX8_keep 65 = .ok (.istore 4, 2) := dk_54 4 (dk_at dksX8_keep_2 17 rfl rfl)
theorem dX8_keep_67 : decode cX8_keep 67 = .ok (.aload_n 0, 1) := dk_42 (dk_at dksX8_keep_2 19 rfl rfl)
theorem dX8_keep_68 : decode cX8_keep 68 = .ok (.dup, 1) := dk_89 (dk_at dksX8_keep_2 20 rfl rfl)
theorem dX8_keep_69 : decode cX8_keep 69 = .ok (.getfield 19, 3) := dk_180 0 19 (dk_at dksX8_keep_2 21 rfl rfl)
theorem dX8_keep_72 : decode cX8_keep 72 = .ok (.iload_n 3, 1) := dk_29 (dk_at dksX8_keep_3 0 rfl rfl)
theorem dX8_keep_73 : decode cX8_keep 73 = .ok (.iadd, 1) := dk_96 (dk_at dksX8_keep_3 1 rfl rfl)
theorem dX8_keep_74 : decode cX8_keep 74 = .ok (.putfield 19, 3) := dk_181 0 19 (dk_at dksX8_keep_3 2 rfl rfl)
theorem dX8_keep_77 : decode cX8_keep 77 = .ok (.aload_n 0, 1) := dk_42 (dk_at dksX8_keep_3 5 rfl rfl)
theorem dX8_keep_78 : decode cX8_keep 78 = .ok (.getfield 16, 3) := dk_180 0 16 (dk_at dksX8_keep_3 6 rfl rfl)
theorem dX8_keep_81 : decode cX8_keep 81 = .ok (.iload_n 2, 1) := dk_28 (dk_at dksX8_keep_3 9 rfl rfl)
theorem dX8_keep_82 : decode cX8_keep 82 = .ok (.iconst (-1), 1) := dk_2 (dk_at dksX8_keep_3 10 rfl rfl)
theorem dX8_keep_83 : decode cX8_keep 83 = .ok (.iastore, 1) := dk_79 (dk_at dksX8_keep_3 11 rfl rfl)
theorem dX8_keep_84 : decode cX8_keep 84 = .ok (.aload_n 0, 1) := dk_42 (dk_at dksX8_keep_3 12 rfl rfl)
theorem dX8_keep_85 : decode cX8_keep 85 = .ok (.getfield 16, 3) := dk_180 0 16 (dk_at dksX8_keep_3 13 rfl rfl)
theorem dX8_keep_88 : decode cX8_keep 88 = .ok (.iload_n 2, 1) := dk_28 (dk_at dksX8_keep_3 16 rfl rfl)
theorem dX8_keep_89 : decode cX8_keep 89 = .ok (.iconst 1, 1) := dk_4 (dk_at dksX8_keep_3 17 rfl rfl)
theorem dX8_keep_90 : decode cX8_keep 90 = .ok (.iadd, 1) := dk_96 (dk_at dksX8_keep_3 18 rfl rfl)
theorem dX8_keep_91 : decode cX8_keep 91 = .ok (.iload 4, 2) := dk_21 4 (dk_at dksX8_keep_3 19 rfl rfl)
theorem dX8_keep_93 : decode cX8_keep 93 = .ok (.iastore, 1) := dk_79 (dk_at dksX8_keep_3 21 rfl rfl)
theorem dX8_keep_94 : decode cX8_keep 94 = .ok (.iload 4, 2) := dk_21 4 (dk_at dksX8_keep_3 22 rfl rfl)
theorem dX8_keep_96 : decode cX8_keep 96 = .ok (.ireturn, 1) := dk_172 (dk_at dksX8_keep_4 0 rfl rfl)
abbrev cX8_sizeOf : ByteArray := prog_10_method_10_code
def yX8_sizeOf : MethodName := ⟨RX8, "sizeOf", "(I)I"⟩
def dkwX8_sizeOf_2 : List UInt8 := [5, 122, 96, 167, 0, 8, 178, 0, 60, 28, 51, 172]
abbrev dktX8_sizeOf_2 : List UInt8 := dkwX8_sizeOf_2 ++ []
def dkwX8_sizeOf_1 : List UInt8 := [4, 96, 4, 122, 96, 167, 0, 30, 28, 5, 160, 0, 20, 6, 42, 180, 0, 16, 27, 5, 96, 46, 6, 96]
abbrev dktX8_sizeOf_1 : List UInt8 := dkwX8_sizeOf_1 ++ dktX8_sizeOf_2
def dkwX8_sizeOf_0 : List UInt8 := [42, 180, 0, 16, 27, 46, 61, 28, 4, 160, 0, 23, 6, 42, 180, 0, 16, 27, 5, 96, 46, 18, 59, 126]
abbrev dktX8_sizeOf_0 : List UInt8 := dkwX8_sizeOf_0 ++ dktX8_sizeOf_1
theorem dksX8_sizeOf_0 : cX8_sizeOf.data.toList.drop 0 = dktX8_sizeOf_0 := by decide +kernel
theorem dksX8_sizeOf_1 : cX8_sizeOf.data.toList.drop 24 = dktX8_sizeOf_1 := dk_seg dksX8_sizeOf_0 24 rfl rfl
theorem dksX8_sizeOf_2 : cX8_sizeOf.data.toList.drop 48 = dktX8_sizeOf_2 := dk_seg dksX8_sizeOf_1 24 rfl rfl
theorem dX8_sizeOf_0 : decode cX8_sizeOf 0 = .ok (.aload_n 0, 1) := dk_42 (dk_at dksX8_sizeOf_0 0 rfl rfl)
theorem dX8_sizeOf_1 : decode cX8_sizeOf 1 = .ok (.getfield 16, 3) := dk_180 0 16 (dk_at dksX8_sizeOf_0 1 rfl rfl)
theorem dX8_sizeOf_4 : decode cX8_sizeOf 4 = .ok (.iload_n 1, 1) := dk_27 (dk_at dksX8_sizeOf_0 4 rfl rfl)
theorem dX8_sizeOf_5 : decode cX8_sizeOf 5 = .ok (.iaload, 1) := dk_46 (dk_at dksX8_sizeOf_0 5 rfl rfl)
theorem dX8_sizeOf_6 : decode cX8_sizeOf 6 = .ok (.istore_n 2, 1) := dk_61 (dk_at dksX8_sizeOf_0 6 rfl rfl)
theorem dX8_sizeOf_7 : decode cX8_sizeOf 7 = .ok (.iload_n 2, 1) := dk_28 (dk_at dksX8_sizeOf_0 7 rfl rfl)
theorem dX8_sizeOf_8 : decode cX8_sizeOf 8 = .ok (.iconst 1, 1) := dk_4 (dk_at dksX8_sizeOf_0 8 rfl rfl)
theorem dX8_sizeOf_9 : decode cX8_sizeOf 9 = .ok (.if_icmp .ne 23, 3) := dk_160 0 23 (dk_at dksX8_sizeOf_0 9 rfl rfl)
theorem dX8_sizeOf_12 : decode cX8_sizeOf 12 = .ok (.iconst 3, 1) := dk_6 (dk_at dksX8_sizeOf_0 12 rfl rfl)
theorem dX8_sizeOf_13 : decode cX8_sizeOf 13 = .ok (.aload_n 0, 1) := dk_42 (dk_at dksX8_sizeOf_0 13 rfl rfl)
theorem dX8_sizeOf_14 : decode cX8_sizeOf 14 = .ok (.getfield 16, 3) := dk_180 0 16 (dk_at dksX8_sizeOf_0 14 rfl rfl)
theorem dX8_sizeOf_17 : decode cX8_sizeOf 17 = .ok (.iload_n 1, 1) := dk_27 (dk_at dksX8_sizeOf_0 17 rfl rfl)
theorem dX8_sizeOf_18 : decode cX8_sizeOf 18 = .ok (.iconst 2, 1) := dk_5 (dk_at dksX8_sizeOf_0 18 rfl rfl)
theorem dX8_sizeOf_19 : decode cX8_sizeOf 19 = .ok (.iadd, 1) := dk_96 (dk_at dksX8_sizeOf_0 19 rfl rfl)
theorem dX8_sizeOf_20 : decode cX8_sizeOf 20 = .ok (.iaload, 1) := dk_46 (dk_at dksX8_sizeOf_0 20 rfl rfl)
theorem dX8_sizeOf_21 : decode cX8_sizeOf 21 = .ok (.ldc 59, 2) := dk_18 59 (dk_at dksX8_sizeOf_0 21 rfl rfl)
theorem dX8_sizeOf_23 : decode cX8_sizeOf 23 = .ok (.iand, 1) := dk_126 (dk_at dksX8_sizeOf_0 23 rfl rfl)
theorem dX8_sizeOf_24 : decode cX8_sizeOf 24 = .ok (.iconst 1, 1) := dk_4 (dk_at dksX8_sizeOf_1 0 rfl rfl)
theorem dX8_sizeOf_25 : decode cX8_sizeOf 25 = .ok (.iadd, 1) := dk_96 (dk_at dksX8_sizeOf_1 1 rfl rfl)
theorem dX8_sizeOf_26 : decode cX8_sizeOf 26 = .ok (.iconst 1, 1) := dk_4 (dk_at dksX8_sizeOf_1 2 rfl rfl)
theorem dX8_sizeOf_27 : decode cX8_sizeOf 27 = .ok (.ishr, 1) := dk_122 (dk_at dksX8_sizeOf_1 3 rfl rfl)
theorem dX8_sizeOf_28 : decode cX8_sizeOf 28 = .ok (.iadd, 1) := dk_96 (dk_at dksX8_sizeOf_1 4 rfl rfl)
theorem dX8_sizeOf_29 : decode cX8_sizeOf 29 = .ok (.goto 30, 3) := dk_167 0 30 (dk_at dksX8_sizeOf_1 5 rfl rfl)
theorem dX8_sizeOf_32 : decode cX8_sizeOf 32 = .ok (.iload_n 2, 1) := dk_28 (dk_at dksX8_sizeOf_1 8 rfl rfl)
theorem dX8_sizeOf_33 : decode cX8_sizeOf 33 = .ok (.iconst 2, 1) := dk_5 (dk_at dksX8_sizeOf_1 9 rfl rfl)
theorem dX8_sizeOf_34 : decode cX8_sizeOf 34 = .ok (.if_icmp .ne 20, 3) := dk_160 0 20 (dk_at dksX8_sizeOf_1 10 rfl rfl)
theorem dX8_sizeOf_37 : decode cX8_sizeOf 37 = .ok (.iconst 3, 1) := dk_6 (dk_at dksX8_sizeOf_1 13 rfl rfl)
theorem dX8_sizeOf_38 : decode cX8_sizeOf 38 = .ok (.aload_n 0, 1) := dk_42 (dk_at dksX8_sizeOf_1 14 rfl rfl)
theorem dX8_sizeOf_39 : decode cX8_sizeOf 39 = .ok (.getfield 16, 3) := dk_180 0 16 (dk_at dksX8_sizeOf_1 15 rfl rfl)
theorem dX8_sizeOf_42 : decode cX8_sizeOf 42 = .ok (.iload_n 1, 1) := dk_27 (dk_at dksX8_sizeOf_1 18 rfl rfl)
theorem dX8_sizeOf_43 : decode cX8_sizeOf 43 = .ok (.iconst 2, 1) := dk_5 (dk_at dksX8_sizeOf_1 19 rfl rfl)
theorem dX8_sizeOf_44 : decode cX8_sizeOf 44 = .ok (.iadd, 1) := dk_96 (dk_at dksX8_sizeOf_1 20 rfl rfl)
theorem dX8_sizeOf_45 : decode cX8_sizeOf 45 = .ok (.iaload, 1) := dk_46 (dk_at dksX8_sizeOf_1 21 rfl rfl)
theorem dX8_sizeOf_46 : decode cX8_sizeOf 46 = .ok (.iconst 3, 1) := dk_6 (dk_at dksX8_sizeOf_1 22 rfl rfl)
theorem dX8_sizeOf_47 : decode cX8_sizeOf 47 = .ok (.iadd, 1) := dk_96 (dk_at dksX8_sizeOf_1 23 rfl rfl)
theorem dX8_sizeOf_48 : decode cX8_sizeOf 48 = .ok (.iconst 2, 1) := dk_5 (dk_at dksX8_sizeOf_2 0 rfl rfl)
theorem dX8_sizeOf_49 : decode cX8_sizeOf 49 = .ok (.ishr, 1) := dk_122 (dk_at dksX8_sizeOf_2 1 rfl rfl)
theorem dX8_sizeOf_50 : decode cX8_sizeOf 50 = .ok (.iadd, 1) := dk_96 (dk_at dksX8_sizeOf_2 2 rfl rfl)
theorem dX8_sizeOf_51 : decode cX8_sizeOf 51 = .ok (.goto 8, 3) := dk_167 0 8 (dk_at dksX8_sizeOf_2 3 rfl rfl)
theorem dX8_sizeOf_54 : decode cX8_sizeOf 54 = .ok (.getstatic 60, 3) := dk_178 0 60 (dk_at dksX8_sizeOf_2 6 rfl rfl)
theorem dX8_sizeOf_57 : decode cX8_sizeOf 57 = .ok (.iload_n 2, 1) := dk_28 (dk_at dksX8_sizeOf_2 9 rfl rfl)
theorem dX8_sizeOf_58 : decode cX8_sizeOf 58 = .ok (.baload, 1) := dk_51 (dk_at dksX8_sizeOf_2 10 rfl rfl)
theorem dX8_sizeOf_59 : decode cX8_sizeOf 59 = .ok (.ireturn, 1) := dk_172 (dk_at dksX8_sizeOf_2 11 rfl rfl)
abbrev cX8_keepParts : ByteArray := prog_10_method_12_code
def yX8_keepParts : MethodName := ⟨RX8, "keepParts", "(I)V"⟩
def dkwX8_keepParts_5 : List UInt8 := [167, 255, 221, 177]
abbrev dktX8_keepParts_5 : List UInt8 := dkwX8_keepParts_5 ++ []
def dkwX8_keepParts_4 : List UInt8 := [21, 4, 96, 42, 42, 180, 0, 10, 27, 5, 96, 21, 4, 96, 46, 182, 0, 74, 79, 132, 4, 1]
abbrev dktX8_keepParts_4 : List UInt8 := dkwX8_keepParts_4 ++ dktX8_keepParts_5
def dkwX8_keepParts_3 : List UInt8 := [160, 0, 7, 4, 167, 0, 4, 3, 54, 4, 21, 4, 29, 162, 0, 35, 42, 180, 0, 10, 27, 5, 96]
abbrev dktX8_keepParts_3 : List UInt8 := dkwX8_keepParts_3 ++ dktX8_keepParts_4
def dkwX8_keepParts_2 : List UInt8 := [16, 9, 160, 0, 7, 6, 167, 0, 14, 28, 16, 11, 160, 0, 7, 5, 167, 0, 4, 3, 62, 28, 16, 9]
abbrev dktX8_keepParts_2 : List UInt8 := dkwX8_keepParts_2 ++ dktX8_keepParts_3
def dkwX8_keepParts_1 : List UInt8 := [161, 0, 13, 28, 16, 6, 163, 0, 7, 4, 167, 0, 34, 28, 16, 8, 160, 0, 7, 7, 167, 0, 24, 28]
abbrev dktX8_keepParts_1 : List UInt8 := dkwX8_keepParts_1 ++ dktX8_keepParts_2
def dkwX8_keepParts_0 : List UInt8 := [42, 180, 0, 10, 27, 46, 61, 28, 6, 159, 0, 9, 28, 16, 7, 160, 0, 7, 5, 167, 0, 49, 28, 7]
abbrev dktX8_keepParts_0 : List UInt8 := dkwX8_keepParts_0 ++ dktX8_keepParts_1
theorem dksX8_keepParts_0 : cX8_keepParts.data.toList.drop 0 = dktX8_keepParts_0 := by decide +kernel
theorem dksX8_keepParts_1 : cX8_keepParts.data.toList.drop 24 = dktX8_keepParts_1 := dk_seg dksX8_keepParts_0 24 rfl rfl
theorem dksX8_keepParts_2 : cX8_keepParts.data.toList.drop 48 = dktX8_keepParts_2 := dk_seg dksX8_keepParts_1 24 rfl rfl
theorem dksX8_keepParts_3 : cX8_keepParts.data.toList.drop 72 = dktX8_keepParts_3 := dk_seg dksX8_keepParts_2 24 rfl rfl
theorem dksX8_keepParts_4 : cX8_keepParts.data.toList.drop 95 = dktX8_keepParts_4 := dk_seg dksX8_keepParts_3 23 rfl rfl
theorem dksX8_keepParts_5 : cX8_keepParts.data.toList.drop 117 = dktX8_keepParts_5 := dk_seg dksX8_keepParts_4 22 rfl rfl
theorem dX8_keepParts_0 : decode cX8_keepParts 0 = .ok (.aload_n 0, 1) := dk_42 (dk_at dksX8_keepParts_0 0 rfl rfl)
theorem dX8_keepParts_1 : decode cX8_keepParts 1 = .ok (.getfield 10, 3) := dk_180 0 10 (dk_at dksX8_keepParts_0 1 rfl rfl)
theorem dX8_keepParts_4 : decode cX8_keepParts 4 = .ok (.iload_n 1, 1) := dk_27 (dk_at dksX8_keepParts_0 4 rfl rfl)
theorem dX8_keepParts_5 : decode cX8_keepParts 5 = .ok (.iaload, 1) := dk_46 (dk_at dksX8_keepParts_0 5 rfl rfl)
theorem dX8_keepParts_6 : decode cX8_keepParts 6 = .ok (.istore_n 2, 1) := dk_61 (dk_at dksX8_keepParts_0 6 rfl rfl)
theorem dX8_keepParts_7 : decode cX8_keepParts 7 = .ok (.iload_n 2, 1) := dk_28 (dk_at dksX8_keepParts_0 7 rfl rfl)
theorem dX8_keepParts_8 : decode cX8_keepParts 8 = .ok (.iconst 3, 1) := dk_6 (dk_at dksX8_keepParts_0 8 rfl rfl)
theorem dX8_keepParts_9 : decode cX8_keepParts 9 = .ok (.if_icmp .eq 9, 3) := dk_159 0 9 (dk_at dksX8_keepParts_0 9 rfl rfl)
theorem dX8_keepParts_12 : decode cX8_keepParts 12 = .ok (.iload_n 2, 1) := dk_28 (dk_at dksX8_keepParts_0 12 rfl rfl)
theorem dX8_keepParts_13 : decode cX8_keepParts 13 = .ok (.bipush 7, 2) := dk_16 7 (dk_at dksX8_keepParts_0 13 rfl rfl)
theorem dX8_keepParts_15 : decode cX8_keepParts 15 = .ok (.if_icmp .ne 7, 3) := dk_160 0 7 (dk_at dksX8_keepParts_0 15 rfl rfl)
theorem dX8_keepParts_18 : decode cX8_keepParts 18 = .ok (.iconst 2, 1) := dk_5 (dk_at dksX8_keepParts_0 18 rfl rfl)
theorem dX8_keepParts_19 : decode cX8_keepParts 19 = .ok (.goto 49, 3) := dk_167 0 49 (dk_at dksX8_keepParts_0 19 rfl rfl)
theorem dX8_keepParts_22 : decode cX8_keepParts 22 = .ok (.iload_n 2, 1) := dk_28 (dk_at dksX8_keepParts_0 22 rfl rfl)
theorem dX8_keepParts_23 : decode cX8_keepParts 23 = .ok (.iconst 4, 1) := dk_7 (dk_at dksX8_keepParts_0 23 rfl rfl)
theorem dX8_keepParts_24 : decode cX8_keepParts 24 = .ok (.if_icmp .lt 13, 3) := dk_161 0 13 (dk_at dksX8_keepParts_1 0 rfl rfl)
theorem dX8_keepParts_27 : decode cX8_keepParts 27 = .ok (.iload_n 2, 1) := dk_28 (dk_at dksX8_keepParts_1 3 rfl rfl)
theorem dX8_keepParts_28 : decode cX8_keepParts 28 = .ok (.bipush 6, 2) := dk_16 6 (dk_at dksX8_keepParts_1 4 rfl rfl)
theorem dX8_keepParts_30 : decode cX8_keepParts 30 = .ok (.if_icmp .gt 7, 3) := dk_163 0 7 (dk_at dksX8_keepParts_1 6 rfl rfl)
theorem dX8_keepParts_33 : decode cX8_keepParts 33 = .ok (.iconst 1, 1) := dk_4 (dk_at dksX8_keepParts_1 9 rfl rfl)
theorem dX8_keepParts_34 : decode cX8_keepParts 34 = .ok (.goto 34, 3) := dk_167 0 34 (dk_at dksX8_keepParts_1 10 rfl rfl)
theorem dX8_keepParts_37 : decode cX8_keepParts 37 = .ok (.iload_n 2, 1) := dk_28 (dk_at dksX8_keepParts_1 13 rfl rfl)
theorem dX8_keepParts_38 : decode cX8_keepParts 38 = .ok (.bipush 8, 2) := dk_16 8 (dk_at dksX8_keepParts_1 14 rfl rfl)
theorem dX8_keepParts_40 : decode cX8_keepParts 40 = .ok (.if_icmp .ne 7, 3) := dk_160 0 7 (dk_at dksX8_keepParts_1 16 rfl rfl)
theorem dX8_keepParts_43 : decode cX8_keepParts 43 = .ok (.iconst 4, 1) := dk_7 (dk_at dksX8_keepParts_1 19 rfl rfl)
theorem dX8_keepParts_44 : decode cX8_keepParts 44 = .ok (.goto 24, 3) := dk_167 0 24 (dk_at dksX8_keepParts_1 20 rfl rfl)
theorem dX8_keepParts_47 : decode cX8_keepParts 47 = .ok (.iload_n 2, 1) := dk_28 (dk_at dksX8_keepParts_1 23 rfl rfl)
theorem dX8_keepParts_48 : decode cX8_keepParts 48 = .ok (.bipush 9, 2) := dk_16 9 (dk_at dksX8_keepParts_2 0 rfl rfl)
theorem dX8_keepParts_50 : decode cX8_keepParts 50 = .ok (.if_icmp .ne 7, 3) := dk_160 0 7 (dk_at dksX8_keepParts_2 2 rfl rfl)
theorem dX8_keepParts_53 : decode cX8_keepParts 53 = .ok (.iconst 3, 1) := dk_6 (dk_at dksX8_keepParts_2 5 rfl rfl)
theorem dX8_keepParts_54 : decode cX8_keepParts 54 = .ok (.goto 14, 3) := dk_167 0 14 (dk_at dksX8_keepParts_2 6 rfl rfl)
theorem dX8_keepParts_57 : decode cX8_keepParts 57 = .ok (.iload_n 2, 1) := dk_28 (dk_at dksX8_keepParts_2 9 rfl rfl)
theorem dX8_keepParts_58 : decode cX8_keepParts 58 = .ok (.bipush 11, 2) := dk_16 11 (dk_at dksX8_keepParts_2 10 rfl rfl)
theorem dX8_keepParts_60 : decode cX8_keepParts 60 = .ok (.if_icmp .ne 7, 3) := dk_160 0 7 (dk_at dksX8_keepParts_2 12 rfl rfl)
theorem dX8_keepParts_63 : decode cX8_keepParts 63 = .ok (.iconst 2, 1) := dk_5 (dk_at dksX8_keepParts_2 15 rfl rfl)
theorem dX8_keepParts_64 : decode cX8_keepParts 64 = .ok (.goto 4, 3) := dk_167 0 4 (dk_at dksX8_keepParts_2 16 rfl rfl)
theorem dX8_keepParts_67 : decode cX8_keepParts 67 = .ok (.iconst 0, 1) := dk_3 (dk_at dksX8_keepParts_2 19 rfl rfl)
theorem dX8_keepParts_68 : decode cX8_keepParts 68 = .ok (.istore_n 3, 1) := dk_62 (dk_at dksX8_keepParts_2 20 rfl rfl)
theorem dX8_keepParts_69 : decode cX8_keepParts 69 = .ok (.iload_n 2, 1) := dk_28 (dk_at dksX8_keepParts_2 21 rfl rfl)
theorem dX8_keepParts_70 : decode cX8_keepParts 70 = .ok (.bipush 9, 2) := dk_16 9 (dk_at dksX8_keepParts_2 22 rfl rfl)
theorem dX8_keepParts_72 : decode cX8_keepParts 72 = .ok (.if_icmp .ne 7, 3) := dk_160 0 7 (dk_at dksX8_keepParts_3 0 rfl rfl)
theorem dX8_keepParts_75 : decode cX8_keepParts 75 = .ok (.iconst 1, 1) := dk_4 (dk_at dksX8_keepParts_3 3 rfl rfl)
theorem dX8_keepParts_76 : decode cX8_keepParts 76 = .ok (.goto 4, 3) := dk_167 0 4 (dk_at dksX8_keepParts_3 4 rfl rfl)
theorem dX8_keepParts_79 : decode cX8_keepParts 79 = .ok (.iconst 0, 1) := dk_3 (dk_at dksX8_keepParts_3 7 rfl rfl)
theorem dX8_keepParts_80 : decode cX8_keepParts 80 = .ok (.istore 4, 2) := dk_54 4 (dk_at dksX8_keepParts_3 8 rfl rfl)
theorem dX8_keepParts_82 : decode cX8_keepParts 82 = .ok (.iload 4, 2) := dk_21 4 (dk_at dksX8_keepParts_3 10 rfl rfl)
theorem dX8_keepParts_84 : decode cX8_keepParts 84 = .ok (.iload_n 3, 1) := dk_29 (dk_at dksX8_keepParts_3 12 rfl rfl)
theorem dX8_keepParts_85 : decode cX8_keepParts 85 = .ok (.if_icmp .ge 35, 3) := dk_162 0 35 (dk_at dksX8_keepParts_3 13 rfl rfl)
theorem dX8_keepParts_88 : decode cX8_keepParts 88 = .ok (.aload_n 0, 1) := dk_42 (dk_at dksX8_keepParts_3 16 rfl rfl)
theorem dX8_keepParts_89 : decode cX8_keepParts 89 = .ok (.getfield 10, 3) := dk_180 0 10 (dk_at dksX8_keepParts_3 17 rfl rfl)
theorem dX8_keepParts_92 : decode cX8_keepParts 92 = .ok (.iload_n 1, 1) := dk_27 (dk_at dksX8_keepParts_3 20 rfl rfl)
theorem dX8_keepParts_93 : decode cX8_keepParts 93 = .ok (.iconst 2, 1) := dk_5 (dk_at dksX8_keepParts_3 21 rfl rfl)
theorem dX8_keepParts_94 : decode cX8_keepParts 94 = .ok (.iadd, 1) := dk_96 (dk_at dksX8_keepParts_3 22 rfl rfl)
theorem dX8_keepParts_95 : decode cX8_keepParts 95 = .ok (.iload 4, 2) := dk_21 4 (dk_at dksX8_keepParts_4 0 rfl rfl)
theorem dX8_keepParts_97 : decode cX8_keepParts 97 = .ok (.iadd, 1) := dk_96 (dk_at dksX8_keepParts_4 2 rfl rfl)
theorem dX8_keepParts_98 : decode cX8_keepParts 98 = .ok (.aload_n 0, 1) := dk_42 (dk_at dksX8_keepParts_4 3 rfl rfl)
theorem dX8_keepParts_99 : decode cX8_keepParts 99 = .ok (.aload_n 0, 1) := dk_42 (dk_at dksX8_keepParts_4 4 rfl rfl)
theorem dX8_keepParts_100 : decode cX8_keepParts 100 = .ok (.getfield 10, 3) := dk_180 0 10 (dk_at dksX8_keepParts_4 5 rfl rfl)
theorem dX8_keepParts_103 : decode cX8_keepParts 103 = .ok (.iload_n 1, 1) := dk_27 (dk_at dksX8_keepParts_4 8 rfl rfl)
theorem dX8_keepParts_104 : decode cX8_keepParts 104 = .ok (.iconst 2, 1) := dk_5 (dk_at dksX8_keepParts_4 9 rfl rfl)
theorem dX8_keepParts_105 : decode cX8_keepParts 105 = .ok (.iadd, 1) := dk_96 (dk_at dksX8_keepParts_4 10 rfl rfl)
theorem dX8_keepParts_106 : decode cX8_keepParts 106 = .ok (.iload 4, 2) := dk_21 4 (dk_at dksX8_keepParts_4 11 rfl rfl)
theorem dX8_keepParts_108 : decode cX8_keepParts 108 = .ok (.iadd, 1) := dk_96 (dk_at dksX8_keepParts_4 13 rfl rfl)
theorem dX8_keepParts_109 : decode cX8_keepParts 109 = .ok (.iaload, 1) := dk_46 (dk_at dksX8_keepParts_4 14 rfl rfl)
theorem dX8_keepParts_110 : decode cX8_keepParts 110 = .ok (.invokevirtual 74, 3) := dk_182 0 74 (dk_at dksX8_keepParts_4 15 rfl rfl)
theorem dX8_keepParts_113 : decode cX8_keepParts 113 = .ok (.iastore, 1) := dk_79 (dk_at dksX8_keepParts_4 18 rfl rfl)
theorem dX8_keepParts_114 : decode cX8_keepParts 114 = .ok (.iinc 4 1, 3) := dk_132 4 1 (dk_at dksX8_keepParts_4 19 rfl rfl)
theorem dX8_keepParts_117 : decode cX8_keepParts 117 = .ok (.goto (-35), 3) := dk_167 255 221 (dk_at dksX8_keepParts_5 0 rfl rfl)
theorem dX8_keepParts_120 : decode cX8_keepParts 120 = .ok (.return_, 1) := dk_177 (dk_at dksX8_keepParts_5 3 rfl rfl)
abbrev cX8_sizeHere : ByteArray := prog_10_method_14_code
def yX8_sizeHere : MethodName := ⟨RX8, "sizeHere", "(I)I"⟩
def dkwX8_sizeHere_2 : List UInt8 := [5, 122, 96, 167, 0, 8, 178, 0, 60, 28, 51, 172]
abbrev dktX8_sizeHere_2 : List UInt8 := dkwX8_sizeHere_2 ++ []
def dkwX8_sizeHere_1 : List UInt8 := [4, 96, 4, 122, 96, 167, 0, 30, 28, 5, 160, 0, 20, 6, 42, 180, 0, 10, 27, 5, 96, 46, 6, 96]
abbrev dktX8_sizeHere_1 : List UInt8 := dkwX8_sizeHere_1 ++ dktX8_sizeHere_2
def dkwX8_sizeHere_0 : List UInt8 := [42, 180, 0, 10, 27, 46, 61, 28, 4, 160, 0, 23, 6, 42, 180, 0, 10, 27, 5, 96, 46, 18, 59, 126]
abbrev dktX8_sizeHere_0 : List UInt8 := dkwX8_sizeHere_0 ++ dktX8_sizeHere_1
theorem dksX8_sizeHere_0 : cX8_sizeHere.data.toList.drop 0 = dktX8_sizeHere_0 := by decide +kernel
theorem dksX8_sizeHere_1 : cX8_sizeHere.data.toList.drop 24 = dktX8_sizeHere_1 := dk_seg dksX8_sizeHere_0 24 rfl rfl
theorem dksX8_sizeHere_2 : cX8_sizeHere.data.toList.drop 48 = dktX8_sizeHere_2 := dk_seg dksX8_sizeHere_1 24 rfl rfl
theorem dX8_sizeHere_0 : decode cX8_sizeHere 0 = .ok (.aload_n 0, 1) := dk_42 (dk_at dksX8_sizeHere_0 0 rfl rfl)
theorem dX8_sizeHere_1 : decode cX8_sizeHere 1 = .ok (.getfield 10, 3) := dk_180 0 10 (dk_at dksX8_sizeHere_0 1 rfl rfl)
theorem dX8_sizeHere_4 : decode cX8_sizeHere 4 = .ok (.iload_n 1, 1) := dk_27 (dk_at dksX8_sizeHere_0 4 rfl rfl)
theorem dX8_sizeHere_5 : decode cX8_sizeHere 5 = .ok (.iaload, 1) := dk_46 (dk_at dksX8_sizeHere_0 5 rfl rfl)
theorem dX8_sizeHere_6 : decode cX8_sizeHere 6 = .ok (.istore_n 2, 1) := dk_61 (dk_at dksX8_sizeHere_0 6 rfl rfl)
theorem dX8_sizeHere_7 : decode cX8_sizeHere 7 = .ok (.iload_n 2, 1) := dk_28 (dk_at dksX8_sizeHere_0 7 rfl rfl)
theorem dX8_sizeHere_8 : decode cX8_sizeHere 8 = .ok (.iconst 1, 1) := dk_4 (dk_at dksX8_sizeHere_0 8 rfl rfl)
theorem dX8_sizeHere_9 : decode cX8_sizeHere 9 = .ok (.if_icmp .ne 23, 3) := dk_160 0 23 (dk_at dksX8_sizeHere_0 9 rfl rfl)
theorem dX8_sizeHere_12 : decode cX8_sizeHere 12 = .ok (.iconst 3, 1) := dk_6 (dk_at dksX8_sizeHere_0 12 rfl rfl)
theorem dX8_sizeHere_13 : decode cX8_sizeHere 13 = .ok (.aload_n 0, 1) := dk_42 (dk_at dksX8_sizeHere_0 13 rfl rfl)
theorem dX8_sizeHere_14 : decode cX8_sizeHere 14 = .ok (.getfield 10, 3) := dk_180 0 10 (dk_at dksX8_sizeHere_0 14 rfl rfl)
theorem dX8_sizeHere_17 : decode cX8_sizeHere 17 = .ok (.iload_n 1, 1) := dk_27 (dk_at dksX8_sizeHere_0 17 rfl rfl)
theorem dX8_sizeHere_18 : decode cX8_sizeHere 18 = .ok (.iconst 2, 1) := dk_5 (dk_at dksX8_sizeHere_0 18 rfl rfl)
theorem dX8_sizeHere_19 : decode cX8_sizeHere 19 = .ok (.iadd, 1) := dk_96 (dk_at dksX8_sizeHere_0 19 rfl rfl)
theorem dX8_sizeHere_20 : decode cX8_sizeHere 20 = .ok (.iaload, 1) := dk_46 (dk_at dksX8_sizeHere_0 20 rfl rfl)
theorem dX8_sizeHere_21 : decode cX8_sizeHere 21 = .ok (.ldc 59, 2) := dk_18 59 (dk_at dksX8_sizeHere_0 21 rfl rfl)
theorem dX8_sizeHere_23 : decode cX8_sizeHere 23 = .ok (.iand, 1) := dk_126 (dk_at dksX8_sizeHere_0 23 rfl rfl)
theorem dX8_sizeHere_24 : decode cX8_sizeHere 24 = .ok (.iconst 1, 1) := dk_4 (dk_at dksX8_sizeHere_1 0 rfl rfl)
theorem dX8_sizeHere_25 : decode cX8_sizeHere 25 = .ok (.iadd, 1) := dk_96 (dk_at dksX8_sizeHere_1 1 rfl rfl)
theorem dX8_sizeHere_26 : decode cX8_sizeHere 26 = .ok (.iconst 1, 1) := dk_4 (dk_at dksX8_sizeHere_1 2 rfl rfl)
theorem dX8_sizeHere_27 : decode cX8_sizeHere 27 = .ok (.ishr, 1) := dk_122 (dk_at dksX8_sizeHere_1 3 rfl rfl)
theorem dX8_sizeHere_28 : decode cX8_sizeHere 28 = .ok (.iadd, 1) := dk_96 (dk_at dksX8_sizeHere_1 4 rfl rfl)
theorem dX8_sizeHere_29 : decode cX8_sizeHere 29 = .ok (.goto 30, 3) := dk_167 0 30 (dk_at dksX8_sizeHere_1 5 rfl rfl)
theorem dX8_sizeHere_32 : decode cX8_sizeHere 32 = .ok (.iload_n 2, 1) := dk_28 (dk_at dksX8_sizeHere_1 8 rfl rfl)
theorem dX8_sizeHere_33 : decode cX8_sizeHere 33 = .ok (.iconst 2, 1) := dk_5 (dk_at dksX8_sizeHere_1 9 rfl rfl)
theorem dX8_sizeHere_34 : decode cX8_sizeHere 34 = .ok (.if_icmp .ne 20, 3) := dk_160 0 20 (dk_at dksX8_sizeHere_1 10 rfl rfl)
theorem dX8_sizeHere_37 : decode cX8_sizeHere 37 = .ok (.iconst 3, 1) := dk_6 (dk_at dksX8_sizeHere_1 13 rfl rfl)
theorem dX8_sizeHere_38 : decode cX8_sizeHere 38 = .ok (.aload_n 0, 1) := dk_42 (dk_at dksX8_sizeHere_1 14 rfl rfl)
theorem dX8_sizeHere_39 : decode cX8_sizeHere 39 = .ok (.getfield 10, 3) := dk_180 0 10 (dk_at dksX8_sizeHere_1 15 rfl rfl)
theorem dX8_sizeHere_42 : decode cX8_sizeHere 42 = .ok (.iload_n 1, 1) := dk_27 (dk_at dksX8_sizeHere_1 18 rfl rfl)
theorem dX8_sizeHere_43 : decode cX8_sizeHere 43 = .ok (.iconst 2, 1) := dk_5 (dk_at dksX8_sizeHere_1 19 rfl rfl)
theorem dX8_sizeHere_44 : decode cX8_sizeHere 44 = .ok (.iadd, 1) := dk_96 (dk_at dksX8_sizeHere_1 20 rfl rfl)
theorem dX8_sizeHere_45 : decode cX8_sizeHere 45 = .ok (.iaload, 1) := dk_46 (dk_at dksX8_sizeHere_1 21 rfl rfl)
theorem dX8_sizeHere_46 : decode cX8_sizeHere 46 = .ok (.iconst 3, 1) := dk_6 (dk_at dksX8_sizeHere_1 22 rfl rfl)
theorem dX8_sizeHere_47 : decode cX8_sizeHere 47 = .ok (.iadd, 1) := dk_96 (dk_at dksX8_sizeHere_1 23 rfl rfl)
theorem dX8_sizeHere_48 : decode cX8_sizeHere 48 = .ok (.iconst 2, 1) := dk_5 (dk_at dksX8_sizeHere_2 0 rfl rfl)
theorem dX8_sizeHere_49 : decode cX8_sizeHere 49 = .ok (.ishr, 1) := dk_122 (dk_at dksX8_sizeHere_2 1 rfl rfl)
theorem dX8_sizeHere_50 : decode cX8_sizeHere 50 = .ok (.iadd, 1) := dk_96 (dk_at dksX8_sizeHere_2 2 rfl rfl)
theorem dX8_sizeHere_51 : decode cX8_sizeHere 51 = .ok (.goto 8, 3) := dk_167 0 8 (dk_at dksX8_sizeHere_2 3 rfl rfl)
theorem dX8_sizeHere_54 : decode cX8_sizeHere 54 = .ok (.getstatic 60, 3) := dk_178 0 60 (dk_at dksX8_sizeHere_2 6 rfl rfl)
theorem dX8_sizeHere_57 : decode cX8_sizeHere 57 = .ok (.iload_n 2, 1) := dk_28 (dk_at dksX8_sizeHere_2 9 rfl rfl)
theorem dX8_sizeHere_58 : decode cX8_sizeHere 58 = .ok (.baload, 1) := dk_51 (dk_at dksX8_sizeHere_2 10 rfl rfl)
theorem dX8_sizeHere_59 : decode cX8_sizeHere 59 = .ok (.ireturn, 1) := dk_172 (dk_at dksX8_sizeHere_2 11 rfl rfl)
abbrev cX8_lambda : ByteArray := prog_10_method_33_code
def yX8_lambda : MethodName := ⟨RX8, "lambda", "(III)I"⟩
def dkwX8_lambda_1 : List UInt8 := [182, 0, 55, 42, 21, 4, 7, 29, 182, 0, 55, 21, 4, 172]
abbrev dktX8_lambda_1 : List UInt8 := dkwX8_lambda_1 ++ []
def dkwX8_lambda_0 : List UInt8 := [42, 16, 9, 16, 40, 8, 182, 0, 144, 54, 4, 42, 21, 4, 5, 27, 182, 0, 55, 42, 21, 4, 6, 28]
abbrev dktX8_lambda_0 : List UInt8 := dkwX8_lambda_0 ++ dktX8_lambda_1
theorem dksX8_lambda_0 : cX8_lambda.data.toList.drop 0 = dktX8_lambda_0 := by decide +kernel
theorem dksX8_lambda_1 : cX8_lambda.data.toList.drop 24 = dktX8_lambda_1 := dk_seg dksX8_lambda_0 24 rfl rfl
theorem dX8_lambda_0 : decode cX8_lambda 0 = .ok (.aload_n 0, 1) := dk_42 (dk_at dksX8_lambda_0 0 rfl rfl)
theorem dX8_lambda_1 : decode cX8_lambda 1 = .ok (.bipush 9, 2) := dk_16 9 (dk_at dksX8_lambda_0 1 rfl rfl)
theorem dX8_lambda_3 : decode cX8_lambda 3 = .ok (.bipush 40, 2) := dk_16 40 (dk_at dksX8_lambda_0 3 rfl rfl)
theorem dX8_lambda_5 : decode cX8_lambda 5 = .ok (.iconst 5, 1) := dk_8 (dk_at dksX8_lambda_0 5 rfl rfl)
theorem dX8_lambda_6 : decode cX8_lambda 6 = .ok (.invokevirtual 144, 3) := dk_182 0 144 (dk_at dksX8_lambda_0 6 rfl rfl)
theorem dX8_lambda_9 : decode cX8_lambda 9 = .ok (.istore 4, 2) := dk_54 4 (dk_at dksX8_lambda_0 9 rfl rfl)
theorem dX8_lambda_11 : decode cX8_lambda 11 = .ok (.aload_n 0, 1) := dk_42 (dk_at dksX8_lambda_0 11 rfl rfl)
theorem dX8_lambda_12 : decode cX8_lambda 12 = .ok (.iload 4, 2) := dk_21 4 (dk_at dksX8_lambda_0 12 rfl rfl)
theorem dX8_lambda_14 : decode cX8_lambda 14 = .ok (.iconst 2, 1) := dk_5 (dk_at dksX8_lambda_0 14 rfl rfl)
theorem dX8_lambda_15 : decode cX8_lambda 15 = .ok (.iload_n 1, 1) := dk_27 (dk_at dksX8_lambda_0 15 rfl rfl)
theorem dX8_lambda_16 : decode cX8_lambda 16 = .ok (.invokevirtual 55, 3) := dk_182 0 55 (dk_at dksX8_lambda_0 16 rfl rfl)
theorem dX8_lambda_19 : decode cX8_lambda 19 = .ok (.aload_n 0, 1) := dk_42 (dk_at dksX8_lambda_0 19 rfl rfl)
theorem dX8_lambda_20 : decode cX8_lambda 20 = .ok (.iload 4, 2) := dk_21 4 (dk_at dksX8_lambda_0 20 rfl rfl)
theorem dX8_lambda_22 : decode cX8_lambda 22 = .ok (.iconst 3, 1) := dk_6 (dk_at dksX8_lambda_0 22 rfl rfl)
theorem dX8_lambda_23 : decode cX8_lambda 23 = .ok (.iload_n 2, 1) := dk_28 (dk_at dksX8_lambda_0 23 rfl rfl)
theorem dX8_lambda_24 : decode cX8_lambda 24 = .ok (.invokevirtual 55, 3) := dk_182 0 55 (dk_at dksX8_lambda_1 0 rfl rfl)
theorem dX8_lambda_27 : decode cX8_lambda 27 = .ok (.aload_n 0, 1) := dk_42 (dk_at dksX8_lambda_1 3 rfl rfl)
theorem dX8_lambda_28 : decode cX8_lambda 28 = .ok (.iload 4, 2) := dk_21 4 (dk_at dksX8_lambda_1 4 rfl rfl)
theorem dX8_lambda_30 : decode cX8_lambda 30 = .ok (.iconst 4, 1) := dk_7 (dk_at dksX8_lambda_1 6 rfl rfl)
theorem dX8_lambda_31 : decode cX8_lambda 31 = .ok (.iload_n 3, 1) := dk_29 (dk_at dksX8_lambda_1 7 rfl rfl)
theorem dX8_lambda_32 : decode cX8_lambda 32 = .ok (.invokevirtual 55, 3) := dk_182 0 55 (dk_at dksX8_lambda_1 8 rfl rfl)
theorem dX8_lambda_35 : decode cX8_lambda 35 = .ok (.iload 4, 2) := dk_21 4 (dk_at dksX8_lambda_1 11 rfl rfl)
theorem dX8_lambda_37 : decode cX8_lambda 37 = .ok (.ireturn, 1) := dk_172 (dk_at dksX8_lambda_1 13 rfl rfl)
abbrev cX8_isNegative : ByteArray := prog_10_method_23_code
def yX8_isNegative : MethodName := ⟨RX8, "isNegative", "(I)Z"⟩
def dkwX8_isNegative_1 : List UInt8 := [182, 0, 47, 16, 16, 122, 153, 0, 7, 4, 167, 0, 4, 3, 172]
abbrev dktX8_isNegative_1 : List UInt8 := dkwX8_isNegative_1 ++ []
def dkwX8_isNegative_0 : List UInt8 := [27, 184, 0, 89, 153, 0, 15, 27, 156, 0, 7, 4, 167, 0, 24, 3, 167, 0, 20, 42, 27, 5]
abbrev dktX8_isNegative_0 : List UInt8 := dkwX8_isNegative_0 ++ dktX8_isNegative_1
theorem dksX8_isNegative_0 : cX8_isNegative.data.toList.drop 0 = dktX8_isNegative_0 := by decide +kernel
theorem dksX8_isNegative_1 : cX8_isNegative.data.toList.drop 22 = dktX8_isNegative_1 := dk_seg dksX8_isNegative_0 22 rfl rfl
theorem dX8_isNegative_0 : decode cX8_isNegative 0 = .ok (.iload_n 1, 1) := dk_27 (dk_at dksX8_isNegative_0 0 rfl rfl)
theorem dX8_isNegative_1 : decode cX8_isNegative 1 = .ok (.invokestatic 89, 3) := dk_184 0 89 (dk_at dksX8_isNegative_0 1 rfl rfl)
theorem dX8_isNegative_4 : decode cX8_isNegative 4 = .ok (.ifCond .eq 15, 3) := dk_153 0 15 (dk_at dksX8_isNegative_0 4 rfl rfl)
theorem dX8_isNegative_7 : decode cX8_isNegative 7 = .ok (.iload_n 1, 1) := dk_27 (dk_at dksX8_isNegative_0 7 rfl rfl)
theorem dX8_isNegative_8 : decode cX8_isNegative 8 = .ok (.ifCond .ge 7, 3) := dk_156 0 7 (dk_at dksX8_isNegative_0 8 rfl rfl)
theorem dX8_isNegative_11 : decode cX8_isNegative 11 = .ok (.iconst 1, 1) := dk_4 (dk_at dksX8_isNegative_0 11 rfl rfl)
theorem dX8_isNegative_12 : decode cX8_isNegative 12 = .ok (.goto 24, 3) := dk_167 0 24 (dk_at dksX8_isNegative_0 12 rfl rfl)
theorem dX8_isNegative_15 : decode cX8_isNegative 15 = .ok (.iconst 0, 1) := dk_3 (dk_at dksX8_isNegative_0 15 rfl rfl)
theorem dX8_isNegative_16 : decode cX8_isNegative 16 = .ok (.goto 20, 3) := dk_167 0 20 (dk_at dksX8_isNegative_0 16 rfl rfl)
theorem dX8_isNegative_19 : decode cX8_isNegative 19 = .ok (.aload_n 0, 1) := dk_42 (dk_at dksX8_isNegative_0 19 rfl rfl)
theorem dX8_isNegative_20 : decode cX8_isNegative 20 = .ok (.iload_n 1, 1) := dk_27 (dk_at dksX8_isNegative_0 20 rfl rfl)
theorem dX8_isNegative_21 : decode cX8_isNegative 21 = .ok (.iconst 2, 1) := dk_5 (dk_at dksX8_isNegative_0 21 rfl rfl)
theorem dX8_isNegative_22 : decode cX8_isNegative 22 = .ok (.invokevirtual 47, 3) := dk_182 0 47 (dk_at dksX8_isNegative_1 0 rfl rfl)
theorem dX8_isNegative_25 : decode cX8_isNegative 25 = .ok (.bipush 16, 2) := dk_16 16 (dk_at dksX8_isNegative_1 3 rfl rfl)
theorem dX8_isNegative_27 : decode cX8_isNegative 27 = .ok (.ishr, 1) := dk_122 (dk_at dksX8_isNegative_1 5 rfl rfl)
theorem dX8_isNegative_28 : decode cX8_isNegative 28 = .ok (.ifCond .eq 7, 3) := dk_153 0 7 (dk_at dksX8_isNegative_1 6 rfl rfl)
theorem dX8_isNegative_31 : decode cX8_isNegative 31 = .ok (.iconst 1, 1) := dk_4 (dk_at dksX8_isNegative_1 9 rfl rfl)
theorem dX8_isNegative_32 : decode cX8_isNegative 32 = .ok (.goto 4, 3) := dk_167 0 4 (dk_at dksX8_isNegative_1 10 rfl rfl)
theorem dX8_isNegative_35 : decode cX8_isNegative 35 = .ok (.iconst 0, 1) := dk_3 (dk_at dksX8_isNegative_1 13 rfl rfl)
theorem dX8_isNegative_36 : decode cX8_isNegative 36 = .ok (.ireturn, 1) := dk_172 (dk_at dksX8_isNegative_1 14 rfl rfl)
abbrev cX8_ofLong : ByteArray := prog_10_method_19_code
def yX8_ofLong : MethodName := ⟨RX8, "ofLong", "(J)I"⟩
def dkwX8_ofLong_1 : List UInt8 := [180, 0, 35, 31, 182, 0, 118, 42, 42, 180, 0, 35, 182, 0, 121, 172]
abbrev dktX8_ofLong_1 : List UInt8 := dkwX8_ofLong_1 ++ []
def dkwX8_ofLong_0 : List UInt8 := [31, 20, 0, 111, 148, 155, 0, 17, 31, 20, 0, 113, 148, 157, 0, 9, 31, 136, 184, 0, 115, 172, 42]
abbrev dktX8_ofLong_0 : List UInt8 := dkwX8_ofLong_0 ++ dktX8_ofLong_1
theorem dksX8_ofLong_0 : cX8_ofLong.data.toList.drop 0 = dktX8_ofLong_0 := by decide +kernel
theorem dksX8_ofLong_1 : cX8_ofLong.data.toList.drop 23 = dktX8_ofLong_1 := dk_seg dksX8_ofLong_0 23 rfl rfl
theorem dX8_ofLong_0 : decode cX8_ofLong 0 = .ok (.lload_n 1, 1) := dk_31 (dk_at dksX8_ofLong_0 0 rfl rfl)
theorem dX8_ofLong_1 : decode cX8_ofLong 1 = .ok (.ldc2_w 111, 3) := dk_20 0 111 (dk_at dksX8_ofLong_0 1 rfl rfl)
theorem dX8_ofLong_4 : decode cX8_ofLong 4 = .ok (.lcmp, 1) := dk_148 (dk_at dksX8_ofLong_0 4 rfl rfl)
theorem dX8_ofLong_5 : decode cX8_ofLong 5 = .ok (.ifCond .lt 17, 3) := dk_155 0 17 (dk_at dksX8_ofLong_0 5 rfl rfl)
theorem dX8_ofLong_8 : decode cX8_ofLong 8 = .ok (.lload_n 1, 1) := dk_31 (dk_at dksX8_ofLong_0 8 rfl rfl)
theorem dX8_ofLong_9 : decode cX8_ofLong 9 = .ok (.ldc2_w 113, 3) := dk_20 0 113 (dk_at dksX8_ofLong_0 9 rfl rfl)
theorem dX8_ofLong_12 : decode cX8_ofLong 12 = .ok (.lcmp, 1) := dk_148 (dk_at dksX8_ofLong_0 12 rfl rfl)
theorem dX8_ofLong_13 : decode cX8_ofLong 13 = .ok (.ifCond .gt 9, 3) := dk_157 0 9 (dk_at dksX8_ofLong_0 13 rfl rfl)
theorem dX8_ofLong_16 : decode cX8_ofLong 16 = .ok (.lload_n 1, 1) := dk_31 (dk_at dksX8_ofLong_0 16 rfl rfl)
theorem dX8_ofLong_17 : decode cX8_ofLong 17 = .ok (.l2i, 1) := dk_136 (dk_at dksX8_ofLong_0 17 rfl rfl)
theorem dX8_ofLong_18 : decode cX8_ofLong 18 = .ok (.invokestatic 115, 3) := dk_184 0 115 (dk_at dksX8_ofLong_0 18 rfl rfl)
theorem dX8_ofLong_21 : decode cX8_ofLong 21 = .ok (.ireturn, 1) := dk_172 (dk_at dksX8_ofLong_0 21 rfl rfl)
theorem dX8_ofLong_22 : decode cX8_ofLong 22 = .ok (.aload_n 0, 1) := dk_42 (dk_at dksX8_ofLong_0 22 rfl rfl)
theorem dX8_ofLong_23 : decode cX8_ofLong 23 = .ok (.getfield 35, 3) := dk_180 0 35 (dk_at dksX8_ofLong_1 0 rfl rfl)
theorem dX8_ofLong_26 : decode cX8_ofLong 26 = .ok (.lload_n 1, 1) := dk_31 (dk_at dksX8_ofLong_1 3 rfl rfl)
theorem dX8_ofLong_27 : decode cX8_ofLong 27 = .ok (.invokevirtual 118, 3) := dk_182 0 118 (dk_at dksX8_ofLong_1 4 rfl rfl)
theorem dX8_ofLong_30 : decode cX8_ofLong 30 = .ok (.aload_n 0, 1) := dk_42 (dk_at dksX8_ofLong_1 7 rfl rfl)
theorem dX8_ofLong_31 : decode cX8_ofLong 31 = .ok (.aload_n 0, 1) := dk_42 (dk_at dksX8_ofLong_1 8 rfl rfl)
theorem dX8_ofLong_32 : decode cX8_ofLong 32 = .ok (.getfield 35, 3) := dk_180 0 35 (dk_at dksX8_ofLong_1 9 rfl rfl)
theorem dX8_ofLong_35 : decode cX8_ofLong 35 = .ok (.invokevirtual 121, 3) := dk_182 0 121 (dk_at dksX8_ofLong_1 12 rfl rfl)
theorem dX8_ofLong_38 : decode cX8_ofLong 38 = .ok (.ireturn, 1) := dk_172 (dk_at dksX8_ofLong_1 15 rfl rfl)
abbrev cX8_contract : ByteArray := prog_10_method_34_code
def yX8_contract : MethodName := ⟨RX8, "contract", "(II)I"⟩
def dkwX8_contract_1 : List UInt8 := [29, 172]
abbrev dktX8_contract_1 : List UInt8 := dkwX8_contract_1 ++ []
def dkwX8_contract_0 : List UInt8 := [42, 16, 10, 16, 40, 7, 182, 0, 144, 62, 42, 29, 5, 27, 182, 0, 55, 42, 29, 6, 28, 182, 0, 55]
abbrev dktX8_contract_0 : List UInt8 := dkwX8_contract_0 ++ dktX8_contract_1
theorem dksX8_contract_0 : cX8_contract.data.toList.drop 0 = dktX8_contract_0 := by decide +kernel
theorem dksX8_contract_1 : cX8_contract.data.toList.drop 24 = dktX8_contract_1 := dk_seg dksX8_contract_0 24 rfl rfl
theorem dX8_contract_0 : decode cX8_contract 0 = .ok (.aload_n 0, 1) := dk_42 (dk_at dksX8_contract_0 0 rfl rfl)
theorem dX8_contract_1 : decode cX8_contract 1 = .ok (.bipush 10, 2) := dk_16 10 (dk_at dksX8_contract_0 1 rfl rfl)
theorem dX8_contract_3 : decode cX8_contract 3 = .ok (.bipush 40, 2) := dk_16 40 (dk_at dksX8_contract_0 3 rfl rfl)
theorem dX8_contract_5 : decode cX8_contract 5 = .ok (.iconst 4, 1) := dk_7 (dk_at dksX8_contract_0 5 rfl rfl)
theorem dX8_contract_6 : decode cX8_contract 6 = .ok (.invokevirtual 144, 3) := dk_182 0 144 (dk_at dksX8_contract_0 6 rfl rfl)
theorem dX8_contract_9 : decode cX8_contract 9 = .ok (.istore_n 3, 1) := dk_62 (dk_at dksX8_contract_0 9 rfl rfl)
theorem dX8_contract_10 : decode cX8_contract 10 = .ok (.aload_n 0, 1) := dk_42 (dk_at dksX8_contract_0 10 rfl rfl)
theorem dX8_contract_11 : decode cX8_contract 11 = .ok (.iload_n 3, 1) := dk_29 (dk_at dksX8_contract_0 11 rfl rfl)
theorem dX8_contract_12 : decode cX8_contract 12 = .ok (.iconst 2, 1) := dk_5 (dk_at dksX8_contract_0 12 rfl rfl)
theorem dX8_contract_13 : decode cX8_contract 13 = .ok (.iload_n 1, 1) := dk_27 (dk_at dksX8_contract_0 13 rfl rfl)
theorem dX8_contract_14 : decode cX8_contract 14 = .ok (.invokevirtual 55, 3) := dk_182 0 55 (dk_at dksX8_contract_0 14 rfl rfl)
theorem dX8_contract_17 : decode cX8_contract 17 = .ok (.aload_n 0, 1) := dk_42 (dk_at dksX8_contract_0 17 rfl rfl)
theorem dX8_contract_18 : decode cX8_contract 18 = .ok (.iload_n 3, 1) := dk_29 (dk_at dksX8_contract_0 18 rfl rfl)
theorem dX8_contract_19 : decode cX8_contract 19 = .ok (.iconst 3, 1) := dk_6 (dk_at dksX8_contract_0 19 rfl rfl)
theorem dX8_contract_20 : decode cX8_contract 20 = .ok (.iload_n 2, 1) := dk_28 (dk_at dksX8_contract_0 20 rfl rfl)
theorem dX8_contract_21 : decode cX8_contract 21 = .ok (.invokevirtual 55, 3) := dk_182 0 55 (dk_at dksX8_contract_0 21 rfl rfl)
theorem dX8_contract_24 : decode cX8_contract 24 = .ok (.iload_n 3, 1) := dk_29 (dk_at dksX8_contract_1 0 rfl rfl)
theorem dX8_contract_25 : decode cX8_contract 25 = .ok (.ireturn, 1) := dk_172 (dk_at dksX8_contract_1 1 rfl rfl)
abbrev cX8_operation : ByteArray := prog_10_method_35_code
def yX8_operation : MethodName := ⟨RX8, "operation", "(IIIII)I"⟩
def dkwX8_operation_2 : List UInt8 := [16, 6, 21, 4, 182, 0, 55, 42, 21, 6, 16, 7, 21, 5, 182, 0, 55, 21, 6, 172]
abbrev dktX8_operation_2 : List UInt8 := dkwX8_operation_2 ++ []
def dkwX8_operation_1 : List UInt8 := [28, 182, 0, 55, 42, 21, 6, 7, 3, 182, 0, 55, 42, 21, 6, 8, 29, 182, 0, 55, 42, 21, 6]
abbrev dktX8_operation_1 : List UInt8 := dkwX8_operation_1 ++ dktX8_operation_2
def dkwX8_operation_0 : List UInt8 := [42, 16, 11, 16, 40, 16, 8, 182, 0, 144, 54, 6, 42, 21, 6, 5, 27, 182, 0, 55, 42, 21, 6, 6]
abbrev dktX8_operation_0 : List UInt8 := dkwX8_operation_0 ++ dktX8_operation_1
theorem dksX8_operation_0 : cX8_operation.data.toList.drop 0 = dktX8_operation_0 := by decide +kernel
theorem dksX8_operation_1 : cX8_operation.data.toList.drop 24 = dktX8_operation_1 := dk_seg dksX8_operation_0 24 rfl rfl
theorem dksX8_operation_2 : cX8_operation.data.toList.drop 47 = dktX8_operation_2 := dk_seg dksX8_operation_1 23 rfl rfl
theorem dX8_operation_0 : decode cX8_operation 0 = .ok (.aload_n 0, 1) := dk_42 (dk_at dksX8_operation_0 0 rfl rfl)
theorem dX8_operation_1 : decode cX8_operation 1 = .ok (.bipush 11, 2) := dk_16 11 (dk_at dksX8_operation_0 1 rfl rfl)
theorem dX8_operation_3 : decode cX8_operation 3 = .ok (.bipush 40, 2) := dk_16 40 (dk_at dksX8_operation_0 3 rfl rfl)
theorem dX8_operation_5 : decode cX8_operation 5 = .ok (.bipush 8, 2) := dk_16 8 (dk_at dksX8_operation_0 5 rfl rfl)
theorem dX8_operation_7 : decode cX8_operation 7 = .ok (.invokevirtual 144, 3) := dk_182 0 144 (dk_at dksX8_operation_0 7 rfl rfl)
theorem dX8_operation_10 : decode cX8_operation 10 = .ok (.istore 6, 2) := dk_54 6 (dk_at dksX8_operation_0 10 rfl rfl)
theorem dX8_operation_12 : decode cX8_operation 12 = .ok (.aload_n 0, 1) := dk_42 (dk_at dksX8_operation_0 12 rfl rfl)
theorem dX8_operation_13 : decode cX8_operation 13 = .ok (.iload 6, 2) := dk_21 6 (dk_at dksX8_operation_0 13 rfl rfl)
theorem dX8_operation_15 : decode cX8_operation 15 = .ok (.iconst 2, 1) := dk_5 (dk_at dksX8_operation_0 15 rfl rfl)
theorem dX8_operation_16 : decode cX8_operation 16 = .ok (.iload_n 1, 1) := dk_27 (dk_at dksX8_operation_0 16 rfl rfl)
theorem dX8_operation_17 : decode cX8_operation 17 = .ok (.invokevirtual 55, 3) := dk_182 0 55 (dk_at dksX8_operation_0 17 rfl rfl)
theorem dX8_operation_20 : decode cX8_operation 20 = .ok (.aload_n 0, 1) := dk_42 (dk_at dksX8_operation_0 20 rfl rfl)
theorem dX8_operation_21 : decode cX8_operation 21 = .ok (.iload 6, 2) := dk_21 6 (dk_at dksX8_operation_0 21 rfl rfl)
theorem dX8_operation_23 : decode cX8_operation 23 = .ok (.iconst 3, 1) := dk_6 (dk_at dksX8_operation_0 23 rfl rfl)
theorem dX8_operation_24 : decode cX8_operation 24 = .ok (.iload_n 2, 1) := dk_28 (dk_at dksX8_operation_1 0 rfl rfl)
theorem dX8_operation_25 : decode cX8_operation 25 = .ok (.invokevirtual 55, 3) := dk_182 0 55 (dk_at dksX8_operation_1 1 rfl rfl)
theorem dX8_operation_28 : decode cX8_operation 28 = .ok (.aload_n 0, 1) := dk_42 (dk_at dksX8_operation_1 4 rfl rfl)
theorem dX8_operation_29 : decode cX8_operation 29 = .ok (.iload 6, 2) := dk_21 6 (dk_at dksX8_operation_1 5 rfl rfl)
theorem dX8_operation_31 : decode cX8_operation 31 = .ok (.iconst 4, 1) := dk_7 (dk_at dksX8_operation_1 7 rfl rfl)
theorem dX8_operation_32 : decode cX8_operation 32 = .ok (.iconst 0, 1) := dk_3 (dk_at dksX8_operation_1 8 rfl rfl)
theorem dX8_operation_33 : decode cX8_operation 33 = .ok (.invokevirtual 55, 3) := dk_182 0 55 (dk_at dksX8_operation_1 9 rfl rfl)
theorem dX8_operation_36 : decode cX8_operation 36 = .ok (.aload_n 0, 1) := dk_42 (dk_at dksX8_operation_1 12 rfl rfl)
theorem dX8_operation_37 : decode cX8_operation 37 = .ok (.iload 6, 2) := dk_21 6 (dk_at dksX8_operation_1 13 rfl rfl)
theorem dX8_operation_39 : decode cX8_operation 39 = .ok (.iconst 5, 1) := dk_8 (dk_at dksX8_operation_1 15 rfl rfl)
theorem dX8_operation_40 : decode cX8_operation 40 = .ok (.iload_n 3, 1) := dk_29 (dk_at dksX8_operation_1 16 rfl rfl)
theorem dX8_operation_41 : decode cX8_operation 41 = .ok (.invokevirtual 55, 3) := dk_182 0 55 (dk_at dksX8_operation_1 17 rfl rfl)
theorem dX8_operation_44 : decode cX8_operation 44 = .ok (.aload_n 0, 1) := dk_42 (dk_at dksX8_operation_1 20 rfl rfl)
theorem dX8_operation_45 : decode cX8_operation 45 = .ok (.iload 6, 2) := dk_21 6 (dk_at dksX8_operation_1 21 rfl rfl)
theorem dX8_operation_47 : decode cX8_operation 47 = .ok (.bipush 6, 2) := dk_16 6 (dk_at dksX8_operation_2 0 rfl rfl)
theorem dX8_operation_49 : decode cX8_operation 49 = .ok (.iload 4, 2) := dk_21 4 (dk_at dksX8_operation_2 2 rfl rfl)
theorem dX8_operation_51 : decode cX8_operation 51 = .ok (.invokevirtual 55, 3) := dk_182 0 55 (dk_at dksX8_operation_2 4 rfl rfl)
theorem dX8_operation_54 : decode cX8_operation 54 = .ok (.aload_n 0, 1) := dk_42 (dk_at dksX8_operation_2 7 rfl rfl)
theorem dX8_operation_55 : decode cX8_operation 55 = .ok (.iload 6, 2) := dk_21 6 (dk_at dksX8_operation_2 8 rfl rfl)
theorem dX8_operation_57 : decode cX8_operation 57 = .ok (.bipush 7, 2) := dk_16 7 (dk_at dksX8_operation_2 10 rfl rfl)
theorem dX8_operation_59 : decode cX8_operation 59 = .ok (.iload 5, 2) := dk_21 5 (dk_at dksX8_operation_2 12 rfl rfl)
theorem dX8_operation_61 : decode cX8_operation 61 = .ok (.invokevirtual 55, 3) := dk_182 0 55 (dk_at dksX8_operation_2 14 rfl rfl)
theorem dX8_operation_64 : decode cX8_operation 64 = .ok (.iload 6, 2) := dk_21 6 (dk_at dksX8_operation_2 17 rfl rfl)
theorem dX8_operation_66 : decode cX8_operation 66 = .ok (.ireturn, 1) := dk_172 (dk_at dksX8_operation_2 19 rfl rfl)
abbrev cX8_begin : ByteArray := prog_10_method_36_code
def yX8_begin : MethodName := ⟨RX8, "begin", "(I)Z"⟩
def dkwX8_begin_0 : List UInt8 := [42, 27, 7, 182, 0, 47, 153, 0, 7, 4, 167, 0, 4, 3, 61, 42, 27, 7, 4, 182, 0, 55, 28, 172]
abbrev dktX8_begin_0 : List UInt8 := dkwX8_begin_0 ++ []
theorem dksX8_begin_0 : cX8_begin.data.toList.drop 0 = dktX8_begin_0 := by decide +kernel
theorem dX8_begin_0 : decode cX8_begin 0 = .ok (.aload_n 0, 1) := dk_42 (dk_at dksX8_begin_0 0 rfl rfl)
theorem dX8_begin_1 : decode cX8_begin 1 = .ok (.iload_n 1, 1) := dk_27 (dk_at dksX8_begin_0 1 rfl rfl)
theorem dX8_begin_2 : decode cX8_begin 2 = .ok (.iconst 4, 1) := dk_7 (dk_at dksX8_begin_0 2 rfl rfl)
theorem dX8_begin_3 : decode cX8_begin 3 = .ok (.invokevirtual 47, 3) := dk_182 0 47 (dk_at dksX8_begin_0 3 rfl rfl)
theorem dX8_begin_6 : decode cX8_begin 6 = .ok (.ifCond .eq 7, 3) := dk_153 0 7 (dk_at dksX8_begin_0 6 rfl rfl)
theorem dX8_begin_9 : decode cX8_begin 9 = .ok (.iconst 1, 1) := dk_4 (dk_at dksX8_begin_0 9 rfl rfl)
theorem dX8_begin_10 : decode cX8_begin 10 = .ok (.goto 4, 3) := dk_167 0 4 (dk_at dksX8_begin_0 10 rfl rfl)
theorem dX8_begin_13 : decode cX8_begin 13 = .ok (.iconst 0, 1) := dk_3 (dk_at dksX8_begin_0 13 rfl rfl)
theorem dX8_begin_14 : decode cX8_begin 14 = .ok (.istore_n 2, 1) := dk_61 (dk_at dksX8_begin_0 14 rfl rfl)
theorem dX8_begin_15 : decode cX8_begin 15 = .ok (.aload_n 0, 1) := dk_42 (dk_at dksX8_begin_0 15 rfl rfl)
theorem dX8_begin_16 : decode cX8_begin 16 = .ok (.iload_n 1, 1) := dk_27 (dk_at dksX8_begin_0 16 rfl rfl)
theorem dX8_begin_17 : decode cX8_begin 17 = .ok (.iconst 4, 1) := dk_7 (dk_at dksX8_begin_0 17 rfl rfl)
theorem dX8_begin_18 : decode cX8_begin 18 = .ok (.iconst 1, 1) := dk_4 (dk_at dksX8_begin_0 18 rfl rfl)
theorem dX8_begin_19 : decode cX8_begin 19 = .ok (.invokevirtual 55, 3) := dk_182 0 55 (dk_at dksX8_begin_0 19 rfl rfl)
theorem dX8_begin_22 : decode cX8_begin 22 = .ok (.iload_n 2, 1) := dk_28 (dk_at dksX8_begin_0 22 rfl rfl)
theorem dX8_begin_23 : decode cX8_begin 23 = .ok (.ireturn, 1) := dk_172 (dk_at dksX8_begin_0 23 rfl rfl)
abbrev cX8_toLong : ByteArray := prog_10_method_22_code
def yX8_toLong : MethodName := ⟨RX8, "toLong", "(I)J"⟩
def dkwX8_toLong_2 : List UInt8 := [132, 4, 255, 167, 255, 232, 42, 180, 0, 35, 180, 0, 138, 153, 0, 8, 32, 117, 167, 0, 4, 32, 173]
abbrev dktX8_toLong_2 : List UInt8 := dkwX8_toLong_2 ++ []
def dkwX8_toLong_1 : List UInt8 := [54, 4, 21, 4, 155, 0, 25, 32, 16, 16, 121, 42, 180, 0, 35, 21, 4, 182, 0, 135, 133, 129, 65]
abbrev dktX8_toLong_1 : List UInt8 := dkwX8_toLong_1 ++ dktX8_toLong_2
def dkwX8_toLong_0 : List UInt8 := [27, 184, 0, 89, 153, 0, 8, 27, 4, 122, 133, 173, 42, 27, 42, 180, 0, 35, 182, 0, 155, 9, 65, 6]
abbrev dktX8_toLong_0 : List UInt8 := dkwX8_toLong_0 ++ dktX8_toLong_1
theorem dksX8_toLong_0 : cX8_toLong.data.toList.drop 0 = dktX8_toLong_0 := by decide +kernel
theorem dksX8_toLong_1 : cX8_toLong.data.toList.drop 24 = dktX8_toLong_1 := dk_seg dksX8_toLong_0 24 rfl rfl
theorem dksX8_toLong_2 : cX8_toLong.data.toList.drop 47 = dktX8_toLong_2 := dk_seg dksX8_toLong_1 23 rfl rfl
theorem dX8_toLong_0 : decode cX8_toLong 0 = .ok (.iload_n 1, 1) := dk_27 (dk_at dksX8_toLong_0 0 rfl rfl)
theorem dX8_toLong_1 : decode cX8_toLong 1 = .ok (.invokestatic 89, 3) := dk_184 0 89 (dk_at dksX8_toLong_0 1 rfl rfl)
theorem dX8_toLong_4 : decode cX8_toLong 4 = .ok (.ifCond .eq 8, 3) := dk_153 0 8 (dk_at dksX8_toLong_0 4 rfl rfl)
theorem dX8_toLong_7 : decode cX8_toLong 7 = .ok (.iload_n 1, 1) := dk_27 (dk_at dksX8_toLong_0 7 rfl rfl)
theorem dX8_toLong_8 : decode cX8_toLong 8 = .ok (.iconst 1, 1) := dk_4 (dk_at dksX8_toLong_0 8 rfl rfl)
theorem dX8_toLong_9 : decode cX8_toLong 9 = .ok (.ishr, 1) := dk_122 (dk_at dksX8_toLong_0 9 rfl rfl)
theorem dX8_toLong_10 : decode cX8_toLong 10 = .ok (.i2l, 1) := dk_133 (dk_at dksX8_toLong_0 10 rfl rfl)
theorem dX8_toLong_11 : decode cX8_toLong 11 = .ok (.lreturn, 1) := dk_173 (dk_at dksX8_toLong_0 11 rfl rfl)
theorem dX8_toLong_12 : decode cX8_toLong 12 = .ok (.aload_n 0, 1) := dk_42 (dk_at dksX8_toLong_0 12 rfl rfl)
theorem dX8_toLong_13 : decode cX8_toLong 13 = .ok (.iload_n 1, 1) := dk_27 (dk_at dksX8_toLong_0 13 rfl rfl)
theorem dX8_toLong_14 : decode cX8_toLong 14 = .ok (.aload_n 0, 1) := dk_42 (dk_at dksX8_toLong_0 14 rfl rfl)
theorem dX8_toLong_15 : decode cX8_toLong 15 = .ok (.getfield 35, 3) := dk_180 0 35 (dk_at dksX8_toLong_0 15 rfl rfl)
theorem dX8_toLong_18 : decode cX8_toLong 18 = .ok (.invokevirtual 155, 3) := dk_182 0 155 (dk_at dksX8_toLong_0 18 rfl rfl)
theorem dX8_toLong_21 : decode cX8_toLong 21 = .ok (.lconst 0, 1) := dk_9 (dk_at dksX8_toLong_0 21 rfl rfl)
theorem dX8_toLong_22 : decode cX8_toLong 22 = .ok (.lstore_n 2, 1) := dk_65 (dk_at dksX8_toLong_0 22 rfl rfl)
theorem dX8_toLong_23 : decode cX8_toLong 23 = .ok (.iconst 3, 1) := dk_6 (dk_at dksX8_toLong_0 23 rfl rfl)
theorem dX8_toLong_24 : decode cX8_toLong 24 = .ok (.istore 4, 2) := dk_54 4 (dk_at dksX8_toLong_1 0 rfl rfl)
theorem dX8_toLong_26 : decode cX8_toLong 26 = .ok (.iload 4, 2) := dk_21 4 (dk_at dksX8_toLong_1 2 rfl rfl)
theorem dX8_toLong_28 : decode cX8_toLong 28 = .ok (.ifCond .lt 25, 3) := dk_155 0 25 (dk_at dksX8_toLong_1 4 rfl rfl)
theorem dX8_toLong_31 : decode cX8_toLong 31 = .ok (.lload_n 2, 1) := dk_32 (dk_at dksX8_toLong_1 7 rfl rfl)
theorem dX8_toLong_32 : decode cX8_toLong 32 = .ok (.bipush 16, 2) := dk_16 16 (dk_at dksX8_toLong_1 8 rfl rfl)
theorem dX8_toLong_34 : decode cX8_toLong 34 = .ok (.lshl, 1) := dk_121 (dk_at dksX8_toLong_1 10 rfl rfl)
theorem dX8_toLong_35 : decode cX8_toLong 35 = .ok (.aload_n 0, 1) := dk_42 (dk_at dksX8_toLong_1 11 rfl rfl)
theorem dX8_toLong_36 : decode cX8_toLong 36 = .ok (.getfield 35, 3) := dk_180 0 35 (dk_at dksX8_toLong_1 12 rfl rfl)
theorem dX8_toLong_39 : decode cX8_toLong 39 = .ok (.iload 4, 2) := dk_21 4 (dk_at dksX8_toLong_1 15 rfl rfl)
theorem dX8_toLong_41 : decode cX8_toLong 41 = .ok (.invokevirtual 135, 3) := dk_182 0 135 (dk_at dksX8_toLong_1 17 rfl rfl)
theorem dX8_toLong_44 : decode cX8_toLong 44 = .ok (.i2l, 1) := dk_133 (dk_at dksX8_toLong_1 20 rfl rfl)
theorem dX8_toLong_45 : decode cX8_toLong 45 = .ok (.lor, 1) := dk_129 (dk_at dksX8_toLong_1 21 rfl rfl)
theorem dX8_toLong_46 : decode cX8_toLong 46 = .ok (.lstore_n 2, 1) := dk_65 (dk_at dksX8_toLong_1 22 rfl rfl)
theorem dX8_toLong_47 : decode cX8_toLong 47 = .ok (.iinc 4 (-1), 3) := dk_132 4 255 (dk_at dksX8_toLong_2 0 rfl rfl)
theorem dX8_toLong_50 : decode cX8_toLong 50 = .ok (.goto (-24), 3) := dk_167 255 232 (dk_at dksX8_toLong_2 3 rfl rfl)
theorem dX8_toLong_53 : decode cX8_toLong 53 = .ok (.aload_n 0, 1) := dk_42 (dk_at dksX8_toLong_2 6 rfl rfl)
theorem dX8_toLong_54 : decode cX8_toLong 54 = .ok (.getfield 35, 3) := dk_180 0 35 (dk_at dksX8_toLong_2 7 rfl rfl)
theorem dX8_toLong_57 : decode cX8_toLong 57 = .ok (.getfield 138, 3) := dk_180 0 138 (dk_at dksX8_toLong_2 10 rfl rfl)
theorem dX8_toLong_60 : decode cX8_toLong 60 = .ok (.ifCond .eq 8, 3) := dk_153 0 8 (dk_at dksX8_toLong_2 13 rfl rfl)
theorem dX8_toLong_63 : decode cX8_toLong 63 = .ok (.lload_n 2, 1) := dk_32 (dk_at dksX8_toLong_2 16 rfl rfl)
theorem dX8_toLong_64 : decode cX8_toLong 64 = .ok (.lneg, 1) := dk_117 (dk_at dksX8_toLong_2 17 rfl rfl)
theorem dX8_toLong_65 : decode cX8_toLong 65 = .ok (.goto 4, 3) := dk_167 0 4 (dk_at dksX8_toLong_2 18 rfl rfl)
theorem dX8_toLong_68 : decode cX8_toLong 68 = .ok (.lload_n 2, 1) := dk_32 (dk_at dksX8_toLong_2 21 rfl rfl)
theorem dX8_toLong_69 : decode cX8_toLong 69 = .ok (.lreturn, 1) := dk_173 (dk_at dksX8_toLong_2 22 rfl rfl)
theorem q375 : (Jvm.Cond.initialized "ContractLedger$Memory") ∈ lw_all := lw_g (lw_at lw_m1 18 rfl) rfl
theorem q630 : (Jvm.Cond.fieldLink "ContractLedger$Memory" (149 : Nat) "ContractLedger$Whole" "digits" "[I") ∈ lw_all := lw_g (lw_at lw_m2 33 rfl) rfl
theorem q634 : (Jvm.Cond.fieldLink "ContractLedger$Memory" (141 : Nat) "ContractLedger$Whole" "count" "I") ∈ lw_all := lw_g (lw_at lw_m2 37 rfl) rfl
theorem q641 : (Jvm.Cond.fieldLink "ContractLedger$Memory" (138 : Nat) "ContractLedger$Whole" "negative" "Z") ∈ lw_all := lw_g (lw_at lw_m2 44 rfl) rfl
theorem q794 : (Jvm.Cond.instantiable "ContractLedger$Memory" (8 : Nat)) ∈ lw_all := lw_g (lw_at lw_m2 197 rfl) rfl
theorem q796 : (Jvm.Cond.instanceMethod ({ cls := "ContractLedger$Memory", name := "<init>", desc := "(LContractLedger$Failing;)V" } : Jvm.MethodName)) ∈ lw_all := lw_g (lw_at lw_m2 199 rfl) rfl
theorem q797 : (Jvm.Cond.code ({ cls := "ContractLedger$Memory", name := "<init>", desc := "(LContractLedger$Failing;)V" } : Jvm.MethodName) prog_10_method_1_code (2 : Nat) (Option.none : Option Jvm.ClassFile.FieldType)) ∈ lw_all := lw_g (lw_at lw_m2 200 rfl) rfl
theorem q798 : (Jvm.Cond.methodLink "ContractLedger$Memory" (3 : Nat) ({ cls := "java/lang/Object", name := "<init>", desc := "()V" } : Jvm.MethodName)) ∈ lw_all := lw_g (lw_at lw_m2 201 rfl) rfl
theorem q799 : (Jvm.Cond.constant "ContractLedger$Memory" (9 : Nat) (800000 : Int32)) ∈ lw_all := lw_g (lw_at lw_m2 202 rfl) rfl
theorem q800 : (Jvm.Cond.constant "ContractLedger$Memory" (23 : Nat) (280000 : Int32)) ∈ lw_all := lw_g (lw_at lw_m2 203 rfl) rfl
theorem q801 : (Jvm.Cond.classLink "ContractLedger$Memory" (30 : Nat) "ContractLedger$Whole") ∈ lw_all := lw_g (lw_at lw_m2 204 rfl) rfl
theorem q802 : (Jvm.Cond.methodLink "ContractLedger$Memory" (32 : Nat) ({ cls := "ContractLedger$Whole", name := "<init>", desc := "(I)V" } : Jvm.MethodName)) ∈ lw_all := lw_g (lw_at lw_m2 205 rfl) rfl
theorem q803 : (Jvm.Cond.fieldLink "ContractLedger$Memory" (10 : Nat) "ContractLedger$Memory" "space" "[I") ∈ lw_all := lw_g (lw_at lw_m2 206 rfl) rfl
theorem q804 : (Jvm.Cond.fieldLink "ContractLedger$Memory" (16 : Nat) "ContractLedger$Memory" "other" "[I") ∈ lw_all := lw_g (lw_at lw_m2 207 rfl) rfl
theorem q805 : (Jvm.Cond.fieldLink "ContractLedger$Memory" (19 : Nat) "ContractLedger$Memory" "top" "I") ∈ lw_all := lw_g (lw_at lw_m2 208 rfl) rfl
theorem q806 : (Jvm.Cond.fieldLink "ContractLedger$Memory" (24 : Nat) "ContractLedger$Memory" "fixed" "[I") ∈ lw_all := lw_g (lw_at lw_m2 209 rfl) rfl
theorem q807 : (Jvm.Cond.fieldLink "ContractLedger$Memory" (27 : Nat) "ContractLedger$Memory" "fixedTop" "I") ∈ lw_all := lw_g (lw_at lw_m2 210 rfl) rfl
theorem q809 : (Jvm.Cond.fieldLink "ContractLedger$Memory" (51 : Nat) "ContractLedger$Memory" "stays" "Z") ∈ lw_all := lw_g (lw_at lw_m2 212 rfl) rfl
theorem q811 : (Jvm.Cond.fieldLink "ContractLedger$Memory" (39 : Nat) "ContractLedger$Memory" "failing" "LContractLedger$Failing;") ∈ lw_all := lw_g (lw_at lw_m2 214 rfl) rfl
theorem q812 : (Jvm.Cond.fieldLink "ContractLedger$Memory" (35 : Nat) "ContractLedger$Memory" "number" "LContractLedger$Whole;") ∈ lw_all := lw_g (lw_at lw_m2 215 rfl) rfl
theorem q813 : (Jvm.Cond.lays "ContractLedger$Memory" "ContractLedger$Memory" "space" "[I") ∈ lw_all := lw_g (lw_at lw_m2 216 rfl) rfl
theorem q814 : (Jvm.Cond.soleField "ContractLedger$Memory" "space") ∈ lw_all := lw_g (lw_at lw_m2 217 rfl) rfl
theorem q815 : (Jvm.Cond.lays "ContractLedger$Memory" "ContractLedger$Memory" "other" "[I") ∈ lw_all := lw_g (lw_at lw_m2 218 rfl) rfl
theorem q816 : (Jvm.Cond.soleField "ContractLedger$Memory" "other") ∈ lw_all := lw_g (lw_at lw_m2 219 rfl) rfl
theorem q817 : (Jvm.Cond.lays "ContractLedger$Memory" "ContractLedger$Memory" "top" "I") ∈ lw_all := lw_g (lw_at lw_m2 220 rfl) rfl
theorem q818 : (Jvm.Cond.soleField "ContractLedger$Memory" "top") ∈ lw_all := lw_g (lw_at lw_m2 221 rfl) rfl
theorem q819 : (Jvm.Cond.laysFinal "ContractLedger$Memory" "ContractLedger$Memory" "fixed" "[I") ∈ lw_all := lw_g (lw_at lw_m2 222 rfl) rfl
theorem q820 : (Jvm.Cond.soleField "ContractLedger$Memory" "fixed") ∈ lw_all := lw_g (lw_at lw_m2 223 rfl) rfl
theorem q821 : (Jvm.Cond.lays "ContractLedger$Memory" "ContractLedger$Memory" "fixedTop" "I") ∈ lw_all := lw_g (lw_at lw_m2 224 rfl) rfl
theorem q822 : (Jvm.Cond.soleField "ContractLedger$Memory" "fixedTop") ∈ lw_all := lw_g (lw_at lw_m2 225 rfl) rfl
theorem q823 : (Jvm.Cond.lays "ContractLedger$Memory" "ContractLedger$Memory" "stays" "Z") ∈ lw_all := lw_g (lw_at lw_m2 226 rfl) rfl
theorem q824 : (Jvm.Cond.soleField "ContractLedger$Memory" "stays") ∈ lw_all := lw_g (lw_at lw_m2 227 rfl) rfl
theorem q825 : (Jvm.Cond.laysFinal "ContractLedger$Memory" "ContractLedger$Memory" "failing" "LContractLedger$Failing;") ∈ lw_all := lw_g (lw_at lw_m2 228 rfl) rfl
theorem q826 : (Jvm.Cond.soleField "ContractLedger$Memory" "failing") ∈ lw_all := lw_g (lw_at lw_m2 229 rfl) rfl
theorem q827 : (Jvm.Cond.laysFinal "ContractLedger$Memory" "ContractLedger$Memory" "number" "LContractLedger$Whole;") ∈ lw_all := lw_g (lw_at lw_m2 230 rfl) rfl
theorem q828 : (Jvm.Cond.soleField "ContractLedger$Memory" "number") ∈ lw_all := lw_g (lw_at lw_m2 231 rfl) rfl
theorem q829 : (Jvm.Cond.superclass "ContractLedger$Memory" "java/lang/Object") ∈ lw_all := lw_g (lw_at lw_m2 232 rfl) rfl
theorem q1814 : (Jvm.Cond.instanceMethod ({ cls := "ContractLedger$Memory", name := "fixedTop", desc := "()I" } : Jvm.MethodName)) ∈ lw_all := lw_g (lw_at lw_m7 17 rfl) rfl
theorem q1815 : (Jvm.Cond.selects "ContractLedger$Memory" ({ cls := "ContractLedger$Memory", name := "fixedTop", desc := "()I" } : Jvm.MethodName) ({ cls := "ContractLedger$Memory", name := "fixedTop", desc := "()I" } : Jvm.MethodName)) ∈ lw_all := lw_g (lw_at lw_m7 18 rfl) rfl
theorem q1816 : (Jvm.Cond.code ({ cls := "ContractLedger$Memory", name := "fixedTop", desc := "()I" } : Jvm.MethodName) prog_10_method_7_code (1 : Nat) (Option.some Jvm.ClassFile.FieldType.int)) ∈ lw_all := lw_g (lw_at lw_m7 19 rfl) rfl
theorem q1949 : (Jvm.Cond.instanceMethod ({ cls := "ContractLedger$Memory", name := "ofWhole", desc := "(LContractLedger$Whole;)I" } : Jvm.MethodName)) ∈ lw_all := lw_g (lw_at lw_m7 152 rfl) rfl
theorem q1950 : (Jvm.Cond.selects "ContractLedger$Memory" ({ cls := "ContractLedger$Memory", name := "ofWhole", desc := "(LContractLedger$Whole;)I" } : Jvm.MethodName) ({ cls := "ContractLedger$Memory", name := "ofWhole", desc := "(LContractLedger$Whole;)I" } : Jvm.MethodName)) ∈ lw_all := lw_g (lw_at lw_m7 153 rfl) rfl
theorem q1951 : (Jvm.Cond.code ({ cls := "ContractLedger$Memory", name := "ofWhole", desc := "(LContractLedger$Whole;)I" } : Jvm.MethodName) prog_10_method_20_code (6 : Nat) (Option.some Jvm.ClassFile.FieldType.int)) ∈ lw_all := lw_g (lw_at lw_m7 154 rfl) rfl
theorem q1952 : (Jvm.Cond.methodLink "ContractLedger$Memory" (125 : Nat) ({ cls := "ContractLedger$Whole", name := "bits", desc := "()I" } : Jvm.MethodName)) ∈ lw_all := lw_g (lw_at lw_m7 155 rfl) rfl
theorem q1953 : (Jvm.Cond.methodLink "ContractLedger$Memory" (131 : Nat) ({ cls := "ContractLedger$Failing", name := "want", desc := "(ZI)V" } : Jvm.MethodName)) ∈ lw_all := lw_g (lw_at lw_m7 156 rfl) rfl
theorem q1961 : (Jvm.Cond.methodLink "ContractLedger$Memory" (135 : Nat) ({ cls := "ContractLedger$Whole", name := "at", desc := "(I)I" } : Jvm.MethodName)) ∈ lw_all := lw_g (lw_at lw_m7 164 rfl) rfl
theorem q1965 : (Jvm.Cond.methodLink "ContractLedger$Memory" (115 : Nat) ({ cls := "ContractLedger$Memory", name := "small", desc := "(I)I" } : Jvm.MethodName)) ∈ lw_all := lw_g (lw_at lw_m7 168 rfl) rfl
theorem q1966 : (Jvm.Cond.static ({ cls := "ContractLedger$Memory", name := "small", desc := "(I)I" } : Jvm.MethodName)) ∈ lw_all := lw_g (lw_at lw_m7 169 rfl) rfl
theorem q1967 : (Jvm.Cond.code ({ cls := "ContractLedger$Memory", name := "small", desc := "(I)I" } : Jvm.MethodName) prog_10_method_18_code (1 : Nat) (Option.some Jvm.ClassFile.FieldType.int)) ∈ lw_all := lw_g (lw_at lw_m7 170 rfl) rfl
theorem q1968 : (Jvm.Cond.methodLink "ContractLedger$Memory" (102 : Nat) ({ cls := "ContractLedger$Memory", name := "numberLength", desc := "(I)I" } : Jvm.MethodName)) ∈ lw_all := lw_g (lw_at lw_m7 171 rfl) rfl
theorem q1969 : (Jvm.Cond.static ({ cls := "ContractLedger$Memory", name := "numberLength", desc := "(I)I" } : Jvm.MethodName)) ∈ lw_all := lw_g (lw_at lw_m7 172 rfl) rfl
theorem q1970 : (Jvm.Cond.code ({ cls := "ContractLedger$Memory", name := "numberLength", desc := "(I)I" } : Jvm.MethodName) prog_10_method_16_code (1 : Nat) (Option.some Jvm.ClassFile.FieldType.int)) ∈ lw_all := lw_g (lw_at lw_m7 173 rfl) rfl
theorem q1971 : (Jvm.Cond.methodLink "ContractLedger$Memory" (144 : Nat) ({ cls := "ContractLedger$Memory", name := "make", desc := "(III)I" } : Jvm.MethodName)) ∈ lw_all := lw_g (lw_at lw_m7 174 rfl) rfl
theorem q1972 : (Jvm.Cond.privateMethod ({ cls := "ContractLedger$Memory", name := "make", desc := "(III)I" } : Jvm.MethodName)) ∈ lw_tbl := lw_at lw_m7 175 rfl
theorem q1973 : (Jvm.Cond.instanceMethod ({ cls := "ContractLedger$Memory", name := "make", desc := "(III)I" } : Jvm.MethodName)) ∈ lw_all := lw_g (lw_at lw_m7 176 rfl) rfl
theorem q1974 : (Jvm.Cond.code ({ cls := "ContractLedger$Memory", name := "make", desc := "(III)I" } : Jvm.MethodName) prog_10_method_9_code (5 : Nat) (Option.some Jvm.ClassFile.FieldType.int)) ∈ lw_all := lw_g (lw_at lw_m7 177 rfl) rfl
theorem q1975 : (Jvm.Cond.methodLink "ContractLedger$Memory" (55 : Nat) ({ cls := "ContractLedger$Memory", name := "set", desc := "(III)V" } : Jvm.MethodName)) ∈ lw_all := lw_g (lw_at lw_m7 178 rfl) rfl
theorem q1976 : (Jvm.Cond.privateMethod ({ cls := "ContractLedger$Memory", name := "set", desc := "(III)V" } : Jvm.MethodName)) ∈ lw_tbl := lw_at lw_m7 179 rfl
theorem q1977 : (Jvm.Cond.instanceMethod ({ cls := "ContractLedger$Memory", name := "set", desc := "(III)V" } : Jvm.MethodName)) ∈ lw_all := lw_g (lw_at lw_m7 180 rfl) rfl
theorem q1978 : (Jvm.Cond.code ({ cls := "ContractLedger$Memory", name := "set", desc := "(III)V" } : Jvm.MethodName) prog_10_method_5_code (4 : Nat) (Option.none : Option Jvm.ClassFile.FieldType)) ∈ lw_all := lw_g (lw_at lw_m7 181 rfl) rfl
theorem q1979 : (Jvm.Cond.constant "ContractLedger$Memory" (148 : Nat) (65536 : Int32)) ∈ lw_all := lw_g (lw_at lw_m7 182 rfl) rfl
theorem q1998 : (Jvm.Cond.instanceMethod ({ cls := "ContractLedger$Memory", name := "ofBytes", desc := "([BII)I" } : Jvm.MethodName)) ∈ lw_all := lw_g (lw_at lw_m7 201 rfl) rfl
theorem q1999 : (Jvm.Cond.selects "ContractLedger$Memory" ({ cls := "ContractLedger$Memory", name := "ofBytes", desc := "([BII)I" } : Jvm.MethodName) ({ cls := "ContractLedger$Memory", name := "ofBytes", desc := "([BII)I" } : Jvm.MethodName)) ∈ lw_all := lw_g (lw_at lw_m7 202 rfl) rfl
theorem q2000 : (Jvm.Cond.code ({ cls := "ContractLedger$Memory", name := "ofBytes", desc := "([BII)I" } : Jvm.MethodName) prog_10_method_28_code (6 : Nat) (Option.some Jvm.ClassFile.FieldType.int)) ∈ lw_all := lw_g (lw_at lw_m7 203 rfl) rfl
theorem q2001 : (Jvm.Cond.methodLink "ContractLedger$Memory" (159 : Nat) ({ cls := "ContractLedger$Memory", name := "bytes", desc := "(I)I" } : Jvm.MethodName)) ∈ lw_all := lw_g (lw_at lw_m7 204 rfl) rfl
theorem q2002 : (Jvm.Cond.instanceMethod ({ cls := "ContractLedger$Memory", name := "bytes", desc := "(I)I" } : Jvm.MethodName)) ∈ lw_all := lw_g (lw_at lw_m7 205 rfl) rfl
theorem q2003 : (Jvm.Cond.selects "ContractLedger$Memory" ({ cls := "ContractLedger$Memory", name := "bytes", desc := "(I)I" } : Jvm.MethodName) ({ cls := "ContractLedger$Memory", name := "bytes", desc := "(I)I" } : Jvm.MethodName)) ∈ lw_all := lw_g (lw_at lw_m7 206 rfl) rfl
theorem q2004 : (Jvm.Cond.code ({ cls := "ContractLedger$Memory", name := "bytes", desc := "(I)I" } : Jvm.MethodName) prog_10_method_24_code (5 : Nat) (Option.some Jvm.ClassFile.FieldType.int)) ∈ lw_all := lw_g (lw_at lw_m7 207 rfl) rfl
theorem q2005 : (Jvm.Cond.methodLink "ContractLedger$Memory" (162 : Nat) ({ cls := "ContractLedger$Memory", name := "setByte", desc := "(III)V" } : Jvm.MethodName)) ∈ lw_all := lw_g (lw_at lw_m7 208 rfl) rfl
theorem q2006 : (Jvm.Cond.instanceMethod ({ cls := "ContractLedger$Memory", name := "setByte", desc := "(III)V" } : Jvm.MethodName)) ∈ lw_all := lw_g (lw_at lw_m7 209 rfl) rfl
theorem q2007 : (Jvm.Cond.selects "ContractLedger$Memory" ({ cls := "ContractLedger$Memory", name := "setByte", desc := "(III)V" } : Jvm.MethodName) ({ cls := "ContractLedger$Memory", name := "setByte", desc := "(III)V" } : Jvm.MethodName)) ∈ lw_all := lw_g (lw_at lw_m7 210 rfl) rfl
theorem q2008 : (Jvm.Cond.code ({ cls := "ContractLedger$Memory", name := "setByte", desc := "(III)V" } : Jvm.MethodName) prog_10_method_27_code (6 : Nat) (Option.none : Option Jvm.ClassFile.FieldType)) ∈ lw_all := lw_g (lw_at lw_m7 211 rfl) rfl
theorem q2009 : (Jvm.Cond.methodLink "ContractLedger$Memory" (47 : Nat) ({ cls := "ContractLedger$Memory", name := "cell", desc := "(II)I" } : Jvm.MethodName)) ∈ lw_all := lw_g (lw_at lw_m7 212 rfl) rfl
theorem q2010 : (Jvm.Cond.instanceMethod ({ cls := "ContractLedger$Memory", name := "cell", desc := "(II)I" } : Jvm.MethodName)) ∈ lw_all := lw_g (lw_at lw_m7 213 rfl) rfl
theorem q2011 : (Jvm.Cond.selects "ContractLedger$Memory" ({ cls := "ContractLedger$Memory", name := "cell", desc := "(II)I" } : Jvm.MethodName) ({ cls := "ContractLedger$Memory", name := "cell", desc := "(II)I" } : Jvm.MethodName)) ∈ lw_all := lw_g (lw_at lw_m7 214 rfl) rfl
theorem q2012 : (Jvm.Cond.code ({ cls := "ContractLedger$Memory", name := "cell", desc := "(II)I" } : Jvm.MethodName) prog_10_method_4_code (3 : Nat) (Option.some Jvm.ClassFile.FieldType.int)) ∈ lw_all := lw_g (lw_at lw_m7 215 rfl) rfl
theorem q2024 : (Jvm.Cond.instanceMethod ({ cls := "ContractLedger$Memory", name := "wrap", desc := "(II)I" } : Jvm.MethodName)) ∈ lw_all := lw_g (lw_at lw_m7 227 rfl) rfl
theorem q2025 : (Jvm.Cond.selects "ContractLedger$Memory" ({ cls := "ContractLedger$Memory", name := "wrap", desc := "(II)I" } : Jvm.MethodName) ({ cls := "ContractLedger$Memory", name := "wrap", desc := "(II)I" } : Jvm.MethodName)) ∈ lw_all := lw_g (lw_at lw_m7 228 rfl) rfl
theorem q2026 : (Jvm.Cond.code ({ cls := "ContractLedger$Memory", name := "wrap", desc := "(II)I" } : Jvm.MethodName) prog_10_method_30_code (4 : Nat) (Option.some Jvm.ClassFile.FieldType.int)) ∈ lw_all := lw_g (lw_at lw_m7 229 rfl) rfl
theorem q2027 : (Jvm.Cond.methodLink "ContractLedger$Memory" (165 : Nat) ({ cls := "ContractLedger$Memory", name := "length", desc := "(I)I" } : Jvm.MethodName)) ∈ lw_all := lw_g (lw_at lw_m7 230 rfl) rfl
theorem q2028 : (Jvm.Cond.instanceMethod ({ cls := "ContractLedger$Memory", name := "length", desc := "(I)I" } : Jvm.MethodName)) ∈ lw_all := lw_g (lw_at lw_m7 231 rfl) rfl
theorem q2029 : (Jvm.Cond.selects "ContractLedger$Memory" ({ cls := "ContractLedger$Memory", name := "length", desc := "(I)I" } : Jvm.MethodName) ({ cls := "ContractLedger$Memory", name := "length", desc := "(I)I" } : Jvm.MethodName)) ∈ lw_all := lw_g (lw_at lw_m7 232 rfl) rfl
theorem q2030 : (Jvm.Cond.code ({ cls := "ContractLedger$Memory", name := "length", desc := "(I)I" } : Jvm.MethodName) prog_10_method_17_code (3 : Nat) (Option.some Jvm.ClassFile.FieldType.int)) ∈ lw_all := lw_g (lw_at lw_m7 233 rfl) rfl
theorem q2031 : (Jvm.Cond.methodLink "ContractLedger$Memory" (89 : Nat) ({ cls := "ContractLedger$Memory", name := "isSmall", desc := "(I)Z" } : Jvm.MethodName)) ∈ lw_all := lw_g (lw_at lw_m7 234 rfl) rfl
theorem q2032 : (Jvm.Cond.static ({ cls := "ContractLedger$Memory", name := "isSmall", desc := "(I)Z" } : Jvm.MethodName)) ∈ lw_all := lw_g (lw_at lw_m7 235 rfl) rfl
theorem q2033 : (Jvm.Cond.code ({ cls := "ContractLedger$Memory", name := "isSmall", desc := "(I)Z" } : Jvm.MethodName) prog_10_method_2_code (1 : Nat) (Option.some Jvm.ClassFile.FieldType.boolean)) ∈ lw_all := lw_g (lw_at lw_m7 236 rfl) rfl
theorem q2034 : (Jvm.Cond.methodLink "ContractLedger$Memory" (92 : Nat) ({ cls := "java/lang/Math", name := "abs", desc := "(I)I" } : Jvm.MethodName)) ∈ lw_all := lw_g (lw_at lw_m7 237 rfl) rfl
theorem q2037 : (Jvm.Cond.methodLink "ContractLedger$Memory" (97 : Nat) ({ cls := "java/lang/Integer", name := "numberOfLeadingZeros", desc := "(I)I" } : Jvm.MethodName)) ∈ lw_all := lw_g (lw_at lw_m8 0 rfl) rfl
theorem q2038 : (Jvm.Cond.methodLink "ContractLedger$Memory" (43 : Nat) ({ cls := "ContractLedger$Memory", name := "isPlace", desc := "(I)Z" } : Jvm.MethodName)) ∈ lw_all := lw_g (lw_at lw_m8 1 rfl) rfl
theorem q2039 : (Jvm.Cond.static ({ cls := "ContractLedger$Memory", name := "isPlace", desc := "(I)Z" } : Jvm.MethodName)) ∈ lw_all := lw_g (lw_at lw_m8 2 rfl) rfl
theorem q2040 : (Jvm.Cond.code ({ cls := "ContractLedger$Memory", name := "isPlace", desc := "(I)Z" } : Jvm.MethodName) prog_10_method_3_code (1 : Nat) (Option.some Jvm.ClassFile.FieldType.boolean)) ∈ lw_all := lw_g (lw_at lw_m8 3 rfl) rfl
theorem q2041 : (Jvm.Cond.methodLink "ContractLedger$Memory" (105 : Nat) ({ cls := "ContractLedger$Memory", name := "kind", desc := "(I)I" } : Jvm.MethodName)) ∈ lw_all := lw_g (lw_at lw_m8 4 rfl) rfl
theorem q2042 : (Jvm.Cond.instanceMethod ({ cls := "ContractLedger$Memory", name := "kind", desc := "(I)I" } : Jvm.MethodName)) ∈ lw_all := lw_g (lw_at lw_m8 5 rfl) rfl
theorem q2043 : (Jvm.Cond.selects "ContractLedger$Memory" ({ cls := "ContractLedger$Memory", name := "kind", desc := "(I)I" } : Jvm.MethodName) ({ cls := "ContractLedger$Memory", name := "kind", desc := "(I)I" } : Jvm.MethodName)) ∈ lw_all := lw_g (lw_at lw_m8 6 rfl) rfl
theorem q2044 : (Jvm.Cond.code ({ cls := "ContractLedger$Memory", name := "kind", desc := "(I)I" } : Jvm.MethodName) prog_10_method_6_code (2 : Nat) (Option.some Jvm.ClassFile.FieldType.int)) ∈ lw_all := lw_g (lw_at lw_m8 7 rfl) rfl
theorem q2045 : (Jvm.Cond.methodLink "ContractLedger$Memory" (108 : Nat) ({ cls := "ContractLedger$Memory", name := "sum", desc := "(II)I" } : Jvm.MethodName)) ∈ lw_all := lw_g (lw_at lw_m8 8 rfl) rfl
theorem q2046 : (Jvm.Cond.static ({ cls := "ContractLedger$Memory", name := "sum", desc := "(II)I" } : Jvm.MethodName)) ∈ lw_all := lw_g (lw_at lw_m8 9 rfl) rfl
theorem q2047 : (Jvm.Cond.code ({ cls := "ContractLedger$Memory", name := "sum", desc := "(II)I" } : Jvm.MethodName) prog_10_method_15_code (2 : Nat) (Option.some Jvm.ClassFile.FieldType.int)) ∈ lw_all := lw_g (lw_at lw_m8 10 rfl) rfl
theorem q2048 : (Jvm.Cond.constant "ContractLedger$Memory" (88 : Nat) (1073741824 : Int32)) ∈ lw_all := lw_g (lw_at lw_m8 11 rfl) rfl
theorem q2054 : (Jvm.Cond.instanceMethod ({ cls := "ContractLedger$Memory", name := "pair", desc := "(II)I" } : Jvm.MethodName)) ∈ lw_all := lw_g (lw_at lw_m8 17 rfl) rfl
theorem q2055 : (Jvm.Cond.selects "ContractLedger$Memory" ({ cls := "ContractLedger$Memory", name := "pair", desc := "(II)I" } : Jvm.MethodName) ({ cls := "ContractLedger$Memory", name := "pair", desc := "(II)I" } : Jvm.MethodName)) ∈ lw_all := lw_g (lw_at lw_m8 18 rfl) rfl
theorem q2056 : (Jvm.Cond.code ({ cls := "ContractLedger$Memory", name := "pair", desc := "(II)I" } : Jvm.MethodName) prog_10_method_29_code (4 : Nat) (Option.some Jvm.ClassFile.FieldType.int)) ∈ lw_all := lw_g (lw_at lw_m8 19 rfl) rfl
theorem q2063 : (Jvm.Cond.instanceMethod ({ cls := "ContractLedger$Memory", name := "cons", desc := "(II)I" } : Jvm.MethodName)) ∈ lw_all := lw_g (lw_at lw_m8 26 rfl) rfl
theorem q2064 : (Jvm.Cond.selects "ContractLedger$Memory" ({ cls := "ContractLedger$Memory", name := "cons", desc := "(II)I" } : Jvm.MethodName) ({ cls := "ContractLedger$Memory", name := "cons", desc := "(II)I" } : Jvm.MethodName)) ∈ lw_all := lw_g (lw_at lw_m8 27 rfl) rfl
theorem q2065 : (Jvm.Cond.code ({ cls := "ContractLedger$Memory", name := "cons", desc := "(II)I" } : Jvm.MethodName) prog_10_method_31_code (4 : Nat) (Option.some Jvm.ClassFile.FieldType.int)) ∈ lw_all := lw_g (lw_at lw_m8 28 rfl) rfl
theorem q2066 : (Jvm.Cond.methodLink "ContractLedger$Memory" (168 : Nat) ({ cls := "ContractLedger$Memory", name := "listCount", desc := "(I)I" } : Jvm.MethodName)) ∈ lw_all := lw_g (lw_at lw_m8 29 rfl) rfl
theorem q2067 : (Jvm.Cond.instanceMethod ({ cls := "ContractLedger$Memory", name := "listCount", desc := "(I)I" } : Jvm.MethodName)) ∈ lw_all := lw_g (lw_at lw_m8 30 rfl) rfl
theorem q2068 : (Jvm.Cond.selects "ContractLedger$Memory" ({ cls := "ContractLedger$Memory", name := "listCount", desc := "(I)I" } : Jvm.MethodName) ({ cls := "ContractLedger$Memory", name := "listCount", desc := "(I)I" } : Jvm.MethodName)) ∈ lw_all := lw_g (lw_at lw_m8 31 rfl) rfl
theorem q2069 : (Jvm.Cond.code ({ cls := "ContractLedger$Memory", name := "listCount", desc := "(I)I" } : Jvm.MethodName) prog_10_method_32_code (2 : Nat) (Option.some Jvm.ClassFile.FieldType.int)) ∈ lw_all := lw_g (lw_at lw_m8 32 rfl) rfl
theorem q2087 : (Jvm.Cond.instanceMethod ({ cls := "ContractLedger$Memory", name := "count", desc := "(I)I" } : Jvm.MethodName)) ∈ lw_all := lw_g (lw_at lw_m8 50 rfl) rfl
theorem q2088 : (Jvm.Cond.selects "ContractLedger$Memory" ({ cls := "ContractLedger$Memory", name := "count", desc := "(I)I" } : Jvm.MethodName) ({ cls := "ContractLedger$Memory", name := "count", desc := "(I)I" } : Jvm.MethodName)) ∈ lw_all := lw_g (lw_at lw_m8 51 rfl) rfl
theorem q2089 : (Jvm.Cond.code ({ cls := "ContractLedger$Memory", name := "count", desc := "(I)I" } : Jvm.MethodName) prog_10_method_25_code (2 : Nat) (Option.some Jvm.ClassFile.FieldType.int)) ∈ lw_all := lw_g (lw_at lw_m8 52 rfl) rfl
theorem q2092 : (Jvm.Cond.instanceMethod ({ cls := "ContractLedger$Memory", name := "byteAt", desc := "(II)I" } : Jvm.MethodName)) ∈ lw_all := lw_g (lw_at lw_m8 55 rfl) rfl
theorem q2093 : (Jvm.Cond.selects "ContractLedger$Memory" ({ cls := "ContractLedger$Memory", name := "byteAt", desc := "(II)I" } : Jvm.MethodName) ({ cls := "ContractLedger$Memory", name := "byteAt", desc := "(II)I" } : Jvm.MethodName)) ∈ lw_all := lw_g (lw_at lw_m8 56 rfl) rfl
theorem q2094 : (Jvm.Cond.code ({ cls := "ContractLedger$Memory", name := "byteAt", desc := "(II)I" } : Jvm.MethodName) prog_10_method_26_code (3 : Nat) (Option.some Jvm.ClassFile.FieldType.int)) ∈ lw_all := lw_g (lw_at lw_m8 57 rfl) rfl
theorem q2104 : (Jvm.Cond.instanceMethod ({ cls := "ContractLedger$Memory", name := "load", desc := "(ILContractLedger$Whole;)V" } : Jvm.MethodName)) ∈ lw_all := lw_g (lw_at lw_m8 67 rfl) rfl
theorem q2105 : (Jvm.Cond.selects "ContractLedger$Memory" ({ cls := "ContractLedger$Memory", name := "load", desc := "(ILContractLedger$Whole;)V" } : Jvm.MethodName) ({ cls := "ContractLedger$Memory", name := "load", desc := "(ILContractLedger$Whole;)V" } : Jvm.MethodName)) ∈ lw_all := lw_g (lw_at lw_m8 68 rfl) rfl
theorem q2106 : (Jvm.Cond.code ({ cls := "ContractLedger$Memory", name := "load", desc := "(ILContractLedger$Whole;)V" } : Jvm.MethodName) prog_10_method_21_code (5 : Nat) (Option.none : Option Jvm.ClassFile.FieldType)) ∈ lw_all := lw_g (lw_at lw_m8 69 rfl) rfl
theorem q2107 : (Jvm.Cond.methodLink "ContractLedger$Memory" (118 : Nat) ({ cls := "ContractLedger$Whole", name := "set", desc := "(J)V" } : Jvm.MethodName)) ∈ lw_all := lw_g (lw_at lw_m8 70 rfl) rfl
theorem q2108 : (Jvm.Cond.constant "ContractLedger$Memory" (59 : Nat) (65535 : Int32)) ∈ lw_all := lw_g (lw_at lw_m8 71 rfl) rfl
theorem q2109 : (Jvm.Cond.methodLink "ContractLedger$Memory" (152 : Nat) ({ cls := "ContractLedger$Whole", name := "trim", desc := "(I)V" } : Jvm.MethodName)) ∈ lw_all := lw_g (lw_at lw_m8 72 rfl) rfl
theorem q2127 : (Jvm.Cond.instanceMethod ({ cls := "ContractLedger$Memory", name := "node", desc := "(IIII)I" } : Jvm.MethodName)) ∈ lw_all := lw_g (lw_at lw_m8 90 rfl) rfl
theorem q2128 : (Jvm.Cond.selects "ContractLedger$Memory" ({ cls := "ContractLedger$Memory", name := "node", desc := "(IIII)I" } : Jvm.MethodName) ({ cls := "ContractLedger$Memory", name := "node", desc := "(IIII)I" } : Jvm.MethodName)) ∈ lw_all := lw_g (lw_at lw_m8 91 rfl) rfl
theorem q2129 : (Jvm.Cond.code ({ cls := "ContractLedger$Memory", name := "node", desc := "(IIII)I" } : Jvm.MethodName) prog_10_method_40_code (7 : Nat) (Option.some Jvm.ClassFile.FieldType.int)) ∈ lw_all := lw_g (lw_at lw_m8 92 rfl) rfl
theorem q2130 : (Jvm.Cond.methodLink "ContractLedger$Memory" (171 : Nat) ({ cls := "ContractLedger$Memory", name := "total", desc := "(I)I" } : Jvm.MethodName)) ∈ lw_all := lw_g (lw_at lw_m8 93 rfl) rfl
theorem q2131 : (Jvm.Cond.privateMethod ({ cls := "ContractLedger$Memory", name := "total", desc := "(I)I" } : Jvm.MethodName)) ∈ lw_tbl := lw_at lw_m8 94 rfl
theorem q2132 : (Jvm.Cond.instanceMethod ({ cls := "ContractLedger$Memory", name := "total", desc := "(I)I" } : Jvm.MethodName)) ∈ lw_all := lw_g (lw_at lw_m8 95 rfl) rfl
theorem q2133 : (Jvm.Cond.code ({ cls := "ContractLedger$Memory", name := "total", desc := "(I)I" } : Jvm.MethodName) prog_10_method_39_code (2 : Nat) (Option.some Jvm.ClassFile.FieldType.int)) ∈ lw_all := lw_g (lw_at lw_m8 96 rfl) rfl
theorem q2134 : (Jvm.Cond.methodLink "ContractLedger$Memory" (174 : Nat) ({ cls := "ContractLedger$Memory", name := "many", desc := "(I)I" } : Jvm.MethodName)) ∈ lw_all := lw_g (lw_at lw_m8 97 rfl) rfl
theorem q2135 : (Jvm.Cond.instanceMethod ({ cls := "ContractLedger$Memory", name := "many", desc := "(I)I" } : Jvm.MethodName)) ∈ lw_all := lw_g (lw_at lw_m8 98 rfl) rfl
theorem q2136 : (Jvm.Cond.selects "ContractLedger$Memory" ({ cls := "ContractLedger$Memory", name := "many", desc := "(I)I" } : Jvm.MethodName) ({ cls := "ContractLedger$Memory", name := "many", desc := "(I)I" } : Jvm.MethodName)) ∈ lw_all := lw_g (lw_at lw_m8 99 rfl) rfl
theorem q2137 : (Jvm.Cond.code ({ cls := "ContractLedger$Memory", name := "many", desc := "(I)I" } : Jvm.MethodName) prog_10_method_37_code (2 : Nat) (Option.some Jvm.ClassFile.FieldType.int)) ∈ lw_all := lw_g (lw_at lw_m8 100 rfl) rfl
theorem q2138 : (Jvm.Cond.methodLink "ContractLedger$Memory" (177 : Nat) ({ cls := "ContractLedger$Memory", name := "height", desc := "(I)I" } : Jvm.MethodName)) ∈ lw_all := lw_g (lw_at lw_m8 101 rfl) rfl
theorem q2139 : (Jvm.Cond.instanceMethod ({ cls := "ContractLedger$Memory", name := "height", desc := "(I)I" } : Jvm.MethodName)) ∈ lw_all := lw_g (lw_at lw_m8 102 rfl) rfl
theorem q2140 : (Jvm.Cond.selects "ContractLedger$Memory" ({ cls := "ContractLedger$Memory", name := "height", desc := "(I)I" } : Jvm.MethodName) ({ cls := "ContractLedger$Memory", name := "height", desc := "(I)I" } : Jvm.MethodName)) ∈ lw_all := lw_g (lw_at lw_m8 103 rfl) rfl
theorem q2141 : (Jvm.Cond.code ({ cls := "ContractLedger$Memory", name := "height", desc := "(I)I" } : Jvm.MethodName) prog_10_method_38_code (2 : Nat) (Option.some Jvm.ClassFile.FieldType.int)) ∈ lw_all := lw_g (lw_at lw_m8 104 rfl) rfl
theorem q2142 : (Jvm.Cond.methodLink "ContractLedger$Memory" (180 : Nat) ({ cls := "java/lang/Math", name := "max", desc := "(II)I" } : Jvm.MethodName)) ∈ lw_all := lw_g (lw_at lw_m8 105 rfl) rfl
theorem q2323 : (Jvm.Cond.instanceMethod ({ cls := "ContractLedger$Memory", name := "dropFixed", desc := "(I)V" } : Jvm.MethodName)) ∈ lw_all := lw_g (lw_at lw_m9 46 rfl) rfl
theorem q2324 : (Jvm.Cond.selects "ContractLedger$Memory" ({ cls := "ContractLedger$Memory", name := "dropFixed", desc := "(I)V" } : Jvm.MethodName) ({ cls := "ContractLedger$Memory", name := "dropFixed", desc := "(I)V" } : Jvm.MethodName)) ∈ lw_all := lw_g (lw_at lw_m9 47 rfl) rfl
theorem q2325 : (Jvm.Cond.code ({ cls := "ContractLedger$Memory", name := "dropFixed", desc := "(I)V" } : Jvm.MethodName) prog_10_method_8_code (2 : Nat) (Option.none : Option Jvm.ClassFile.FieldType)) ∈ lw_all := lw_g (lw_at lw_m9 48 rfl) rfl
theorem q2341 : (Jvm.Cond.instanceMethod ({ cls := "ContractLedger$Memory", name := "tidy", desc := "(ILContractLedger$Roots;)V" } : Jvm.MethodName)) ∈ lw_all := lw_g (lw_at lw_m9 64 rfl) rfl
theorem q2342 : (Jvm.Cond.selects "ContractLedger$Memory" ({ cls := "ContractLedger$Memory", name := "tidy", desc := "(ILContractLedger$Roots;)V" } : Jvm.MethodName) ({ cls := "ContractLedger$Memory", name := "tidy", desc := "(ILContractLedger$Roots;)V" } : Jvm.MethodName)) ∈ lw_all := lw_g (lw_at lw_m9 65 rfl) rfl
theorem q2343 : (Jvm.Cond.code ({ cls := "ContractLedger$Memory", name := "tidy", desc := "(ILContractLedger$Roots;)V" } : Jvm.MethodName) prog_10_method_13_code (5 : Nat) (Option.none : Option Jvm.ClassFile.FieldType)) ∈ lw_all := lw_g (lw_at lw_m9 66 rfl) rfl
theorem q2344 : (Jvm.Cond.methodLink "ContractLedger$Memory" (77 : Nat) ({ cls := "ContractLedger$Roots", name := "keep", desc := "(LContractLedger$Memory;)V" } : Jvm.MethodName)) ∈ lw_all := lw_g (lw_at lw_m9 67 rfl) rfl
theorem q2355 : (Jvm.Cond.instanceMethod ({ cls := "ContractLedger$Memory", name := "keep", desc := "(I)I" } : Jvm.MethodName)) ∈ lw_all := lw_g (lw_at lw_m9 78 rfl) rfl
theorem q2356 : (Jvm.Cond.selects "ContractLedger$Memory" ({ cls := "ContractLedger$Memory", name := "keep", desc := "(I)I" } : Jvm.MethodName) ({ cls := "ContractLedger$Memory", name := "keep", desc := "(I)I" } : Jvm.MethodName)) ∈ lw_all := lw_g (lw_at lw_m9 79 rfl) rfl
theorem q2357 : (Jvm.Cond.code ({ cls := "ContractLedger$Memory", name := "keep", desc := "(I)I" } : Jvm.MethodName) prog_10_method_11_code (5 : Nat) (Option.some Jvm.ClassFile.FieldType.int)) ∈ lw_all := lw_g (lw_at lw_m9 80 rfl) rfl
theorem q2358 : (Jvm.Cond.methodLink "ContractLedger$Memory" (64 : Nat) ({ cls := "ContractLedger$Memory", name := "sizeOf", desc := "(I)I" } : Jvm.MethodName)) ∈ lw_all := lw_g (lw_at lw_m9 81 rfl) rfl
theorem q2359 : (Jvm.Cond.privateMethod ({ cls := "ContractLedger$Memory", name := "sizeOf", desc := "(I)I" } : Jvm.MethodName)) ∈ lw_tbl := lw_at lw_m9 82 rfl
theorem q2360 : (Jvm.Cond.instanceMethod ({ cls := "ContractLedger$Memory", name := "sizeOf", desc := "(I)I" } : Jvm.MethodName)) ∈ lw_all := lw_g (lw_at lw_m9 83 rfl) rfl
theorem q2361 : (Jvm.Cond.code ({ cls := "ContractLedger$Memory", name := "sizeOf", desc := "(I)I" } : Jvm.MethodName) prog_10_method_10_code (3 : Nat) (Option.some Jvm.ClassFile.FieldType.int)) ∈ lw_all := lw_g (lw_at lw_m9 84 rfl) rfl
theorem q2362 : (Jvm.Cond.fieldLink "ContractLedger$Memory" (60 : Nat) "ContractLedger$Memory" "SIZES" "[B") ∈ lw_all := lw_g (lw_at lw_m9 85 rfl) rfl
theorem q2363 : (Jvm.Cond.laysStatic "ContractLedger$Memory" "SIZES" "[B") ∈ lw_tbl := lw_at lw_m9 86 rfl
theorem q2364 : (Jvm.Cond.methodLink "ContractLedger$Memory" (68 : Nat) ({ cls := "java/lang/System", name := "arraycopy", desc := "(Ljava/lang/Object;ILjava/lang/Object;II)V" } : Jvm.MethodName)) ∈ lw_all := lw_g (lw_at lw_m9 87 rfl) rfl
theorem q2365 : (Jvm.Cond.methodLink "ContractLedger$Memory" (82 : Nat) ({ cls := "ContractLedger$Memory", name := "keepParts", desc := "(I)V" } : Jvm.MethodName)) ∈ lw_all := lw_g (lw_at lw_m9 88 rfl) rfl
theorem q2366 : (Jvm.Cond.privateMethod ({ cls := "ContractLedger$Memory", name := "keepParts", desc := "(I)V" } : Jvm.MethodName)) ∈ lw_tbl := lw_at lw_m9 89 rfl
theorem q2367 : (Jvm.Cond.instanceMethod ({ cls := "ContractLedger$Memory", name := "keepParts", desc := "(I)V" } : Jvm.MethodName)) ∈ lw_all := lw_g (lw_at lw_m9 90 rfl) rfl
theorem q2368 : (Jvm.Cond.code ({ cls := "ContractLedger$Memory", name := "keepParts", desc := "(I)V" } : Jvm.MethodName) prog_10_method_12_code (5 : Nat) (Option.none : Option Jvm.ClassFile.FieldType)) ∈ lw_all := lw_g (lw_at lw_m9 91 rfl) rfl
theorem q2369 : (Jvm.Cond.methodLink "ContractLedger$Memory" (74 : Nat) ({ cls := "ContractLedger$Memory", name := "keep", desc := "(I)I" } : Jvm.MethodName)) ∈ lw_all := lw_g (lw_at lw_m9 92 rfl) rfl
theorem q2370 : (Jvm.Cond.methodLink "ContractLedger$Memory" (85 : Nat) ({ cls := "ContractLedger$Memory", name := "sizeHere", desc := "(I)I" } : Jvm.MethodName)) ∈ lw_all := lw_g (lw_at lw_m9 93 rfl) rfl
theorem q2371 : (Jvm.Cond.privateMethod ({ cls := "ContractLedger$Memory", name := "sizeHere", desc := "(I)I" } : Jvm.MethodName)) ∈ lw_tbl := lw_at lw_m9 94 rfl
theorem q2372 : (Jvm.Cond.instanceMethod ({ cls := "ContractLedger$Memory", name := "sizeHere", desc := "(I)I" } : Jvm.MethodName)) ∈ lw_all := lw_g (lw_at lw_m9 95 rfl) rfl
theorem q2373 : (Jvm.Cond.code ({ cls := "ContractLedger$Memory", name := "sizeHere", desc := "(I)I" } : Jvm.MethodName) prog_10_method_14_code (3 : Nat) (Option.some Jvm.ClassFile.FieldType.int)) ∈ lw_all := lw_g (lw_at lw_m9 96 rfl) rfl
theorem q2689 : (Jvm.Cond.instanceMethod ({ cls := "ContractLedger$Memory", name := "lambda", desc := "(III)I" } : Jvm.MethodName)) ∈ lw_all := lw_g (lw_at lw_m10 172 rfl) rfl
theorem q2690 : (Jvm.Cond.selects "ContractLedger$Memory" ({ cls := "ContractLedger$Memory", name := "lambda", desc := "(III)I" } : Jvm.MethodName) ({ cls := "ContractLedger$Memory", name := "lambda", desc := "(III)I" } : Jvm.MethodName)) ∈ lw_all := lw_g (lw_at lw_m10 173 rfl) rfl
theorem q2691 : (Jvm.Cond.code ({ cls := "ContractLedger$Memory", name := "lambda", desc := "(III)I" } : Jvm.MethodName) prog_10_method_33_code (5 : Nat) (Option.some Jvm.ClassFile.FieldType.int)) ∈ lw_all := lw_g (lw_at lw_m10 174 rfl) rfl
theorem q2712 : (Jvm.Cond.instanceMethod ({ cls := "ContractLedger$Memory", name := "isNegative", desc := "(I)Z" } : Jvm.MethodName)) ∈ lw_all := lw_g (lw_at lw_m10 195 rfl) rfl
theorem q2713 : (Jvm.Cond.selects "ContractLedger$Memory" ({ cls := "ContractLedger$Memory", name := "isNegative", desc := "(I)Z" } : Jvm.MethodName) ({ cls := "ContractLedger$Memory", name := "isNegative", desc := "(I)Z" } : Jvm.MethodName)) ∈ lw_all := lw_g (lw_at lw_m10 196 rfl) rfl
theorem q2714 : (Jvm.Cond.code ({ cls := "ContractLedger$Memory", name := "isNegative", desc := "(I)Z" } : Jvm.MethodName) prog_10_method_23_code (2 : Nat) (Option.some Jvm.ClassFile.FieldType.boolean)) ∈ lw_all := lw_g (lw_at lw_m10 197 rfl) rfl
theorem q2766 : (Jvm.Cond.instanceMethod ({ cls := "ContractLedger$Memory", name := "ofLong", desc := "(J)I" } : Jvm.MethodName)) ∈ lw_all := lw_g (lw_at lw_m11 9 rfl) rfl
theorem q2767 : (Jvm.Cond.selects "ContractLedger$Memory" ({ cls := "ContractLedger$Memory", name := "ofLong", desc := "(J)I" } : Jvm.MethodName) ({ cls := "ContractLedger$Memory", name := "ofLong", desc := "(J)I" } : Jvm.MethodName)) ∈ lw_all := lw_g (lw_at lw_m11 10 rfl) rfl
theorem q2768 : (Jvm.Cond.code ({ cls := "ContractLedger$Memory", name := "ofLong", desc := "(J)I" } : Jvm.MethodName) prog_10_method_19_code (3 : Nat) (Option.some Jvm.ClassFile.FieldType.int)) ∈ lw_all := lw_g (lw_at lw_m11 11 rfl) rfl
theorem q2769 : (Jvm.Cond.constantLong "ContractLedger$Memory" (111 : Nat) (-1073741824 : Int64)) ∈ lw_all := lw_g (lw_at lw_m11 12 rfl) rfl
theorem q2770 : (Jvm.Cond.constantLong "ContractLedger$Memory" (113 : Nat) (1073741823 : Int64)) ∈ lw_all := lw_g (lw_at lw_m11 13 rfl) rfl
theorem q2771 : (Jvm.Cond.methodLink "ContractLedger$Memory" (121 : Nat) ({ cls := "ContractLedger$Memory", name := "ofWhole", desc := "(LContractLedger$Whole;)I" } : Jvm.MethodName)) ∈ lw_all := lw_g (lw_at lw_m11 14 rfl) rfl
theorem q2984 : (Jvm.Cond.instanceMethod ({ cls := "ContractLedger$Memory", name := "contract", desc := "(II)I" } : Jvm.MethodName)) ∈ lw_all := lw_g (lw_at lw_m11 227 rfl) rfl
theorem q2985 : (Jvm.Cond.selects "ContractLedger$Memory" ({ cls := "ContractLedger$Memory", name := "contract", desc := "(II)I" } : Jvm.MethodName) ({ cls := "ContractLedger$Memory", name := "contract", desc := "(II)I" } : Jvm.MethodName)) ∈ lw_all := lw_g (lw_at lw_m11 228 rfl) rfl
theorem q2986 : (Jvm.Cond.code ({ cls := "ContractLedger$Memory", name := "contract", desc := "(II)I" } : Jvm.MethodName) prog_10_method_34_code (4 : Nat) (Option.some Jvm.ClassFile.FieldType.int)) ∈ lw_all := lw_g (lw_at lw_m11 229 rfl) rfl
theorem q2999 : (Jvm.Cond.instanceMethod ({ cls := "ContractLedger$Memory", name := "operation", desc := "(IIIII)I" } : Jvm.MethodName)) ∈ lw_all := lw_g (lw_at lw_m12 2 rfl) rfl
theorem q3000 : (Jvm.Cond.selects "ContractLedger$Memory" ({ cls := "ContractLedger$Memory", name := "operation", desc := "(IIIII)I" } : Jvm.MethodName) ({ cls := "ContractLedger$Memory", name := "operation", desc := "(IIIII)I" } : Jvm.MethodName)) ∈ lw_all := lw_g (lw_at lw_m12 3 rfl) rfl
theorem q3001 : (Jvm.Cond.code ({ cls := "ContractLedger$Memory", name := "operation", desc := "(IIIII)I" } : Jvm.MethodName) prog_10_method_35_code (7 : Nat) (Option.some Jvm.ClassFile.FieldType.int)) ∈ lw_all := lw_g (lw_at lw_m12 4 rfl) rfl
theorem q3007 : (Jvm.Cond.instanceMethod ({ cls := "ContractLedger$Memory", name := "begin", desc := "(I)Z" } : Jvm.MethodName)) ∈ lw_all := lw_g (lw_at lw_m12 10 rfl) rfl
theorem q3008 : (Jvm.Cond.selects "ContractLedger$Memory" ({ cls := "ContractLedger$Memory", name := "begin", desc := "(I)Z" } : Jvm.MethodName) ({ cls := "ContractLedger$Memory", name := "begin", desc := "(I)Z" } : Jvm.MethodName)) ∈ lw_all := lw_g (lw_at lw_m12 11 rfl) rfl
theorem q3009 : (Jvm.Cond.code ({ cls := "ContractLedger$Memory", name := "begin", desc := "(I)Z" } : Jvm.MethodName) prog_10_method_36_code (3 : Nat) (Option.some Jvm.ClassFile.FieldType.boolean)) ∈ lw_all := lw_g (lw_at lw_m12 12 rfl) rfl
theorem q3011 : (Jvm.Cond.instanceMethod ({ cls := "ContractLedger$Memory", name := "toLong", desc := "(I)J" } : Jvm.MethodName)) ∈ lw_all := lw_g (lw_at lw_m12 14 rfl) rfl
theorem q3012 : (Jvm.Cond.selects "ContractLedger$Memory" ({ cls := "ContractLedger$Memory", name := "toLong", desc := "(I)J" } : Jvm.MethodName) ({ cls := "ContractLedger$Memory", name := "toLong", desc := "(I)J" } : Jvm.MethodName)) ∈ lw_all := lw_g (lw_at lw_m12 15 rfl) rfl
theorem q3013 : (Jvm.Cond.code ({ cls := "ContractLedger$Memory", name := "toLong", desc := "(I)J" } : Jvm.MethodName) prog_10_method_22_code (5 : Nat) (Option.some Jvm.ClassFile.FieldType.long)) ∈ lw_all := lw_g (lw_at lw_m12 16 rfl) rfl
theorem q3014 : (Jvm.Cond.methodLink "ContractLedger$Memory" (155 : Nat) ({ cls := "ContractLedger$Memory", name := "load", desc := "(ILContractLedger$Whole;)V" } : Jvm.MethodName)) ∈ lw_all := lw_g (lw_at lw_m12 17 rfl) rfl
