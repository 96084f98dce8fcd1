/-! java/lang/Throwable -/
set_option maxRecDepth 100000
def RJ0 : String := "java/lang/Throwable"
def TJ0 : u_T := fun k => match k with
  | 0 => ("java/lang/Throwable", "cause", "Ljava/lang/Throwable;", false)
  | 1 => ("java/lang/Throwable", "stackTrace", "[Ljava/lang/StackTraceElement;", false)
  | 2 => ("java/lang/Throwable", "suppressedExceptions", "Ljava/util/List;", false)
  | 3 => ("java/lang/Throwable", "detailMessage", "Ljava/lang/String;", false)
  | _ => ("java/lang/Throwable", "backtrace", "Ljava/lang/Object;", false)
def tyJ0 : Nat → FieldType := fun k => match k with
  | 0 => .object "java/lang/Throwable"
  | 1 => .array (.object "java/lang/StackTraceElement")
  | 2 => .object "java/util/List"
  | 3 => .object "java/lang/String"
  | _ => .object "java/lang/Object"
abbrev wsJ00 : List Cond := u_ws RJ0 TJ0 5
theorem nmJ0 : ∀ a, a < 5 → ∀ b, b < 5 → a ≠ b → (TJ0 a).2.1 ≠ (TJ0 b).2.1 := by decide +kernel
theorem tyJ0_ok : ∀ k, k < 5 → parseFieldDescriptor (TJ0 k).2.2.1 = some (tyJ0 k) := by decide +kernel
abbrev cJ0_init : ByteArray := prog_79_method_1_code
def yJ0_init : MethodName := ⟨RJ0, "<init>", "()V"⟩
def dkwJ0_init_1 : List UInt8 := [182, 0, 27, 87, 177]
abbrev dktJ0_init_1 : List UInt8 := dkwJ0_init_1 ++ []
def dkwJ0_init_0 : List UInt8 := [42, 183, 0, 1, 42, 42, 181, 0, 7, 42, 178, 0, 13, 181, 0, 17, 42, 178, 0, 20, 181, 0, 24, 42]
abbrev dktJ0_init_0 : List UInt8 := dkwJ0_init_0 ++ dktJ0_init_1
theorem dksJ0_init_0 : cJ0_init.data.toList.drop 0 = dktJ0_init_0 := by decide +kernel
theorem dksJ0_init_1 : cJ0_init.data.toList.drop 24 = dktJ0_init_1 := dk_seg dksJ0_init_0 24 rfl rfl
theorem dJ0_init_0 : decode cJ0_init 0 = .ok (.aload_n 0, 1) := dk_42 (dk_at dksJ0_init_0 0 rfl rfl)
theorem dJ0_init_1 : decode cJ0_init 1 = .ok (.invokespecial 1, 3) := dk_183 0 1 (dk_at dksJ0_init_0 1 rfl rfl)
theorem dJ0_init_4 : decode cJ0_init 4 = .ok (.aload_n 0, 1) := dk_42 (dk_at dksJ0_init_0 4 rfl rfl)
theorem dJ0_init_5 : decode cJ0_init 5 = .ok (.aload_n 0, 1) := dk_42 (dk_at dksJ0_init_0 5 rfl rfl)
theorem dJ0_init_6 : decode cJ0_init 6 = .ok (.putfield 7, 3) := dk_181 0 7 (dk_at dksJ0_init_0 6 rfl rfl)
theorem dJ0_init_9 : decode cJ0_init 9 = .ok (.aload_n 0, 1) := dk_42 (dk_at dksJ0_init_0 9 rfl rfl)
theorem dJ0_init_10 : decode cJ0_init 10 = .ok (.getstatic 13, 3) := dk_178 0 13 (dk_at dksJ0_init_0 10 rfl rfl)
theorem dJ0_init_13 : decode cJ0_init 13 = .ok (.putfield 17, 3) := dk_181 0 17 (dk_at dksJ0_init_0 13 rfl rfl)
theorem dJ0_init_16 : decode cJ0_init 16 = .ok (.aload_n 0, 1) := dk_42 (dk_at dksJ0_init_0 16 rfl rfl)
theorem dJ0_init_17 : decode cJ0_init 17 = .ok (.getstatic 20, 3) := dk_178 0 20 (dk_at dksJ0_init_0 17 rfl rfl)
theorem dJ0_init_20 : decode cJ0_init 20 = .ok (.putfield 24, 3) := dk_181 0 24 (dk_at dksJ0_init_0 20 rfl rfl)
theorem dJ0_init_23 : decode cJ0_init 23 = .ok (.aload_n 0, 1) := dk_42 (dk_at dksJ0_init_0 23 rfl rfl)
theorem dJ0_init_24 : decode cJ0_init 24 = .ok (.invokevirtual 27, 3) := dk_182 0 27 (dk_at dksJ0_init_1 0 rfl rfl)
theorem dJ0_init_27 : decode cJ0_init 27 = .ok (.pop, 1) := dk_87 (dk_at dksJ0_init_1 3 rfl rfl)
theorem dJ0_init_28 : decode cJ0_init 28 = .ok (.return_, 1) := dk_177 (dk_at dksJ0_init_1 4 rfl rfl)
abbrev cJ0_init_2 : ByteArray := prog_79_method_5_code
def yJ0_init_2 : MethodName := ⟨RJ0, "<init>", "(Ljava/lang/String;Ljava/lang/Throwable;ZZ)V"⟩
def dkwJ0_init_2_2 : List UInt8 := [44, 181, 0, 7, 29, 154, 0, 8, 42, 1, 181, 0, 24, 177]
abbrev dktJ0_init_2_2 : List UInt8 := dkwJ0_init_2_2 ++ []
def dkwJ0_init_2_1 : List UInt8 := [21, 4, 153, 0, 11, 42, 182, 0, 27, 87, 167, 0, 8, 42, 1, 181, 0, 17, 42, 43, 181, 0, 31, 42]
abbrev dktJ0_init_2_1 : List UInt8 := dkwJ0_init_2_1 ++ dktJ0_init_2_2
def dkwJ0_init_2_0 : List UInt8 := [42, 183, 0, 1, 42, 42, 181, 0, 7, 42, 178, 0, 13, 181, 0, 17, 42, 178, 0, 20, 181, 0, 24]
abbrev dktJ0_init_2_0 : List UInt8 := dkwJ0_init_2_0 ++ dktJ0_init_2_1
theorem dksJ0_init_2_0 : cJ0_init_2.data.toList.drop 0 = dktJ0_init_2_0 := by decide +kernel
theorem dksJ0_init_2_1 : cJ0_init_2.data.toList.drop 23 = dktJ0_init_2_1 := dk_seg dksJ0_init_2_0 23 rfl rfl
theorem dksJ0_init_2_2 : cJ0_init_2.data.toList.drop 47 = dktJ0_init_2_2 := dk_seg dksJ0_init_2_1 24 rfl rfl
theorem dJ0_init_2_0 : decode cJ0_init_2 0 = .ok (.aload_n 0, 1) := dk_42 (dk_at dksJ0_init_2_0 0 rfl rfl)
theorem dJ0_init_2_1 : decode cJ0_init_2 1 = .ok (.invokespecial 1, 3) := dk_183 0 1 (dk_at dksJ0_init_2_0 1 rfl rfl)
theorem dJ0_init_2_4 : decode cJ0_init_2 4 = .ok (.aload_n 0, 1) := dk_42 (dk_at dksJ0_init_2_0 4 rfl rfl)
theorem dJ0_init_2_5 : decode cJ0_init_2 5 = .ok (.aload_n 0, 1) := dk_42 (dk_at dksJ0_init_2_0 5 rfl rfl)
theorem dJ0_init_2_6 : decode cJ0_init_2 6 = .ok (.putfield 7, 3) := dk_181 0 7 (dk_at dksJ0_init_2_0 6 rfl rfl)
theorem dJ0_init_2_9 : decode cJ0_init_2 9 = .ok (.aload_n 0, 1) := dk_42 (dk_at dksJ0_init_2_0 9 rfl rfl)
theorem dJ0_init_2_10 : decode cJ0_init_2 10 = .ok (.getstatic 13, 3) := dk_178 0 13 (dk_at dksJ0_init_2_0 10 rfl rfl)
theorem dJ0_init_2_13 : decode cJ0_init_2 13 = .ok (.putfield 17, 3) := dk_181 0 17 (dk_at dksJ0_init_2_0 13 rfl rfl)
theorem dJ0_init_2_16 : decode cJ0_init_2 16 = .ok (.aload_n 0, 1) := dk_42 (dk_at dksJ0_init_2_0 16 rfl rfl)
theorem dJ0_init_2_17 : decode cJ0_init_2 17 = .ok (.getstatic 20, 3) := dk_178 0 20 (dk_at dksJ0_init_2_0 17 rfl rfl)
theorem dJ0_init_2_20 : decode cJ0_init_2 20 = .ok (.putfield 24, 3) := dk_181 0 24 (dk_at dksJ0_init_2_0 20 rfl rfl)
theorem dJ0_init_2_23 : decode cJ0_init_2 23 = .ok (.iload 4, 2) := dk_21 4 (dk_at dksJ0_init_2_1 0 rfl rfl)
theorem dJ0_init_2_25 : decode cJ0_init_2 25 = .ok (.ifCond .eq 11, 3) := dk_153 0 11 (dk_at dksJ0_init_2_1 2 rfl rfl)
theorem dJ0_init_2_28 : decode cJ0_init_2 28 = .ok (.aload_n 0, 1) := dk_42 (dk_at dksJ0_init_2_1 5 rfl rfl)
theorem dJ0_init_2_29 : decode cJ0_init_2 29 = .ok (.invokevirtual 27, 3) := dk_182 0 27 (dk_at dksJ0_init_2_1 6 rfl rfl)
theorem dJ0_init_2_32 : decode cJ0_init_2 32 = .ok (.pop, 1) := dk_87 (dk_at dksJ0_init_2_1 9 rfl rfl)
theorem dJ0_init_2_33 : decode cJ0_init_2 33 = .ok (.goto 8, 3) := dk_167 0 8 (dk_at dksJ0_init_2_1 10 rfl rfl)
theorem dJ0_init_2_36 : decode cJ0_init_2 36 = .ok (.aload_n 0, 1) := dk_42 (dk_at dksJ0_init_2_1 13 rfl rfl)
theorem dJ0_init_2_37 : decode cJ0_init_2 37 = .ok (.aconst_null, 1) := dk_1 (dk_at dksJ0_init_2_1 14 rfl rfl)
theorem dJ0_init_2_38 : decode cJ0_init_2 38 = .ok (.putfield 17, 3) := dk_181 0 17 (dk_at dksJ0_init_2_1 15 rfl rfl)
theorem dJ0_init_2_41 : decode cJ0_init_2 41 = .ok (.aload_n 0, 1) := dk_42 (dk_at dksJ0_init_2_1 18 rfl rfl)
theorem dJ0_init_2_42 : decode cJ0_init_2 42 = .ok (.aload_n 1, 1) := dk_43 (dk_at dksJ0_init_2_1 19 rfl rfl)
theorem dJ0_init_2_43 : decode cJ0_init_2 43 = .ok (.putfield 31, 3) := dk_181 0 31 (dk_at dksJ0_init_2_1 20 rfl rfl)
theorem dJ0_init_2_46 : decode cJ0_init_2 46 = .ok (.aload_n 0, 1) := dk_42 (dk_at dksJ0_init_2_1 23 rfl rfl)
theorem dJ0_init_2_47 : decode cJ0_init_2 47 = .ok (.aload_n 2, 1) := dk_44 (dk_at dksJ0_init_2_2 0 rfl rfl)
theorem dJ0_init_2_48 : decode cJ0_init_2 48 = .ok (.putfield 7, 3) := dk_181 0 7 (dk_at dksJ0_init_2_2 1 rfl rfl)
theorem dJ0_init_2_51 : decode cJ0_init_2 51 = .ok (.iload_n 3, 1) := dk_29 (dk_at dksJ0_init_2_2 4 rfl rfl)
theorem dJ0_init_2_52 : decode cJ0_init_2 52 = .ok (.ifCond .ne 8, 3) := dk_154 0 8 (dk_at dksJ0_init_2_2 5 rfl rfl)
theorem dJ0_init_2_55 : decode cJ0_init_2 55 = .ok (.aload_n 0, 1) := dk_42 (dk_at dksJ0_init_2_2 8 rfl rfl)
theorem dJ0_init_2_56 : decode cJ0_init_2 56 = .ok (.aconst_null, 1) := dk_1 (dk_at dksJ0_init_2_2 9 rfl rfl)
theorem dJ0_init_2_57 : decode cJ0_init_2 57 = .ok (.putfield 24, 3) := dk_181 0 24 (dk_at dksJ0_init_2_2 10 rfl rfl)
theorem dJ0_init_2_60 : decode cJ0_init_2 60 = .ok (.return_, 1) := dk_177 (dk_at dksJ0_init_2_2 13 rfl rfl)
abbrev cJ0_init_3 : ByteArray := prog_79_method_2_code
def yJ0_init_3 : MethodName := ⟨RJ0, "<init>", "(Ljava/lang/String;)V"⟩
def dkwJ0_init_3_1 : List UInt8 := [182, 0, 27, 87, 42, 43, 181, 0, 31, 177]
abbrev dktJ0_init_3_1 : List UInt8 := dkwJ0_init_3_1 ++ []
def dkwJ0_init_3_0 : List UInt8 := [42, 183, 0, 1, 42, 42, 181, 0, 7, 42, 178, 0, 13, 181, 0, 17, 42, 178, 0, 20, 181, 0, 24, 42]
abbrev dktJ0_init_3_0 : List UInt8 := dkwJ0_init_3_0 ++ dktJ0_init_3_1
theorem dksJ0_init_3_0 : cJ0_init_3.data.toList.drop 0 = dktJ0_init_3_0 := by decide +kernel
theorem dksJ0_init_3_1 : cJ0_init_3.data.toList.drop 24 = dktJ0_init_3_1 := dk_seg dksJ0_init_3_0 24 rfl rfl
theorem dJ0_init_3_0 : decode cJ0_init_3 0 = .ok (.aload_n 0, 1) := dk_42 (dk_at dksJ0_init_3_0 0 rfl rfl)
theorem dJ0_init_3_1 : decode cJ0_init_3 1 = .ok (.invokespecial 1, 3) := dk_183 0 1 (dk_at dksJ0_init_3_0 1 rfl rfl)
theorem dJ0_init_3_4 : decode cJ0_init_3 4 = .ok (.aload_n 0, 1) := dk_42 (dk_at dksJ0_init_3_0 4 rfl rfl)
theorem dJ0_init_3_5 : decode cJ0_init_3 5 = .ok (.aload_n 0, 1) := dk_42 (dk_at dksJ0_init_3_0 5 rfl rfl)
theorem dJ0_init_3_6 : decode cJ0_init_3 6 = .ok (.putfield 7, 3) := dk_181 0 7 (dk_at dksJ0_init_3_0 6 rfl rfl)
theorem dJ0_init_3_9 : decode cJ0_init_3 9 = .ok (.aload_n 0, 1) := dk_42 (dk_at dksJ0_init_3_0 9 rfl rfl)
theorem dJ0_init_3_10 : decode cJ0_init_3 10 = .ok (.getstatic 13, 3) := dk_178 0 13 (dk_at dksJ0_init_3_0 10 rfl rfl)
theorem dJ0_init_3_13 : decode cJ0_init_3 13 = .ok (.putfield 17, 3) := dk_181 0 17 (dk_at dksJ0_init_3_0 13 rfl rfl)
theorem dJ0_init_3_16 : decode cJ0_init_3 16 = .ok (.aload_n 0, 1) := dk_42 (dk_at dksJ0_init_3_0 16 rfl rfl)
theorem dJ0_init_3_17 : decode cJ0_init_3 17 = .ok (.getstatic 20, 3) := dk_178 0 20 (dk_at dksJ0_init_3_0 17 rfl rfl)
theorem dJ0_init_3_20 : decode cJ0_init_3 20 = .ok (.putfield 24, 3) := dk_181 0 24 (dk_at dksJ0_init_3_0 20 rfl rfl)
theorem dJ0_init_3_23 : decode cJ0_init_3 23 = .ok (.aload_n 0, 1) := dk_42 (dk_at dksJ0_init_3_0 23 rfl rfl)
theorem dJ0_init_3_24 : decode cJ0_init_3 24 = .ok (.invokevirtual 27, 3) := dk_182 0 27 (dk_at dksJ0_init_3_1 0 rfl rfl)
theorem dJ0_init_3_27 : decode cJ0_init_3 27 = .ok (.pop, 1) := dk_87 (dk_at dksJ0_init_3_1 3 rfl rfl)
theorem dJ0_init_3_28 : decode cJ0_init_3 28 = .ok (.aload_n 0, 1) := dk_42 (dk_at dksJ0_init_3_1 4 rfl rfl)
theorem dJ0_init_3_29 : decode cJ0_init_3 29 = .ok (.aload_n 1, 1) := dk_43 (dk_at dksJ0_init_3_1 5 rfl rfl)
theorem dJ0_init_3_30 : decode cJ0_init_3 30 = .ok (.putfield 31, 3) := dk_181 0 31 (dk_at dksJ0_init_3_1 6 rfl rfl)
theorem dJ0_init_3_33 : decode cJ0_init_3 33 = .ok (.return_, 1) := dk_177 (dk_at dksJ0_init_3_1 9 rfl rfl)
theorem q265 : (Jvm.Cond.initialized "java/lang/Throwable") ∈ lw_all := lw_g (lw_at lw_m1 5 rfl) rfl
theorem q593 : (Jvm.Cond.declares ({ cls := "java/lang/Throwable", name := "<init>", desc := "()V" } : Jvm.MethodName)) ∈ lw_tbl := lw_at lw_m2 93 rfl
theorem q594 : (Jvm.Cond.declares ({ cls := "java/lang/Throwable", name := "<init>", desc := "(Ljava/lang/String;)V" } : Jvm.MethodName)) ∈ lw_tbl := lw_at lw_m2 94 rfl
theorem q598 : (Jvm.Cond.lays "java/lang/Throwable" "java/lang/Throwable" "cause" "Ljava/lang/Throwable;") ∈ lw_all := lw_g (lw_at lw_m2 98 rfl) rfl
theorem q600 : (Jvm.Cond.lays "java/lang/Throwable" "java/lang/Throwable" "stackTrace" "[Ljava/lang/StackTraceElement;") ∈ lw_all := lw_g (lw_at lw_m2 100 rfl) rfl
theorem q602 : (Jvm.Cond.lays "java/lang/Throwable" "java/lang/Throwable" "suppressedExceptions" "Ljava/util/List;") ∈ lw_all := lw_g (lw_at lw_m2 102 rfl) rfl
theorem q604 : (Jvm.Cond.lays "java/lang/Throwable" "java/lang/Throwable" "detailMessage" "Ljava/lang/String;") ∈ lw_all := lw_g (lw_at lw_m2 104 rfl) rfl
theorem q606 : (Jvm.Cond.lays "java/lang/Throwable" "java/lang/Throwable" "backtrace" "Ljava/lang/Object;") ∈ lw_all := lw_g (lw_at lw_m2 106 rfl) rfl
theorem q607 : (Jvm.Cond.fieldLink "java/lang/Throwable" (198 : Nat) "java/lang/Throwable" "backtrace" "Ljava/lang/Object;") ∈ lw_all := lw_g (lw_at lw_m2 107 rfl) rfl
theorem q608 : (Jvm.Cond.superclass "java/lang/Throwable" "java/lang/Object") ∈ lw_all := lw_g (lw_at lw_m2 108 rfl) rfl
theorem q609 : (Jvm.Cond.instanceMethod ({ cls := "java/lang/Throwable", name := "<init>", desc := "()V" } : Jvm.MethodName)) ∈ lw_all := lw_g (lw_at lw_m2 109 rfl) rfl
theorem q610 : (Jvm.Cond.code ({ cls := "java/lang/Throwable", name := "<init>", desc := "()V" } : Jvm.MethodName) prog_79_method_1_code (1 : Nat) (Option.none : Option Jvm.ClassFile.FieldType)) ∈ lw_all := lw_g (lw_at lw_m2 110 rfl) rfl
theorem q611 : (Jvm.Cond.methodLink "java/lang/Throwable" (1 : Nat) ({ cls := "java/lang/Object", name := "<init>", desc := "()V" } : Jvm.MethodName)) ∈ lw_all := lw_g (lw_at lw_m2 111 rfl) rfl
theorem q612 : (Jvm.Cond.fieldLink "java/lang/Throwable" (13 : Nat) "java/lang/Throwable" "UNASSIGNED_STACK" "[Ljava/lang/StackTraceElement;") ∈ lw_all := lw_g (lw_at lw_m2 112 rfl) rfl
theorem q613 : (Jvm.Cond.laysStatic "java/lang/Throwable" "UNASSIGNED_STACK" "[Ljava/lang/StackTraceElement;") ∈ lw_tbl := lw_at lw_m2 113 rfl
theorem q614 : (Jvm.Cond.fieldLink "java/lang/Throwable" (20 : Nat) "java/lang/Throwable" "SUPPRESSED_SENTINEL" "Ljava/util/List;") ∈ lw_all := lw_g (lw_at lw_m2 114 rfl) rfl
theorem q615 : (Jvm.Cond.laysStatic "java/lang/Throwable" "SUPPRESSED_SENTINEL" "Ljava/util/List;") ∈ lw_tbl := lw_at lw_m2 115 rfl
theorem q616 : (Jvm.Cond.methodLink "java/lang/Throwable" (27 : Nat) ({ cls := "java/lang/Throwable", name := "fillInStackTrace", desc := "()Ljava/lang/Throwable;" } : Jvm.MethodName)) ∈ lw_all := lw_g (lw_at lw_m2 116 rfl) rfl
theorem q617 : (Jvm.Cond.instanceMethod ({ cls := "java/lang/Throwable", name := "fillInStackTrace", desc := "()Ljava/lang/Throwable;" } : Jvm.MethodName)) ∈ lw_all := lw_g (lw_at lw_m2 117 rfl) rfl
theorem q618 : (Jvm.Cond.sameMethod "java/lang/Throwable" "java/lang/Throwable" "fillInStackTrace" "()Ljava/lang/Throwable;") ∈ lw_all := lw_g (lw_at lw_m2 118 rfl) rfl
theorem q639 : (Jvm.Cond.declares ({ cls := "java/lang/Throwable", name := "fillInStackTrace", desc := "()Ljava/lang/Throwable;" } : Jvm.MethodName)) ∈ lw_tbl := lw_at lw_m2 139 rfl
theorem q643 : (Jvm.Cond.codeSync ({ cls := "java/lang/Throwable", name := "fillInStackTrace", desc := "()Ljava/lang/Throwable;" } : Jvm.MethodName) prog_79_method_18_code (1 : Nat) (Option.some (Jvm.ClassFile.FieldType.object "java/lang/Throwable"))) ∈ lw_all := lw_g (lw_at lw_m2 143 rfl) rfl
theorem q644 : (Jvm.Cond.methodLink "java/lang/Throwable" (202 : Nat) ({ cls := "java/lang/Throwable", name := "fillInStackTrace", desc := "(I)Ljava/lang/Throwable;" } : Jvm.MethodName)) ∈ lw_all := lw_g (lw_at lw_m2 144 rfl) rfl
theorem q645 : (Jvm.Cond.privateMethod ({ cls := "java/lang/Throwable", name := "fillInStackTrace", desc := "(I)Ljava/lang/Throwable;" } : Jvm.MethodName)) ∈ lw_tbl := lw_at lw_m2 145 rfl
theorem q646 : (Jvm.Cond.instanceMethod ({ cls := "java/lang/Throwable", name := "fillInStackTrace", desc := "(I)Ljava/lang/Throwable;" } : Jvm.MethodName)) ∈ lw_all := lw_g (lw_at lw_m2 146 rfl) rfl
theorem q647 : (Jvm.Cond.instantiable "java/lang/Throwable" (6 : Nat)) ∈ lw_all := lw_g (lw_at lw_m2 147 rfl) rfl
theorem q648 : (Jvm.Cond.native ({ cls := "java/lang/Throwable", name := "fillInStackTrace", desc := "(I)Ljava/lang/Throwable;" } : Jvm.MethodName)) ∈ lw_all := lw_g (lw_at lw_m2 148 rfl) rfl
theorem q660 : (Jvm.Cond.instanceMethod ({ cls := "java/lang/Throwable", name := "<init>", desc := "(Ljava/lang/String;Ljava/lang/Throwable;ZZ)V" } : Jvm.MethodName)) ∈ lw_all := lw_g (lw_at lw_m2 160 rfl) rfl
theorem q661 : (Jvm.Cond.code ({ cls := "java/lang/Throwable", name := "<init>", desc := "(Ljava/lang/String;Ljava/lang/Throwable;ZZ)V" } : Jvm.MethodName) prog_79_method_5_code (5 : Nat) (Option.none : Option Jvm.ClassFile.FieldType)) ∈ lw_all := lw_g (lw_at lw_m2 161 rfl) rfl
theorem q664 : (Jvm.Cond.fieldLink "java/lang/Throwable" (198 : Nat) "java/lang/Throwable" "backtrace" "Ljava/lang/Object;") ∈ lw_all := lw_g (lw_at lw_m2 164 rfl) rfl
theorem q665 : (Jvm.Cond.fieldLink "java/lang/Throwable" (31 : Nat) "java/lang/Throwable" "detailMessage" "Ljava/lang/String;") ∈ lw_all := lw_g (lw_at lw_m2 165 rfl) rfl
theorem q666 : (Jvm.Cond.fieldLink "java/lang/Throwable" (7 : Nat) "java/lang/Throwable" "cause" "Ljava/lang/Throwable;") ∈ lw_all := lw_g (lw_at lw_m2 166 rfl) rfl
theorem q667 : (Jvm.Cond.fieldLink "java/lang/Throwable" (17 : Nat) "java/lang/Throwable" "stackTrace" "[Ljava/lang/StackTraceElement;") ∈ lw_all := lw_g (lw_at lw_m2 167 rfl) rfl
theorem q668 : (Jvm.Cond.fieldLink "java/lang/Throwable" (24 : Nat) "java/lang/Throwable" "suppressedExceptions" "Ljava/util/List;") ∈ lw_all := lw_g (lw_at lw_m2 168 rfl) rfl
theorem q671 : (Jvm.Cond.soleField "java/lang/Throwable" "backtrace") ∈ lw_all := lw_g (lw_at lw_m2 171 rfl) rfl
theorem q672 : (Jvm.Cond.soleField "java/lang/Throwable" "detailMessage") ∈ lw_all := lw_g (lw_at lw_m2 172 rfl) rfl
theorem q673 : (Jvm.Cond.soleField "java/lang/Throwable" "cause") ∈ lw_all := lw_g (lw_at lw_m2 173 rfl) rfl
theorem q674 : (Jvm.Cond.soleField "java/lang/Throwable" "stackTrace") ∈ lw_all := lw_g (lw_at lw_m2 174 rfl) rfl
theorem q676 : (Jvm.Cond.soleField "java/lang/Throwable" "depth") ∈ lw_all := lw_g (lw_at lw_m2 176 rfl) rfl
theorem q677 : (Jvm.Cond.soleField "java/lang/Throwable" "suppressedExceptions") ∈ lw_all := lw_g (lw_at lw_m2 177 rfl) rfl
theorem q1235 : (Jvm.Cond.instanceMethod ({ cls := "java/lang/Throwable", name := "<init>", desc := "(Ljava/lang/String;)V" } : Jvm.MethodName)) ∈ lw_all := lw_g (lw_at lw_m5 15 rfl) rfl
theorem q1236 : (Jvm.Cond.code ({ cls := "java/lang/Throwable", name := "<init>", desc := "(Ljava/lang/String;)V" } : Jvm.MethodName) prog_79_method_2_code (2 : Nat) (Option.none : Option Jvm.ClassFile.FieldType)) ∈ lw_all := lw_g (lw_at lw_m5 16 rfl) rfl
theorem q4785 : (Jvm.Cond.sameMethod "java/lang/Throwable" "java/lang/Throwable" "fillInStackTrace" "(I)Ljava/lang/Throwable;") ∈ lw_all := lw_g (lw_at lw_m19 205 rfl) rfl
theorem q4854 : (Jvm.Cond.castable "java/lang/Throwable" "java/lang/Object") ∈ lw_tbl := lw_at lw_m20 34 rfl
theorem in_J0 : ∀ w ∈ wsJ00, w ∈ lw_all := lw_in wsJ00 [598, 600, 602, 604, 606] (by decide +kernel) (by decide +kernel)
/-! java/lang/Exception -/
set_option maxRecDepth 100000
def RJ1 : String := "java/lang/Exception"
abbrev cJ1_init : ByteArray := prog_60_method_5_code
def yJ1_init : MethodName := ⟨RJ1, "<init>", "(Ljava/lang/String;Ljava/lang/Throwable;ZZ)V"⟩
def dkwJ1_init_0 : List UInt8 := [42, 43, 44, 29, 21, 4, 183, 0, 16, 177]
abbrev dktJ1_init_0 : List UInt8 := dkwJ1_init_0 ++ []
theorem dksJ1_init_0 : cJ1_init.data.toList.drop 0 = dktJ1_init_0 := by decide +kernel
theorem dJ1_init_0 : decode cJ1_init 0 = .ok (.aload_n 0, 1) := dk_42 (dk_at dksJ1_init_0 0 rfl rfl)
theorem dJ1_init_1 : decode cJ1_init 1 = .ok (.aload_n 1, 1) := dk_43 (dk_at dksJ1_init_0 1 rfl rfl)
theorem dJ1_init_2 : decode cJ1_init 2 = .ok (.aload_n 2, 1) := dk_44 (dk_at dksJ1_init_0 2 rfl rfl)
theorem dJ1_init_3 : decode cJ1_init 3 = .ok (.iload_n 3, 1) := dk_29 (dk_at dksJ1_init_0 3 rfl rfl)
theorem dJ1_init_4 : decode cJ1_init 4 = .ok (.iload 4, 2) := dk_21 4 (dk_at dksJ1_init_0 4 rfl rfl)
theorem dJ1_init_6 : decode cJ1_init 6 = .ok (.invokespecial 16, 3) := dk_183 0 16 (dk_at dksJ1_init_0 6 rfl rfl)
theorem dJ1_init_9 : decode cJ1_init 9 = .ok (.return_, 1) := dk_177 (dk_at dksJ1_init_0 9 rfl rfl)
abbrev cJ1_init_2 : ByteArray := prog_60_method_2_code
def yJ1_init_2 : MethodName := ⟨RJ1, "<init>", "(Ljava/lang/String;)V"⟩
def dkwJ1_init_2_0 : List UInt8 := [42, 43, 183, 0, 7, 177]
abbrev dktJ1_init_2_0 : List UInt8 := dkwJ1_init_2_0 ++ []
theorem dksJ1_init_2_0 : cJ1_init_2.data.toList.drop 0 = dktJ1_init_2_0 := by decide +kernel
theorem dJ1_init_2_0 : decode cJ1_init_2 0 = .ok (.aload_n 0, 1) := dk_42 (dk_at dksJ1_init_2_0 0 rfl rfl)
theorem dJ1_init_2_1 : decode cJ1_init_2 1 = .ok (.aload_n 1, 1) := dk_43 (dk_at dksJ1_init_2_0 1 rfl rfl)
theorem dJ1_init_2_2 : decode cJ1_init_2 2 = .ok (.invokespecial 7, 3) := dk_183 0 7 (dk_at dksJ1_init_2_0 2 rfl rfl)
theorem dJ1_init_2_5 : decode cJ1_init_2 5 = .ok (.return_, 1) := dk_177 (dk_at dksJ1_init_2_0 5 rfl rfl)
abbrev cJ1_init_3 : ByteArray := prog_60_method_1_code
def yJ1_init_3 : MethodName := ⟨RJ1, "<init>", "()V"⟩
theorem dJ1_init_3_0 : decode cJ1_init_3 0 = .ok (.aload_n 0, 1) := by decide +kernel
theorem dJ1_init_3_1 : decode cJ1_init_3 1 = .ok (.invokespecial 1, 3) := by decide +kernel
theorem dJ1_init_3_4 : decode cJ1_init_3 4 = .ok (.return_, 1) := by decide +kernel
theorem q266 : (Jvm.Cond.initialized "java/lang/Exception") ∈ lw_all := lw_g (lw_at lw_m1 6 rfl) rfl
theorem q591 : (Jvm.Cond.declares ({ cls := "java/lang/Exception", name := "<init>", desc := "()V" } : Jvm.MethodName)) ∈ lw_tbl := lw_at lw_m2 91 rfl
theorem q592 : (Jvm.Cond.declares ({ cls := "java/lang/Exception", name := "<init>", desc := "(Ljava/lang/String;)V" } : Jvm.MethodName)) ∈ lw_tbl := lw_at lw_m2 92 rfl
theorem q642 : (Jvm.Cond.superclass "java/lang/Exception" "java/lang/Throwable") ∈ lw_all := lw_g (lw_at lw_m2 142 rfl) rfl
theorem q657 : (Jvm.Cond.instanceMethod ({ cls := "java/lang/Exception", name := "<init>", desc := "(Ljava/lang/String;Ljava/lang/Throwable;ZZ)V" } : Jvm.MethodName)) ∈ lw_all := lw_g (lw_at lw_m2 157 rfl) rfl
theorem q658 : (Jvm.Cond.code ({ cls := "java/lang/Exception", name := "<init>", desc := "(Ljava/lang/String;Ljava/lang/Throwable;ZZ)V" } : Jvm.MethodName) prog_60_method_5_code (5 : Nat) (Option.none : Option Jvm.ClassFile.FieldType)) ∈ lw_all := lw_g (lw_at lw_m2 158 rfl) rfl
theorem q659 : (Jvm.Cond.methodLink "java/lang/Exception" (16 : Nat) ({ cls := "java/lang/Throwable", name := "<init>", desc := "(Ljava/lang/String;Ljava/lang/Throwable;ZZ)V" } : Jvm.MethodName)) ∈ lw_all := lw_g (lw_at lw_m2 159 rfl) rfl
theorem q1232 : (Jvm.Cond.instanceMethod ({ cls := "java/lang/Exception", name := "<init>", desc := "(Ljava/lang/String;)V" } : Jvm.MethodName)) ∈ lw_all := lw_g (lw_at lw_m5 12 rfl) rfl
theorem q1233 : (Jvm.Cond.code ({ cls := "java/lang/Exception", name := "<init>", desc := "(Ljava/lang/String;)V" } : Jvm.MethodName) prog_60_method_2_code (2 : Nat) (Option.none : Option Jvm.ClassFile.FieldType)) ∈ lw_all := lw_g (lw_at lw_m5 13 rfl) rfl
theorem q1234 : (Jvm.Cond.methodLink "java/lang/Exception" (7 : Nat) ({ cls := "java/lang/Throwable", name := "<init>", desc := "(Ljava/lang/String;)V" } : Jvm.MethodName)) ∈ lw_all := lw_g (lw_at lw_m5 14 rfl) rfl
theorem q1302 : (Jvm.Cond.instanceMethod ({ cls := "java/lang/Exception", name := "<init>", desc := "()V" } : Jvm.MethodName)) ∈ lw_all := lw_g (lw_at lw_m5 82 rfl) rfl
theorem q1303 : (Jvm.Cond.code ({ cls := "java/lang/Exception", name := "<init>", desc := "()V" } : Jvm.MethodName) prog_60_method_1_code (1 : Nat) (Option.none : Option Jvm.ClassFile.FieldType)) ∈ lw_all := lw_g (lw_at lw_m5 83 rfl) rfl
theorem q1304 : (Jvm.Cond.methodLink "java/lang/Exception" (1 : Nat) ({ cls := "java/lang/Throwable", name := "<init>", desc := "()V" } : Jvm.MethodName)) ∈ lw_all := lw_g (lw_at lw_m5 84 rfl) rfl
/-! java/lang/RuntimeException -/
set_option maxRecDepth 100000
def RJ2 : String := "java/lang/RuntimeException"
abbrev cJ2_init : ByteArray := prog_72_method_5_code
def yJ2_init : MethodName := ⟨RJ2, "<init>", "(Ljava/lang/String;Ljava/lang/Throwable;ZZ)V"⟩
def dkwJ2_init_0 : List UInt8 := [42, 43, 44, 29, 21, 4, 183, 0, 16, 177]
abbrev dktJ2_init_0 : List UInt8 := dkwJ2_init_0 ++ []
theorem dksJ2_init_0 : cJ2_init.data.toList.drop 0 = dktJ2_init_0 := by decide +kernel
theorem dJ2_init_0 : decode cJ2_init 0 = .ok (.aload_n 0, 1) := dk_42 (dk_at dksJ2_init_0 0 rfl rfl)
theorem dJ2_init_1 : decode cJ2_init 1 = .ok (.aload_n 1, 1) := dk_43 (dk_at dksJ2_init_0 1 rfl rfl)
theorem dJ2_init_2 : decode cJ2_init 2 = .ok (.aload_n 2, 1) := dk_44 (dk_at dksJ2_init_0 2 rfl rfl)
theorem dJ2_init_3 : decode cJ2_init 3 = .ok (.iload_n 3, 1) := dk_29 (dk_at dksJ2_init_0 3 rfl rfl)
theorem dJ2_init_4 : decode cJ2_init 4 = .ok (.iload 4, 2) := dk_21 4 (dk_at dksJ2_init_0 4 rfl rfl)
theorem dJ2_init_6 : decode cJ2_init 6 = .ok (.invokespecial 16, 3) := dk_183 0 16 (dk_at dksJ2_init_0 6 rfl rfl)
theorem dJ2_init_9 : decode cJ2_init 9 = .ok (.return_, 1) := dk_177 (dk_at dksJ2_init_0 9 rfl rfl)
abbrev cJ2_init_2 : ByteArray := prog_72_method_2_code
def yJ2_init_2 : MethodName := ⟨RJ2, "<init>", "(Ljava/lang/String;)V"⟩
def dkwJ2_init_2_0 : List UInt8 := [42, 43, 183, 0, 7, 177]
abbrev dktJ2_init_2_0 : List UInt8 := dkwJ2_init_2_0 ++ []
theorem dksJ2_init_2_0 : cJ2_init_2.data.toList.drop 0 = dktJ2_init_2_0 := by decide +kernel
theorem dJ2_init_2_0 : decode cJ2_init_2 0 = .ok (.aload_n 0, 1) := dk_42 (dk_at dksJ2_init_2_0 0 rfl rfl)
theorem dJ2_init_2_1 : decode cJ2_init_2 1 = .ok (.aload_n 1, 1) := dk_43 (dk_at dksJ2_init_2_0 1 rfl rfl)
theorem dJ2_init_2_2 : decode cJ2_init_2 2 = .ok (.invokespecial 7, 3) := dk_183 0 7 (dk_at dksJ2_init_2_0 2 rfl rfl)
theorem dJ2_init_2_5 : decode cJ2_init_2 5 = .ok (.return_, 1) := dk_177 (dk_at dksJ2_init_2_0 5 rfl rfl)
abbrev cJ2_init_3 : ByteArray := prog_72_method_1_code
def yJ2_init_3 : MethodName := ⟨RJ2, "<init>", "()V"⟩
theorem dJ2_init_3_0 : decode cJ2_init_3 0 = .ok (.aload_n 0, 1) := by decide +kernel
theorem dJ2_init_3_1 : decode cJ2_init_3 1 = .ok (.invokespecial 1, 3) := by decide +kernel
theorem dJ2_init_3_4 : decode cJ2_init_3 4 = .ok (.return_, 1) := by decide +kernel
theorem q267 : (Jvm.Cond.initialized "java/lang/RuntimeException") ∈ lw_all := lw_g (lw_at lw_m1 7 rfl) rfl
theorem q589 : (Jvm.Cond.declares ({ cls := "java/lang/RuntimeException", name := "<init>", desc := "()V" } : Jvm.MethodName)) ∈ lw_tbl := lw_at lw_m2 89 rfl
theorem q590 : (Jvm.Cond.declares ({ cls := "java/lang/RuntimeException", name := "<init>", desc := "(Ljava/lang/String;)V" } : Jvm.MethodName)) ∈ lw_tbl := lw_at lw_m2 90 rfl
theorem q638 : (Jvm.Cond.sameMethod "java/lang/RuntimeException" "java/lang/Throwable" "fillInStackTrace" "()Ljava/lang/Throwable;") ∈ lw_all := lw_g (lw_at lw_m2 138 rfl) rfl
theorem q641 : (Jvm.Cond.superclass "java/lang/RuntimeException" "java/lang/Exception") ∈ lw_all := lw_g (lw_at lw_m2 141 rfl) rfl
theorem q654 : (Jvm.Cond.instanceMethod ({ cls := "java/lang/RuntimeException", name := "<init>", desc := "(Ljava/lang/String;Ljava/lang/Throwable;ZZ)V" } : Jvm.MethodName)) ∈ lw_all := lw_g (lw_at lw_m2 154 rfl) rfl
theorem q655 : (Jvm.Cond.code ({ cls := "java/lang/RuntimeException", name := "<init>", desc := "(Ljava/lang/String;Ljava/lang/Throwable;ZZ)V" } : Jvm.MethodName) prog_72_method_5_code (5 : Nat) (Option.none : Option Jvm.ClassFile.FieldType)) ∈ lw_all := lw_g (lw_at lw_m2 155 rfl) rfl
theorem q656 : (Jvm.Cond.methodLink "java/lang/RuntimeException" (16 : Nat) ({ cls := "java/lang/Exception", name := "<init>", desc := "(Ljava/lang/String;Ljava/lang/Throwable;ZZ)V" } : Jvm.MethodName)) ∈ lw_all := lw_g (lw_at lw_m2 156 rfl) rfl
theorem q1229 : (Jvm.Cond.instanceMethod ({ cls := "java/lang/RuntimeException", name := "<init>", desc := "(Ljava/lang/String;)V" } : Jvm.MethodName)) ∈ lw_all := lw_g (lw_at lw_m5 9 rfl) rfl
theorem q1230 : (Jvm.Cond.code ({ cls := "java/lang/RuntimeException", name := "<init>", desc := "(Ljava/lang/String;)V" } : Jvm.MethodName) prog_72_method_2_code (2 : Nat) (Option.none : Option Jvm.ClassFile.FieldType)) ∈ lw_all := lw_g (lw_at lw_m5 10 rfl) rfl
theorem q1231 : (Jvm.Cond.methodLink "java/lang/RuntimeException" (7 : Nat) ({ cls := "java/lang/Exception", name := "<init>", desc := "(Ljava/lang/String;)V" } : Jvm.MethodName)) ∈ lw_all := lw_g (lw_at lw_m5 11 rfl) rfl
theorem q1299 : (Jvm.Cond.instanceMethod ({ cls := "java/lang/RuntimeException", name := "<init>", desc := "()V" } : Jvm.MethodName)) ∈ lw_all := lw_g (lw_at lw_m5 79 rfl) rfl
theorem q1300 : (Jvm.Cond.code ({ cls := "java/lang/RuntimeException", name := "<init>", desc := "()V" } : Jvm.MethodName) prog_72_method_1_code (1 : Nat) (Option.none : Option Jvm.ClassFile.FieldType)) ∈ lw_all := lw_g (lw_at lw_m5 80 rfl) rfl
theorem q1301 : (Jvm.Cond.methodLink "java/lang/RuntimeException" (1 : Nat) ({ cls := "java/lang/Exception", name := "<init>", desc := "()V" } : Jvm.MethodName)) ∈ lw_all := lw_g (lw_at lw_m5 81 rfl) rfl
theorem q1319 : (Jvm.Cond.castable "java/lang/RuntimeException" "java/lang/Throwable") ∈ lw_tbl := lw_at lw_m5 99 rfl
/-! java/lang/String -/
set_option maxRecDepth 100000
def RJ3 : String := "java/lang/String"
def TJ3 : u_T := fun k => match k with
  | 0 => ("java/lang/String", "value", "[B", true)
  | 1 => ("java/lang/String", "coder", "B", true)
  | 2 => ("java/lang/String", "hash", "I", false)
  | _ => ("java/lang/String", "hashIsZero", "Z", false)
def tyJ3 : Nat → FieldType := fun k => match k with
  | 0 => .array .byte
  | 1 => .byte
  | 2 => .int
  | _ => .boolean
abbrev wsJ30 : List Cond := u_ws RJ3 TJ3 4
theorem nmJ3 : ∀ a, a < 4 → ∀ b, b < 4 → a ≠ b → (TJ3 a).2.1 ≠ (TJ3 b).2.1 := by decide +kernel
theorem tyJ3_ok : ∀ k, k < 4 → parseFieldDescriptor (TJ3 k).2.2.1 = some (tyJ3 k) := by decide +kernel
abbrev cJ3_length : ByteArray := prog_74_method_54_code
def yJ3_length : MethodName := ⟨RJ3, "length", "()I"⟩
def dkwJ3_length_0 : List UInt8 := [42, 180, 0, 9, 190, 42, 182, 1, 79, 122, 172]
abbrev dktJ3_length_0 : List UInt8 := dkwJ3_length_0 ++ []
theorem dksJ3_length_0 : cJ3_length.data.toList.drop 0 = dktJ3_length_0 := by decide +kernel
theorem dJ3_length_0 : decode cJ3_length 0 = .ok (.aload_n 0, 1) := dk_42 (dk_at dksJ3_length_0 0 rfl rfl)
theorem dJ3_length_1 : decode cJ3_length 1 = .ok (.getfield 9, 3) := dk_180 0 9 (dk_at dksJ3_length_0 1 rfl rfl)
theorem dJ3_length_4 : decode cJ3_length 4 = .ok (.arraylength, 1) := dk_190 (dk_at dksJ3_length_0 4 rfl rfl)
theorem dJ3_length_5 : decode cJ3_length 5 = .ok (.aload_n 0, 1) := dk_42 (dk_at dksJ3_length_0 5 rfl rfl)
theorem dJ3_length_6 : decode cJ3_length 6 = .ok (.invokevirtual 335, 3) := dk_182 1 79 (dk_at dksJ3_length_0 6 rfl rfl)
theorem dJ3_length_9 : decode cJ3_length 9 = .ok (.ishr, 1) := dk_122 (dk_at dksJ3_length_0 9 rfl rfl)
theorem dJ3_length_10 : decode cJ3_length 10 = .ok (.ireturn, 1) := dk_172 (dk_at dksJ3_length_0 10 rfl rfl)
abbrev cJ3_coder : ByteArray := prog_74_method_152_code
def yJ3_coder : MethodName := ⟨RJ3, "coder", "()B"⟩
def dkwJ3_coder_0 : List UInt8 := [178, 0, 38, 153, 0, 10, 42, 180, 0, 15, 167, 0, 4, 4, 172]
abbrev dktJ3_coder_0 : List UInt8 := dkwJ3_coder_0 ++ []
theorem dksJ3_coder_0 : cJ3_coder.data.toList.drop 0 = dktJ3_coder_0 := by decide +kernel
theorem dJ3_coder_0 : decode cJ3_coder 0 = .ok (.getstatic 38, 3) := dk_178 0 38 (dk_at dksJ3_coder_0 0 rfl rfl)
theorem dJ3_coder_3 : decode cJ3_coder 3 = .ok (.ifCond .eq 10, 3) := dk_153 0 10 (dk_at dksJ3_coder_0 3 rfl rfl)
theorem dJ3_coder_6 : decode cJ3_coder 6 = .ok (.aload_n 0, 1) := dk_42 (dk_at dksJ3_coder_0 6 rfl rfl)
theorem dJ3_coder_7 : decode cJ3_coder 7 = .ok (.getfield 15, 3) := dk_180 0 15 (dk_at dksJ3_coder_0 7 rfl rfl)
theorem dJ3_coder_10 : decode cJ3_coder 10 = .ok (.goto 4, 3) := dk_167 0 4 (dk_at dksJ3_coder_0 10 rfl rfl)
theorem dJ3_coder_13 : decode cJ3_coder 13 = .ok (.iconst 1, 1) := dk_4 (dk_at dksJ3_coder_0 13 rfl rfl)
theorem dJ3_coder_14 : decode cJ3_coder 14 = .ok (.ireturn, 1) := dk_172 (dk_at dksJ3_coder_0 14 rfl rfl)
abbrev cJ3_charAt : ByteArray := prog_74_method_56_code
def yJ3_charAt : MethodName := ⟨RJ3, "charAt", "(I)C"⟩
def dkwJ3_charAt_1 : List UInt8 := [172]
abbrev dktJ3_charAt_1 : List UInt8 := dkwJ3_charAt_1 ++ []
def dkwJ3_charAt_0 : List UInt8 := [42, 182, 1, 236, 153, 0, 12, 42, 180, 0, 9, 27, 184, 1, 239, 172, 42, 180, 0, 9, 27, 184, 1, 242]
abbrev dktJ3_charAt_0 : List UInt8 := dkwJ3_charAt_0 ++ dktJ3_charAt_1
theorem dksJ3_charAt_0 : cJ3_charAt.data.toList.drop 0 = dktJ3_charAt_0 := by decide +kernel
theorem dksJ3_charAt_1 : cJ3_charAt.data.toList.drop 24 = dktJ3_charAt_1 := dk_seg dksJ3_charAt_0 24 rfl rfl
theorem dJ3_charAt_0 : decode cJ3_charAt 0 = .ok (.aload_n 0, 1) := dk_42 (dk_at dksJ3_charAt_0 0 rfl rfl)
theorem dJ3_charAt_1 : decode cJ3_charAt 1 = .ok (.invokevirtual 492, 3) := dk_182 1 236 (dk_at dksJ3_charAt_0 1 rfl rfl)
theorem dJ3_charAt_4 : decode cJ3_charAt 4 = .ok (.ifCond .eq 12, 3) := dk_153 0 12 (dk_at dksJ3_charAt_0 4 rfl rfl)
theorem dJ3_charAt_7 : decode cJ3_charAt 7 = .ok (.aload_n 0, 1) := dk_42 (dk_at dksJ3_charAt_0 7 rfl rfl)
theorem dJ3_charAt_8 : decode cJ3_charAt 8 = .ok (.getfield 9, 3) := dk_180 0 9 (dk_at dksJ3_charAt_0 8 rfl rfl)
theorem dJ3_charAt_11 : decode cJ3_charAt 11 = .ok (.iload_n 1, 1) := dk_27 (dk_at dksJ3_charAt_0 11 rfl rfl)
theorem dJ3_charAt_12 : decode cJ3_charAt 12 = .ok (.invokestatic 495, 3) := dk_184 1 239 (dk_at dksJ3_charAt_0 12 rfl rfl)
theorem dJ3_charAt_15 : decode cJ3_charAt 15 = .ok (.ireturn, 1) := dk_172 (dk_at dksJ3_charAt_0 15 rfl rfl)
theorem dJ3_charAt_16 : decode cJ3_charAt 16 = .ok (.aload_n 0, 1) := dk_42 (dk_at dksJ3_charAt_0 16 rfl rfl)
theorem dJ3_charAt_17 : decode cJ3_charAt 17 = .ok (.getfield 9, 3) := dk_180 0 9 (dk_at dksJ3_charAt_0 17 rfl rfl)
theorem dJ3_charAt_20 : decode cJ3_charAt 20 = .ok (.iload_n 1, 1) := dk_27 (dk_at dksJ3_charAt_0 20 rfl rfl)
theorem dJ3_charAt_21 : decode cJ3_charAt 21 = .ok (.invokestatic 498, 3) := dk_184 1 242 (dk_at dksJ3_charAt_0 21 rfl rfl)
theorem dJ3_charAt_24 : decode cJ3_charAt 24 = .ok (.ireturn, 1) := dk_172 (dk_at dksJ3_charAt_1 0 rfl rfl)
abbrev cJ3_isLatin1 : ByteArray := prog_74_method_154_code
def yJ3_isLatin1 : MethodName := ⟨RJ3, "isLatin1", "()Z"⟩
def dkwJ3_isLatin1_0 : List UInt8 := [178, 0, 38, 153, 0, 14, 42, 180, 0, 15, 154, 0, 7, 4, 167, 0, 4, 3, 172]
abbrev dktJ3_isLatin1_0 : List UInt8 := dkwJ3_isLatin1_0 ++ []
theorem dksJ3_isLatin1_0 : cJ3_isLatin1.data.toList.drop 0 = dktJ3_isLatin1_0 := by decide +kernel
theorem dJ3_isLatin1_0 : decode cJ3_isLatin1 0 = .ok (.getstatic 38, 3) := dk_178 0 38 (dk_at dksJ3_isLatin1_0 0 rfl rfl)
theorem dJ3_isLatin1_3 : decode cJ3_isLatin1 3 = .ok (.ifCond .eq 14, 3) := dk_153 0 14 (dk_at dksJ3_isLatin1_0 3 rfl rfl)
theorem dJ3_isLatin1_6 : decode cJ3_isLatin1 6 = .ok (.aload_n 0, 1) := dk_42 (dk_at dksJ3_isLatin1_0 6 rfl rfl)
theorem dJ3_isLatin1_7 : decode cJ3_isLatin1 7 = .ok (.getfield 15, 3) := dk_180 0 15 (dk_at dksJ3_isLatin1_0 7 rfl rfl)
theorem dJ3_isLatin1_10 : decode cJ3_isLatin1 10 = .ok (.ifCond .ne 7, 3) := dk_154 0 7 (dk_at dksJ3_isLatin1_0 10 rfl rfl)
theorem dJ3_isLatin1_13 : decode cJ3_isLatin1 13 = .ok (.iconst 1, 1) := dk_4 (dk_at dksJ3_isLatin1_0 13 rfl rfl)
theorem dJ3_isLatin1_14 : decode cJ3_isLatin1 14 = .ok (.goto 4, 3) := dk_167 0 4 (dk_at dksJ3_isLatin1_0 14 rfl rfl)
theorem dJ3_isLatin1_17 : decode cJ3_isLatin1 17 = .ok (.iconst 0, 1) := dk_3 (dk_at dksJ3_isLatin1_0 17 rfl rfl)
theorem dJ3_isLatin1_18 : decode cJ3_isLatin1 18 = .ok (.ireturn, 1) := dk_172 (dk_at dksJ3_isLatin1_0 18 rfl rfl)
abbrev cJ3_checkIndex : ByteArray := prog_74_method_155_code
def yJ3_checkIndex : MethodName := ⟨RJ3, "checkIndex", "(II)V"⟩
def dkwJ3_checkIndex_0 : List UInt8 := [26, 27, 178, 4, 29, 184, 4, 35, 87, 177]
abbrev dktJ3_checkIndex_0 : List UInt8 := dkwJ3_checkIndex_0 ++ []
theorem dksJ3_checkIndex_0 : cJ3_checkIndex.data.toList.drop 0 = dktJ3_checkIndex_0 := by decide +kernel
theorem dJ3_checkIndex_0 : decode cJ3_checkIndex 0 = .ok (.iload_n 0, 1) := dk_26 (dk_at dksJ3_checkIndex_0 0 rfl rfl)
theorem dJ3_checkIndex_1 : decode cJ3_checkIndex 1 = .ok (.iload_n 1, 1) := dk_27 (dk_at dksJ3_checkIndex_0 1 rfl rfl)
theorem dJ3_checkIndex_2 : decode cJ3_checkIndex 2 = .ok (.getstatic 1053, 3) := dk_178 4 29 (dk_at dksJ3_checkIndex_0 2 rfl rfl)
theorem dJ3_checkIndex_5 : decode cJ3_checkIndex 5 = .ok (.invokestatic 1059, 3) := dk_184 4 35 (dk_at dksJ3_checkIndex_0 5 rfl rfl)
theorem dJ3_checkIndex_8 : decode cJ3_checkIndex 8 = .ok (.pop, 1) := dk_87 (dk_at dksJ3_checkIndex_0 8 rfl rfl)
theorem dJ3_checkIndex_9 : decode cJ3_checkIndex 9 = .ok (.return_, 1) := dk_177 (dk_at dksJ3_checkIndex_0 9 rfl rfl)
abbrev cJ3_checkBoundsOffCount : ByteArray := prog_74_method_157_code
def yJ3_checkBoundsOffCount : MethodName := ⟨RJ3, "checkBoundsOffCount", "(III)I"⟩
def dkwJ3_checkBoundsOffCount_0 : List UInt8 := [26, 27, 28, 178, 4, 29, 184, 4, 41, 172]
abbrev dktJ3_checkBoundsOffCount_0 : List UInt8 := dkwJ3_checkBoundsOffCount_0 ++ []
theorem dksJ3_checkBoundsOffCount_0 : cJ3_checkBoundsOffCount.data.toList.drop 0 = dktJ3_checkBoundsOffCount_0 := by decide +kernel
theorem dJ3_checkBoundsOffCount_0 : decode cJ3_checkBoundsOffCount 0 = .ok (.iload_n 0, 1) := dk_26 (dk_at dksJ3_checkBoundsOffCount_0 0 rfl rfl)
theorem dJ3_checkBoundsOffCount_1 : decode cJ3_checkBoundsOffCount 1 = .ok (.iload_n 1, 1) := dk_27 (dk_at dksJ3_checkBoundsOffCount_0 1 rfl rfl)
theorem dJ3_checkBoundsOffCount_2 : decode cJ3_checkBoundsOffCount 2 = .ok (.iload_n 2, 1) := dk_28 (dk_at dksJ3_checkBoundsOffCount_0 2 rfl rfl)
theorem dJ3_checkBoundsOffCount_3 : decode cJ3_checkBoundsOffCount 3 = .ok (.getstatic 1053, 3) := dk_178 4 29 (dk_at dksJ3_checkBoundsOffCount_0 3 rfl rfl)
theorem dJ3_checkBoundsOffCount_6 : decode cJ3_checkBoundsOffCount 6 = .ok (.invokestatic 1065, 3) := dk_184 4 41 (dk_at dksJ3_checkBoundsOffCount_0 6 rfl rfl)
theorem dJ3_checkBoundsOffCount_9 : decode cJ3_checkBoundsOffCount 9 = .ok (.ireturn, 1) := dk_172 (dk_at dksJ3_checkBoundsOffCount_0 9 rfl rfl)
abbrev cJ3_init : ByteArray := prog_74_method_53_code
def yJ3_init : MethodName := ⟨RJ3, "<init>", "(Ljava/lang/StringBuilder;)V"⟩
def dkwJ3_init_0 : List UInt8 := [42, 43, 1, 183, 1, 233, 177]
abbrev dktJ3_init_0 : List UInt8 := dkwJ3_init_0 ++ []
theorem dksJ3_init_0 : cJ3_init.data.toList.drop 0 = dktJ3_init_0 := by decide +kernel
theorem dJ3_init_0 : decode cJ3_init 0 = .ok (.aload_n 0, 1) := dk_42 (dk_at dksJ3_init_0 0 rfl rfl)
theorem dJ3_init_1 : decode cJ3_init 1 = .ok (.aload_n 1, 1) := dk_43 (dk_at dksJ3_init_0 1 rfl rfl)
theorem dJ3_init_2 : decode cJ3_init 2 = .ok (.aconst_null, 1) := dk_1 (dk_at dksJ3_init_0 2 rfl rfl)
theorem dJ3_init_3 : decode cJ3_init 3 = .ok (.invokespecial 489, 3) := dk_183 1 233 (dk_at dksJ3_init_0 3 rfl rfl)
theorem dJ3_init_6 : decode cJ3_init 6 = .ok (.return_, 1) := dk_177 (dk_at dksJ3_init_0 6 rfl rfl)
abbrev cJ3_init_2 : ByteArray := prog_74_method_150_code
def yJ3_init_2 : MethodName := ⟨RJ3, "<init>", "(Ljava/lang/AbstractStringBuilder;Ljava/lang/Void;)V"⟩
def dkwJ3_init_2_4 : List UInt8 := [181, 0, 9, 177]
abbrev dktJ3_init_2_4 : List UInt8 := dkwJ3_init_2_4 ++ []
def dkwJ3_init_2_3 : List UInt8 := [184, 0, 47, 181, 0, 15, 177, 42, 4, 181, 0, 15, 42, 45, 3, 21, 4, 4, 120, 184, 0, 54]
abbrev dktJ3_init_2_3 : List UInt8 := dkwJ3_init_2_3 ++ dktJ3_init_2_4
def dkwJ3_init_2_2 : List UInt8 := [180, 4, 24, 153, 0, 28, 42, 45, 3, 21, 4, 184, 4, 27, 181, 0, 9, 42, 42, 180, 0, 9, 21, 4]
abbrev dktJ3_init_2_2 : List UInt8 := dkwJ3_init_2_2 ++ dktJ3_init_2_3
def dkwJ3_init_2_1 : List UInt8 := [181, 0, 15, 42, 45, 3, 21, 4, 184, 0, 54, 181, 0, 9, 167, 0, 59, 178, 0, 38, 153, 0, 35, 43]
abbrev dktJ3_init_2_1 : List UInt8 := dkwJ3_init_2_1 ++ dktJ3_init_2_2
def dkwJ3_init_2_0 : List UInt8 := [42, 183, 0, 1, 43, 182, 2, 40, 78, 43, 182, 2, 37, 54, 4, 43, 182, 4, 23, 153, 0, 22, 42, 3]
abbrev dktJ3_init_2_0 : List UInt8 := dkwJ3_init_2_0 ++ dktJ3_init_2_1
theorem dksJ3_init_2_0 : cJ3_init_2.data.toList.drop 0 = dktJ3_init_2_0 := by decide +kernel
theorem dksJ3_init_2_1 : cJ3_init_2.data.toList.drop 24 = dktJ3_init_2_1 := dk_seg dksJ3_init_2_0 24 rfl rfl
theorem dksJ3_init_2_2 : cJ3_init_2.data.toList.drop 48 = dktJ3_init_2_2 := dk_seg dksJ3_init_2_1 24 rfl rfl
theorem dksJ3_init_2_3 : cJ3_init_2.data.toList.drop 72 = dktJ3_init_2_3 := dk_seg dksJ3_init_2_2 24 rfl rfl
theorem dksJ3_init_2_4 : cJ3_init_2.data.toList.drop 94 = dktJ3_init_2_4 := dk_seg dksJ3_init_2_3 22 rfl rfl
theorem dJ3_init_2_0 : decode cJ3_init_2 0 = .ok (.aload_n 0, 1) := dk_42 (dk_at dksJ3_init_2_0 0 rfl rfl)
theorem dJ3_init_2_1 : decode cJ3_init_2 1 = .ok (.invokespecial 1, 3) := dk_183 0 1 (dk_at dksJ3_init_2_0 1 rfl rfl)
theorem dJ3_init_2_4 : decode cJ3_init_2 4 = .ok (.aload_n 1, 1) := dk_43 (dk_at dksJ3_init_2_0 4 rfl rfl)
theorem dJ3_init_2_5 : decode cJ3_init_2 5 = .ok (.invokevirtual 552, 3) := dk_182 2 40 (dk_at dksJ3_init_2_0 5 rfl rfl)
theorem dJ3_init_2_8 : decode cJ3_init_2 8 = .ok (.astore_n 3, 1) := dk_78 (dk_at dksJ3_init_2_0 8 rfl rfl)
theorem dJ3_init_2_9 : decode cJ3_init_2 9 = .ok (.aload_n 1, 1) := dk_43 (dk_at dksJ3_init_2_0 9 rfl rfl)
theorem dJ3_init_2_10 : decode cJ3_init_2 10 = .ok (.invokevirtual 549, 3) := dk_182 2 37 (dk_at dksJ3_init_2_0 10 rfl rfl)
theorem dJ3_init_2_13 : decode cJ3_init_2 13 = .ok (.istore 4, 2) := dk_54 4 (dk_at dksJ3_init_2_0 13 rfl rfl)
theorem dJ3_init_2_15 : decode cJ3_init_2 15 = .ok (.aload_n 1, 1) := dk_43 (dk_at dksJ3_init_2_0 15 rfl rfl)
theorem dJ3_init_2_16 : decode cJ3_init_2 16 = .ok (.invokevirtual 1047, 3) := dk_182 4 23 (dk_at dksJ3_init_2_0 16 rfl rfl)
theorem dJ3_init_2_19 : decode cJ3_init_2 19 = .ok (.ifCond .eq 22, 3) := dk_153 0 22 (dk_at dksJ3_init_2_0 19 rfl rfl)
theorem dJ3_init_2_22 : decode cJ3_init_2 22 = .ok (.aload_n 0, 1) := dk_42 (dk_at dksJ3_init_2_0 22 rfl rfl)
theorem dJ3_init_2_23 : decode cJ3_init_2 23 = .ok (.iconst 0, 1) := dk_3 (dk_at dksJ3_init_2_0 23 rfl rfl)
theorem dJ3_init_2_24 : decode cJ3_init_2 24 = .ok (.putfield 15, 3) := dk_181 0 15 (dk_at dksJ3_init_2_1 0 rfl rfl)
theorem dJ3_init_2_27 : decode cJ3_init_2 27 = .ok (.aload_n 0, 1) := dk_42 (dk_at dksJ3_init_2_1 3 rfl rfl)
theorem dJ3_init_2_28 : decode cJ3_init_2 28 = .ok (.aload_n 3, 1) := dk_45 (dk_at dksJ3_init_2_1 4 rfl rfl)
theorem dJ3_init_2_29 : decode cJ3_init_2 29 = .ok (.iconst 0, 1) := dk_3 (dk_at dksJ3_init_2_1 5 rfl rfl)
theorem dJ3_init_2_30 : decode cJ3_init_2 30 = .ok (.iload 4, 2) := dk_21 4 (dk_at dksJ3_init_2_1 6 rfl rfl)
theorem dJ3_init_2_32 : decode cJ3_init_2 32 = .ok (.invokestatic 54, 3) := dk_184 0 54 (dk_at dksJ3_init_2_1 8 rfl rfl)
theorem dJ3_init_2_35 : decode cJ3_init_2 35 = .ok (.putfield 9, 3) := dk_181 0 9 (dk_at dksJ3_init_2_1 11 rfl rfl)
theorem dJ3_init_2_38 : decode cJ3_init_2 38 = .ok (.goto 59, 3) := dk_167 0 59 (dk_at dksJ3_init_2_1 14 rfl rfl)
theorem dJ3_init_2_41 : decode cJ3_init_2 41 = .ok (.getstatic 38, 3) := dk_178 0 38 (dk_at dksJ3_init_2_1 17 rfl rfl)
theorem dJ3_init_2_44 : decode cJ3_init_2 44 = .ok (.ifCond .eq 35, 3) := dk_153 0 35 (dk_at dksJ3_init_2_1 20 rfl rfl)
theorem dJ3_init_2_47 : decode cJ3_init_2 47 = .ok (.aload_n 1, 1) := dk_43 (dk_at dksJ3_init_2_1 23 rfl rfl)
theorem dJ3_init_2_48 : decode cJ3_init_2 48 = .ok (.getfield 1048, 3) := dk_180 4 24 (dk_at dksJ3_init_2_2 0 rfl rfl)
theorem dJ3_init_2_51 : decode cJ3_init_2 51 = .ok (.ifCond .eq 28, 3) := dk_153 0 28 (dk_at dksJ3_init_2_2 3 rfl rfl)
theorem dJ3_init_2_54 : decode cJ3_init_2 54 = .ok (.aload_n 0, 1) := dk_42 (dk_at dksJ3_init_2_2 6 rfl rfl)
theorem dJ3_init_2_55 : decode cJ3_init_2 55 = .ok (.aload_n 3, 1) := dk_45 (dk_at dksJ3_init_2_2 7 rfl rfl)
theorem dJ3_init_2_56 : decode cJ3_init_2 56 = .ok (.iconst 0, 1) := dk_3 (dk_at dksJ3_init_2_2 8 rfl rfl)
theorem dJ3_init_2_57 : decode cJ3_init_2 57 = .ok (.iload 4, 2) := dk_21 4 (dk_at dksJ3_init_2_2 9 rfl rfl)
theorem dJ3_init_2_59 : decode cJ3_init_2 59 = .ok (.invokestatic 1051, 3) := dk_184 4 27 (dk_at dksJ3_init_2_2 11 rfl rfl)
theorem dJ3_init_2_62 : decode cJ3_init_2 62 = .ok (.putfield 9, 3) := dk_181 0 9 (dk_at dksJ3_init_2_2 14 rfl rfl)
theorem dJ3_init_2_65 : decode cJ3_init_2 65 = .ok (.aload_n 0, 1) := dk_42 (dk_at dksJ3_init_2_2 17 rfl rfl)
theorem dJ3_init_2_66 : decode cJ3_init_2 66 = .ok (.aload_n 0, 1) := dk_42 (dk_at dksJ3_init_2_2 18 rfl rfl)
theorem dJ3_init_2_67 : decode cJ3_init_2 67 = .ok (.getfield 9, 3) := dk_180 0 9 (dk_at dksJ3_init_2_2 19 rfl rfl)
theorem dJ3_init_2_70 : decode cJ3_init_2 70 = .ok (.iload 4, 2) := dk_21 4 (dk_at dksJ3_init_2_2 22 rfl rfl)
theorem dJ3_init_2_72 : decode cJ3_init_2 72 = .ok (.invokestatic 47, 3) := dk_184 0 47 (dk_at dksJ3_init_2_3 0 rfl rfl)
theorem dJ3_init_2_75 : decode cJ3_init_2 75 = .ok (.putfield 15, 3) := dk_181 0 15 (dk_at dksJ3_init_2_3 3 rfl rfl)
theorem dJ3_init_2_78 : decode cJ3_init_2 78 = .ok (.return_, 1) := dk_177 (dk_at dksJ3_init_2_3 6 rfl rfl)
theorem dJ3_init_2_79 : decode cJ3_init_2 79 = .ok (.aload_n 0, 1) := dk_42 (dk_at dksJ3_init_2_3 7 rfl rfl)
theorem dJ3_init_2_80 : decode cJ3_init_2 80 = .ok (.iconst 1, 1) := dk_4 (dk_at dksJ3_init_2_3 8 rfl rfl)
theorem dJ3_init_2_81 : decode cJ3_init_2 81 = .ok (.putfield 15, 3) := dk_181 0 15 (dk_at dksJ3_init_2_3 9 rfl rfl)
theorem dJ3_init_2_84 : decode cJ3_init_2 84 = .ok (.aload_n 0, 1) := dk_42 (dk_at dksJ3_init_2_3 12 rfl rfl)
theorem dJ3_init_2_85 : decode cJ3_init_2 85 = .ok (.aload_n 3, 1) := dk_45 (dk_at dksJ3_init_2_3 13 rfl rfl)
theorem dJ3_init_2_86 : decode cJ3_init_2 86 = .ok (.iconst 0, 1) := dk_3 (dk_at dksJ3_init_2_3 14 rfl rfl)
theorem dJ3_init_2_87 : decode cJ3_init_2 87 = .ok (.iload 4, 2) := dk_21 4 (dk_at dksJ3_init_2_3 15 rfl rfl)
theorem dJ3_init_2_89 : decode cJ3_init_2 89 = .ok (.iconst 1, 1) := dk_4 (dk_at dksJ3_init_2_3 17 rfl rfl)
theorem dJ3_init_2_90 : decode cJ3_init_2 90 = .ok (.ishl, 1) := dk_120 (dk_at dksJ3_init_2_3 18 rfl rfl)
theorem dJ3_init_2_91 : decode cJ3_init_2 91 = .ok (.invokestatic 54, 3) := dk_184 0 54 (dk_at dksJ3_init_2_3 19 rfl rfl)
theorem dJ3_init_2_94 : decode cJ3_init_2 94 = .ok (.putfield 9, 3) := dk_181 0 9 (dk_at dksJ3_init_2_4 0 rfl rfl)
theorem dJ3_init_2_97 : decode cJ3_init_2 97 = .ok (.return_, 1) := dk_177 (dk_at dksJ3_init_2_4 3 rfl rfl)
abbrev cJ3_indexOf : ByteArray := prog_74_method_79_code
def yJ3_indexOf : MethodName := ⟨RJ3, "indexOf", "(I)I"⟩
def dkwJ3_indexOf_0 : List UInt8 := [42, 27, 3, 182, 2, 121, 172]
abbrev dktJ3_indexOf_0 : List UInt8 := dkwJ3_indexOf_0 ++ []
theorem dksJ3_indexOf_0 : cJ3_indexOf.data.toList.drop 0 = dktJ3_indexOf_0 := by decide +kernel
theorem dJ3_indexOf_0 : decode cJ3_indexOf 0 = .ok (.aload_n 0, 1) := dk_42 (dk_at dksJ3_indexOf_0 0 rfl rfl)
theorem dJ3_indexOf_1 : decode cJ3_indexOf 1 = .ok (.iload_n 1, 1) := dk_27 (dk_at dksJ3_indexOf_0 1 rfl rfl)
theorem dJ3_indexOf_2 : decode cJ3_indexOf 2 = .ok (.iconst 0, 1) := dk_3 (dk_at dksJ3_indexOf_0 2 rfl rfl)
theorem dJ3_indexOf_3 : decode cJ3_indexOf 3 = .ok (.invokevirtual 633, 3) := dk_182 2 121 (dk_at dksJ3_indexOf_0 3 rfl rfl)
theorem dJ3_indexOf_6 : decode cJ3_indexOf 6 = .ok (.ireturn, 1) := dk_172 (dk_at dksJ3_indexOf_0 6 rfl rfl)
abbrev cJ3_indexOf_2 : ByteArray := prog_74_method_80_code
def yJ3_indexOf_2 : MethodName := ⟨RJ3, "indexOf", "(II)I"⟩
def dkwJ3_indexOf_2_1 : List UInt8 := [180, 0, 9, 27, 28, 42, 182, 1, 249, 184, 2, 128, 172]
abbrev dktJ3_indexOf_2_1 : List UInt8 := dkwJ3_indexOf_2_1 ++ []
def dkwJ3_indexOf_2_0 : List UInt8 := [42, 182, 1, 236, 153, 0, 19, 42, 180, 0, 9, 27, 28, 42, 182, 1, 249, 184, 2, 125, 167, 0, 16, 42]
abbrev dktJ3_indexOf_2_0 : List UInt8 := dkwJ3_indexOf_2_0 ++ dktJ3_indexOf_2_1
theorem dksJ3_indexOf_2_0 : cJ3_indexOf_2.data.toList.drop 0 = dktJ3_indexOf_2_0 := by decide +kernel
theorem dksJ3_indexOf_2_1 : cJ3_indexOf_2.data.toList.drop 24 = dktJ3_indexOf_2_1 := dk_seg dksJ3_indexOf_2_0 24 rfl rfl
theorem dJ3_indexOf_2_0 : decode cJ3_indexOf_2 0 = .ok (.aload_n 0, 1) := dk_42 (dk_at dksJ3_indexOf_2_0 0 rfl rfl)
theorem dJ3_indexOf_2_1 : decode cJ3_indexOf_2 1 = .ok (.invokevirtual 492, 3) := dk_182 1 236 (dk_at dksJ3_indexOf_2_0 1 rfl rfl)
theorem dJ3_indexOf_2_4 : decode cJ3_indexOf_2 4 = .ok (.ifCond .eq 19, 3) := dk_153 0 19 (dk_at dksJ3_indexOf_2_0 4 rfl rfl)
theorem dJ3_indexOf_2_7 : decode cJ3_indexOf_2 7 = .ok (.aload_n 0, 1) := dk_42 (dk_at dksJ3_indexOf_2_0 7 rfl rfl)
theorem dJ3_indexOf_2_8 : decode cJ3_indexOf_2 8 = .ok (.getfield 9, 3) := dk_180 0 9 (dk_at dksJ3_indexOf_2_0 8 rfl rfl)
theorem dJ3_indexOf_2_11 : decode cJ3_indexOf_2 11 = .ok (.iload_n 1, 1) := dk_27 (dk_at dksJ3_indexOf_2_0 11 rfl rfl)
theorem dJ3_indexOf_2_12 : decode cJ3_indexOf_2 12 = .ok (.iload_n 2, 1) := dk_28 (dk_at dksJ3_indexOf_2_0 12 rfl rfl)
theorem dJ3_indexOf_2_13 : decode cJ3_indexOf_2 13 = .ok (.aload_n 0, 1) := dk_42 (dk_at dksJ3_indexOf_2_0 13 rfl rfl)
theorem dJ3_indexOf_2_14 : decode cJ3_indexOf_2 14 = .ok (.invokevirtual 505, 3) := dk_182 1 249 (dk_at dksJ3_indexOf_2_0 14 rfl rfl)
theorem dJ3_indexOf_2_17 : decode cJ3_indexOf_2 17 = .ok (.invokestatic 637, 3) := dk_184 2 125 (dk_at dksJ3_indexOf_2_0 17 rfl rfl)
theorem dJ3_indexOf_2_20 : decode cJ3_indexOf_2 20 = .ok (.goto 16, 3) := dk_167 0 16 (dk_at dksJ3_indexOf_2_0 20 rfl rfl)
theorem dJ3_indexOf_2_23 : decode cJ3_indexOf_2 23 = .ok (.aload_n 0, 1) := dk_42 (dk_at dksJ3_indexOf_2_0 23 rfl rfl)
theorem dJ3_indexOf_2_24 : decode cJ3_indexOf_2 24 = .ok (.getfield 9, 3) := dk_180 0 9 (dk_at dksJ3_indexOf_2_1 0 rfl rfl)
theorem dJ3_indexOf_2_27 : decode cJ3_indexOf_2 27 = .ok (.iload_n 1, 1) := dk_27 (dk_at dksJ3_indexOf_2_1 3 rfl rfl)
theorem dJ3_indexOf_2_28 : decode cJ3_indexOf_2 28 = .ok (.iload_n 2, 1) := dk_28 (dk_at dksJ3_indexOf_2_1 4 rfl rfl)
theorem dJ3_indexOf_2_29 : decode cJ3_indexOf_2 29 = .ok (.aload_n 0, 1) := dk_42 (dk_at dksJ3_indexOf_2_1 5 rfl rfl)
theorem dJ3_indexOf_2_30 : decode cJ3_indexOf_2 30 = .ok (.invokevirtual 505, 3) := dk_182 1 249 (dk_at dksJ3_indexOf_2_1 6 rfl rfl)
theorem dJ3_indexOf_2_33 : decode cJ3_indexOf_2 33 = .ok (.invokestatic 640, 3) := dk_184 2 128 (dk_at dksJ3_indexOf_2_1 9 rfl rfl)
theorem dJ3_indexOf_2_36 : decode cJ3_indexOf_2 36 = .ok (.ireturn, 1) := dk_172 (dk_at dksJ3_indexOf_2_1 12 rfl rfl)
abbrev cJ3_checkBoundsBeginEnd : ByteArray := prog_74_method_158_code
def yJ3_checkBoundsBeginEnd : MethodName := ⟨RJ3, "checkBoundsBeginEnd", "(III)V"⟩
def dkwJ3_checkBoundsBeginEnd_0 : List UInt8 := [26, 27, 28, 178, 4, 29, 184, 4, 38, 87, 177]
abbrev dktJ3_checkBoundsBeginEnd_0 : List UInt8 := dkwJ3_checkBoundsBeginEnd_0 ++ []
theorem dksJ3_checkBoundsBeginEnd_0 : cJ3_checkBoundsBeginEnd.data.toList.drop 0 = dktJ3_checkBoundsBeginEnd_0 := by decide +kernel
theorem dJ3_checkBoundsBeginEnd_0 : decode cJ3_checkBoundsBeginEnd 0 = .ok (.iload_n 0, 1) := dk_26 (dk_at dksJ3_checkBoundsBeginEnd_0 0 rfl rfl)
theorem dJ3_checkBoundsBeginEnd_1 : decode cJ3_checkBoundsBeginEnd 1 = .ok (.iload_n 1, 1) := dk_27 (dk_at dksJ3_checkBoundsBeginEnd_0 1 rfl rfl)
theorem dJ3_checkBoundsBeginEnd_2 : decode cJ3_checkBoundsBeginEnd 2 = .ok (.iload_n 2, 1) := dk_28 (dk_at dksJ3_checkBoundsBeginEnd_0 2 rfl rfl)
theorem dJ3_checkBoundsBeginEnd_3 : decode cJ3_checkBoundsBeginEnd 3 = .ok (.getstatic 1053, 3) := dk_178 4 29 (dk_at dksJ3_checkBoundsBeginEnd_0 3 rfl rfl)
theorem dJ3_checkBoundsBeginEnd_6 : decode cJ3_checkBoundsBeginEnd 6 = .ok (.invokestatic 1062, 3) := dk_184 4 38 (dk_at dksJ3_checkBoundsBeginEnd_0 6 rfl rfl)
theorem dJ3_checkBoundsBeginEnd_9 : decode cJ3_checkBoundsBeginEnd 9 = .ok (.pop, 1) := dk_87 (dk_at dksJ3_checkBoundsBeginEnd_0 9 rfl rfl)
theorem dJ3_checkBoundsBeginEnd_10 : decode cJ3_checkBoundsBeginEnd 10 = .ok (.return_, 1) := dk_177 (dk_at dksJ3_checkBoundsBeginEnd_0 10 rfl rfl)
theorem q277 : (Jvm.Cond.initialized "java/lang/String") ∈ lw_all := lw_g (lw_at lw_m1 17 rfl) rfl
theorem q963 : (Jvm.Cond.instanceMethod ({ cls := "java/lang/String", name := "length", desc := "()I" } : Jvm.MethodName)) ∈ lw_all := lw_g (lw_at lw_m3 223 rfl) rfl
theorem q964 : (Jvm.Cond.selects "java/lang/String" ({ cls := "java/lang/String", name := "length", desc := "()I" } : Jvm.MethodName) ({ cls := "java/lang/String", name := "length", desc := "()I" } : Jvm.MethodName)) ∈ lw_all := lw_g (lw_at lw_m3 224 rfl) rfl
theorem q965 : (Jvm.Cond.code ({ cls := "java/lang/String", name := "length", desc := "()I" } : Jvm.MethodName) prog_74_method_54_code (1 : Nat) (Option.some Jvm.ClassFile.FieldType.int)) ∈ lw_all := lw_g (lw_at lw_m3 225 rfl) rfl
theorem q966 : (Jvm.Cond.methodLink "java/lang/String" (335 : Nat) ({ cls := "java/lang/String", name := "coder", desc := "()B" } : Jvm.MethodName)) ∈ lw_all := lw_g (lw_at lw_m3 226 rfl) rfl
theorem q967 : (Jvm.Cond.instanceMethod ({ cls := "java/lang/String", name := "coder", desc := "()B" } : Jvm.MethodName)) ∈ lw_all := lw_g (lw_at lw_m3 227 rfl) rfl
theorem q968 : (Jvm.Cond.selects "java/lang/String" ({ cls := "java/lang/String", name := "coder", desc := "()B" } : Jvm.MethodName) ({ cls := "java/lang/String", name := "coder", desc := "()B" } : Jvm.MethodName)) ∈ lw_all := lw_g (lw_at lw_m3 228 rfl) rfl
theorem q969 : (Jvm.Cond.code ({ cls := "java/lang/String", name := "coder", desc := "()B" } : Jvm.MethodName) prog_74_method_152_code (1 : Nat) (Option.some Jvm.ClassFile.FieldType.byte)) ∈ lw_all := lw_g (lw_at lw_m3 229 rfl) rfl
theorem q970 : (Jvm.Cond.fieldLink "java/lang/String" (38 : Nat) "java/lang/String" "COMPACT_STRINGS" "Z") ∈ lw_all := lw_g (lw_at lw_m3 230 rfl) rfl
theorem q971 : (Jvm.Cond.laysStatic "java/lang/String" "COMPACT_STRINGS" "Z") ∈ lw_tbl := lw_at lw_m3 231 rfl
theorem q973 : (Jvm.Cond.instanceMethod ({ cls := "java/lang/String", name := "charAt", desc := "(I)C" } : Jvm.MethodName)) ∈ lw_all := lw_g (lw_at lw_m3 233 rfl) rfl
theorem q974 : (Jvm.Cond.selects "java/lang/String" ({ cls := "java/lang/String", name := "charAt", desc := "(I)C" } : Jvm.MethodName) ({ cls := "java/lang/String", name := "charAt", desc := "(I)C" } : Jvm.MethodName)) ∈ lw_all := lw_g (lw_at lw_m3 234 rfl) rfl
theorem q975 : (Jvm.Cond.code ({ cls := "java/lang/String", name := "charAt", desc := "(I)C" } : Jvm.MethodName) prog_74_method_56_code (2 : Nat) (Option.some Jvm.ClassFile.FieldType.char)) ∈ lw_all := lw_g (lw_at lw_m3 235 rfl) rfl
theorem q976 : (Jvm.Cond.methodLink "java/lang/String" (492 : Nat) ({ cls := "java/lang/String", name := "isLatin1", desc := "()Z" } : Jvm.MethodName)) ∈ lw_all := lw_g (lw_at lw_m3 236 rfl) rfl
theorem q977 : (Jvm.Cond.instanceMethod ({ cls := "java/lang/String", name := "isLatin1", desc := "()Z" } : Jvm.MethodName)) ∈ lw_all := lw_g (lw_at lw_m3 237 rfl) rfl
theorem q978 : (Jvm.Cond.selects "java/lang/String" ({ cls := "java/lang/String", name := "isLatin1", desc := "()Z" } : Jvm.MethodName) ({ cls := "java/lang/String", name := "isLatin1", desc := "()Z" } : Jvm.MethodName)) ∈ lw_all := lw_g (lw_at lw_m3 238 rfl) rfl
theorem q979 : (Jvm.Cond.code ({ cls := "java/lang/String", name := "isLatin1", desc := "()Z" } : Jvm.MethodName) prog_74_method_154_code (1 : Nat) (Option.some Jvm.ClassFile.FieldType.boolean)) ∈ lw_all := lw_g (lw_at lw_m3 239 rfl) rfl
theorem q980 : (Jvm.Cond.methodLink "java/lang/String" (495 : Nat) ({ cls := "java/lang/StringLatin1", name := "charAt", desc := "([BI)C" } : Jvm.MethodName)) ∈ lw_all := lw_g (lw_at lw_m4 0 rfl) rfl
theorem q984 : (Jvm.Cond.static ({ cls := "java/lang/String", name := "checkIndex", desc := "(II)V" } : Jvm.MethodName)) ∈ lw_all := lw_g (lw_at lw_m4 4 rfl) rfl
theorem q985 : (Jvm.Cond.code ({ cls := "java/lang/String", name := "checkIndex", desc := "(II)V" } : Jvm.MethodName) prog_74_method_155_code (2 : Nat) (Option.none : Option Jvm.ClassFile.FieldType)) ∈ lw_all := lw_g (lw_at lw_m4 5 rfl) rfl
theorem q986 : (Jvm.Cond.fieldLink "java/lang/String" (1053 : Nat) "jdk/internal/util/Preconditions" "SIOOBE_FORMATTER" "Ljava/util/function/BiFunction;") ∈ lw_all := lw_g (lw_at lw_m4 6 rfl) rfl
theorem q988 : (Jvm.Cond.methodLink "java/lang/String" (1059 : Nat) ({ cls := "jdk/internal/util/Preconditions", name := "checkIndex", desc := "(IILjava/util/function/BiFunction;)I" } : Jvm.MethodName)) ∈ lw_all := lw_g (lw_at lw_m4 8 rfl) rfl
theorem q991 : (Jvm.Cond.methodLink "java/lang/String" (498 : Nat) ({ cls := "java/lang/StringUTF16", name := "charAt", desc := "([BI)C" } : Jvm.MethodName)) ∈ lw_all := lw_g (lw_at lw_m4 11 rfl) rfl
theorem q1246 : (Jvm.Cond.instantiable "java/lang/String" (4 : Nat)) ∈ lw_all := lw_g (lw_at lw_m5 26 rfl) rfl
theorem q1247 : (Jvm.Cond.laysFinal "java/lang/String" "java/lang/String" "value" "[B") ∈ lw_all := lw_g (lw_at lw_m5 27 rfl) rfl
theorem q1248 : (Jvm.Cond.soleField "java/lang/String" "value") ∈ lw_all := lw_g (lw_at lw_m5 28 rfl) rfl
theorem q1249 : (Jvm.Cond.laysFinal "java/lang/String" "java/lang/String" "coder" "B") ∈ lw_all := lw_g (lw_at lw_m5 29 rfl) rfl
theorem q1250 : (Jvm.Cond.soleField "java/lang/String" "coder") ∈ lw_all := lw_g (lw_at lw_m5 30 rfl) rfl
theorem q1992 : (Jvm.Cond.fieldLink "java/lang/String" (1048 : Nat) "java/lang/AbstractStringBuilder" "maybeLatin1" "Z") ∈ lw_all := lw_g (lw_at lw_m8 52 rfl) rfl
theorem q2067 : (Jvm.Cond.static ({ cls := "java/lang/String", name := "checkBoundsOffCount", desc := "(III)I" } : Jvm.MethodName)) ∈ lw_all := lw_g (lw_at lw_m8 127 rfl) rfl
theorem q2068 : (Jvm.Cond.code ({ cls := "java/lang/String", name := "checkBoundsOffCount", desc := "(III)I" } : Jvm.MethodName) prog_74_method_157_code (3 : Nat) (Option.some Jvm.ClassFile.FieldType.int)) ∈ lw_all := lw_g (lw_at lw_m8 128 rfl) rfl
theorem q2069 : (Jvm.Cond.methodLink "java/lang/String" (1065 : Nat) ({ cls := "jdk/internal/util/Preconditions", name := "checkFromIndexSize", desc := "(IIILjava/util/function/BiFunction;)I" } : Jvm.MethodName)) ∈ lw_all := lw_g (lw_at lw_m8 129 rfl) rfl
theorem q2084 : (Jvm.Cond.instanceMethod ({ cls := "java/lang/String", name := "<init>", desc := "(Ljava/lang/StringBuilder;)V" } : Jvm.MethodName)) ∈ lw_all := lw_g (lw_at lw_m8 144 rfl) rfl
theorem q2085 : (Jvm.Cond.code ({ cls := "java/lang/String", name := "<init>", desc := "(Ljava/lang/StringBuilder;)V" } : Jvm.MethodName) prog_74_method_53_code (2 : Nat) (Option.none : Option Jvm.ClassFile.FieldType)) ∈ lw_all := lw_g (lw_at lw_m8 145 rfl) rfl
theorem q2086 : (Jvm.Cond.methodLink "java/lang/String" (489 : Nat) ({ cls := "java/lang/String", name := "<init>", desc := "(Ljava/lang/AbstractStringBuilder;Ljava/lang/Void;)V" } : Jvm.MethodName)) ∈ lw_all := lw_g (lw_at lw_m8 146 rfl) rfl
theorem q2087 : (Jvm.Cond.instanceMethod ({ cls := "java/lang/String", name := "<init>", desc := "(Ljava/lang/AbstractStringBuilder;Ljava/lang/Void;)V" } : Jvm.MethodName)) ∈ lw_all := lw_g (lw_at lw_m8 147 rfl) rfl
theorem q2088 : (Jvm.Cond.code ({ cls := "java/lang/String", name := "<init>", desc := "(Ljava/lang/AbstractStringBuilder;Ljava/lang/Void;)V" } : Jvm.MethodName) prog_74_method_150_code (5 : Nat) (Option.none : Option Jvm.ClassFile.FieldType)) ∈ lw_all := lw_g (lw_at lw_m8 148 rfl) rfl
theorem q2089 : (Jvm.Cond.methodLink "java/lang/String" (1 : Nat) ({ cls := "java/lang/Object", name := "<init>", desc := "()V" } : Jvm.MethodName)) ∈ lw_all := lw_g (lw_at lw_m8 149 rfl) rfl
theorem q2090 : (Jvm.Cond.methodLink "java/lang/String" (552 : Nat) ({ cls := "java/lang/AbstractStringBuilder", name := "getValue", desc := "()[B" } : Jvm.MethodName)) ∈ lw_all := lw_g (lw_at lw_m8 150 rfl) rfl
theorem q2095 : (Jvm.Cond.methodLink "java/lang/String" (549 : Nat) ({ cls := "java/lang/AbstractStringBuilder", name := "length", desc := "()I" } : Jvm.MethodName)) ∈ lw_all := lw_g (lw_at lw_m8 155 rfl) rfl
theorem q2103 : (Jvm.Cond.methodLink "java/lang/String" (1047 : Nat) ({ cls := "java/lang/AbstractStringBuilder", name := "isLatin1", desc := "()Z" } : Jvm.MethodName)) ∈ lw_all := lw_g (lw_at lw_m8 163 rfl) rfl
theorem q2104 : (Jvm.Cond.methodLink "java/lang/String" (54 : Nat) ({ cls := "java/util/Arrays", name := "copyOfRange", desc := "([BII)[B" } : Jvm.MethodName)) ∈ lw_all := lw_g (lw_at lw_m8 164 rfl) rfl
theorem q2113 : (Jvm.Cond.methodLink "java/lang/String" (1051 : Nat) ({ cls := "java/lang/StringUTF16", name := "compress", desc := "([BII)[B" } : Jvm.MethodName)) ∈ lw_all := lw_g (lw_at lw_m8 173 rfl) rfl
theorem q2120 : (Jvm.Cond.methodLink "java/lang/String" (47 : Nat) ({ cls := "java/lang/StringUTF16", name := "coderFromArrayLen", desc := "([BI)B" } : Jvm.MethodName)) ∈ lw_all := lw_g (lw_at lw_m8 180 rfl) rfl
theorem q2123 : (Jvm.Cond.fieldLink "java/lang/String" (9 : Nat) "java/lang/String" "value" "[B") ∈ lw_all := lw_g (lw_at lw_m8 183 rfl) rfl
theorem q2124 : (Jvm.Cond.fieldLink "java/lang/String" (15 : Nat) "java/lang/String" "coder" "B") ∈ lw_all := lw_g (lw_at lw_m8 184 rfl) rfl
theorem q2125 : (Jvm.Cond.lays "java/lang/String" "java/lang/String" "hash" "I") ∈ lw_all := lw_g (lw_at lw_m8 185 rfl) rfl
theorem q2126 : (Jvm.Cond.soleField "java/lang/String" "hash") ∈ lw_all := lw_g (lw_at lw_m8 186 rfl) rfl
theorem q2127 : (Jvm.Cond.lays "java/lang/String" "java/lang/String" "hashIsZero" "Z") ∈ lw_all := lw_g (lw_at lw_m8 187 rfl) rfl
theorem q2128 : (Jvm.Cond.soleField "java/lang/String" "hashIsZero") ∈ lw_all := lw_g (lw_at lw_m8 188 rfl) rfl
theorem q2129 : (Jvm.Cond.superclass "java/lang/String" "java/lang/Object") ∈ lw_all := lw_g (lw_at lw_m8 189 rfl) rfl
theorem q3977 : (Jvm.Cond.instanceMethod ({ cls := "java/lang/String", name := "indexOf", desc := "(I)I" } : Jvm.MethodName)) ∈ lw_all := lw_g (lw_at lw_m16 117 rfl) rfl
theorem q3978 : (Jvm.Cond.selects "java/lang/String" ({ cls := "java/lang/String", name := "indexOf", desc := "(I)I" } : Jvm.MethodName) ({ cls := "java/lang/String", name := "indexOf", desc := "(I)I" } : Jvm.MethodName)) ∈ lw_all := lw_g (lw_at lw_m16 118 rfl) rfl
theorem q3979 : (Jvm.Cond.code ({ cls := "java/lang/String", name := "indexOf", desc := "(I)I" } : Jvm.MethodName) prog_74_method_79_code (2 : Nat) (Option.some Jvm.ClassFile.FieldType.int)) ∈ lw_all := lw_g (lw_at lw_m16 119 rfl) rfl
theorem q3980 : (Jvm.Cond.methodLink "java/lang/String" (633 : Nat) ({ cls := "java/lang/String", name := "indexOf", desc := "(II)I" } : Jvm.MethodName)) ∈ lw_all := lw_g (lw_at lw_m16 120 rfl) rfl
theorem q3981 : (Jvm.Cond.instanceMethod ({ cls := "java/lang/String", name := "indexOf", desc := "(II)I" } : Jvm.MethodName)) ∈ lw_all := lw_g (lw_at lw_m16 121 rfl) rfl
theorem q3982 : (Jvm.Cond.selects "java/lang/String" ({ cls := "java/lang/String", name := "indexOf", desc := "(II)I" } : Jvm.MethodName) ({ cls := "java/lang/String", name := "indexOf", desc := "(II)I" } : Jvm.MethodName)) ∈ lw_all := lw_g (lw_at lw_m16 122 rfl) rfl
theorem q3983 : (Jvm.Cond.code ({ cls := "java/lang/String", name := "indexOf", desc := "(II)I" } : Jvm.MethodName) prog_74_method_80_code (3 : Nat) (Option.some Jvm.ClassFile.FieldType.int)) ∈ lw_all := lw_g (lw_at lw_m16 123 rfl) rfl
theorem q3984 : (Jvm.Cond.methodLink "java/lang/String" (505 : Nat) ({ cls := "java/lang/String", name := "length", desc := "()I" } : Jvm.MethodName)) ∈ lw_all := lw_g (lw_at lw_m16 124 rfl) rfl
theorem q3985 : (Jvm.Cond.methodLink "java/lang/String" (637 : Nat) ({ cls := "java/lang/StringLatin1", name := "indexOf", desc := "([BIII)I" } : Jvm.MethodName)) ∈ lw_all := lw_g (lw_at lw_m16 125 rfl) rfl
theorem q3996 : (Jvm.Cond.methodLink "java/lang/String" (640 : Nat) ({ cls := "java/lang/StringUTF16", name := "indexOf", desc := "([BIII)I" } : Jvm.MethodName)) ∈ lw_all := lw_g (lw_at lw_m16 136 rfl) rfl
theorem q4009 : (Jvm.Cond.static ({ cls := "java/lang/String", name := "checkBoundsBeginEnd", desc := "(III)V" } : Jvm.MethodName)) ∈ lw_all := lw_g (lw_at lw_m16 149 rfl) rfl
theorem q4010 : (Jvm.Cond.code ({ cls := "java/lang/String", name := "checkBoundsBeginEnd", desc := "(III)V" } : Jvm.MethodName) prog_74_method_158_code (3 : Nat) (Option.none : Option Jvm.ClassFile.FieldType)) ∈ lw_all := lw_g (lw_at lw_m16 150 rfl) rfl
theorem q4011 : (Jvm.Cond.methodLink "java/lang/String" (1062 : Nat) ({ cls := "jdk/internal/util/Preconditions", name := "checkFromToIndex", desc := "(IIILjava/util/function/BiFunction;)I" } : Jvm.MethodName)) ∈ lw_all := lw_g (lw_at lw_m16 151 rfl) rfl
theorem q4845 : (Jvm.Cond.castable "java/lang/String" "java/lang/Object") ∈ lw_tbl := lw_at lw_m20 25 rfl
theorem in_J3 : ∀ w ∈ wsJ30, w ∈ lw_all := lw_in wsJ30 [1247, 1249, 2125, 2127] (by decide +kernel) (by decide +kernel)
/-! java/lang/StringLatin1 -/
set_option maxRecDepth 100000
def RJ4 : String := "java/lang/StringLatin1"
abbrev cJ4_charAt : ByteArray := prog_76_method_2_code
def yJ4_charAt : MethodName := ⟨RJ4, "charAt", "([BI)C"⟩
def dkwJ4_charAt_0 : List UInt8 := [27, 42, 190, 184, 0, 9, 42, 27, 51, 17, 0, 255, 126, 146, 172]
abbrev dktJ4_charAt_0 : List UInt8 := dkwJ4_charAt_0 ++ []
theorem dksJ4_charAt_0 : cJ4_charAt.data.toList.drop 0 = dktJ4_charAt_0 := by decide +kernel
theorem dJ4_charAt_0 : decode cJ4_charAt 0 = .ok (.iload_n 1, 1) := dk_27 (dk_at dksJ4_charAt_0 0 rfl rfl)
theorem dJ4_charAt_1 : decode cJ4_charAt 1 = .ok (.aload_n 0, 1) := dk_42 (dk_at dksJ4_charAt_0 1 rfl rfl)
theorem dJ4_charAt_2 : decode cJ4_charAt 2 = .ok (.arraylength, 1) := dk_190 (dk_at dksJ4_charAt_0 2 rfl rfl)
theorem dJ4_charAt_3 : decode cJ4_charAt 3 = .ok (.invokestatic 9, 3) := dk_184 0 9 (dk_at dksJ4_charAt_0 3 rfl rfl)
theorem dJ4_charAt_6 : decode cJ4_charAt 6 = .ok (.aload_n 0, 1) := dk_42 (dk_at dksJ4_charAt_0 6 rfl rfl)
theorem dJ4_charAt_7 : decode cJ4_charAt 7 = .ok (.iload_n 1, 1) := dk_27 (dk_at dksJ4_charAt_0 7 rfl rfl)
theorem dJ4_charAt_8 : decode cJ4_charAt 8 = .ok (.baload, 1) := dk_51 (dk_at dksJ4_charAt_0 8 rfl rfl)
theorem dJ4_charAt_9 : decode cJ4_charAt 9 = .ok (.sipush 255, 3) := dk_17 0 255 (dk_at dksJ4_charAt_0 9 rfl rfl)
theorem dJ4_charAt_12 : decode cJ4_charAt 12 = .ok (.iand, 1) := dk_126 (dk_at dksJ4_charAt_0 12 rfl rfl)
theorem dJ4_charAt_13 : decode cJ4_charAt 13 = .ok (.i2c, 1) := dk_146 (dk_at dksJ4_charAt_0 13 rfl rfl)
theorem dJ4_charAt_14 : decode cJ4_charAt 14 = .ok (.ireturn, 1) := dk_172 (dk_at dksJ4_charAt_0 14 rfl rfl)
abbrev cJ4_canEncode : ByteArray := prog_76_method_3_code
def yJ4_canEncode : MethodName := ⟨RJ4, "canEncode", "(C)Z"⟩
def dkwJ4_canEncode_0 : List UInt8 := [26, 17, 0, 255, 163, 0, 7, 4, 167, 0, 4, 3, 172]
abbrev dktJ4_canEncode_0 : List UInt8 := dkwJ4_canEncode_0 ++ []
theorem dksJ4_canEncode_0 : cJ4_canEncode.data.toList.drop 0 = dktJ4_canEncode_0 := by decide +kernel
theorem dJ4_canEncode_0 : decode cJ4_canEncode 0 = .ok (.iload_n 0, 1) := dk_26 (dk_at dksJ4_canEncode_0 0 rfl rfl)
theorem dJ4_canEncode_1 : decode cJ4_canEncode 1 = .ok (.sipush 255, 3) := dk_17 0 255 (dk_at dksJ4_canEncode_0 1 rfl rfl)
theorem dJ4_canEncode_4 : decode cJ4_canEncode 4 = .ok (.if_icmp .gt 7, 3) := dk_163 0 7 (dk_at dksJ4_canEncode_0 4 rfl rfl)
theorem dJ4_canEncode_7 : decode cJ4_canEncode 7 = .ok (.iconst 1, 1) := dk_4 (dk_at dksJ4_canEncode_0 7 rfl rfl)
theorem dJ4_canEncode_8 : decode cJ4_canEncode 8 = .ok (.goto 4, 3) := dk_167 0 4 (dk_at dksJ4_canEncode_0 8 rfl rfl)
theorem dJ4_canEncode_11 : decode cJ4_canEncode 11 = .ok (.iconst 0, 1) := dk_3 (dk_at dksJ4_canEncode_0 11 rfl rfl)
theorem dJ4_canEncode_12 : decode cJ4_canEncode 12 = .ok (.ireturn, 1) := dk_172 (dk_at dksJ4_canEncode_0 12 rfl rfl)
abbrev cJ4_inflate : ByteArray := prog_76_method_50_code
def yJ4_inflate : MethodName := ⟨RJ4, "inflate", "([BI[BII)V"⟩
def dkwJ4_inflate_0 : List UInt8 := [42, 27, 44, 29, 21, 4, 184, 0, 240, 177]
abbrev dktJ4_inflate_0 : List UInt8 := dkwJ4_inflate_0 ++ []
theorem dksJ4_inflate_0 : cJ4_inflate.data.toList.drop 0 = dktJ4_inflate_0 := by decide +kernel
theorem dJ4_inflate_0 : decode cJ4_inflate 0 = .ok (.aload_n 0, 1) := dk_42 (dk_at dksJ4_inflate_0 0 rfl rfl)
theorem dJ4_inflate_1 : decode cJ4_inflate 1 = .ok (.iload_n 1, 1) := dk_27 (dk_at dksJ4_inflate_0 1 rfl rfl)
theorem dJ4_inflate_2 : decode cJ4_inflate 2 = .ok (.aload_n 2, 1) := dk_44 (dk_at dksJ4_inflate_0 2 rfl rfl)
theorem dJ4_inflate_3 : decode cJ4_inflate 3 = .ok (.iload_n 3, 1) := dk_29 (dk_at dksJ4_inflate_0 3 rfl rfl)
theorem dJ4_inflate_4 : decode cJ4_inflate 4 = .ok (.iload 4, 2) := dk_21 4 (dk_at dksJ4_inflate_0 4 rfl rfl)
theorem dJ4_inflate_6 : decode cJ4_inflate 6 = .ok (.invokestatic 240, 3) := dk_184 0 240 (dk_at dksJ4_inflate_0 6 rfl rfl)
theorem dJ4_inflate_9 : decode cJ4_inflate 9 = .ok (.return_, 1) := dk_177 (dk_at dksJ4_inflate_0 9 rfl rfl)
abbrev cJ4_indexOf : ByteArray := prog_76_method_22_code
def yJ4_indexOf : MethodName := ⟨RJ4, "indexOf", "([BIII)I"⟩
def dkwJ4_indexOf_1 : List UInt8 := [161, 0, 5, 2, 172, 42, 27, 28, 29, 184, 0, 95, 172]
abbrev dktJ4_indexOf_1 : List UInt8 := dkwJ4_indexOf_1 ++ []
def dkwJ4_indexOf_0 : List UInt8 := [27, 184, 0, 88, 154, 0, 5, 2, 172, 28, 3, 184, 0, 92, 61, 29, 42, 190, 184, 0, 38, 62, 28, 29]
abbrev dktJ4_indexOf_0 : List UInt8 := dkwJ4_indexOf_0 ++ dktJ4_indexOf_1
theorem dksJ4_indexOf_0 : cJ4_indexOf.data.toList.drop 0 = dktJ4_indexOf_0 := by decide +kernel
theorem dksJ4_indexOf_1 : cJ4_indexOf.data.toList.drop 24 = dktJ4_indexOf_1 := dk_seg dksJ4_indexOf_0 24 rfl rfl
theorem dJ4_indexOf_0 : decode cJ4_indexOf 0 = .ok (.iload_n 1, 1) := dk_27 (dk_at dksJ4_indexOf_0 0 rfl rfl)
theorem dJ4_indexOf_1 : decode cJ4_indexOf 1 = .ok (.invokestatic 88, 3) := dk_184 0 88 (dk_at dksJ4_indexOf_0 1 rfl rfl)
theorem dJ4_indexOf_4 : decode cJ4_indexOf 4 = .ok (.ifCond .ne 5, 3) := dk_154 0 5 (dk_at dksJ4_indexOf_0 4 rfl rfl)
theorem dJ4_indexOf_7 : decode cJ4_indexOf 7 = .ok (.iconst (-1), 1) := dk_2 (dk_at dksJ4_indexOf_0 7 rfl rfl)
theorem dJ4_indexOf_8 : decode cJ4_indexOf 8 = .ok (.ireturn, 1) := dk_172 (dk_at dksJ4_indexOf_0 8 rfl rfl)
theorem dJ4_indexOf_9 : decode cJ4_indexOf 9 = .ok (.iload_n 2, 1) := dk_28 (dk_at dksJ4_indexOf_0 9 rfl rfl)
theorem dJ4_indexOf_10 : decode cJ4_indexOf 10 = .ok (.iconst 0, 1) := dk_3 (dk_at dksJ4_indexOf_0 10 rfl rfl)
theorem dJ4_indexOf_11 : decode cJ4_indexOf 11 = .ok (.invokestatic 92, 3) := dk_184 0 92 (dk_at dksJ4_indexOf_0 11 rfl rfl)
theorem dJ4_indexOf_14 : decode cJ4_indexOf 14 = .ok (.istore_n 2, 1) := dk_61 (dk_at dksJ4_indexOf_0 14 rfl rfl)
theorem dJ4_indexOf_15 : decode cJ4_indexOf 15 = .ok (.iload_n 3, 1) := dk_29 (dk_at dksJ4_indexOf_0 15 rfl rfl)
theorem dJ4_indexOf_16 : decode cJ4_indexOf 16 = .ok (.aload_n 0, 1) := dk_42 (dk_at dksJ4_indexOf_0 16 rfl rfl)
theorem dJ4_indexOf_17 : decode cJ4_indexOf 17 = .ok (.arraylength, 1) := dk_190 (dk_at dksJ4_indexOf_0 17 rfl rfl)
theorem dJ4_indexOf_18 : decode cJ4_indexOf 18 = .ok (.invokestatic 38, 3) := dk_184 0 38 (dk_at dksJ4_indexOf_0 18 rfl rfl)
theorem dJ4_indexOf_21 : decode cJ4_indexOf 21 = .ok (.istore_n 3, 1) := dk_62 (dk_at dksJ4_indexOf_0 21 rfl rfl)
theorem dJ4_indexOf_22 : decode cJ4_indexOf 22 = .ok (.iload_n 2, 1) := dk_28 (dk_at dksJ4_indexOf_0 22 rfl rfl)
theorem dJ4_indexOf_23 : decode cJ4_indexOf 23 = .ok (.iload_n 3, 1) := dk_29 (dk_at dksJ4_indexOf_0 23 rfl rfl)
theorem dJ4_indexOf_24 : decode cJ4_indexOf 24 = .ok (.if_icmp .lt 5, 3) := dk_161 0 5 (dk_at dksJ4_indexOf_1 0 rfl rfl)
theorem dJ4_indexOf_27 : decode cJ4_indexOf 27 = .ok (.iconst (-1), 1) := dk_2 (dk_at dksJ4_indexOf_1 3 rfl rfl)
theorem dJ4_indexOf_28 : decode cJ4_indexOf 28 = .ok (.ireturn, 1) := dk_172 (dk_at dksJ4_indexOf_1 4 rfl rfl)
theorem dJ4_indexOf_29 : decode cJ4_indexOf 29 = .ok (.aload_n 0, 1) := dk_42 (dk_at dksJ4_indexOf_1 5 rfl rfl)
theorem dJ4_indexOf_30 : decode cJ4_indexOf 30 = .ok (.iload_n 1, 1) := dk_27 (dk_at dksJ4_indexOf_1 6 rfl rfl)
theorem dJ4_indexOf_31 : decode cJ4_indexOf 31 = .ok (.iload_n 2, 1) := dk_28 (dk_at dksJ4_indexOf_1 7 rfl rfl)
theorem dJ4_indexOf_32 : decode cJ4_indexOf 32 = .ok (.iload_n 3, 1) := dk_29 (dk_at dksJ4_indexOf_1 8 rfl rfl)
theorem dJ4_indexOf_33 : decode cJ4_indexOf 33 = .ok (.invokestatic 95, 3) := dk_184 0 95 (dk_at dksJ4_indexOf_1 9 rfl rfl)
theorem dJ4_indexOf_36 : decode cJ4_indexOf 36 = .ok (.ireturn, 1) := dk_172 (dk_at dksJ4_indexOf_1 12 rfl rfl)
abbrev cJ4_canEncode_2 : ByteArray := prog_76_method_4_code
def yJ4_canEncode_2 : MethodName := ⟨RJ4, "canEncode", "(I)Z"⟩
def dkwJ4_canEncode_2_0 : List UInt8 := [26, 155, 0, 14, 26, 17, 0, 255, 163, 0, 7, 4, 167, 0, 4, 3, 172]
abbrev dktJ4_canEncode_2_0 : List UInt8 := dkwJ4_canEncode_2_0 ++ []
theorem dksJ4_canEncode_2_0 : cJ4_canEncode_2.data.toList.drop 0 = dktJ4_canEncode_2_0 := by decide +kernel
theorem dJ4_canEncode_2_0 : decode cJ4_canEncode_2 0 = .ok (.iload_n 0, 1) := dk_26 (dk_at dksJ4_canEncode_2_0 0 rfl rfl)
theorem dJ4_canEncode_2_1 : decode cJ4_canEncode_2 1 = .ok (.ifCond .lt 14, 3) := dk_155 0 14 (dk_at dksJ4_canEncode_2_0 1 rfl rfl)
theorem dJ4_canEncode_2_4 : decode cJ4_canEncode_2 4 = .ok (.iload_n 0, 1) := dk_26 (dk_at dksJ4_canEncode_2_0 4 rfl rfl)
theorem dJ4_canEncode_2_5 : decode cJ4_canEncode_2 5 = .ok (.sipush 255, 3) := dk_17 0 255 (dk_at dksJ4_canEncode_2_0 5 rfl rfl)
theorem dJ4_canEncode_2_8 : decode cJ4_canEncode_2 8 = .ok (.if_icmp .gt 7, 3) := dk_163 0 7 (dk_at dksJ4_canEncode_2_0 8 rfl rfl)
theorem dJ4_canEncode_2_11 : decode cJ4_canEncode_2 11 = .ok (.iconst 1, 1) := dk_4 (dk_at dksJ4_canEncode_2_0 11 rfl rfl)
theorem dJ4_canEncode_2_12 : decode cJ4_canEncode_2 12 = .ok (.goto 4, 3) := dk_167 0 4 (dk_at dksJ4_canEncode_2_0 12 rfl rfl)
theorem dJ4_canEncode_2_15 : decode cJ4_canEncode_2 15 = .ok (.iconst 0, 1) := dk_3 (dk_at dksJ4_canEncode_2_0 15 rfl rfl)
theorem dJ4_canEncode_2_16 : decode cJ4_canEncode_2 16 = .ok (.ireturn, 1) := dk_172 (dk_at dksJ4_canEncode_2_0 16 rfl rfl)
abbrev cJ4_indexOfChar : ByteArray := prog_76_method_23_code
def yJ4_indexOfChar : MethodName := ⟨RJ4, "indexOfChar", "([BIII)I"⟩
def dkwJ4_indexOfChar_1 : List UInt8 := [172, 132, 5, 1, 167, 255, 235, 2, 172]
abbrev dktJ4_indexOfChar_1 : List UInt8 := dkwJ4_indexOfChar_1 ++ []
def dkwJ4_indexOfChar_0 : List UInt8 := [27, 145, 54, 4, 28, 54, 5, 21, 5, 29, 162, 0, 21, 42, 21, 5, 51, 21, 4, 160, 0, 6, 21, 5]
abbrev dktJ4_indexOfChar_0 : List UInt8 := dkwJ4_indexOfChar_0 ++ dktJ4_indexOfChar_1
theorem dksJ4_indexOfChar_0 : cJ4_indexOfChar.data.toList.drop 0 = dktJ4_indexOfChar_0 := by decide +kernel
theorem dksJ4_indexOfChar_1 : cJ4_indexOfChar.data.toList.drop 24 = dktJ4_indexOfChar_1 := dk_seg dksJ4_indexOfChar_0 24 rfl rfl
theorem dJ4_indexOfChar_0 : decode cJ4_indexOfChar 0 = .ok (.iload_n 1, 1) := dk_27 (dk_at dksJ4_indexOfChar_0 0 rfl rfl)
theorem dJ4_indexOfChar_1 : decode cJ4_indexOfChar 1 = .ok (.i2b, 1) := dk_145 (dk_at dksJ4_indexOfChar_0 1 rfl rfl)
theorem dJ4_indexOfChar_2 : decode cJ4_indexOfChar 2 = .ok (.istore 4, 2) := dk_54 4 (dk_at dksJ4_indexOfChar_0 2 rfl rfl)
theorem dJ4_indexOfChar_4 : decode cJ4_indexOfChar 4 = .ok (.iload_n 2, 1) := dk_28 (dk_at dksJ4_indexOfChar_0 4 rfl rfl)
theorem dJ4_indexOfChar_5 : decode cJ4_indexOfChar 5 = .ok (.istore 5, 2) := dk_54 5 (dk_at dksJ4_indexOfChar_0 5 rfl rfl)
theorem dJ4_indexOfChar_7 : decode cJ4_indexOfChar 7 = .ok (.iload 5, 2) := dk_21 5 (dk_at dksJ4_indexOfChar_0 7 rfl rfl)
theorem dJ4_indexOfChar_9 : decode cJ4_indexOfChar 9 = .ok (.iload_n 3, 1) := dk_29 (dk_at dksJ4_indexOfChar_0 9 rfl rfl)
theorem dJ4_indexOfChar_10 : decode cJ4_indexOfChar 10 = .ok (.if_icmp .ge 21, 3) := dk_162 0 21 (dk_at dksJ4_indexOfChar_0 10 rfl rfl)
theorem dJ4_indexOfChar_13 : decode cJ4_indexOfChar 13 = .ok (.aload_n 0, 1) := dk_42 (dk_at dksJ4_indexOfChar_0 13 rfl rfl)
theorem dJ4_indexOfChar_14 : decode cJ4_indexOfChar 14 = .ok (.iload 5, 2) := dk_21 5 (dk_at dksJ4_indexOfChar_0 14 rfl rfl)
theorem dJ4_indexOfChar_16 : decode cJ4_indexOfChar 16 = .ok (.baload, 1) := dk_51 (dk_at dksJ4_indexOfChar_0 16 rfl rfl)
theorem dJ4_indexOfChar_17 : decode cJ4_indexOfChar 17 = .ok (.iload 4, 2) := dk_21 4 (dk_at dksJ4_indexOfChar_0 17 rfl rfl)
theorem dJ4_indexOfChar_19 : decode cJ4_indexOfChar 19 = .ok (.if_icmp .ne 6, 3) := dk_160 0 6 (dk_at dksJ4_indexOfChar_0 19 rfl rfl)
theorem dJ4_indexOfChar_22 : decode cJ4_indexOfChar 22 = .ok (.iload 5, 2) := dk_21 5 (dk_at dksJ4_indexOfChar_0 22 rfl rfl)
theorem dJ4_indexOfChar_24 : decode cJ4_indexOfChar 24 = .ok (.ireturn, 1) := dk_172 (dk_at dksJ4_indexOfChar_1 0 rfl rfl)
theorem dJ4_indexOfChar_25 : decode cJ4_indexOfChar 25 = .ok (.iinc 5 1, 3) := dk_132 5 1 (dk_at dksJ4_indexOfChar_1 1 rfl rfl)
theorem dJ4_indexOfChar_28 : decode cJ4_indexOfChar 28 = .ok (.goto (-21), 3) := dk_167 255 235 (dk_at dksJ4_indexOfChar_1 4 rfl rfl)
theorem dJ4_indexOfChar_31 : decode cJ4_indexOfChar 31 = .ok (.iconst (-1), 1) := dk_2 (dk_at dksJ4_indexOfChar_1 7 rfl rfl)
theorem dJ4_indexOfChar_32 : decode cJ4_indexOfChar 32 = .ok (.ireturn, 1) := dk_172 (dk_at dksJ4_indexOfChar_1 8 rfl rfl)
theorem q278 : (Jvm.Cond.initialized "java/lang/StringLatin1") ∈ lw_all := lw_g (lw_at lw_m1 18 rfl) rfl
theorem q981 : (Jvm.Cond.static ({ cls := "java/lang/StringLatin1", name := "charAt", desc := "([BI)C" } : Jvm.MethodName)) ∈ lw_all := lw_g (lw_at lw_m4 1 rfl) rfl
theorem q982 : (Jvm.Cond.code ({ cls := "java/lang/StringLatin1", name := "charAt", desc := "([BI)C" } : Jvm.MethodName) prog_76_method_2_code (2 : Nat) (Option.some Jvm.ClassFile.FieldType.char)) ∈ lw_all := lw_g (lw_at lw_m4 2 rfl) rfl
theorem q983 : (Jvm.Cond.methodLink "java/lang/StringLatin1" (9 : Nat) ({ cls := "java/lang/String", name := "checkIndex", desc := "(II)V" } : Jvm.MethodName)) ∈ lw_all := lw_g (lw_at lw_m4 3 rfl) rfl
theorem q2051 : (Jvm.Cond.static ({ cls := "java/lang/StringLatin1", name := "canEncode", desc := "(C)Z" } : Jvm.MethodName)) ∈ lw_all := lw_g (lw_at lw_m8 111 rfl) rfl
theorem q2052 : (Jvm.Cond.code ({ cls := "java/lang/StringLatin1", name := "canEncode", desc := "(C)Z" } : Jvm.MethodName) prog_76_method_3_code (1 : Nat) (Option.some Jvm.ClassFile.FieldType.boolean)) ∈ lw_all := lw_g (lw_at lw_m8 112 rfl) rfl
theorem q2058 : (Jvm.Cond.static ({ cls := "java/lang/StringLatin1", name := "inflate", desc := "([BI[BII)V" } : Jvm.MethodName)) ∈ lw_all := lw_g (lw_at lw_m8 118 rfl) rfl
theorem q2059 : (Jvm.Cond.code ({ cls := "java/lang/StringLatin1", name := "inflate", desc := "([BI[BII)V" } : Jvm.MethodName) prog_76_method_50_code (5 : Nat) (Option.none : Option Jvm.ClassFile.FieldType)) ∈ lw_all := lw_g (lw_at lw_m8 119 rfl) rfl
theorem q2060 : (Jvm.Cond.methodLink "java/lang/StringLatin1" (240 : Nat) ({ cls := "java/lang/StringUTF16", name := "inflate", desc := "([BI[BII)V" } : Jvm.MethodName)) ∈ lw_all := lw_g (lw_at lw_m8 120 rfl) rfl
theorem q3986 : (Jvm.Cond.static ({ cls := "java/lang/StringLatin1", name := "indexOf", desc := "([BIII)I" } : Jvm.MethodName)) ∈ lw_all := lw_g (lw_at lw_m16 126 rfl) rfl
theorem q3987 : (Jvm.Cond.code ({ cls := "java/lang/StringLatin1", name := "indexOf", desc := "([BIII)I" } : Jvm.MethodName) prog_76_method_22_code (4 : Nat) (Option.some Jvm.ClassFile.FieldType.int)) ∈ lw_all := lw_g (lw_at lw_m16 127 rfl) rfl
theorem q3988 : (Jvm.Cond.methodLink "java/lang/StringLatin1" (88 : Nat) ({ cls := "java/lang/StringLatin1", name := "canEncode", desc := "(I)Z" } : Jvm.MethodName)) ∈ lw_all := lw_g (lw_at lw_m16 128 rfl) rfl
theorem q3989 : (Jvm.Cond.static ({ cls := "java/lang/StringLatin1", name := "canEncode", desc := "(I)Z" } : Jvm.MethodName)) ∈ lw_all := lw_g (lw_at lw_m16 129 rfl) rfl
theorem q3990 : (Jvm.Cond.code ({ cls := "java/lang/StringLatin1", name := "canEncode", desc := "(I)Z" } : Jvm.MethodName) prog_76_method_4_code (1 : Nat) (Option.some Jvm.ClassFile.FieldType.boolean)) ∈ lw_all := lw_g (lw_at lw_m16 130 rfl) rfl
theorem q3991 : (Jvm.Cond.methodLink "java/lang/StringLatin1" (92 : Nat) ({ cls := "java/lang/Math", name := "max", desc := "(II)I" } : Jvm.MethodName)) ∈ lw_all := lw_g (lw_at lw_m16 131 rfl) rfl
theorem q3992 : (Jvm.Cond.methodLink "java/lang/StringLatin1" (38 : Nat) ({ cls := "java/lang/Math", name := "min", desc := "(II)I" } : Jvm.MethodName)) ∈ lw_all := lw_g (lw_at lw_m16 132 rfl) rfl
theorem q3993 : (Jvm.Cond.methodLink "java/lang/StringLatin1" (95 : Nat) ({ cls := "java/lang/StringLatin1", name := "indexOfChar", desc := "([BIII)I" } : Jvm.MethodName)) ∈ lw_all := lw_g (lw_at lw_m16 133 rfl) rfl
theorem q3994 : (Jvm.Cond.static ({ cls := "java/lang/StringLatin1", name := "indexOfChar", desc := "([BIII)I" } : Jvm.MethodName)) ∈ lw_all := lw_g (lw_at lw_m16 134 rfl) rfl
theorem q3995 : (Jvm.Cond.code ({ cls := "java/lang/StringLatin1", name := "indexOfChar", desc := "([BIII)I" } : Jvm.MethodName) prog_76_method_23_code (6 : Nat) (Option.some Jvm.ClassFile.FieldType.int)) ∈ lw_all := lw_g (lw_at lw_m16 135 rfl) rfl
/-! jdk/internal/util/Preconditions -/
set_option maxRecDepth 100000
def RJ5 : String := "jdk/internal/util/Preconditions"
abbrev cJ5_checkIndex : ByteArray := prog_85_method_11_code
def yJ5_checkIndex : MethodName := ⟨RJ5, "checkIndex", "(IILjava/util/function/BiFunction;)I"⟩
def dkwJ5_checkIndex_0 : List UInt8 := [26, 155, 0, 8, 26, 27, 161, 0, 10, 44, 26, 27, 184, 0, 95, 191, 26, 172]
abbrev dktJ5_checkIndex_0 : List UInt8 := dkwJ5_checkIndex_0 ++ []
theorem dksJ5_checkIndex_0 : cJ5_checkIndex.data.toList.drop 0 = dktJ5_checkIndex_0 := by decide +kernel
theorem dJ5_checkIndex_0 : decode cJ5_checkIndex 0 = .ok (.iload_n 0, 1) := dk_26 (dk_at dksJ5_checkIndex_0 0 rfl rfl)
theorem dJ5_checkIndex_1 : decode cJ5_checkIndex 1 = .ok (.ifCond .lt 8, 3) := dk_155 0 8 (dk_at dksJ5_checkIndex_0 1 rfl rfl)
theorem dJ5_checkIndex_4 : decode cJ5_checkIndex 4 = .ok (.iload_n 0, 1) := dk_26 (dk_at dksJ5_checkIndex_0 4 rfl rfl)
theorem dJ5_checkIndex_5 : decode cJ5_checkIndex 5 = .ok (.iload_n 1, 1) := dk_27 (dk_at dksJ5_checkIndex_0 5 rfl rfl)
theorem dJ5_checkIndex_6 : decode cJ5_checkIndex 6 = .ok (.if_icmp .lt 10, 3) := dk_161 0 10 (dk_at dksJ5_checkIndex_0 6 rfl rfl)
theorem dJ5_checkIndex_9 : decode cJ5_checkIndex 9 = .ok (.aload_n 2, 1) := dk_44 (dk_at dksJ5_checkIndex_0 9 rfl rfl)
theorem dJ5_checkIndex_10 : decode cJ5_checkIndex 10 = .ok (.iload_n 0, 1) := dk_26 (dk_at dksJ5_checkIndex_0 10 rfl rfl)
theorem dJ5_checkIndex_11 : decode cJ5_checkIndex 11 = .ok (.iload_n 1, 1) := dk_27 (dk_at dksJ5_checkIndex_0 11 rfl rfl)
theorem dJ5_checkIndex_12 : decode cJ5_checkIndex 12 = .ok (.invokestatic 95, 3) := dk_184 0 95 (dk_at dksJ5_checkIndex_0 12 rfl rfl)
theorem dJ5_checkIndex_15 : decode cJ5_checkIndex 15 = .ok (.athrow, 1) := dk_191 (dk_at dksJ5_checkIndex_0 15 rfl rfl)
theorem dJ5_checkIndex_16 : decode cJ5_checkIndex 16 = .ok (.iload_n 0, 1) := dk_26 (dk_at dksJ5_checkIndex_0 16 rfl rfl)
theorem dJ5_checkIndex_17 : decode cJ5_checkIndex 17 = .ok (.ireturn, 1) := dk_172 (dk_at dksJ5_checkIndex_0 17 rfl rfl)
abbrev cJ5_checkFromIndexSize : ByteArray := prog_85_method_13_code
def yJ5_checkFromIndexSize : MethodName := ⟨RJ5, "checkFromIndexSize", "(IIILjava/util/function/BiFunction;)I"⟩
def dkwJ5_checkFromIndexSize_1 : List UInt8 := [172]
abbrev dktJ5_checkFromIndexSize_1 : List UInt8 := dkwJ5_checkFromIndexSize_1 ++ []
def dkwJ5_checkFromIndexSize_0 : List UInt8 := [28, 26, 128, 27, 128, 155, 0, 10, 27, 28, 26, 100, 164, 0, 11, 45, 26, 27, 28, 184, 0, 103, 191, 26]
abbrev dktJ5_checkFromIndexSize_0 : List UInt8 := dkwJ5_checkFromIndexSize_0 ++ dktJ5_checkFromIndexSize_1
theorem dksJ5_checkFromIndexSize_0 : cJ5_checkFromIndexSize.data.toList.drop 0 = dktJ5_checkFromIndexSize_0 := by decide +kernel
theorem dksJ5_checkFromIndexSize_1 : cJ5_checkFromIndexSize.data.toList.drop 24 = dktJ5_checkFromIndexSize_1 := dk_seg dksJ5_checkFromIndexSize_0 24 rfl rfl
theorem dJ5_checkFromIndexSize_0 : decode cJ5_checkFromIndexSize 0 = .ok (.iload_n 2, 1) := dk_28 (dk_at dksJ5_checkFromIndexSize_0 0 rfl rfl)
theorem dJ5_checkFromIndexSize_1 : decode cJ5_checkFromIndexSize 1 = .ok (.iload_n 0, 1) := dk_26 (dk_at dksJ5_checkFromIndexSize_0 1 rfl rfl)
theorem dJ5_checkFromIndexSize_2 : decode cJ5_checkFromIndexSize 2 = .ok (.ior, 1) := dk_128 (dk_at dksJ5_checkFromIndexSize_0 2 rfl rfl)
theorem dJ5_checkFromIndexSize_3 : decode cJ5_checkFromIndexSize 3 = .ok (.iload_n 1, 1) := dk_27 (dk_at dksJ5_checkFromIndexSize_0 3 rfl rfl)
theorem dJ5_checkFromIndexSize_4 : decode cJ5_checkFromIndexSize 4 = .ok (.ior, 1) := dk_128 (dk_at dksJ5_checkFromIndexSize_0 4 rfl rfl)
theorem dJ5_checkFromIndexSize_5 : decode cJ5_checkFromIndexSize 5 = .ok (.ifCond .lt 10, 3) := dk_155 0 10 (dk_at dksJ5_checkFromIndexSize_0 5 rfl rfl)
theorem dJ5_checkFromIndexSize_8 : decode cJ5_checkFromIndexSize 8 = .ok (.iload_n 1, 1) := dk_27 (dk_at dksJ5_checkFromIndexSize_0 8 rfl rfl)
theorem dJ5_checkFromIndexSize_9 : decode cJ5_checkFromIndexSize 9 = .ok (.iload_n 2, 1) := dk_28 (dk_at dksJ5_checkFromIndexSize_0 9 rfl rfl)
theorem dJ5_checkFromIndexSize_10 : decode cJ5_checkFromIndexSize 10 = .ok (.iload_n 0, 1) := dk_26 (dk_at dksJ5_checkFromIndexSize_0 10 rfl rfl)
theorem dJ5_checkFromIndexSize_11 : decode cJ5_checkFromIndexSize 11 = .ok (.isub, 1) := dk_100 (dk_at dksJ5_checkFromIndexSize_0 11 rfl rfl)
theorem dJ5_checkFromIndexSize_12 : decode cJ5_checkFromIndexSize 12 = .ok (.if_icmp .le 11, 3) := dk_164 0 11 (dk_at dksJ5_checkFromIndexSize_0 12 rfl rfl)
theorem dJ5_checkFromIndexSize_15 : decode cJ5_checkFromIndexSize 15 = .ok (.aload_n 3, 1) := dk_45 (dk_at dksJ5_checkFromIndexSize_0 15 rfl rfl)
theorem dJ5_checkFromIndexSize_16 : decode cJ5_checkFromIndexSize 16 = .ok (.iload_n 0, 1) := dk_26 (dk_at dksJ5_checkFromIndexSize_0 16 rfl rfl)
theorem dJ5_checkFromIndexSize_17 : decode cJ5_checkFromIndexSize 17 = .ok (.iload_n 1, 1) := dk_27 (dk_at dksJ5_checkFromIndexSize_0 17 rfl rfl)
theorem dJ5_checkFromIndexSize_18 : decode cJ5_checkFromIndexSize 18 = .ok (.iload_n 2, 1) := dk_28 (dk_at dksJ5_checkFromIndexSize_0 18 rfl rfl)
theorem dJ5_checkFromIndexSize_19 : decode cJ5_checkFromIndexSize 19 = .ok (.invokestatic 103, 3) := dk_184 0 103 (dk_at dksJ5_checkFromIndexSize_0 19 rfl rfl)
theorem dJ5_checkFromIndexSize_22 : decode cJ5_checkFromIndexSize 22 = .ok (.athrow, 1) := dk_191 (dk_at dksJ5_checkFromIndexSize_0 22 rfl rfl)
theorem dJ5_checkFromIndexSize_23 : decode cJ5_checkFromIndexSize 23 = .ok (.iload_n 0, 1) := dk_26 (dk_at dksJ5_checkFromIndexSize_0 23 rfl rfl)
theorem dJ5_checkFromIndexSize_24 : decode cJ5_checkFromIndexSize 24 = .ok (.ireturn, 1) := dk_172 (dk_at dksJ5_checkFromIndexSize_1 0 rfl rfl)
abbrev cJ5_checkFromToIndex : ByteArray := prog_85_method_12_code
def yJ5_checkFromToIndex : MethodName := ⟨RJ5, "checkFromToIndex", "(IIILjava/util/function/BiFunction;)I"⟩
def dkwJ5_checkFromToIndex_0 : List UInt8 := [26, 155, 0, 13, 26, 27, 163, 0, 8, 27, 28, 164, 0, 11, 45, 26, 27, 28, 184, 0, 99, 191, 26, 172]
abbrev dktJ5_checkFromToIndex_0 : List UInt8 := dkwJ5_checkFromToIndex_0 ++ []
theorem dksJ5_checkFromToIndex_0 : cJ5_checkFromToIndex.data.toList.drop 0 = dktJ5_checkFromToIndex_0 := by decide +kernel
theorem dJ5_checkFromToIndex_0 : decode cJ5_checkFromToIndex 0 = .ok (.iload_n 0, 1) := dk_26 (dk_at dksJ5_checkFromToIndex_0 0 rfl rfl)
theorem dJ5_checkFromToIndex_1 : decode cJ5_checkFromToIndex 1 = .ok (.ifCond .lt 13, 3) := dk_155 0 13 (dk_at dksJ5_checkFromToIndex_0 1 rfl rfl)
theorem dJ5_checkFromToIndex_4 : decode cJ5_checkFromToIndex 4 = .ok (.iload_n 0, 1) := dk_26 (dk_at dksJ5_checkFromToIndex_0 4 rfl rfl)
theorem dJ5_checkFromToIndex_5 : decode cJ5_checkFromToIndex 5 = .ok (.iload_n 1, 1) := dk_27 (dk_at dksJ5_checkFromToIndex_0 5 rfl rfl)
theorem dJ5_checkFromToIndex_6 : decode cJ5_checkFromToIndex 6 = .ok (.if_icmp .gt 8, 3) := dk_163 0 8 (dk_at dksJ5_checkFromToIndex_0 6 rfl rfl)
theorem dJ5_checkFromToIndex_9 : decode cJ5_checkFromToIndex 9 = .ok (.iload_n 1, 1) := dk_27 (dk_at dksJ5_checkFromToIndex_0 9 rfl rfl)
theorem dJ5_checkFromToIndex_10 : decode cJ5_checkFromToIndex 10 = .ok (.iload_n 2, 1) := dk_28 (dk_at dksJ5_checkFromToIndex_0 10 rfl rfl)
theorem dJ5_checkFromToIndex_11 : decode cJ5_checkFromToIndex 11 = .ok (.if_icmp .le 11, 3) := dk_164 0 11 (dk_at dksJ5_checkFromToIndex_0 11 rfl rfl)
theorem dJ5_checkFromToIndex_14 : decode cJ5_checkFromToIndex 14 = .ok (.aload_n 3, 1) := dk_45 (dk_at dksJ5_checkFromToIndex_0 14 rfl rfl)
theorem dJ5_checkFromToIndex_15 : decode cJ5_checkFromToIndex 15 = .ok (.iload_n 0, 1) := dk_26 (dk_at dksJ5_checkFromToIndex_0 15 rfl rfl)
theorem dJ5_checkFromToIndex_16 : decode cJ5_checkFromToIndex 16 = .ok (.iload_n 1, 1) := dk_27 (dk_at dksJ5_checkFromToIndex_0 16 rfl rfl)
theorem dJ5_checkFromToIndex_17 : decode cJ5_checkFromToIndex 17 = .ok (.iload_n 2, 1) := dk_28 (dk_at dksJ5_checkFromToIndex_0 17 rfl rfl)
theorem dJ5_checkFromToIndex_18 : decode cJ5_checkFromToIndex 18 = .ok (.invokestatic 99, 3) := dk_184 0 99 (dk_at dksJ5_checkFromToIndex_0 18 rfl rfl)
theorem dJ5_checkFromToIndex_21 : decode cJ5_checkFromToIndex 21 = .ok (.athrow, 1) := dk_191 (dk_at dksJ5_checkFromToIndex_0 21 rfl rfl)
theorem dJ5_checkFromToIndex_22 : decode cJ5_checkFromToIndex 22 = .ok (.iload_n 0, 1) := dk_26 (dk_at dksJ5_checkFromToIndex_0 22 rfl rfl)
theorem dJ5_checkFromToIndex_23 : decode cJ5_checkFromToIndex 23 = .ok (.ireturn, 1) := dk_172 (dk_at dksJ5_checkFromToIndex_0 23 rfl rfl)
theorem q279 : (Jvm.Cond.initialized "jdk/internal/util/Preconditions") ∈ lw_all := lw_g (lw_at lw_m1 19 rfl) rfl
theorem q987 : (Jvm.Cond.laysStatic "jdk/internal/util/Preconditions" "SIOOBE_FORMATTER" "Ljava/util/function/BiFunction;") ∈ lw_tbl := lw_at lw_m4 7 rfl
theorem q989 : (Jvm.Cond.static ({ cls := "jdk/internal/util/Preconditions", name := "checkIndex", desc := "(IILjava/util/function/BiFunction;)I" } : Jvm.MethodName)) ∈ lw_all := lw_g (lw_at lw_m4 9 rfl) rfl
theorem q990 : (Jvm.Cond.code ({ cls := "jdk/internal/util/Preconditions", name := "checkIndex", desc := "(IILjava/util/function/BiFunction;)I" } : Jvm.MethodName) prog_85_method_11_code (3 : Nat) (Option.some Jvm.ClassFile.FieldType.int)) ∈ lw_all := lw_g (lw_at lw_m4 10 rfl) rfl
theorem q2070 : (Jvm.Cond.static ({ cls := "jdk/internal/util/Preconditions", name := "checkFromIndexSize", desc := "(IIILjava/util/function/BiFunction;)I" } : Jvm.MethodName)) ∈ lw_all := lw_g (lw_at lw_m8 130 rfl) rfl
theorem q2071 : (Jvm.Cond.code ({ cls := "jdk/internal/util/Preconditions", name := "checkFromIndexSize", desc := "(IIILjava/util/function/BiFunction;)I" } : Jvm.MethodName) prog_85_method_13_code (4 : Nat) (Option.some Jvm.ClassFile.FieldType.int)) ∈ lw_all := lw_g (lw_at lw_m8 131 rfl) rfl
theorem q4012 : (Jvm.Cond.static ({ cls := "jdk/internal/util/Preconditions", name := "checkFromToIndex", desc := "(IIILjava/util/function/BiFunction;)I" } : Jvm.MethodName)) ∈ lw_all := lw_g (lw_at lw_m16 152 rfl) rfl
theorem q4013 : (Jvm.Cond.code ({ cls := "jdk/internal/util/Preconditions", name := "checkFromToIndex", desc := "(IIILjava/util/function/BiFunction;)I" } : Jvm.MethodName) prog_85_method_12_code (4 : Nat) (Option.some Jvm.ClassFile.FieldType.int)) ∈ lw_all := lw_g (lw_at lw_m16 153 rfl) rfl
/-! java/lang/StringUTF16 -/
set_option maxRecDepth 100000
def RJ6 : String := "java/lang/StringUTF16"
abbrev cJ6_charAt : ByteArray := prog_77_method_83_code
def yJ6_charAt : MethodName := ⟨RJ6, "charAt", "([BI)C"⟩
def dkwJ6_charAt_0 : List UInt8 := [27, 42, 184, 0, 67, 42, 27, 184, 0, 71, 172]
abbrev dktJ6_charAt_0 : List UInt8 := dkwJ6_charAt_0 ++ []
theorem dksJ6_charAt_0 : cJ6_charAt.data.toList.drop 0 = dktJ6_charAt_0 := by decide +kernel
theorem dJ6_charAt_0 : decode cJ6_charAt 0 = .ok (.iload_n 1, 1) := dk_27 (dk_at dksJ6_charAt_0 0 rfl rfl)
theorem dJ6_charAt_1 : decode cJ6_charAt 1 = .ok (.aload_n 0, 1) := dk_42 (dk_at dksJ6_charAt_0 1 rfl rfl)
theorem dJ6_charAt_2 : decode cJ6_charAt 2 = .ok (.invokestatic 67, 3) := dk_184 0 67 (dk_at dksJ6_charAt_0 2 rfl rfl)
theorem dJ6_charAt_5 : decode cJ6_charAt 5 = .ok (.aload_n 0, 1) := dk_42 (dk_at dksJ6_charAt_0 5 rfl rfl)
theorem dJ6_charAt_6 : decode cJ6_charAt 6 = .ok (.iload_n 1, 1) := dk_27 (dk_at dksJ6_charAt_0 6 rfl rfl)
theorem dJ6_charAt_7 : decode cJ6_charAt 7 = .ok (.invokestatic 71, 3) := dk_184 0 71 (dk_at dksJ6_charAt_0 7 rfl rfl)
theorem dJ6_charAt_10 : decode cJ6_charAt 10 = .ok (.ireturn, 1) := dk_172 (dk_at dksJ6_charAt_0 10 rfl rfl)
abbrev cJ6_checkIndex : ByteArray := prog_77_method_91_code
def yJ6_checkIndex : MethodName := ⟨RJ6, "checkIndex", "(I[B)V"⟩
def dkwJ6_checkIndex_0 : List UInt8 := [26, 43, 184, 0, 48, 184, 1, 158, 177]
abbrev dktJ6_checkIndex_0 : List UInt8 := dkwJ6_checkIndex_0 ++ []
theorem dksJ6_checkIndex_0 : cJ6_checkIndex.data.toList.drop 0 = dktJ6_checkIndex_0 := by decide +kernel
theorem dJ6_checkIndex_0 : decode cJ6_checkIndex 0 = .ok (.iload_n 0, 1) := dk_26 (dk_at dksJ6_checkIndex_0 0 rfl rfl)
theorem dJ6_checkIndex_1 : decode cJ6_checkIndex 1 = .ok (.aload_n 1, 1) := dk_43 (dk_at dksJ6_checkIndex_0 1 rfl rfl)
theorem dJ6_checkIndex_2 : decode cJ6_checkIndex 2 = .ok (.invokestatic 48, 3) := dk_184 0 48 (dk_at dksJ6_checkIndex_0 2 rfl rfl)
theorem dJ6_checkIndex_5 : decode cJ6_checkIndex 5 = .ok (.invokestatic 414, 3) := dk_184 1 158 (dk_at dksJ6_checkIndex_0 5 rfl rfl)
theorem dJ6_checkIndex_8 : decode cJ6_checkIndex 8 = .ok (.return_, 1) := dk_177 (dk_at dksJ6_checkIndex_0 8 rfl rfl)
abbrev cJ6_length : ByteArray := prog_77_method_6_code
def yJ6_length : MethodName := ⟨RJ6, "length", "([B)I"⟩
def dkwJ6_length_0 : List UInt8 := [42, 190, 4, 122, 172]
abbrev dktJ6_length_0 : List UInt8 := dkwJ6_length_0 ++ []
theorem dksJ6_length_0 : cJ6_length.data.toList.drop 0 = dktJ6_length_0 := by decide +kernel
theorem dJ6_length_0 : decode cJ6_length 0 = .ok (.aload_n 0, 1) := dk_42 (dk_at dksJ6_length_0 0 rfl rfl)
theorem dJ6_length_1 : decode cJ6_length 1 = .ok (.arraylength, 1) := dk_190 (dk_at dksJ6_length_0 1 rfl rfl)
theorem dJ6_length_2 : decode cJ6_length 2 = .ok (.iconst 1, 1) := dk_4 (dk_at dksJ6_length_0 2 rfl rfl)
theorem dJ6_length_3 : decode cJ6_length 3 = .ok (.ishr, 1) := dk_122 (dk_at dksJ6_length_0 3 rfl rfl)
theorem dJ6_length_4 : decode cJ6_length 4 = .ok (.ireturn, 1) := dk_172 (dk_at dksJ6_length_0 4 rfl rfl)
abbrev cJ6_getChar : ByteArray := prog_77_method_5_code
def yJ6_getChar : MethodName := ⟨RJ6, "getChar", "([BI)C"⟩
def dkwJ6_getChar_2 : List UInt8 := [51, 17, 0, 255, 126, 178, 0, 63, 120, 128, 146, 172]
abbrev dktJ6_getChar_2 : List UInt8 := dkwJ6_getChar_2 ++ []
def dkwJ6_getChar_1 : List UInt8 := [183, 0, 56, 191, 27, 4, 120, 60, 42, 27, 132, 1, 1, 51, 17, 0, 255, 126, 178, 0, 59, 120, 42, 27]
abbrev dktJ6_getChar_1 : List UInt8 := dkwJ6_getChar_1 ++ dktJ6_getChar_2
def dkwJ6_getChar_0 : List UInt8 := [178, 0, 44, 154, 0, 25, 27, 155, 0, 11, 27, 42, 184, 0, 48, 161, 0, 13, 187, 0, 52, 89, 18, 54]
abbrev dktJ6_getChar_0 : List UInt8 := dkwJ6_getChar_0 ++ dktJ6_getChar_1
theorem dksJ6_getChar_0 : cJ6_getChar.data.toList.drop 0 = dktJ6_getChar_0 := by decide +kernel
theorem dksJ6_getChar_1 : cJ6_getChar.data.toList.drop 24 = dktJ6_getChar_1 := dk_seg dksJ6_getChar_0 24 rfl rfl
theorem dksJ6_getChar_2 : cJ6_getChar.data.toList.drop 48 = dktJ6_getChar_2 := dk_seg dksJ6_getChar_1 24 rfl rfl
theorem dJ6_getChar_0 : decode cJ6_getChar 0 = .ok (.getstatic 44, 3) := dk_178 0 44 (dk_at dksJ6_getChar_0 0 rfl rfl)
theorem dJ6_getChar_3 : decode cJ6_getChar 3 = .ok (.ifCond .ne 25, 3) := dk_154 0 25 (dk_at dksJ6_getChar_0 3 rfl rfl)
theorem dJ6_getChar_6 : decode cJ6_getChar 6 = .ok (.iload_n 1, 1) := dk_27 (dk_at dksJ6_getChar_0 6 rfl rfl)
theorem dJ6_getChar_7 : decode cJ6_getChar 7 = .ok (.ifCond .lt 11, 3) := dk_155 0 11 (dk_at dksJ6_getChar_0 7 rfl rfl)
theorem dJ6_getChar_10 : decode cJ6_getChar 10 = .ok (.iload_n 1, 1) := dk_27 (dk_at dksJ6_getChar_0 10 rfl rfl)
theorem dJ6_getChar_11 : decode cJ6_getChar 11 = .ok (.aload_n 0, 1) := dk_42 (dk_at dksJ6_getChar_0 11 rfl rfl)
theorem dJ6_getChar_12 : decode cJ6_getChar 12 = .ok (.invokestatic 48, 3) := dk_184 0 48 (dk_at dksJ6_getChar_0 12 rfl rfl)
theorem dJ6_getChar_15 : decode cJ6_getChar 15 = .ok (.if_icmp .lt 13, 3) := dk_161 0 13 (dk_at dksJ6_getChar_0 15 rfl rfl)
theorem dJ6_getChar_18 : decode cJ6_getChar 18 = .ok (.new 52, 3) := dk_187 0 52 (dk_at dksJ6_getChar_0 18 rfl rfl)
theorem dJ6_getChar_21 : decode cJ6_getChar 21 = .ok (.dup, 1) := dk_89 (dk_at dksJ6_getChar_0 21 rfl rfl)
theorem dJ6_getChar_22 : decode cJ6_getChar 22 = .ok (.ldc 54, 2) := dk_18 54 (dk_at dksJ6_getChar_0 22 rfl rfl)
theorem dJ6_getChar_24 : decode cJ6_getChar 24 = .ok (.invokespecial 56, 3) := dk_183 0 56 (dk_at dksJ6_getChar_1 0 rfl rfl)
theorem dJ6_getChar_27 : decode cJ6_getChar 27 = .ok (.athrow, 1) := dk_191 (dk_at dksJ6_getChar_1 3 rfl rfl)
theorem dJ6_getChar_28 : decode cJ6_getChar 28 = .ok (.iload_n 1, 1) := dk_27 (dk_at dksJ6_getChar_1 4 rfl rfl)
theorem dJ6_getChar_29 : decode cJ6_getChar 29 = .ok (.iconst 1, 1) := dk_4 (dk_at dksJ6_getChar_1 5 rfl rfl)
theorem dJ6_getChar_30 : decode cJ6_getChar 30 = .ok (.ishl, 1) := dk_120 (dk_at dksJ6_getChar_1 6 rfl rfl)
theorem dJ6_getChar_31 : decode cJ6_getChar 31 = .ok (.istore_n 1, 1) := dk_60 (dk_at dksJ6_getChar_1 7 rfl rfl)
theorem dJ6_getChar_32 : decode cJ6_getChar 32 = .ok (.aload_n 0, 1) := dk_42 (dk_at dksJ6_getChar_1 8 rfl rfl)
theorem dJ6_getChar_33 : decode cJ6_getChar 33 = .ok (.iload_n 1, 1) := dk_27 (dk_at dksJ6_getChar_1 9 rfl rfl)
theorem dJ6_getChar_34 : decode cJ6_getChar 34 = .ok (.iinc 1 1, 3) := dk_132 1 1 (dk_at dksJ6_getChar_1 10 rfl rfl)
theorem dJ6_getChar_37 : decode cJ6_getChar 37 = .ok (.baload, 1) := dk_51 (dk_at dksJ6_getChar_1 13 rfl rfl)
theorem dJ6_getChar_38 : decode cJ6_getChar 38 = .ok (.sipush 255, 3) := dk_17 0 255 (dk_at dksJ6_getChar_1 14 rfl rfl)
theorem dJ6_getChar_41 : decode cJ6_getChar 41 = .ok (.iand, 1) := dk_126 (dk_at dksJ6_getChar_1 17 rfl rfl)
theorem dJ6_getChar_42 : decode cJ6_getChar 42 = .ok (.getstatic 59, 3) := dk_178 0 59 (dk_at dksJ6_getChar_1 18 rfl rfl)
theorem dJ6_getChar_45 : decode cJ6_getChar 45 = .ok (.ishl, 1) := dk_120 (dk_at dksJ6_getChar_1 21 rfl rfl)
theorem dJ6_getChar_46 : decode cJ6_getChar 46 = .ok (.aload_n 0, 1) := dk_42 (dk_at dksJ6_getChar_1 22 rfl rfl)
theorem dJ6_getChar_47 : decode cJ6_getChar 47 = .ok (.iload_n 1, 1) := dk_27 (dk_at dksJ6_getChar_1 23 rfl rfl)
theorem dJ6_getChar_48 : decode cJ6_getChar 48 = .ok (.baload, 1) := dk_51 (dk_at dksJ6_getChar_2 0 rfl rfl)
theorem dJ6_getChar_49 : decode cJ6_getChar 49 = .ok (.sipush 255, 3) := dk_17 0 255 (dk_at dksJ6_getChar_2 1 rfl rfl)
theorem dJ6_getChar_52 : decode cJ6_getChar 52 = .ok (.iand, 1) := dk_126 (dk_at dksJ6_getChar_2 4 rfl rfl)
theorem dJ6_getChar_53 : decode cJ6_getChar 53 = .ok (.getstatic 63, 3) := dk_178 0 63 (dk_at dksJ6_getChar_2 5 rfl rfl)
theorem dJ6_getChar_56 : decode cJ6_getChar 56 = .ok (.ishl, 1) := dk_120 (dk_at dksJ6_getChar_2 8 rfl rfl)
theorem dJ6_getChar_57 : decode cJ6_getChar 57 = .ok (.ior, 1) := dk_128 (dk_at dksJ6_getChar_2 9 rfl rfl)
theorem dJ6_getChar_58 : decode cJ6_getChar 58 = .ok (.i2c, 1) := dk_146 (dk_at dksJ6_getChar_2 10 rfl rfl)
theorem dJ6_getChar_59 : decode cJ6_getChar 59 = .ok (.ireturn, 1) := dk_172 (dk_at dksJ6_getChar_2 11 rfl rfl)
abbrev cJ6_newBytesFor : ByteArray := prog_77_method_2_code
def yJ6_newBytesFor : MethodName := ⟨RJ6, "newBytesFor", "(I)[B"⟩
def dkwJ6_newBytesFor_0 : List UInt8 := [26, 184, 0, 11, 188, 8, 176]
abbrev dktJ6_newBytesFor_0 : List UInt8 := dkwJ6_newBytesFor_0 ++ []
theorem dksJ6_newBytesFor_0 : cJ6_newBytesFor.data.toList.drop 0 = dktJ6_newBytesFor_0 := by decide +kernel
theorem dJ6_newBytesFor_0 : decode cJ6_newBytesFor 0 = .ok (.iload_n 0, 1) := dk_26 (dk_at dksJ6_newBytesFor_0 0 rfl rfl)
theorem dJ6_newBytesFor_1 : decode cJ6_newBytesFor 1 = .ok (.invokestatic 11, 3) := dk_184 0 11 (dk_at dksJ6_newBytesFor_0 1 rfl rfl)
theorem dJ6_newBytesFor_4 : decode cJ6_newBytesFor 4 = .ok (.newarray .byte, 2) := dk_188_8 (dk_at dksJ6_newBytesFor_0 4 rfl rfl)
theorem dJ6_newBytesFor_6 : decode cJ6_newBytesFor 6 = .ok (.areturn, 1) := dk_176 (dk_at dksJ6_newBytesFor_0 6 rfl rfl)
abbrev cJ6_newBytesLength : ByteArray := prog_77_method_3_code
def yJ6_newBytesLength : MethodName := ⟨RJ6, "newBytesLength", "(I)I"⟩
def dkwJ6_newBytesLength_2 : List UInt8 := [182, 0, 32, 182, 0, 37, 183, 0, 41, 191, 26, 4, 120, 172]
abbrev dktJ6_newBytesLength_2 : List UInt8 := dkwJ6_newBytesLength_2 ++ []
def dkwJ6_newBytesLength_1 : List UInt8 := [187, 0, 23, 89, 183, 0, 25, 18, 26, 182, 0, 28, 26, 182, 0, 32, 18, 35, 182, 0, 28, 18, 20]
abbrev dktJ6_newBytesLength_1 : List UInt8 := dkwJ6_newBytesLength_1 ++ dktJ6_newBytesLength_2
def dkwJ6_newBytesLength_0 : List UInt8 := [26, 156, 0, 11, 187, 0, 17, 89, 183, 0, 19, 191, 26, 18, 20, 161, 0, 40, 187, 0, 21, 89]
abbrev dktJ6_newBytesLength_0 : List UInt8 := dkwJ6_newBytesLength_0 ++ dktJ6_newBytesLength_1
theorem dksJ6_newBytesLength_0 : cJ6_newBytesLength.data.toList.drop 0 = dktJ6_newBytesLength_0 := by decide +kernel
theorem dksJ6_newBytesLength_1 : cJ6_newBytesLength.data.toList.drop 22 = dktJ6_newBytesLength_1 := dk_seg dksJ6_newBytesLength_0 22 rfl rfl
theorem dksJ6_newBytesLength_2 : cJ6_newBytesLength.data.toList.drop 45 = dktJ6_newBytesLength_2 := dk_seg dksJ6_newBytesLength_1 23 rfl rfl
theorem dJ6_newBytesLength_0 : decode cJ6_newBytesLength 0 = .ok (.iload_n 0, 1) := dk_26 (dk_at dksJ6_newBytesLength_0 0 rfl rfl)
theorem dJ6_newBytesLength_1 : decode cJ6_newBytesLength 1 = .ok (.ifCond .ge 11, 3) := dk_156 0 11 (dk_at dksJ6_newBytesLength_0 1 rfl rfl)
theorem dJ6_newBytesLength_4 : decode cJ6_newBytesLength 4 = .ok (.new 17, 3) := dk_187 0 17 (dk_at dksJ6_newBytesLength_0 4 rfl rfl)
theorem dJ6_newBytesLength_7 : decode cJ6_newBytesLength 7 = .ok (.dup, 1) := dk_89 (dk_at dksJ6_newBytesLength_0 7 rfl rfl)
theorem dJ6_newBytesLength_8 : decode cJ6_newBytesLength 8 = .ok (.invokespecial 19, 3) := dk_183 0 19 (dk_at dksJ6_newBytesLength_0 8 rfl rfl)
theorem dJ6_newBytesLength_11 : decode cJ6_newBytesLength 11 = .ok (.athrow, 1) := dk_191 (dk_at dksJ6_newBytesLength_0 11 rfl rfl)
theorem dJ6_newBytesLength_12 : decode cJ6_newBytesLength 12 = .ok (.iload_n 0, 1) := dk_26 (dk_at dksJ6_newBytesLength_0 12 rfl rfl)
theorem dJ6_newBytesLength_13 : decode cJ6_newBytesLength 13 = .ok (.ldc 20, 2) := dk_18 20 (dk_at dksJ6_newBytesLength_0 13 rfl rfl)
theorem dJ6_newBytesLength_15 : decode cJ6_newBytesLength 15 = .ok (.if_icmp .lt 40, 3) := dk_161 0 40 (dk_at dksJ6_newBytesLength_0 15 rfl rfl)
theorem dJ6_newBytesLength_18 : decode cJ6_newBytesLength 18 = .ok (.new 21, 3) := dk_187 0 21 (dk_at dksJ6_newBytesLength_0 18 rfl rfl)
theorem dJ6_newBytesLength_21 : decode cJ6_newBytesLength 21 = .ok (.dup, 1) := dk_89 (dk_at dksJ6_newBytesLength_0 21 rfl rfl)
theorem dJ6_newBytesLength_22 : decode cJ6_newBytesLength 22 = .ok (.new 23, 3) := dk_187 0 23 (dk_at dksJ6_newBytesLength_1 0 rfl rfl)
theorem dJ6_newBytesLength_25 : decode cJ6_newBytesLength 25 = .ok (.dup, 1) := dk_89 (dk_at dksJ6_newBytesLength_1 3 rfl rfl)
theorem dJ6_newBytesLength_26 : decode cJ6_newBytesLength 26 = .ok (.invokespecial 25, 3) := dk_183 0 25 (dk_at dksJ6_newBytesLength_1 4 rfl rfl)
theorem dJ6_newBytesLength_29 : decode cJ6_newBytesLength 29 = .ok (.ldc 26, 2) := dk_18 26 (dk_at dksJ6_newBytesLength_1 7 rfl rfl)
theorem dJ6_newBytesLength_31 : decode cJ6_newBytesLength 31 = .ok (.invokevirtual 28, 3) := dk_182 0 28 (dk_at dksJ6_newBytesLength_1 9 rfl rfl)
theorem dJ6_newBytesLength_34 : decode cJ6_newBytesLength 34 = .ok (.iload_n 0, 1) := dk_26 (dk_at dksJ6_newBytesLength_1 12 rfl rfl)
theorem dJ6_newBytesLength_35 : decode cJ6_newBytesLength 35 = .ok (.invokevirtual 32, 3) := dk_182 0 32 (dk_at dksJ6_newBytesLength_1 13 rfl rfl)
theorem dJ6_newBytesLength_38 : decode cJ6_newBytesLength 38 = .ok (.ldc 35, 2) := dk_18 35 (dk_at dksJ6_newBytesLength_1 16 rfl rfl)
theorem dJ6_newBytesLength_40 : decode cJ6_newBytesLength 40 = .ok (.invokevirtual 28, 3) := dk_182 0 28 (dk_at dksJ6_newBytesLength_1 18 rfl rfl)
theorem dJ6_newBytesLength_43 : decode cJ6_newBytesLength 43 = .ok (.ldc 20, 2) := dk_18 20 (dk_at dksJ6_newBytesLength_1 21 rfl rfl)
theorem dJ6_newBytesLength_45 : decode cJ6_newBytesLength 45 = .ok (.invokevirtual 32, 3) := dk_182 0 32 (dk_at dksJ6_newBytesLength_2 0 rfl rfl)
theorem dJ6_newBytesLength_48 : decode cJ6_newBytesLength 48 = .ok (.invokevirtual 37, 3) := dk_182 0 37 (dk_at dksJ6_newBytesLength_2 3 rfl rfl)
theorem dJ6_newBytesLength_51 : decode cJ6_newBytesLength 51 = .ok (.invokespecial 41, 3) := dk_183 0 41 (dk_at dksJ6_newBytesLength_2 6 rfl rfl)
theorem dJ6_newBytesLength_54 : decode cJ6_newBytesLength 54 = .ok (.athrow, 1) := dk_191 (dk_at dksJ6_newBytesLength_2 9 rfl rfl)
theorem dJ6_newBytesLength_55 : decode cJ6_newBytesLength 55 = .ok (.iload_n 0, 1) := dk_26 (dk_at dksJ6_newBytesLength_2 10 rfl rfl)
theorem dJ6_newBytesLength_56 : decode cJ6_newBytesLength 56 = .ok (.iconst 1, 1) := dk_4 (dk_at dksJ6_newBytesLength_2 11 rfl rfl)
theorem dJ6_newBytesLength_57 : decode cJ6_newBytesLength 57 = .ok (.ishl, 1) := dk_120 (dk_at dksJ6_newBytesLength_2 12 rfl rfl)
theorem dJ6_newBytesLength_58 : decode cJ6_newBytesLength 58 = .ok (.ireturn, 1) := dk_172 (dk_at dksJ6_newBytesLength_2 13 rfl rfl)
abbrev cJ6_inflate : ByteArray := prog_77_method_86_code
def yJ6_inflate : MethodName := ⟨RJ6, "inflate", "([BI[BII)V"⟩
def dkwJ6_inflate_1 : List UInt8 := [132, 1, 1, 51, 17, 0, 255, 126, 184, 0, 111, 132, 5, 1, 167, 255, 228, 177]
abbrev dktJ6_inflate_1 : List UInt8 := dkwJ6_inflate_1 ++ []
def dkwJ6_inflate_0 : List UInt8 := [29, 21, 4, 44, 184, 0, 173, 3, 54, 5, 21, 5, 21, 4, 162, 0, 27, 44, 29, 132, 3, 1, 42, 27]
abbrev dktJ6_inflate_0 : List UInt8 := dkwJ6_inflate_0 ++ dktJ6_inflate_1
theorem dksJ6_inflate_0 : cJ6_inflate.data.toList.drop 0 = dktJ6_inflate_0 := by decide +kernel
theorem dksJ6_inflate_1 : cJ6_inflate.data.toList.drop 24 = dktJ6_inflate_1 := dk_seg dksJ6_inflate_0 24 rfl rfl
theorem dJ6_inflate_0 : decode cJ6_inflate 0 = .ok (.iload_n 3, 1) := dk_29 (dk_at dksJ6_inflate_0 0 rfl rfl)
theorem dJ6_inflate_1 : decode cJ6_inflate 1 = .ok (.iload 4, 2) := dk_21 4 (dk_at dksJ6_inflate_0 1 rfl rfl)
theorem dJ6_inflate_3 : decode cJ6_inflate 3 = .ok (.aload_n 2, 1) := dk_44 (dk_at dksJ6_inflate_0 3 rfl rfl)
theorem dJ6_inflate_4 : decode cJ6_inflate 4 = .ok (.invokestatic 173, 3) := dk_184 0 173 (dk_at dksJ6_inflate_0 4 rfl rfl)
theorem dJ6_inflate_7 : decode cJ6_inflate 7 = .ok (.iconst 0, 1) := dk_3 (dk_at dksJ6_inflate_0 7 rfl rfl)
theorem dJ6_inflate_8 : decode cJ6_inflate 8 = .ok (.istore 5, 2) := dk_54 5 (dk_at dksJ6_inflate_0 8 rfl rfl)
theorem dJ6_inflate_10 : decode cJ6_inflate 10 = .ok (.iload 5, 2) := dk_21 5 (dk_at dksJ6_inflate_0 10 rfl rfl)
theorem dJ6_inflate_12 : decode cJ6_inflate 12 = .ok (.iload 4, 2) := dk_21 4 (dk_at dksJ6_inflate_0 12 rfl rfl)
theorem dJ6_inflate_14 : decode cJ6_inflate 14 = .ok (.if_icmp .ge 27, 3) := dk_162 0 27 (dk_at dksJ6_inflate_0 14 rfl rfl)
theorem dJ6_inflate_17 : decode cJ6_inflate 17 = .ok (.aload_n 2, 1) := dk_44 (dk_at dksJ6_inflate_0 17 rfl rfl)
theorem dJ6_inflate_18 : decode cJ6_inflate 18 = .ok (.iload_n 3, 1) := dk_29 (dk_at dksJ6_inflate_0 18 rfl rfl)
theorem dJ6_inflate_19 : decode cJ6_inflate 19 = .ok (.iinc 3 1, 3) := dk_132 3 1 (dk_at dksJ6_inflate_0 19 rfl rfl)
theorem dJ6_inflate_22 : decode cJ6_inflate 22 = .ok (.aload_n 0, 1) := dk_42 (dk_at dksJ6_inflate_0 22 rfl rfl)
theorem dJ6_inflate_23 : decode cJ6_inflate 23 = .ok (.iload_n 1, 1) := dk_27 (dk_at dksJ6_inflate_0 23 rfl rfl)
theorem dJ6_inflate_24 : decode cJ6_inflate 24 = .ok (.iinc 1 1, 3) := dk_132 1 1 (dk_at dksJ6_inflate_1 0 rfl rfl)
theorem dJ6_inflate_27 : decode cJ6_inflate 27 = .ok (.baload, 1) := dk_51 (dk_at dksJ6_inflate_1 3 rfl rfl)
theorem dJ6_inflate_28 : decode cJ6_inflate 28 = .ok (.sipush 255, 3) := dk_17 0 255 (dk_at dksJ6_inflate_1 4 rfl rfl)
theorem dJ6_inflate_31 : decode cJ6_inflate 31 = .ok (.iand, 1) := dk_126 (dk_at dksJ6_inflate_1 7 rfl rfl)
theorem dJ6_inflate_32 : decode cJ6_inflate 32 = .ok (.invokestatic 111, 3) := dk_184 0 111 (dk_at dksJ6_inflate_1 8 rfl rfl)
theorem dJ6_inflate_35 : decode cJ6_inflate 35 = .ok (.iinc 5 1, 3) := dk_132 5 1 (dk_at dksJ6_inflate_1 11 rfl rfl)
theorem dJ6_inflate_38 : decode cJ6_inflate 38 = .ok (.goto (-28), 3) := dk_167 255 228 (dk_at dksJ6_inflate_1 14 rfl rfl)
theorem dJ6_inflate_41 : decode cJ6_inflate 41 = .ok (.return_, 1) := dk_177 (dk_at dksJ6_inflate_1 17 rfl rfl)
abbrev cJ6_checkBoundsOffCount : ByteArray := prog_77_method_94_code
def yJ6_checkBoundsOffCount : MethodName := ⟨RJ6, "checkBoundsOffCount", "(II[B)V"⟩
def dkwJ6_checkBoundsOffCount_0 : List UInt8 := [26, 27, 44, 184, 0, 48, 184, 1, 163, 87, 177]
abbrev dktJ6_checkBoundsOffCount_0 : List UInt8 := dkwJ6_checkBoundsOffCount_0 ++ []
theorem dksJ6_checkBoundsOffCount_0 : cJ6_checkBoundsOffCount.data.toList.drop 0 = dktJ6_checkBoundsOffCount_0 := by decide +kernel
theorem dJ6_checkBoundsOffCount_0 : decode cJ6_checkBoundsOffCount 0 = .ok (.iload_n 0, 1) := dk_26 (dk_at dksJ6_checkBoundsOffCount_0 0 rfl rfl)
theorem dJ6_checkBoundsOffCount_1 : decode cJ6_checkBoundsOffCount 1 = .ok (.iload_n 1, 1) := dk_27 (dk_at dksJ6_checkBoundsOffCount_0 1 rfl rfl)
theorem dJ6_checkBoundsOffCount_2 : decode cJ6_checkBoundsOffCount 2 = .ok (.aload_n 2, 1) := dk_44 (dk_at dksJ6_checkBoundsOffCount_0 2 rfl rfl)
theorem dJ6_checkBoundsOffCount_3 : decode cJ6_checkBoundsOffCount 3 = .ok (.invokestatic 48, 3) := dk_184 0 48 (dk_at dksJ6_checkBoundsOffCount_0 3 rfl rfl)
theorem dJ6_checkBoundsOffCount_6 : decode cJ6_checkBoundsOffCount 6 = .ok (.invokestatic 419, 3) := dk_184 1 163 (dk_at dksJ6_checkBoundsOffCount_0 6 rfl rfl)
theorem dJ6_checkBoundsOffCount_9 : decode cJ6_checkBoundsOffCount 9 = .ok (.pop, 1) := dk_87 (dk_at dksJ6_checkBoundsOffCount_0 9 rfl rfl)
theorem dJ6_checkBoundsOffCount_10 : decode cJ6_checkBoundsOffCount 10 = .ok (.return_, 1) := dk_177 (dk_at dksJ6_checkBoundsOffCount_0 10 rfl rfl)
abbrev cJ6_putChar : ByteArray := prog_77_method_4_code
def yJ6_putChar : MethodName := ⟨RJ6, "putChar", "([BII)V"⟩
def dkwJ6_putChar_2 : List UInt8 := [178, 0, 63, 122, 145, 84, 177]
abbrev dktJ6_putChar_2 : List UInt8 := dkwJ6_putChar_2 ++ []
def dkwJ6_putChar_1 : List UInt8 := [183, 0, 56, 191, 27, 4, 120, 60, 42, 27, 132, 1, 1, 28, 178, 0, 59, 122, 145, 84, 42, 27, 28]
abbrev dktJ6_putChar_1 : List UInt8 := dkwJ6_putChar_1 ++ dktJ6_putChar_2
def dkwJ6_putChar_0 : List UInt8 := [178, 0, 44, 154, 0, 25, 27, 155, 0, 11, 27, 42, 184, 0, 48, 161, 0, 13, 187, 0, 52, 89, 18, 54]
abbrev dktJ6_putChar_0 : List UInt8 := dkwJ6_putChar_0 ++ dktJ6_putChar_1
theorem dksJ6_putChar_0 : cJ6_putChar.data.toList.drop 0 = dktJ6_putChar_0 := by decide +kernel
theorem dksJ6_putChar_1 : cJ6_putChar.data.toList.drop 24 = dktJ6_putChar_1 := dk_seg dksJ6_putChar_0 24 rfl rfl
theorem dksJ6_putChar_2 : cJ6_putChar.data.toList.drop 47 = dktJ6_putChar_2 := dk_seg dksJ6_putChar_1 23 rfl rfl
theorem dJ6_putChar_0 : decode cJ6_putChar 0 = .ok (.getstatic 44, 3) := dk_178 0 44 (dk_at dksJ6_putChar_0 0 rfl rfl)
theorem dJ6_putChar_3 : decode cJ6_putChar 3 = .ok (.ifCond .ne 25, 3) := dk_154 0 25 (dk_at dksJ6_putChar_0 3 rfl rfl)
theorem dJ6_putChar_6 : decode cJ6_putChar 6 = .ok (.iload_n 1, 1) := dk_27 (dk_at dksJ6_putChar_0 6 rfl rfl)
theorem dJ6_putChar_7 : decode cJ6_putChar 7 = .ok (.ifCond .lt 11, 3) := dk_155 0 11 (dk_at dksJ6_putChar_0 7 rfl rfl)
theorem dJ6_putChar_10 : decode cJ6_putChar 10 = .ok (.iload_n 1, 1) := dk_27 (dk_at dksJ6_putChar_0 10 rfl rfl)
theorem dJ6_putChar_11 : decode cJ6_putChar 11 = .ok (.aload_n 0, 1) := dk_42 (dk_at dksJ6_putChar_0 11 rfl rfl)
theorem dJ6_putChar_12 : decode cJ6_putChar 12 = .ok (.invokestatic 48, 3) := dk_184 0 48 (dk_at dksJ6_putChar_0 12 rfl rfl)
theorem dJ6_putChar_15 : decode cJ6_putChar 15 = .ok (.if_icmp .lt 13, 3) := dk_161 0 13 (dk_at dksJ6_putChar_0 15 rfl rfl)
theorem dJ6_putChar_18 : decode cJ6_putChar 18 = .ok (.new 52, 3) := dk_187 0 52 (dk_at dksJ6_putChar_0 18 rfl rfl)
theorem dJ6_putChar_21 : decode cJ6_putChar 21 = .ok (.dup, 1) := dk_89 (dk_at dksJ6_putChar_0 21 rfl rfl)
theorem dJ6_putChar_22 : decode cJ6_putChar 22 = .ok (.ldc 54, 2) := dk_18 54 (dk_at dksJ6_putChar_0 22 rfl rfl)
theorem dJ6_putChar_24 : decode cJ6_putChar 24 = .ok (.invokespecial 56, 3) := dk_183 0 56 (dk_at dksJ6_putChar_1 0 rfl rfl)
theorem dJ6_putChar_27 : decode cJ6_putChar 27 = .ok (.athrow, 1) := dk_191 (dk_at dksJ6_putChar_1 3 rfl rfl)
theorem dJ6_putChar_28 : decode cJ6_putChar 28 = .ok (.iload_n 1, 1) := dk_27 (dk_at dksJ6_putChar_1 4 rfl rfl)
theorem dJ6_putChar_29 : decode cJ6_putChar 29 = .ok (.iconst 1, 1) := dk_4 (dk_at dksJ6_putChar_1 5 rfl rfl)
theorem dJ6_putChar_30 : decode cJ6_putChar 30 = .ok (.ishl, 1) := dk_120 (dk_at dksJ6_putChar_1 6 rfl rfl)
theorem dJ6_putChar_31 : decode cJ6_putChar 31 = .ok (.istore_n 1, 1) := dk_60 (dk_at dksJ6_putChar_1 7 rfl rfl)
theorem dJ6_putChar_32 : decode cJ6_putChar 32 = .ok (.aload_n 0, 1) := dk_42 (dk_at dksJ6_putChar_1 8 rfl rfl)
theorem dJ6_putChar_33 : decode cJ6_putChar 33 = .ok (.iload_n 1, 1) := dk_27 (dk_at dksJ6_putChar_1 9 rfl rfl)
theorem dJ6_putChar_34 : decode cJ6_putChar 34 = .ok (.iinc 1 1, 3) := dk_132 1 1 (dk_at dksJ6_putChar_1 10 rfl rfl)
theorem dJ6_putChar_37 : decode cJ6_putChar 37 = .ok (.iload_n 2, 1) := dk_28 (dk_at dksJ6_putChar_1 13 rfl rfl)
theorem dJ6_putChar_38 : decode cJ6_putChar 38 = .ok (.getstatic 59, 3) := dk_178 0 59 (dk_at dksJ6_putChar_1 14 rfl rfl)
theorem dJ6_putChar_41 : decode cJ6_putChar 41 = .ok (.ishr, 1) := dk_122 (dk_at dksJ6_putChar_1 17 rfl rfl)
theorem dJ6_putChar_42 : decode cJ6_putChar 42 = .ok (.i2b, 1) := dk_145 (dk_at dksJ6_putChar_1 18 rfl rfl)
theorem dJ6_putChar_43 : decode cJ6_putChar 43 = .ok (.bastore, 1) := dk_84 (dk_at dksJ6_putChar_1 19 rfl rfl)
theorem dJ6_putChar_44 : decode cJ6_putChar 44 = .ok (.aload_n 0, 1) := dk_42 (dk_at dksJ6_putChar_1 20 rfl rfl)
theorem dJ6_putChar_45 : decode cJ6_putChar 45 = .ok (.iload_n 1, 1) := dk_27 (dk_at dksJ6_putChar_1 21 rfl rfl)
theorem dJ6_putChar_46 : decode cJ6_putChar 46 = .ok (.iload_n 2, 1) := dk_28 (dk_at dksJ6_putChar_1 22 rfl rfl)
theorem dJ6_putChar_47 : decode cJ6_putChar 47 = .ok (.getstatic 63, 3) := dk_178 0 63 (dk_at dksJ6_putChar_2 0 rfl rfl)
theorem dJ6_putChar_50 : decode cJ6_putChar 50 = .ok (.ishr, 1) := dk_122 (dk_at dksJ6_putChar_2 3 rfl rfl)
theorem dJ6_putChar_51 : decode cJ6_putChar 51 = .ok (.i2b, 1) := dk_145 (dk_at dksJ6_putChar_2 4 rfl rfl)
theorem dJ6_putChar_52 : decode cJ6_putChar 52 = .ok (.bastore, 1) := dk_84 (dk_at dksJ6_putChar_2 5 rfl rfl)
theorem dJ6_putChar_53 : decode cJ6_putChar 53 = .ok (.return_, 1) := dk_177 (dk_at dksJ6_putChar_2 6 rfl rfl)
abbrev cJ6_putCharSB : ByteArray := prog_77_method_71_code
def yJ6_putCharSB : MethodName := ⟨RJ6, "putCharSB", "([BII)V"⟩
def dkwJ6_putCharSB_0 : List UInt8 := [27, 42, 184, 0, 67, 42, 27, 28, 184, 0, 111, 177]
abbrev dktJ6_putCharSB_0 : List UInt8 := dkwJ6_putCharSB_0 ++ []
theorem dksJ6_putCharSB_0 : cJ6_putCharSB.data.toList.drop 0 = dktJ6_putCharSB_0 := by decide +kernel
theorem dJ6_putCharSB_0 : decode cJ6_putCharSB 0 = .ok (.iload_n 1, 1) := dk_27 (dk_at dksJ6_putCharSB_0 0 rfl rfl)
theorem dJ6_putCharSB_1 : decode cJ6_putCharSB 1 = .ok (.aload_n 0, 1) := dk_42 (dk_at dksJ6_putCharSB_0 1 rfl rfl)
theorem dJ6_putCharSB_2 : decode cJ6_putCharSB 2 = .ok (.invokestatic 67, 3) := dk_184 0 67 (dk_at dksJ6_putCharSB_0 2 rfl rfl)
theorem dJ6_putCharSB_5 : decode cJ6_putCharSB 5 = .ok (.aload_n 0, 1) := dk_42 (dk_at dksJ6_putCharSB_0 5 rfl rfl)
theorem dJ6_putCharSB_6 : decode cJ6_putCharSB 6 = .ok (.iload_n 1, 1) := dk_27 (dk_at dksJ6_putCharSB_0 6 rfl rfl)
theorem dJ6_putCharSB_7 : decode cJ6_putCharSB 7 = .ok (.iload_n 2, 1) := dk_28 (dk_at dksJ6_putCharSB_0 7 rfl rfl)
theorem dJ6_putCharSB_8 : decode cJ6_putCharSB 8 = .ok (.invokestatic 111, 3) := dk_184 0 111 (dk_at dksJ6_putCharSB_0 8 rfl rfl)
theorem dJ6_putCharSB_11 : decode cJ6_putCharSB 11 = .ok (.return_, 1) := dk_177 (dk_at dksJ6_putCharSB_0 11 rfl rfl)
abbrev cJ6_compress : ByteArray := prog_77_method_17_code
def yJ6_compress : MethodName := ⟨RJ6, "compress", "([BII)[B"⟩
def dkwJ6_compress_2 : List UInt8 := [25, 5, 3, 45, 3, 28, 184, 0, 123, 28, 159, 0, 6, 25, 5, 176, 45, 176]
abbrev dktJ6_compress_2 : List UInt8 := dkwJ6_compress_2 ++ []
def dkwJ6_compress_1 : List UInt8 := [27, 28, 96, 184, 0, 11, 184, 0, 126, 58, 5, 25, 5, 21, 4, 184, 0, 71, 17, 0, 255, 163, 0, 16]
abbrev dktJ6_compress_1 : List UInt8 := dkwJ6_compress_1 ++ dktJ6_compress_2
def dkwJ6_compress_0 : List UInt8 := [28, 188, 8, 78, 42, 27, 45, 3, 28, 184, 0, 123, 54, 4, 21, 4, 28, 159, 0, 47, 42, 27, 4, 120]
abbrev dktJ6_compress_0 : List UInt8 := dkwJ6_compress_0 ++ dktJ6_compress_1
theorem dksJ6_compress_0 : cJ6_compress.data.toList.drop 0 = dktJ6_compress_0 := by decide +kernel
theorem dksJ6_compress_1 : cJ6_compress.data.toList.drop 24 = dktJ6_compress_1 := dk_seg dksJ6_compress_0 24 rfl rfl
theorem dksJ6_compress_2 : cJ6_compress.data.toList.drop 48 = dktJ6_compress_2 := dk_seg dksJ6_compress_1 24 rfl rfl
theorem dJ6_compress_0 : decode cJ6_compress 0 = .ok (.iload_n 2, 1) := dk_28 (dk_at dksJ6_compress_0 0 rfl rfl)
theorem dJ6_compress_1 : decode cJ6_compress 1 = .ok (.newarray .byte, 2) := dk_188_8 (dk_at dksJ6_compress_0 1 rfl rfl)
theorem dJ6_compress_3 : decode cJ6_compress 3 = .ok (.astore_n 3, 1) := dk_78 (dk_at dksJ6_compress_0 3 rfl rfl)
theorem dJ6_compress_4 : decode cJ6_compress 4 = .ok (.aload_n 0, 1) := dk_42 (dk_at dksJ6_compress_0 4 rfl rfl)
theorem dJ6_compress_5 : decode cJ6_compress 5 = .ok (.iload_n 1, 1) := dk_27 (dk_at dksJ6_compress_0 5 rfl rfl)
theorem dJ6_compress_6 : decode cJ6_compress 6 = .ok (.aload_n 3, 1) := dk_45 (dk_at dksJ6_compress_0 6 rfl rfl)
theorem dJ6_compress_7 : decode cJ6_compress 7 = .ok (.iconst 0, 1) := dk_3 (dk_at dksJ6_compress_0 7 rfl rfl)
theorem dJ6_compress_8 : decode cJ6_compress 8 = .ok (.iload_n 2, 1) := dk_28 (dk_at dksJ6_compress_0 8 rfl rfl)
theorem dJ6_compress_9 : decode cJ6_compress 9 = .ok (.invokestatic 123, 3) := dk_184 0 123 (dk_at dksJ6_compress_0 9 rfl rfl)
theorem dJ6_compress_12 : decode cJ6_compress 12 = .ok (.istore 4, 2) := dk_54 4 (dk_at dksJ6_compress_0 12 rfl rfl)
theorem dJ6_compress_14 : decode cJ6_compress 14 = .ok (.iload 4, 2) := dk_21 4 (dk_at dksJ6_compress_0 14 rfl rfl)
theorem dJ6_compress_16 : decode cJ6_compress 16 = .ok (.iload_n 2, 1) := dk_28 (dk_at dksJ6_compress_0 16 rfl rfl)
theorem dJ6_compress_17 : decode cJ6_compress 17 = .ok (.if_icmp .eq 47, 3) := dk_159 0 47 (dk_at dksJ6_compress_0 17 rfl rfl)
theorem dJ6_compress_20 : decode cJ6_compress 20 = .ok (.aload_n 0, 1) := dk_42 (dk_at dksJ6_compress_0 20 rfl rfl)
theorem dJ6_compress_21 : decode cJ6_compress 21 = .ok (.iload_n 1, 1) := dk_27 (dk_at dksJ6_compress_0 21 rfl rfl)
theorem dJ6_compress_22 : decode cJ6_compress 22 = .ok (.iconst 1, 1) := dk_4 (dk_at dksJ6_compress_0 22 rfl rfl)
theorem dJ6_compress_23 : decode cJ6_compress 23 = .ok (.ishl, 1) := dk_120 (dk_at dksJ6_compress_0 23 rfl rfl)
theorem dJ6_compress_24 : decode cJ6_compress 24 = .ok (.iload_n 1, 1) := dk_27 (dk_at dksJ6_compress_1 0 rfl rfl)
theorem dJ6_compress_25 : decode cJ6_compress 25 = .ok (.iload_n 2, 1) := dk_28 (dk_at dksJ6_compress_1 1 rfl rfl)
theorem dJ6_compress_26 : decode cJ6_compress 26 = .ok (.iadd, 1) := dk_96 (dk_at dksJ6_compress_1 2 rfl rfl)
theorem dJ6_compress_27 : decode cJ6_compress 27 = .ok (.invokestatic 11, 3) := dk_184 0 11 (dk_at dksJ6_compress_1 3 rfl rfl)
theorem dJ6_compress_30 : decode cJ6_compress 30 = .ok (.invokestatic 126, 3) := dk_184 0 126 (dk_at dksJ6_compress_1 6 rfl rfl)
theorem dJ6_compress_33 : decode cJ6_compress 33 = .ok (.astore 5, 2) := dk_58 5 (dk_at dksJ6_compress_1 9 rfl rfl)
theorem dJ6_compress_35 : decode cJ6_compress 35 = .ok (.aload 5, 2) := dk_25 5 (dk_at dksJ6_compress_1 11 rfl rfl)
theorem dJ6_compress_37 : decode cJ6_compress 37 = .ok (.iload 4, 2) := dk_21 4 (dk_at dksJ6_compress_1 13 rfl rfl)
theorem dJ6_compress_39 : decode cJ6_compress 39 = .ok (.invokestatic 71, 3) := dk_184 0 71 (dk_at dksJ6_compress_1 15 rfl rfl)
theorem dJ6_compress_42 : decode cJ6_compress 42 = .ok (.sipush 255, 3) := dk_17 0 255 (dk_at dksJ6_compress_1 18 rfl rfl)
theorem dJ6_compress_45 : decode cJ6_compress 45 = .ok (.if_icmp .gt 16, 3) := dk_163 0 16 (dk_at dksJ6_compress_1 21 rfl rfl)
theorem dJ6_compress_48 : decode cJ6_compress 48 = .ok (.aload 5, 2) := dk_25 5 (dk_at dksJ6_compress_2 0 rfl rfl)
theorem dJ6_compress_50 : decode cJ6_compress 50 = .ok (.iconst 0, 1) := dk_3 (dk_at dksJ6_compress_2 2 rfl rfl)
theorem dJ6_compress_51 : decode cJ6_compress 51 = .ok (.aload_n 3, 1) := dk_45 (dk_at dksJ6_compress_2 3 rfl rfl)
theorem dJ6_compress_52 : decode cJ6_compress 52 = .ok (.iconst 0, 1) := dk_3 (dk_at dksJ6_compress_2 4 rfl rfl)
theorem dJ6_compress_53 : decode cJ6_compress 53 = .ok (.iload_n 2, 1) := dk_28 (dk_at dksJ6_compress_2 5 rfl rfl)
theorem dJ6_compress_54 : decode cJ6_compress 54 = .ok (.invokestatic 123, 3) := dk_184 0 123 (dk_at dksJ6_compress_2 6 rfl rfl)
theorem dJ6_compress_57 : decode cJ6_compress 57 = .ok (.iload_n 2, 1) := dk_28 (dk_at dksJ6_compress_2 9 rfl rfl)
theorem dJ6_compress_58 : decode cJ6_compress 58 = .ok (.if_icmp .eq 6, 3) := dk_159 0 6 (dk_at dksJ6_compress_2 10 rfl rfl)
theorem dJ6_compress_61 : decode cJ6_compress 61 = .ok (.aload 5, 2) := dk_25 5 (dk_at dksJ6_compress_2 13 rfl rfl)
theorem dJ6_compress_63 : decode cJ6_compress 63 = .ok (.areturn, 1) := dk_176 (dk_at dksJ6_compress_2 15 rfl rfl)
theorem dJ6_compress_64 : decode cJ6_compress 64 = .ok (.aload_n 3, 1) := dk_45 (dk_at dksJ6_compress_2 16 rfl rfl)
theorem dJ6_compress_65 : decode cJ6_compress 65 = .ok (.areturn, 1) := dk_176 (dk_at dksJ6_compress_2 17 rfl rfl)
abbrev cJ6_compress_2 : ByteArray := prog_77_method_22_code
def yJ6_compress_2 : MethodName := ⟨RJ6, "compress", "([BI[BII)I"⟩
def dkwJ6_compress_2_2 : List UInt8 := [132, 5, 1, 167, 255, 216, 21, 4, 172]
abbrev dktJ6_compress_2_2 : List UInt8 := dkwJ6_compress_2_2 ++ []
def dkwJ6_compress_2_1 : List UInt8 := [21, 6, 17, 0, 255, 164, 0, 6, 21, 5, 172, 44, 29, 21, 6, 145, 84, 132, 1, 1, 132, 3, 1]
abbrev dktJ6_compress_2_1 : List UInt8 := dkwJ6_compress_2_1 ++ dktJ6_compress_2_2
def dkwJ6_compress_2_0 : List UInt8 := [27, 21, 4, 42, 184, 0, 173, 3, 54, 5, 21, 5, 21, 4, 162, 0, 39, 42, 27, 184, 0, 71, 54, 6]
abbrev dktJ6_compress_2_0 : List UInt8 := dkwJ6_compress_2_0 ++ dktJ6_compress_2_1
theorem dksJ6_compress_2_0 : cJ6_compress_2.data.toList.drop 0 = dktJ6_compress_2_0 := by decide +kernel
theorem dksJ6_compress_2_1 : cJ6_compress_2.data.toList.drop 24 = dktJ6_compress_2_1 := dk_seg dksJ6_compress_2_0 24 rfl rfl
theorem dksJ6_compress_2_2 : cJ6_compress_2.data.toList.drop 47 = dktJ6_compress_2_2 := dk_seg dksJ6_compress_2_1 23 rfl rfl
theorem dJ6_compress_2_0 : decode cJ6_compress_2 0 = .ok (.iload_n 1, 1) := dk_27 (dk_at dksJ6_compress_2_0 0 rfl rfl)
theorem dJ6_compress_2_1 : decode cJ6_compress_2 1 = .ok (.iload 4, 2) := dk_21 4 (dk_at dksJ6_compress_2_0 1 rfl rfl)
theorem dJ6_compress_2_3 : decode cJ6_compress_2 3 = .ok (.aload_n 0, 1) := dk_42 (dk_at dksJ6_compress_2_0 3 rfl rfl)
theorem dJ6_compress_2_4 : decode cJ6_compress_2 4 = .ok (.invokestatic 173, 3) := dk_184 0 173 (dk_at dksJ6_compress_2_0 4 rfl rfl)
theorem dJ6_compress_2_7 : decode cJ6_compress_2 7 = .ok (.iconst 0, 1) := dk_3 (dk_at dksJ6_compress_2_0 7 rfl rfl)
theorem dJ6_compress_2_8 : decode cJ6_compress_2 8 = .ok (.istore 5, 2) := dk_54 5 (dk_at dksJ6_compress_2_0 8 rfl rfl)
theorem dJ6_compress_2_10 : decode cJ6_compress_2 10 = .ok (.iload 5, 2) := dk_21 5 (dk_at dksJ6_compress_2_0 10 rfl rfl)
theorem dJ6_compress_2_12 : decode cJ6_compress_2 12 = .ok (.iload 4, 2) := dk_21 4 (dk_at dksJ6_compress_2_0 12 rfl rfl)
theorem dJ6_compress_2_14 : decode cJ6_compress_2 14 = .ok (.if_icmp .ge 39, 3) := dk_162 0 39 (dk_at dksJ6_compress_2_0 14 rfl rfl)
theorem dJ6_compress_2_17 : decode cJ6_compress_2 17 = .ok (.aload_n 0, 1) := dk_42 (dk_at dksJ6_compress_2_0 17 rfl rfl)
theorem dJ6_compress_2_18 : decode cJ6_compress_2 18 = .ok (.iload_n 1, 1) := dk_27 (dk_at dksJ6_compress_2_0 18 rfl rfl)
theorem dJ6_compress_2_19 : decode cJ6_compress_2 19 = .ok (.invokestatic 71, 3) := dk_184 0 71 (dk_at dksJ6_compress_2_0 19 rfl rfl)
theorem dJ6_compress_2_22 : decode cJ6_compress_2 22 = .ok (.istore 6, 2) := dk_54 6 (dk_at dksJ6_compress_2_0 22 rfl rfl)
theorem dJ6_compress_2_24 : decode cJ6_compress_2 24 = .ok (.iload 6, 2) := dk_21 6 (dk_at dksJ6_compress_2_1 0 rfl rfl)
theorem dJ6_compress_2_26 : decode cJ6_compress_2 26 = .ok (.sipush 255, 3) := dk_17 0 255 (dk_at dksJ6_compress_2_1 2 rfl rfl)
theorem dJ6_compress_2_29 : decode cJ6_compress_2 29 = .ok (.if_icmp .le 6, 3) := dk_164 0 6 (dk_at dksJ6_compress_2_1 5 rfl rfl)
theorem dJ6_compress_2_32 : decode cJ6_compress_2 32 = .ok (.iload 5, 2) := dk_21 5 (dk_at dksJ6_compress_2_1 8 rfl rfl)
theorem dJ6_compress_2_34 : decode cJ6_compress_2 34 = .ok (.ireturn, 1) := dk_172 (dk_at dksJ6_compress_2_1 10 rfl rfl)
theorem dJ6_compress_2_35 : decode cJ6_compress_2 35 = .ok (.aload_n 2, 1) := dk_44 (dk_at dksJ6_compress_2_1 11 rfl rfl)
theorem dJ6_compress_2_36 : decode cJ6_compress_2 36 = .ok (.iload_n 3, 1) := dk_29 (dk_at dksJ6_compress_2_1 12 rfl rfl)
theorem dJ6_compress_2_37 : decode cJ6_compress_2 37 = .ok (.iload 6, 2) := dk_21 6 (dk_at dksJ6_compress_2_1 13 rfl rfl)
theorem dJ6_compress_2_39 : decode cJ6_compress_2 39 = .ok (.i2b, 1) := dk_145 (dk_at dksJ6_compress_2_1 15 rfl rfl)
theorem dJ6_compress_2_40 : decode cJ6_compress_2 40 = .ok (.bastore, 1) := dk_84 (dk_at dksJ6_compress_2_1 16 rfl rfl)
theorem dJ6_compress_2_41 : decode cJ6_compress_2 41 = .ok (.iinc 1 1, 3) := dk_132 1 1 (dk_at dksJ6_compress_2_1 17 rfl rfl)
theorem dJ6_compress_2_44 : decode cJ6_compress_2 44 = .ok (.iinc 3 1, 3) := dk_132 3 1 (dk_at dksJ6_compress_2_1 20 rfl rfl)
theorem dJ6_compress_2_47 : decode cJ6_compress_2 47 = .ok (.iinc 5 1, 3) := dk_132 5 1 (dk_at dksJ6_compress_2_2 0 rfl rfl)
theorem dJ6_compress_2_50 : decode cJ6_compress_2 50 = .ok (.goto (-40), 3) := dk_167 255 216 (dk_at dksJ6_compress_2_2 3 rfl rfl)
theorem dJ6_compress_2_53 : decode cJ6_compress_2 53 = .ok (.iload 4, 2) := dk_21 4 (dk_at dksJ6_compress_2_2 6 rfl rfl)
theorem dJ6_compress_2_55 : decode cJ6_compress_2 55 = .ok (.ireturn, 1) := dk_172 (dk_at dksJ6_compress_2_2 8 rfl rfl)
abbrev cJ6_coderFromArrayLen : ByteArray := prog_77_method_15_code
def yJ6_coderFromArrayLen : MethodName := ⟨RJ6, "coderFromArrayLen", "([BI)B"⟩
def dkwJ6_coderFromArrayLen_0 : List UInt8 := [27, 42, 190, 100, 16, 31, 124, 145, 172]
abbrev dktJ6_coderFromArrayLen_0 : List UInt8 := dkwJ6_coderFromArrayLen_0 ++ []
theorem dksJ6_coderFromArrayLen_0 : cJ6_coderFromArrayLen.data.toList.drop 0 = dktJ6_coderFromArrayLen_0 := by decide +kernel
theorem dJ6_coderFromArrayLen_0 : decode cJ6_coderFromArrayLen 0 = .ok (.iload_n 1, 1) := dk_27 (dk_at dksJ6_coderFromArrayLen_0 0 rfl rfl)
theorem dJ6_coderFromArrayLen_1 : decode cJ6_coderFromArrayLen 1 = .ok (.aload_n 0, 1) := dk_42 (dk_at dksJ6_coderFromArrayLen_0 1 rfl rfl)
theorem dJ6_coderFromArrayLen_2 : decode cJ6_coderFromArrayLen 2 = .ok (.arraylength, 1) := dk_190 (dk_at dksJ6_coderFromArrayLen_0 2 rfl rfl)
theorem dJ6_coderFromArrayLen_3 : decode cJ6_coderFromArrayLen 3 = .ok (.isub, 1) := dk_100 (dk_at dksJ6_coderFromArrayLen_0 3 rfl rfl)
theorem dJ6_coderFromArrayLen_4 : decode cJ6_coderFromArrayLen 4 = .ok (.bipush 31, 2) := dk_16 31 (dk_at dksJ6_coderFromArrayLen_0 4 rfl rfl)
theorem dJ6_coderFromArrayLen_6 : decode cJ6_coderFromArrayLen 6 = .ok (.iushr, 1) := dk_124 (dk_at dksJ6_coderFromArrayLen_0 6 rfl rfl)
theorem dJ6_coderFromArrayLen_7 : decode cJ6_coderFromArrayLen 7 = .ok (.i2b, 1) := dk_145 (dk_at dksJ6_coderFromArrayLen_0 7 rfl rfl)
theorem dJ6_coderFromArrayLen_8 : decode cJ6_coderFromArrayLen 8 = .ok (.ireturn, 1) := dk_172 (dk_at dksJ6_coderFromArrayLen_0 8 rfl rfl)
abbrev cJ6_indexOf : ByteArray := prog_77_method_40_code
def yJ6_indexOf : MethodName := ⟨RJ6, "indexOf", "([BIII)I"⟩
def dkwJ6_indexOf_1 : List UInt8 := [18, 227, 162, 0, 11, 42, 27, 28, 29, 184, 0, 228, 172, 42, 27, 28, 29, 184, 0, 232, 172]
abbrev dktJ6_indexOf_1 : List UInt8 := dkwJ6_indexOf_1 ++ []
def dkwJ6_indexOf_0 : List UInt8 := [28, 3, 184, 0, 224, 61, 29, 42, 190, 4, 122, 184, 0, 183, 62, 28, 29, 161, 0, 5, 2, 172, 27]
abbrev dktJ6_indexOf_0 : List UInt8 := dkwJ6_indexOf_0 ++ dktJ6_indexOf_1
theorem dksJ6_indexOf_0 : cJ6_indexOf.data.toList.drop 0 = dktJ6_indexOf_0 := by decide +kernel
theorem dksJ6_indexOf_1 : cJ6_indexOf.data.toList.drop 23 = dktJ6_indexOf_1 := dk_seg dksJ6_indexOf_0 23 rfl rfl
theorem dJ6_indexOf_0 : decode cJ6_indexOf 0 = .ok (.iload_n 2, 1) := dk_28 (dk_at dksJ6_indexOf_0 0 rfl rfl)
theorem dJ6_indexOf_1 : decode cJ6_indexOf 1 = .ok (.iconst 0, 1) := dk_3 (dk_at dksJ6_indexOf_0 1 rfl rfl)
theorem dJ6_indexOf_2 : decode cJ6_indexOf 2 = .ok (.invokestatic 224, 3) := dk_184 0 224 (dk_at dksJ6_indexOf_0 2 rfl rfl)
theorem dJ6_indexOf_5 : decode cJ6_indexOf 5 = .ok (.istore_n 2, 1) := dk_61 (dk_at dksJ6_indexOf_0 5 rfl rfl)
theorem dJ6_indexOf_6 : decode cJ6_indexOf 6 = .ok (.iload_n 3, 1) := dk_29 (dk_at dksJ6_indexOf_0 6 rfl rfl)
theorem dJ6_indexOf_7 : decode cJ6_indexOf 7 = .ok (.aload_n 0, 1) := dk_42 (dk_at dksJ6_indexOf_0 7 rfl rfl)
theorem dJ6_indexOf_8 : decode cJ6_indexOf 8 = .ok (.arraylength, 1) := dk_190 (dk_at dksJ6_indexOf_0 8 rfl rfl)
theorem dJ6_indexOf_9 : decode cJ6_indexOf 9 = .ok (.iconst 1, 1) := dk_4 (dk_at dksJ6_indexOf_0 9 rfl rfl)
theorem dJ6_indexOf_10 : decode cJ6_indexOf 10 = .ok (.ishr, 1) := dk_122 (dk_at dksJ6_indexOf_0 10 rfl rfl)
theorem dJ6_indexOf_11 : decode cJ6_indexOf 11 = .ok (.invokestatic 183, 3) := dk_184 0 183 (dk_at dksJ6_indexOf_0 11 rfl rfl)
theorem dJ6_indexOf_14 : decode cJ6_indexOf 14 = .ok (.istore_n 3, 1) := dk_62 (dk_at dksJ6_indexOf_0 14 rfl rfl)
theorem dJ6_indexOf_15 : decode cJ6_indexOf 15 = .ok (.iload_n 2, 1) := dk_28 (dk_at dksJ6_indexOf_0 15 rfl rfl)
theorem dJ6_indexOf_16 : decode cJ6_indexOf 16 = .ok (.iload_n 3, 1) := dk_29 (dk_at dksJ6_indexOf_0 16 rfl rfl)
theorem dJ6_indexOf_17 : decode cJ6_indexOf 17 = .ok (.if_icmp .lt 5, 3) := dk_161 0 5 (dk_at dksJ6_indexOf_0 17 rfl rfl)
theorem dJ6_indexOf_20 : decode cJ6_indexOf 20 = .ok (.iconst (-1), 1) := dk_2 (dk_at dksJ6_indexOf_0 20 rfl rfl)
theorem dJ6_indexOf_21 : decode cJ6_indexOf 21 = .ok (.ireturn, 1) := dk_172 (dk_at dksJ6_indexOf_0 21 rfl rfl)
theorem dJ6_indexOf_22 : decode cJ6_indexOf 22 = .ok (.iload_n 1, 1) := dk_27 (dk_at dksJ6_indexOf_0 22 rfl rfl)
theorem dJ6_indexOf_23 : decode cJ6_indexOf 23 = .ok (.ldc 227, 2) := dk_18 227 (dk_at dksJ6_indexOf_1 0 rfl rfl)
theorem dJ6_indexOf_25 : decode cJ6_indexOf 25 = .ok (.if_icmp .ge 11, 3) := dk_162 0 11 (dk_at dksJ6_indexOf_1 2 rfl rfl)
theorem dJ6_indexOf_28 : decode cJ6_indexOf 28 = .ok (.aload_n 0, 1) := dk_42 (dk_at dksJ6_indexOf_1 5 rfl rfl)
theorem dJ6_indexOf_29 : decode cJ6_indexOf 29 = .ok (.iload_n 1, 1) := dk_27 (dk_at dksJ6_indexOf_1 6 rfl rfl)
theorem dJ6_indexOf_30 : decode cJ6_indexOf 30 = .ok (.iload_n 2, 1) := dk_28 (dk_at dksJ6_indexOf_1 7 rfl rfl)
theorem dJ6_indexOf_31 : decode cJ6_indexOf 31 = .ok (.iload_n 3, 1) := dk_29 (dk_at dksJ6_indexOf_1 8 rfl rfl)
theorem dJ6_indexOf_32 : decode cJ6_indexOf 32 = .ok (.invokestatic 228, 3) := dk_184 0 228 (dk_at dksJ6_indexOf_1 9 rfl rfl)
theorem dJ6_indexOf_35 : decode cJ6_indexOf 35 = .ok (.ireturn, 1) := dk_172 (dk_at dksJ6_indexOf_1 12 rfl rfl)
theorem dJ6_indexOf_36 : decode cJ6_indexOf 36 = .ok (.aload_n 0, 1) := dk_42 (dk_at dksJ6_indexOf_1 13 rfl rfl)
theorem dJ6_indexOf_37 : decode cJ6_indexOf 37 = .ok (.iload_n 1, 1) := dk_27 (dk_at dksJ6_indexOf_1 14 rfl rfl)
theorem dJ6_indexOf_38 : decode cJ6_indexOf 38 = .ok (.iload_n 2, 1) := dk_28 (dk_at dksJ6_indexOf_1 15 rfl rfl)
theorem dJ6_indexOf_39 : decode cJ6_indexOf 39 = .ok (.iload_n 3, 1) := dk_29 (dk_at dksJ6_indexOf_1 16 rfl rfl)
theorem dJ6_indexOf_40 : decode cJ6_indexOf 40 = .ok (.invokestatic 232, 3) := dk_184 0 232 (dk_at dksJ6_indexOf_1 17 rfl rfl)
theorem dJ6_indexOf_43 : decode cJ6_indexOf 43 = .ok (.ireturn, 1) := dk_172 (dk_at dksJ6_indexOf_1 20 rfl rfl)
abbrev cJ6_indexOfChar : ByteArray := prog_77_method_47_code
def yJ6_indexOfChar : MethodName := ⟨RJ6, "indexOfChar", "([BIII)I"⟩
def dkwJ6_indexOfChar_0 : List UInt8 := [28, 29, 42, 184, 0, 96, 42, 27, 28, 29, 184, 0, 244, 172]
abbrev dktJ6_indexOfChar_0 : List UInt8 := dkwJ6_indexOfChar_0 ++ []
theorem dksJ6_indexOfChar_0 : cJ6_indexOfChar.data.toList.drop 0 = dktJ6_indexOfChar_0 := by decide +kernel
theorem dJ6_indexOfChar_0 : decode cJ6_indexOfChar 0 = .ok (.iload_n 2, 1) := dk_28 (dk_at dksJ6_indexOfChar_0 0 rfl rfl)
theorem dJ6_indexOfChar_1 : decode cJ6_indexOfChar 1 = .ok (.iload_n 3, 1) := dk_29 (dk_at dksJ6_indexOfChar_0 1 rfl rfl)
theorem dJ6_indexOfChar_2 : decode cJ6_indexOfChar 2 = .ok (.aload_n 0, 1) := dk_42 (dk_at dksJ6_indexOfChar_0 2 rfl rfl)
theorem dJ6_indexOfChar_3 : decode cJ6_indexOfChar 3 = .ok (.invokestatic 96, 3) := dk_184 0 96 (dk_at dksJ6_indexOfChar_0 3 rfl rfl)
theorem dJ6_indexOfChar_6 : decode cJ6_indexOfChar 6 = .ok (.aload_n 0, 1) := dk_42 (dk_at dksJ6_indexOfChar_0 6 rfl rfl)
theorem dJ6_indexOfChar_7 : decode cJ6_indexOfChar 7 = .ok (.iload_n 1, 1) := dk_27 (dk_at dksJ6_indexOfChar_0 7 rfl rfl)
theorem dJ6_indexOfChar_8 : decode cJ6_indexOfChar 8 = .ok (.iload_n 2, 1) := dk_28 (dk_at dksJ6_indexOfChar_0 8 rfl rfl)
theorem dJ6_indexOfChar_9 : decode cJ6_indexOfChar 9 = .ok (.iload_n 3, 1) := dk_29 (dk_at dksJ6_indexOfChar_0 9 rfl rfl)
theorem dJ6_indexOfChar_10 : decode cJ6_indexOfChar 10 = .ok (.invokestatic 244, 3) := dk_184 0 244 (dk_at dksJ6_indexOfChar_0 10 rfl rfl)
theorem dJ6_indexOfChar_13 : decode cJ6_indexOfChar 13 = .ok (.ireturn, 1) := dk_172 (dk_at dksJ6_indexOfChar_0 13 rfl rfl)
abbrev cJ6_checkBoundsBeginEnd : ByteArray := prog_77_method_93_code
def yJ6_checkBoundsBeginEnd : MethodName := ⟨RJ6, "checkBoundsBeginEnd", "(II[B)V"⟩
def dkwJ6_checkBoundsBeginEnd_0 : List UInt8 := [26, 27, 44, 184, 0, 48, 184, 0, 241, 177]
abbrev dktJ6_checkBoundsBeginEnd_0 : List UInt8 := dkwJ6_checkBoundsBeginEnd_0 ++ []
theorem dksJ6_checkBoundsBeginEnd_0 : cJ6_checkBoundsBeginEnd.data.toList.drop 0 = dktJ6_checkBoundsBeginEnd_0 := by decide +kernel
theorem dJ6_checkBoundsBeginEnd_0 : decode cJ6_checkBoundsBeginEnd 0 = .ok (.iload_n 0, 1) := dk_26 (dk_at dksJ6_checkBoundsBeginEnd_0 0 rfl rfl)
theorem dJ6_checkBoundsBeginEnd_1 : decode cJ6_checkBoundsBeginEnd 1 = .ok (.iload_n 1, 1) := dk_27 (dk_at dksJ6_checkBoundsBeginEnd_0 1 rfl rfl)
theorem dJ6_checkBoundsBeginEnd_2 : decode cJ6_checkBoundsBeginEnd 2 = .ok (.aload_n 2, 1) := dk_44 (dk_at dksJ6_checkBoundsBeginEnd_0 2 rfl rfl)
theorem dJ6_checkBoundsBeginEnd_3 : decode cJ6_checkBoundsBeginEnd 3 = .ok (.invokestatic 48, 3) := dk_184 0 48 (dk_at dksJ6_checkBoundsBeginEnd_0 3 rfl rfl)
theorem dJ6_checkBoundsBeginEnd_6 : decode cJ6_checkBoundsBeginEnd 6 = .ok (.invokestatic 241, 3) := dk_184 0 241 (dk_at dksJ6_checkBoundsBeginEnd_0 6 rfl rfl)
theorem dJ6_checkBoundsBeginEnd_9 : decode cJ6_checkBoundsBeginEnd 9 = .ok (.return_, 1) := dk_177 (dk_at dksJ6_checkBoundsBeginEnd_0 9 rfl rfl)
abbrev cJ6_indexOfCharUnsafe : ByteArray := prog_77_method_48_code
def yJ6_indexOfCharUnsafe : MethodName := ⟨RJ6, "indexOfCharUnsafe", "([BIII)I"⟩
def dkwJ6_indexOfCharUnsafe_1 : List UInt8 := [132, 4, 1, 167, 255, 234, 2, 172]
abbrev dktJ6_indexOfCharUnsafe_1 : List UInt8 := dkwJ6_indexOfCharUnsafe_1 ++ []
def dkwJ6_indexOfCharUnsafe_0 : List UInt8 := [28, 54, 4, 21, 4, 29, 162, 0, 22, 42, 21, 4, 184, 0, 71, 27, 160, 0, 6, 21, 4, 172]
abbrev dktJ6_indexOfCharUnsafe_0 : List UInt8 := dkwJ6_indexOfCharUnsafe_0 ++ dktJ6_indexOfCharUnsafe_1
theorem dksJ6_indexOfCharUnsafe_0 : cJ6_indexOfCharUnsafe.data.toList.drop 0 = dktJ6_indexOfCharUnsafe_0 := by decide +kernel
theorem dksJ6_indexOfCharUnsafe_1 : cJ6_indexOfCharUnsafe.data.toList.drop 22 = dktJ6_indexOfCharUnsafe_1 := dk_seg dksJ6_indexOfCharUnsafe_0 22 rfl rfl
theorem dJ6_indexOfCharUnsafe_0 : decode cJ6_indexOfCharUnsafe 0 = .ok (.iload_n 2, 1) := dk_28 (dk_at dksJ6_indexOfCharUnsafe_0 0 rfl rfl)
theorem dJ6_indexOfCharUnsafe_1 : decode cJ6_indexOfCharUnsafe 1 = .ok (.istore 4, 2) := dk_54 4 (dk_at dksJ6_indexOfCharUnsafe_0 1 rfl rfl)
theorem dJ6_indexOfCharUnsafe_3 : decode cJ6_indexOfCharUnsafe 3 = .ok (.iload 4, 2) := dk_21 4 (dk_at dksJ6_indexOfCharUnsafe_0 3 rfl rfl)
theorem dJ6_indexOfCharUnsafe_5 : decode cJ6_indexOfCharUnsafe 5 = .ok (.iload_n 3, 1) := dk_29 (dk_at dksJ6_indexOfCharUnsafe_0 5 rfl rfl)
theorem dJ6_indexOfCharUnsafe_6 : decode cJ6_indexOfCharUnsafe 6 = .ok (.if_icmp .ge 22, 3) := dk_162 0 22 (dk_at dksJ6_indexOfCharUnsafe_0 6 rfl rfl)
theorem dJ6_indexOfCharUnsafe_9 : decode cJ6_indexOfCharUnsafe 9 = .ok (.aload_n 0, 1) := dk_42 (dk_at dksJ6_indexOfCharUnsafe_0 9 rfl rfl)
theorem dJ6_indexOfCharUnsafe_10 : decode cJ6_indexOfCharUnsafe 10 = .ok (.iload 4, 2) := dk_21 4 (dk_at dksJ6_indexOfCharUnsafe_0 10 rfl rfl)
theorem dJ6_indexOfCharUnsafe_12 : decode cJ6_indexOfCharUnsafe 12 = .ok (.invokestatic 71, 3) := dk_184 0 71 (dk_at dksJ6_indexOfCharUnsafe_0 12 rfl rfl)
theorem dJ6_indexOfCharUnsafe_15 : decode cJ6_indexOfCharUnsafe 15 = .ok (.iload_n 1, 1) := dk_27 (dk_at dksJ6_indexOfCharUnsafe_0 15 rfl rfl)
theorem dJ6_indexOfCharUnsafe_16 : decode cJ6_indexOfCharUnsafe 16 = .ok (.if_icmp .ne 6, 3) := dk_160 0 6 (dk_at dksJ6_indexOfCharUnsafe_0 16 rfl rfl)
theorem dJ6_indexOfCharUnsafe_19 : decode cJ6_indexOfCharUnsafe 19 = .ok (.iload 4, 2) := dk_21 4 (dk_at dksJ6_indexOfCharUnsafe_0 19 rfl rfl)
theorem dJ6_indexOfCharUnsafe_21 : decode cJ6_indexOfCharUnsafe 21 = .ok (.ireturn, 1) := dk_172 (dk_at dksJ6_indexOfCharUnsafe_0 21 rfl rfl)
theorem dJ6_indexOfCharUnsafe_22 : decode cJ6_indexOfCharUnsafe 22 = .ok (.iinc 4 1, 3) := dk_132 4 1 (dk_at dksJ6_indexOfCharUnsafe_1 0 rfl rfl)
theorem dJ6_indexOfCharUnsafe_25 : decode cJ6_indexOfCharUnsafe 25 = .ok (.goto (-22), 3) := dk_167 255 234 (dk_at dksJ6_indexOfCharUnsafe_1 3 rfl rfl)
theorem dJ6_indexOfCharUnsafe_28 : decode cJ6_indexOfCharUnsafe 28 = .ok (.iconst (-1), 1) := dk_2 (dk_at dksJ6_indexOfCharUnsafe_1 6 rfl rfl)
theorem dJ6_indexOfCharUnsafe_29 : decode cJ6_indexOfCharUnsafe 29 = .ok (.ireturn, 1) := dk_172 (dk_at dksJ6_indexOfCharUnsafe_1 7 rfl rfl)
abbrev cJ6_indexOfSupplementary : ByteArray := prog_77_method_49_code
def yJ6_indexOfSupplementary : MethodName := ⟨RJ6, "indexOfSupplementary", "([BIII)I"⟩
def dkwJ6_indexOfSupplementary_3 : List UInt8 := [167, 255, 218, 2, 172]
abbrev dktJ6_indexOfSupplementary_3 : List UInt8 := dkwJ6_indexOfSupplementary_3 ++ []
def dkwJ6_indexOfSupplementary_2 : List UInt8 := [160, 0, 19, 42, 21, 6, 4, 96, 184, 0, 71, 21, 5, 160, 0, 6, 21, 6, 172, 132, 6, 1]
abbrev dktJ6_indexOfSupplementary_2 : List UInt8 := dkwJ6_indexOfSupplementary_2 ++ dktJ6_indexOfSupplementary_3
def dkwJ6_indexOfSupplementary_1 : List UInt8 := [184, 0, 96, 28, 54, 6, 21, 6, 29, 4, 100, 162, 0, 36, 42, 21, 6, 184, 0, 71, 21, 4]
abbrev dktJ6_indexOfSupplementary_1 : List UInt8 := dkwJ6_indexOfSupplementary_1 ++ dktJ6_indexOfSupplementary_2
def dkwJ6_indexOfSupplementary_0 : List UInt8 := [27, 184, 0, 164, 153, 0, 65, 27, 184, 0, 157, 54, 4, 27, 184, 0, 161, 54, 5, 28, 29, 42]
abbrev dktJ6_indexOfSupplementary_0 : List UInt8 := dkwJ6_indexOfSupplementary_0 ++ dktJ6_indexOfSupplementary_1
theorem dksJ6_indexOfSupplementary_0 : cJ6_indexOfSupplementary.data.toList.drop 0 = dktJ6_indexOfSupplementary_0 := by decide +kernel
theorem dksJ6_indexOfSupplementary_1 : cJ6_indexOfSupplementary.data.toList.drop 22 = dktJ6_indexOfSupplementary_1 := dk_seg dksJ6_indexOfSupplementary_0 22 rfl rfl
theorem dksJ6_indexOfSupplementary_2 : cJ6_indexOfSupplementary.data.toList.drop 44 = dktJ6_indexOfSupplementary_2 := dk_seg dksJ6_indexOfSupplementary_1 22 rfl rfl
theorem dksJ6_indexOfSupplementary_3 : cJ6_indexOfSupplementary.data.toList.drop 66 = dktJ6_indexOfSupplementary_3 := dk_seg dksJ6_indexOfSupplementary_2 22 rfl rfl
theorem dJ6_indexOfSupplementary_0 : decode cJ6_indexOfSupplementary 0 = .ok (.iload_n 1, 1) := dk_27 (dk_at dksJ6_indexOfSupplementary_0 0 rfl rfl)
theorem dJ6_indexOfSupplementary_1 : decode cJ6_indexOfSupplementary 1 = .ok (.invokestatic 164, 3) := dk_184 0 164 (dk_at dksJ6_indexOfSupplementary_0 1 rfl rfl)
theorem dJ6_indexOfSupplementary_4 : decode cJ6_indexOfSupplementary 4 = .ok (.ifCond .eq 65, 3) := dk_153 0 65 (dk_at dksJ6_indexOfSupplementary_0 4 rfl rfl)
theorem dJ6_indexOfSupplementary_7 : decode cJ6_indexOfSupplementary 7 = .ok (.iload_n 1, 1) := dk_27 (dk_at dksJ6_indexOfSupplementary_0 7 rfl rfl)
theorem dJ6_indexOfSupplementary_8 : decode cJ6_indexOfSupplementary 8 = .ok (.invokestatic 157, 3) := dk_184 0 157 (dk_at dksJ6_indexOfSupplementary_0 8 rfl rfl)
theorem dJ6_indexOfSupplementary_11 : decode cJ6_indexOfSupplementary 11 = .ok (.istore 4, 2) := dk_54 4 (dk_at dksJ6_indexOfSupplementary_0 11 rfl rfl)
theorem dJ6_indexOfSupplementary_13 : decode cJ6_indexOfSupplementary 13 = .ok (.iload_n 1, 1) := dk_27 (dk_at dksJ6_indexOfSupplementary_0 13 rfl rfl)
theorem dJ6_indexOfSupplementary_14 : decode cJ6_indexOfSupplementary 14 = .ok (.invokestatic 161, 3) := dk_184 0 161 (dk_at dksJ6_indexOfSupplementary_0 14 rfl rfl)
theorem dJ6_indexOfSupplementary_17 : decode cJ6_indexOfSupplementary 17 = .ok (.istore 5, 2) := dk_54 5 (dk_at dksJ6_indexOfSupplementary_0 17 rfl rfl)
theorem dJ6_indexOfSupplementary_19 : decode cJ6_indexOfSupplementary 19 = .ok (.iload_n 2, 1) := dk_28 (dk_at dksJ6_indexOfSupplementary_0 19 rfl rfl)
theorem dJ6_indexOfSupplementary_20 : decode cJ6_indexOfSupplementary 20 = .ok (.iload_n 3, 1) := dk_29 (dk_at dksJ6_indexOfSupplementary_0 20 rfl rfl)
theorem dJ6_indexOfSupplementary_21 : decode cJ6_indexOfSupplementary 21 = .ok (.aload_n 0, 1) := dk_42 (dk_at dksJ6_indexOfSupplementary_0 21 rfl rfl)
theorem dJ6_indexOfSupplementary_22 : decode cJ6_indexOfSupplementary 22 = .ok (.invokestatic 96, 3) := dk_184 0 96 (dk_at dksJ6_indexOfSupplementary_1 0 rfl rfl)
theorem dJ6_indexOfSupplementary_25 : decode cJ6_indexOfSupplementary 25 = .ok (.iload_n 2, 1) := dk_28 (dk_at dksJ6_indexOfSupplementary_1 3 rfl rfl)
theorem dJ6_indexOfSupplementary_26 : decode cJ6_indexOfSupplementary 26 = .ok (.istore 6, 2) := dk_54 6 (dk_at dksJ6_indexOfSupplementary_1 4 rfl rfl)
theorem dJ6_indexOfSupplementary_28 : decode cJ6_indexOfSupplementary 28 = .ok (.iload 6, 2) := dk_21 6 (dk_at dksJ6_indexOfSupplementary_1 6 rfl rfl)
theorem dJ6_indexOfSupplementary_30 : decode cJ6_indexOfSupplementary 30 = .ok (.iload_n 3, 1) := dk_29 (dk_at dksJ6_indexOfSupplementary_1 8 rfl rfl)
theorem dJ6_indexOfSupplementary_31 : decode cJ6_indexOfSupplementary 31 = .ok (.iconst 1, 1) := dk_4 (dk_at dksJ6_indexOfSupplementary_1 9 rfl rfl)
theorem dJ6_indexOfSupplementary_32 : decode cJ6_indexOfSupplementary 32 = .ok (.isub, 1) := dk_100 (dk_at dksJ6_indexOfSupplementary_1 10 rfl rfl)
theorem dJ6_indexOfSupplementary_33 : decode cJ6_indexOfSupplementary 33 = .ok (.if_icmp .ge 36, 3) := dk_162 0 36 (dk_at dksJ6_indexOfSupplementary_1 11 rfl rfl)
theorem dJ6_indexOfSupplementary_36 : decode cJ6_indexOfSupplementary 36 = .ok (.aload_n 0, 1) := dk_42 (dk_at dksJ6_indexOfSupplementary_1 14 rfl rfl)
theorem dJ6_indexOfSupplementary_37 : decode cJ6_indexOfSupplementary 37 = .ok (.iload 6, 2) := dk_21 6 (dk_at dksJ6_indexOfSupplementary_1 15 rfl rfl)
theorem dJ6_indexOfSupplementary_39 : decode cJ6_indexOfSupplementary 39 = .ok (.invokestatic 71, 3) := dk_184 0 71 (dk_at dksJ6_indexOfSupplementary_1 17 rfl rfl)
theorem dJ6_indexOfSupplementary_42 : decode cJ6_indexOfSupplementary 42 = .ok (.iload 4, 2) := dk_21 4 (dk_at dksJ6_indexOfSupplementary_1 20 rfl rfl)
theorem dJ6_indexOfSupplementary_44 : decode cJ6_indexOfSupplementary 44 = .ok (.if_icmp .ne 19, 3) := dk_160 0 19 (dk_at dksJ6_indexOfSupplementary_2 0 rfl rfl)
theorem dJ6_indexOfSupplementary_47 : decode cJ6_indexOfSupplementary 47 = .ok (.aload_n 0, 1) := dk_42 (dk_at dksJ6_indexOfSupplementary_2 3 rfl rfl)
theorem dJ6_indexOfSupplementary_48 : decode cJ6_indexOfSupplementary 48 = .ok (.iload 6, 2) := dk_21 6 (dk_at dksJ6_indexOfSupplementary_2 4 rfl rfl)
theorem dJ6_indexOfSupplementary_50 : decode cJ6_indexOfSupplementary 50 = .ok (.iconst 1, 1) := dk_4 (dk_at dksJ6_indexOfSupplementary_2 6 rfl rfl)
theorem dJ6_indexOfSupplementary_51 : decode cJ6_indexOfSupplementary 51 = .ok (.iadd, 1) := dk_96 (dk_at dksJ6_indexOfSupplementary_2 7 rfl rfl)
theorem dJ6_indexOfSupplementary_52 : decode cJ6_indexOfSupplementary 52 = .ok (.invokestatic 71, 3) := dk_184 0 71 (dk_at dksJ6_indexOfSupplementary_2 8 rfl rfl)
theorem dJ6_indexOfSupplementary_55 : decode cJ6_indexOfSupplementary 55 = .ok (.iload 5, 2) := dk_21 5 (dk_at dksJ6_indexOfSupplementary_2 11 rfl rfl)
theorem dJ6_indexOfSupplementary_57 : decode cJ6_indexOfSupplementary 57 = .ok (.if_icmp .ne 6, 3) := dk_160 0 6 (dk_at dksJ6_indexOfSupplementary_2 13 rfl rfl)
theorem dJ6_indexOfSupplementary_60 : decode cJ6_indexOfSupplementary 60 = .ok (.iload 6, 2) := dk_21 6 (dk_at dksJ6_indexOfSupplementary_2 16 rfl rfl)
theorem dJ6_indexOfSupplementary_62 : decode cJ6_indexOfSupplementary 62 = .ok (.ireturn, 1) := dk_172 (dk_at dksJ6_indexOfSupplementary_2 18 rfl rfl)
theorem dJ6_indexOfSupplementary_63 : decode cJ6_indexOfSupplementary 63 = .ok (.iinc 6 1, 3) := dk_132 6 1 (dk_at dksJ6_indexOfSupplementary_2 19 rfl rfl)
theorem dJ6_indexOfSupplementary_66 : decode cJ6_indexOfSupplementary 66 = .ok (.goto (-38), 3) := dk_167 255 218 (dk_at dksJ6_indexOfSupplementary_3 0 rfl rfl)
theorem dJ6_indexOfSupplementary_69 : decode cJ6_indexOfSupplementary 69 = .ok (.iconst (-1), 1) := dk_2 (dk_at dksJ6_indexOfSupplementary_3 3 rfl rfl)
theorem dJ6_indexOfSupplementary_70 : decode cJ6_indexOfSupplementary 70 = .ok (.ireturn, 1) := dk_172 (dk_at dksJ6_indexOfSupplementary_3 4 rfl rfl)
theorem q280 : (Jvm.Cond.initialized "java/lang/StringUTF16") ∈ lw_all := lw_g (lw_at lw_m1 20 rfl) rfl
theorem q992 : (Jvm.Cond.static ({ cls := "java/lang/StringUTF16", name := "charAt", desc := "([BI)C" } : Jvm.MethodName)) ∈ lw_all := lw_g (lw_at lw_m4 12 rfl) rfl
theorem q993 : (Jvm.Cond.code ({ cls := "java/lang/StringUTF16", name := "charAt", desc := "([BI)C" } : Jvm.MethodName) prog_77_method_83_code (2 : Nat) (Option.some Jvm.ClassFile.FieldType.char)) ∈ lw_all := lw_g (lw_at lw_m4 13 rfl) rfl
theorem q994 : (Jvm.Cond.methodLink "java/lang/StringUTF16" (67 : Nat) ({ cls := "java/lang/StringUTF16", name := "checkIndex", desc := "(I[B)V" } : Jvm.MethodName)) ∈ lw_all := lw_g (lw_at lw_m4 14 rfl) rfl
theorem q995 : (Jvm.Cond.static ({ cls := "java/lang/StringUTF16", name := "checkIndex", desc := "(I[B)V" } : Jvm.MethodName)) ∈ lw_all := lw_g (lw_at lw_m4 15 rfl) rfl
theorem q996 : (Jvm.Cond.code ({ cls := "java/lang/StringUTF16", name := "checkIndex", desc := "(I[B)V" } : Jvm.MethodName) prog_77_method_91_code (2 : Nat) (Option.none : Option Jvm.ClassFile.FieldType)) ∈ lw_all := lw_g (lw_at lw_m4 16 rfl) rfl
theorem q997 : (Jvm.Cond.methodLink "java/lang/StringUTF16" (48 : Nat) ({ cls := "java/lang/StringUTF16", name := "length", desc := "([B)I" } : Jvm.MethodName)) ∈ lw_all := lw_g (lw_at lw_m4 17 rfl) rfl
theorem q998 : (Jvm.Cond.static ({ cls := "java/lang/StringUTF16", name := "length", desc := "([B)I" } : Jvm.MethodName)) ∈ lw_all := lw_g (lw_at lw_m4 18 rfl) rfl
theorem q999 : (Jvm.Cond.code ({ cls := "java/lang/StringUTF16", name := "length", desc := "([B)I" } : Jvm.MethodName) prog_77_method_6_code (1 : Nat) (Option.some Jvm.ClassFile.FieldType.int)) ∈ lw_all := lw_g (lw_at lw_m4 19 rfl) rfl
theorem q1000 : (Jvm.Cond.methodLink "java/lang/StringUTF16" (414 : Nat) ({ cls := "java/lang/String", name := "checkIndex", desc := "(II)V" } : Jvm.MethodName)) ∈ lw_all := lw_g (lw_at lw_m4 20 rfl) rfl
theorem q1001 : (Jvm.Cond.methodLink "java/lang/StringUTF16" (71 : Nat) ({ cls := "java/lang/StringUTF16", name := "getChar", desc := "([BI)C" } : Jvm.MethodName)) ∈ lw_all := lw_g (lw_at lw_m4 21 rfl) rfl
theorem q1002 : (Jvm.Cond.static ({ cls := "java/lang/StringUTF16", name := "getChar", desc := "([BI)C" } : Jvm.MethodName)) ∈ lw_all := lw_g (lw_at lw_m4 22 rfl) rfl
theorem q1003 : (Jvm.Cond.code ({ cls := "java/lang/StringUTF16", name := "getChar", desc := "([BI)C" } : Jvm.MethodName) prog_77_method_5_code (2 : Nat) (Option.some Jvm.ClassFile.FieldType.char)) ∈ lw_all := lw_g (lw_at lw_m4 23 rfl) rfl
theorem q1004 : (Jvm.Cond.fieldLink "java/lang/StringUTF16" (44 : Nat) "java/lang/StringUTF16" "$assertionsDisabled" "Z") ∈ lw_all := lw_g (lw_at lw_m4 24 rfl) rfl
theorem q1005 : (Jvm.Cond.laysStatic "java/lang/StringUTF16" "$assertionsDisabled" "Z") ∈ lw_tbl := lw_at lw_m4 25 rfl
theorem q1006 : (Jvm.Cond.fieldLink "java/lang/StringUTF16" (59 : Nat) "java/lang/StringUTF16" "HI_BYTE_SHIFT" "I") ∈ lw_all := lw_g (lw_at lw_m4 26 rfl) rfl
theorem q1007 : (Jvm.Cond.laysStatic "java/lang/StringUTF16" "HI_BYTE_SHIFT" "I") ∈ lw_tbl := lw_at lw_m4 27 rfl
theorem q1008 : (Jvm.Cond.fieldLink "java/lang/StringUTF16" (63 : Nat) "java/lang/StringUTF16" "LO_BYTE_SHIFT" "I") ∈ lw_all := lw_g (lw_at lw_m4 28 rfl) rfl
theorem q1009 : (Jvm.Cond.laysStatic "java/lang/StringUTF16" "LO_BYTE_SHIFT" "I") ∈ lw_tbl := lw_at lw_m4 29 rfl
theorem q1969 : (Jvm.Cond.static ({ cls := "java/lang/StringUTF16", name := "newBytesFor", desc := "(I)[B" } : Jvm.MethodName)) ∈ lw_all := lw_g (lw_at lw_m8 29 rfl) rfl
theorem q1970 : (Jvm.Cond.code ({ cls := "java/lang/StringUTF16", name := "newBytesFor", desc := "(I)[B" } : Jvm.MethodName) prog_77_method_2_code (1 : Nat) (Option.some (Jvm.ClassFile.FieldType.array Jvm.ClassFile.FieldType.byte))) ∈ lw_all := lw_g (lw_at lw_m8 30 rfl) rfl
theorem q1971 : (Jvm.Cond.methodLink "java/lang/StringUTF16" (11 : Nat) ({ cls := "java/lang/StringUTF16", name := "newBytesLength", desc := "(I)I" } : Jvm.MethodName)) ∈ lw_all := lw_g (lw_at lw_m8 31 rfl) rfl
theorem q1972 : (Jvm.Cond.static ({ cls := "java/lang/StringUTF16", name := "newBytesLength", desc := "(I)I" } : Jvm.MethodName)) ∈ lw_all := lw_g (lw_at lw_m8 32 rfl) rfl
theorem q1973 : (Jvm.Cond.code ({ cls := "java/lang/StringUTF16", name := "newBytesLength", desc := "(I)I" } : Jvm.MethodName) prog_77_method_3_code (1 : Nat) (Option.some Jvm.ClassFile.FieldType.int)) ∈ lw_all := lw_g (lw_at lw_m8 33 rfl) rfl
theorem q1974 : (Jvm.Cond.classLink "java/lang/StringUTF16" (17 : Nat) "java/lang/NegativeArraySizeException") ∈ lw_all := lw_g (lw_at lw_m8 34 rfl) rfl
theorem q1983 : (Jvm.Cond.methodLink "java/lang/StringUTF16" (19 : Nat) ({ cls := "java/lang/NegativeArraySizeException", name := "<init>", desc := "()V" } : Jvm.MethodName)) ∈ lw_all := lw_g (lw_at lw_m8 43 rfl) rfl
theorem q1989 : (Jvm.Cond.constant "java/lang/StringUTF16" (20 : Nat) (1073741823 : Int32)) ∈ lw_all := lw_g (lw_at lw_m8 49 rfl) rfl
theorem q2061 : (Jvm.Cond.static ({ cls := "java/lang/StringUTF16", name := "inflate", desc := "([BI[BII)V" } : Jvm.MethodName)) ∈ lw_all := lw_g (lw_at lw_m8 121 rfl) rfl
theorem q2062 : (Jvm.Cond.code ({ cls := "java/lang/StringUTF16", name := "inflate", desc := "([BI[BII)V" } : Jvm.MethodName) prog_77_method_86_code (6 : Nat) (Option.none : Option Jvm.ClassFile.FieldType)) ∈ lw_all := lw_g (lw_at lw_m8 122 rfl) rfl
theorem q2063 : (Jvm.Cond.methodLink "java/lang/StringUTF16" (173 : Nat) ({ cls := "java/lang/StringUTF16", name := "checkBoundsOffCount", desc := "(II[B)V" } : Jvm.MethodName)) ∈ lw_all := lw_g (lw_at lw_m8 123 rfl) rfl
theorem q2064 : (Jvm.Cond.static ({ cls := "java/lang/StringUTF16", name := "checkBoundsOffCount", desc := "(II[B)V" } : Jvm.MethodName)) ∈ lw_all := lw_g (lw_at lw_m8 124 rfl) rfl
theorem q2065 : (Jvm.Cond.code ({ cls := "java/lang/StringUTF16", name := "checkBoundsOffCount", desc := "(II[B)V" } : Jvm.MethodName) prog_77_method_94_code (3 : Nat) (Option.none : Option Jvm.ClassFile.FieldType)) ∈ lw_all := lw_g (lw_at lw_m8 125 rfl) rfl
theorem q2066 : (Jvm.Cond.methodLink "java/lang/StringUTF16" (419 : Nat) ({ cls := "java/lang/String", name := "checkBoundsOffCount", desc := "(III)I" } : Jvm.MethodName)) ∈ lw_all := lw_g (lw_at lw_m8 126 rfl) rfl
theorem q2072 : (Jvm.Cond.methodLink "java/lang/StringUTF16" (111 : Nat) ({ cls := "java/lang/StringUTF16", name := "putChar", desc := "([BII)V" } : Jvm.MethodName)) ∈ lw_all := lw_g (lw_at lw_m8 132 rfl) rfl
theorem q2073 : (Jvm.Cond.static ({ cls := "java/lang/StringUTF16", name := "putChar", desc := "([BII)V" } : Jvm.MethodName)) ∈ lw_all := lw_g (lw_at lw_m8 133 rfl) rfl
theorem q2074 : (Jvm.Cond.code ({ cls := "java/lang/StringUTF16", name := "putChar", desc := "([BII)V" } : Jvm.MethodName) prog_77_method_4_code (3 : Nat) (Option.none : Option Jvm.ClassFile.FieldType)) ∈ lw_all := lw_g (lw_at lw_m8 134 rfl) rfl
theorem q2076 : (Jvm.Cond.static ({ cls := "java/lang/StringUTF16", name := "putCharSB", desc := "([BII)V" } : Jvm.MethodName)) ∈ lw_all := lw_g (lw_at lw_m8 136 rfl) rfl
theorem q2077 : (Jvm.Cond.code ({ cls := "java/lang/StringUTF16", name := "putCharSB", desc := "([BII)V" } : Jvm.MethodName) prog_77_method_71_code (3 : Nat) (Option.none : Option Jvm.ClassFile.FieldType)) ∈ lw_all := lw_g (lw_at lw_m8 137 rfl) rfl
theorem q2114 : (Jvm.Cond.static ({ cls := "java/lang/StringUTF16", name := "compress", desc := "([BII)[B" } : Jvm.MethodName)) ∈ lw_all := lw_g (lw_at lw_m8 174 rfl) rfl
theorem q2115 : (Jvm.Cond.code ({ cls := "java/lang/StringUTF16", name := "compress", desc := "([BII)[B" } : Jvm.MethodName) prog_77_method_17_code (6 : Nat) (Option.some (Jvm.ClassFile.FieldType.array Jvm.ClassFile.FieldType.byte))) ∈ lw_all := lw_g (lw_at lw_m8 175 rfl) rfl
theorem q2116 : (Jvm.Cond.methodLink "java/lang/StringUTF16" (123 : Nat) ({ cls := "java/lang/StringUTF16", name := "compress", desc := "([BI[BII)I" } : Jvm.MethodName)) ∈ lw_all := lw_g (lw_at lw_m8 176 rfl) rfl
theorem q2117 : (Jvm.Cond.static ({ cls := "java/lang/StringUTF16", name := "compress", desc := "([BI[BII)I" } : Jvm.MethodName)) ∈ lw_all := lw_g (lw_at lw_m8 177 rfl) rfl
theorem q2118 : (Jvm.Cond.code ({ cls := "java/lang/StringUTF16", name := "compress", desc := "([BI[BII)I" } : Jvm.MethodName) prog_77_method_22_code (7 : Nat) (Option.some Jvm.ClassFile.FieldType.int)) ∈ lw_all := lw_g (lw_at lw_m8 178 rfl) rfl
theorem q2119 : (Jvm.Cond.methodLink "java/lang/StringUTF16" (126 : Nat) ({ cls := "java/util/Arrays", name := "copyOfRange", desc := "([BII)[B" } : Jvm.MethodName)) ∈ lw_all := lw_g (lw_at lw_m8 179 rfl) rfl
theorem q2121 : (Jvm.Cond.static ({ cls := "java/lang/StringUTF16", name := "coderFromArrayLen", desc := "([BI)B" } : Jvm.MethodName)) ∈ lw_all := lw_g (lw_at lw_m8 181 rfl) rfl
theorem q2122 : (Jvm.Cond.code ({ cls := "java/lang/StringUTF16", name := "coderFromArrayLen", desc := "([BI)B" } : Jvm.MethodName) prog_77_method_15_code (2 : Nat) (Option.some Jvm.ClassFile.FieldType.byte)) ∈ lw_all := lw_g (lw_at lw_m8 182 rfl) rfl
theorem q3997 : (Jvm.Cond.static ({ cls := "java/lang/StringUTF16", name := "indexOf", desc := "([BIII)I" } : Jvm.MethodName)) ∈ lw_all := lw_g (lw_at lw_m16 137 rfl) rfl
theorem q3998 : (Jvm.Cond.code ({ cls := "java/lang/StringUTF16", name := "indexOf", desc := "([BIII)I" } : Jvm.MethodName) prog_77_method_40_code (4 : Nat) (Option.some Jvm.ClassFile.FieldType.int)) ∈ lw_all := lw_g (lw_at lw_m16 138 rfl) rfl
theorem q3999 : (Jvm.Cond.methodLink "java/lang/StringUTF16" (224 : Nat) ({ cls := "java/lang/Math", name := "max", desc := "(II)I" } : Jvm.MethodName)) ∈ lw_all := lw_g (lw_at lw_m16 139 rfl) rfl
theorem q4000 : (Jvm.Cond.methodLink "java/lang/StringUTF16" (183 : Nat) ({ cls := "java/lang/Math", name := "min", desc := "(II)I" } : Jvm.MethodName)) ∈ lw_all := lw_g (lw_at lw_m16 140 rfl) rfl
theorem q4001 : (Jvm.Cond.constant "java/lang/StringUTF16" (227 : Nat) (65536 : Int32)) ∈ lw_all := lw_g (lw_at lw_m16 141 rfl) rfl
theorem q4002 : (Jvm.Cond.methodLink "java/lang/StringUTF16" (228 : Nat) ({ cls := "java/lang/StringUTF16", name := "indexOfChar", desc := "([BIII)I" } : Jvm.MethodName)) ∈ lw_all := lw_g (lw_at lw_m16 142 rfl) rfl
theorem q4003 : (Jvm.Cond.static ({ cls := "java/lang/StringUTF16", name := "indexOfChar", desc := "([BIII)I" } : Jvm.MethodName)) ∈ lw_all := lw_g (lw_at lw_m16 143 rfl) rfl
theorem q4004 : (Jvm.Cond.code ({ cls := "java/lang/StringUTF16", name := "indexOfChar", desc := "([BIII)I" } : Jvm.MethodName) prog_77_method_47_code (4 : Nat) (Option.some Jvm.ClassFile.FieldType.int)) ∈ lw_all := lw_g (lw_at lw_m16 144 rfl) rfl
theorem q4005 : (Jvm.Cond.methodLink "java/lang/StringUTF16" (96 : Nat) ({ cls := "java/lang/StringUTF16", name := "checkBoundsBeginEnd", desc := "(II[B)V" } : Jvm.MethodName)) ∈ lw_all := lw_g (lw_at lw_m16 145 rfl) rfl
theorem q4006 : (Jvm.Cond.static ({ cls := "java/lang/StringUTF16", name := "checkBoundsBeginEnd", desc := "(II[B)V" } : Jvm.MethodName)) ∈ lw_all := lw_g (lw_at lw_m16 146 rfl) rfl
theorem q4007 : (Jvm.Cond.code ({ cls := "java/lang/StringUTF16", name := "checkBoundsBeginEnd", desc := "(II[B)V" } : Jvm.MethodName) prog_77_method_93_code (3 : Nat) (Option.none : Option Jvm.ClassFile.FieldType)) ∈ lw_all := lw_g (lw_at lw_m16 147 rfl) rfl
theorem q4008 : (Jvm.Cond.methodLink "java/lang/StringUTF16" (241 : Nat) ({ cls := "java/lang/String", name := "checkBoundsBeginEnd", desc := "(III)V" } : Jvm.MethodName)) ∈ lw_all := lw_g (lw_at lw_m16 148 rfl) rfl
theorem q4014 : (Jvm.Cond.methodLink "java/lang/StringUTF16" (244 : Nat) ({ cls := "java/lang/StringUTF16", name := "indexOfCharUnsafe", desc := "([BIII)I" } : Jvm.MethodName)) ∈ lw_all := lw_g (lw_at lw_m16 154 rfl) rfl
theorem q4015 : (Jvm.Cond.static ({ cls := "java/lang/StringUTF16", name := "indexOfCharUnsafe", desc := "([BIII)I" } : Jvm.MethodName)) ∈ lw_all := lw_g (lw_at lw_m16 155 rfl) rfl
theorem q4016 : (Jvm.Cond.code ({ cls := "java/lang/StringUTF16", name := "indexOfCharUnsafe", desc := "([BIII)I" } : Jvm.MethodName) prog_77_method_48_code (5 : Nat) (Option.some Jvm.ClassFile.FieldType.int)) ∈ lw_all := lw_g (lw_at lw_m16 156 rfl) rfl
theorem q4017 : (Jvm.Cond.methodLink "java/lang/StringUTF16" (232 : Nat) ({ cls := "java/lang/StringUTF16", name := "indexOfSupplementary", desc := "([BIII)I" } : Jvm.MethodName)) ∈ lw_all := lw_g (lw_at lw_m16 157 rfl) rfl
theorem q4018 : (Jvm.Cond.static ({ cls := "java/lang/StringUTF16", name := "indexOfSupplementary", desc := "([BIII)I" } : Jvm.MethodName)) ∈ lw_all := lw_g (lw_at lw_m16 158 rfl) rfl
theorem q4019 : (Jvm.Cond.code ({ cls := "java/lang/StringUTF16", name := "indexOfSupplementary", desc := "([BIII)I" } : Jvm.MethodName) prog_77_method_49_code (7 : Nat) (Option.some Jvm.ClassFile.FieldType.int)) ∈ lw_all := lw_g (lw_at lw_m16 159 rfl) rfl
theorem q4020 : (Jvm.Cond.methodLink "java/lang/StringUTF16" (164 : Nat) ({ cls := "java/lang/Character", name := "isValidCodePoint", desc := "(I)Z" } : Jvm.MethodName)) ∈ lw_all := lw_g (lw_at lw_m16 160 rfl) rfl
theorem q4023 : (Jvm.Cond.methodLink "java/lang/StringUTF16" (157 : Nat) ({ cls := "java/lang/Character", name := "highSurrogate", desc := "(I)C" } : Jvm.MethodName)) ∈ lw_all := lw_g (lw_at lw_m16 163 rfl) rfl
theorem q4027 : (Jvm.Cond.methodLink "java/lang/StringUTF16" (161 : Nat) ({ cls := "java/lang/Character", name := "lowSurrogate", desc := "(I)C" } : Jvm.MethodName)) ∈ lw_all := lw_g (lw_at lw_m16 167 rfl) rfl
/-! java/lang/ArithmeticException -/
set_option maxRecDepth 100000
def RJ7 : String := "java/lang/ArithmeticException"
def TJ7 : u_T := fun k => match k with
  | 0 => ("java/lang/Throwable", "backtrace", "Ljava/lang/Object;", false)
  | 1 => ("java/lang/Throwable", "detailMessage", "Ljava/lang/String;", false)
  | 2 => ("java/lang/Throwable", "cause", "Ljava/lang/Throwable;", false)
  | 3 => ("java/lang/Throwable", "stackTrace", "[Ljava/lang/StackTraceElement;", false)
  | 4 => ("java/lang/Throwable", "depth", "I", false)
  | _ => ("java/lang/Throwable", "suppressedExceptions", "Ljava/util/List;", false)
def tyJ7 : Nat → FieldType := fun k => match k with
  | 0 => .object "java/lang/Object"
  | 1 => .object "java/lang/String"
  | 2 => .object "java/lang/Throwable"
  | 3 => .array (.object "java/lang/StackTraceElement")
  | 4 => .int
  | _ => .object "java/util/List"
abbrev wsJ70 : List Cond := u_ws RJ7 TJ7 6
theorem nmJ7 : ∀ a, a < 6 → ∀ b, b < 6 → a ≠ b → (TJ7 a).2.1 ≠ (TJ7 b).2.1 := by decide +kernel
theorem tyJ7_ok : ∀ k, k < 6 → parseFieldDescriptor (TJ7 k).2.2.1 = some (tyJ7 k) := by decide +kernel
abbrev cJ7_init : ByteArray := prog_51_method_2_code
def yJ7_init : MethodName := ⟨RJ7, "<init>", "(Ljava/lang/String;)V"⟩
def dkwJ7_init_0 : List UInt8 := [42, 43, 183, 0, 7, 177]
abbrev dktJ7_init_0 : List UInt8 := dkwJ7_init_0 ++ []
theorem dksJ7_init_0 : cJ7_init.data.toList.drop 0 = dktJ7_init_0 := by decide +kernel
theorem dJ7_init_0 : decode cJ7_init 0 = .ok (.aload_n 0, 1) := dk_42 (dk_at dksJ7_init_0 0 rfl rfl)
theorem dJ7_init_1 : decode cJ7_init 1 = .ok (.aload_n 1, 1) := dk_43 (dk_at dksJ7_init_0 1 rfl rfl)
theorem dJ7_init_2 : decode cJ7_init 2 = .ok (.invokespecial 7, 3) := dk_183 0 7 (dk_at dksJ7_init_0 2 rfl rfl)
theorem dJ7_init_5 : decode cJ7_init 5 = .ok (.return_, 1) := dk_177 (dk_at dksJ7_init_0 5 rfl rfl)
theorem q282 : (Jvm.Cond.initialized "java/lang/ArithmeticException") ∈ lw_all := lw_g (lw_at lw_m1 22 rfl) rfl
theorem q622 : (Jvm.Cond.selects "java/lang/ArithmeticException" ({ cls := "java/lang/Throwable", name := "fillInStackTrace", desc := "()Ljava/lang/Throwable;" } : Jvm.MethodName) ({ cls := "java/lang/Throwable", name := "fillInStackTrace", desc := "()Ljava/lang/Throwable;" } : Jvm.MethodName)) ∈ lw_all := lw_g (lw_at lw_m2 122 rfl) rfl
theorem q1225 : (Jvm.Cond.instantiable "java/lang/ArithmeticException" (6 : Nat)) ∈ lw_all := lw_g (lw_at lw_m5 5 rfl) rfl
theorem q1226 : (Jvm.Cond.instanceMethod ({ cls := "java/lang/ArithmeticException", name := "<init>", desc := "(Ljava/lang/String;)V" } : Jvm.MethodName)) ∈ lw_all := lw_g (lw_at lw_m5 6 rfl) rfl
theorem q1227 : (Jvm.Cond.code ({ cls := "java/lang/ArithmeticException", name := "<init>", desc := "(Ljava/lang/String;)V" } : Jvm.MethodName) prog_51_method_2_code (2 : Nat) (Option.none : Option Jvm.ClassFile.FieldType)) ∈ lw_all := lw_g (lw_at lw_m5 7 rfl) rfl
theorem q1228 : (Jvm.Cond.methodLink "java/lang/ArithmeticException" (7 : Nat) ({ cls := "java/lang/RuntimeException", name := "<init>", desc := "(Ljava/lang/String;)V" } : Jvm.MethodName)) ∈ lw_all := lw_g (lw_at lw_m5 8 rfl) rfl
theorem q1237 : (Jvm.Cond.lays "java/lang/ArithmeticException" "java/lang/Throwable" "backtrace" "Ljava/lang/Object;") ∈ lw_all := lw_g (lw_at lw_m5 17 rfl) rfl
theorem q1238 : (Jvm.Cond.lays "java/lang/ArithmeticException" "java/lang/Throwable" "detailMessage" "Ljava/lang/String;") ∈ lw_all := lw_g (lw_at lw_m5 18 rfl) rfl
theorem q1239 : (Jvm.Cond.lays "java/lang/ArithmeticException" "java/lang/Throwable" "cause" "Ljava/lang/Throwable;") ∈ lw_all := lw_g (lw_at lw_m5 19 rfl) rfl
theorem q1240 : (Jvm.Cond.lays "java/lang/ArithmeticException" "java/lang/Throwable" "stackTrace" "[Ljava/lang/StackTraceElement;") ∈ lw_all := lw_g (lw_at lw_m5 20 rfl) rfl
theorem q1241 : (Jvm.Cond.lays "java/lang/ArithmeticException" "java/lang/Throwable" "depth" "I") ∈ lw_all := lw_g (lw_at lw_m5 21 rfl) rfl
theorem q1242 : (Jvm.Cond.lays "java/lang/ArithmeticException" "java/lang/Throwable" "suppressedExceptions" "Ljava/util/List;") ∈ lw_all := lw_g (lw_at lw_m5 22 rfl) rfl
theorem q1243 : (Jvm.Cond.superclass "java/lang/ArithmeticException" "java/lang/RuntimeException") ∈ lw_all := lw_g (lw_at lw_m5 23 rfl) rfl
theorem q1244 : (Jvm.Cond.castable "java/lang/ArithmeticException" "java/lang/ArithmeticException") ∈ lw_tbl := lw_at lw_m5 24 rfl
theorem q1245 : (Jvm.Cond.selects "java/lang/ArithmeticException" ({ cls := "java/lang/Throwable", name := "fillInStackTrace", desc := "(I)Ljava/lang/Throwable;" } : Jvm.MethodName) ({ cls := "java/lang/Throwable", name := "fillInStackTrace", desc := "(I)Ljava/lang/Throwable;" } : Jvm.MethodName)) ∈ lw_all := lw_g (lw_at lw_m5 25 rfl) rfl
theorem q4822 : (Jvm.Cond.castable "java/lang/ArithmeticException" "java/lang/Object") ∈ lw_tbl := lw_at lw_m20 2 rfl
theorem in_J7 : ∀ w ∈ wsJ70, w ∈ lw_all := lw_in wsJ70 [1237, 1238, 1239, 1240, 1241, 1242] (by decide +kernel) (by decide +kernel)
/-! java/lang/IndexOutOfBoundsException -/
set_option maxRecDepth 100000
def RJ8 : String := "java/lang/IndexOutOfBoundsException"
def TJ8 : u_T := fun k => match k with
  | 0 => ("java/lang/Throwable", "cause", "Ljava/lang/Throwable;", false)
  | 1 => ("java/lang/Throwable", "stackTrace", "[Ljava/lang/StackTraceElement;", false)
  | 2 => ("java/lang/Throwable", "suppressedExceptions", "Ljava/util/List;", false)
  | 3 => ("java/lang/Throwable", "detailMessage", "Ljava/lang/String;", false)
  | 4 => ("java/lang/Throwable", "backtrace", "Ljava/lang/Object;", false)
  | _ => ("java/lang/Throwable", "depth", "I", false)
def tyJ8 : Nat → FieldType := fun k => match k with
  | 0 => .object "java/lang/Throwable"
  | 1 => .array (.object "java/lang/StackTraceElement")
  | 2 => .object "java/util/List"
  | 3 => .object "java/lang/String"
  | 4 => .object "java/lang/Object"
  | _ => .int
abbrev wsJ80 : List Cond := u_ws RJ8 TJ8 6
theorem nmJ8 : ∀ a, a < 6 → ∀ b, b < 6 → a ≠ b → (TJ8 a).2.1 ≠ (TJ8 b).2.1 := by decide +kernel
theorem tyJ8_ok : ∀ k, k < 6 → parseFieldDescriptor (TJ8 k).2.2.1 = some (tyJ8 k) := by decide +kernel
abbrev cJ8_init : ByteArray := prog_65_method_2_code
def yJ8_init : MethodName := ⟨RJ8, "<init>", "(Ljava/lang/String;)V"⟩
def dkwJ8_init_0 : List UInt8 := [42, 43, 183, 0, 7, 177]
abbrev dktJ8_init_0 : List UInt8 := dkwJ8_init_0 ++ []
theorem dksJ8_init_0 : cJ8_init.data.toList.drop 0 = dktJ8_init_0 := by decide +kernel
theorem dJ8_init_0 : decode cJ8_init 0 = .ok (.aload_n 0, 1) := dk_42 (dk_at dksJ8_init_0 0 rfl rfl)
theorem dJ8_init_1 : decode cJ8_init 1 = .ok (.aload_n 1, 1) := dk_43 (dk_at dksJ8_init_0 1 rfl rfl)
theorem dJ8_init_2 : decode cJ8_init 2 = .ok (.invokespecial 7, 3) := dk_183 0 7 (dk_at dksJ8_init_0 2 rfl rfl)
theorem dJ8_init_5 : decode cJ8_init 5 = .ok (.return_, 1) := dk_177 (dk_at dksJ8_init_0 5 rfl rfl)
abbrev cJ8_init_2 : ByteArray := prog_65_method_1_code
def yJ8_init_2 : MethodName := ⟨RJ8, "<init>", "()V"⟩
theorem dJ8_init_2_0 : decode cJ8_init_2 0 = .ok (.aload_n 0, 1) := by decide +kernel
theorem dJ8_init_2_1 : decode cJ8_init_2 1 = .ok (.invokespecial 1, 3) := by decide +kernel
theorem dJ8_init_2_4 : decode cJ8_init_2 4 = .ok (.return_, 1) := by decide +kernel
theorem q283 : (Jvm.Cond.initialized "java/lang/IndexOutOfBoundsException") ∈ lw_all := lw_g (lw_at lw_m1 23 rfl) rfl
theorem q627 : (Jvm.Cond.selects "java/lang/IndexOutOfBoundsException" ({ cls := "java/lang/Throwable", name := "fillInStackTrace", desc := "()Ljava/lang/Throwable;" } : Jvm.MethodName) ({ cls := "java/lang/Throwable", name := "fillInStackTrace", desc := "()Ljava/lang/Throwable;" } : Jvm.MethodName)) ∈ lw_all := lw_g (lw_at lw_m2 127 rfl) rfl
theorem q1281 : (Jvm.Cond.instanceMethod ({ cls := "java/lang/IndexOutOfBoundsException", name := "<init>", desc := "(Ljava/lang/String;)V" } : Jvm.MethodName)) ∈ lw_all := lw_g (lw_at lw_m5 61 rfl) rfl
theorem q1282 : (Jvm.Cond.code ({ cls := "java/lang/IndexOutOfBoundsException", name := "<init>", desc := "(Ljava/lang/String;)V" } : Jvm.MethodName) prog_65_method_2_code (2 : Nat) (Option.none : Option Jvm.ClassFile.FieldType)) ∈ lw_all := lw_g (lw_at lw_m5 62 rfl) rfl
theorem q1283 : (Jvm.Cond.methodLink "java/lang/IndexOutOfBoundsException" (7 : Nat) ({ cls := "java/lang/RuntimeException", name := "<init>", desc := "(Ljava/lang/String;)V" } : Jvm.MethodName)) ∈ lw_all := lw_g (lw_at lw_m5 63 rfl) rfl
theorem q1292 : (Jvm.Cond.declares ({ cls := "java/lang/IndexOutOfBoundsException", name := "<init>", desc := "()V" } : Jvm.MethodName)) ∈ lw_tbl := lw_at lw_m5 72 rfl
theorem q1293 : (Jvm.Cond.declares ({ cls := "java/lang/IndexOutOfBoundsException", name := "<init>", desc := "(Ljava/lang/String;)V" } : Jvm.MethodName)) ∈ lw_tbl := lw_at lw_m5 73 rfl
theorem q3324 : (Jvm.Cond.instantiable "java/lang/IndexOutOfBoundsException" (6 : Nat)) ∈ lw_all := lw_g (lw_at lw_m13 184 rfl) rfl
theorem q3325 : (Jvm.Cond.castable "java/lang/IndexOutOfBoundsException" "java/lang/IndexOutOfBoundsException") ∈ lw_tbl := lw_at lw_m13 185 rfl
theorem q3326 : (Jvm.Cond.selects "java/lang/IndexOutOfBoundsException" ({ cls := "java/lang/Throwable", name := "fillInStackTrace", desc := "(I)Ljava/lang/Throwable;" } : Jvm.MethodName) ({ cls := "java/lang/Throwable", name := "fillInStackTrace", desc := "(I)Ljava/lang/Throwable;" } : Jvm.MethodName)) ∈ lw_all := lw_g (lw_at lw_m13 186 rfl) rfl
theorem q3327 : (Jvm.Cond.lays "java/lang/IndexOutOfBoundsException" "java/lang/Throwable" "cause" "Ljava/lang/Throwable;") ∈ lw_all := lw_g (lw_at lw_m13 187 rfl) rfl
theorem q3328 : (Jvm.Cond.lays "java/lang/IndexOutOfBoundsException" "java/lang/Throwable" "stackTrace" "[Ljava/lang/StackTraceElement;") ∈ lw_all := lw_g (lw_at lw_m13 188 rfl) rfl
theorem q3329 : (Jvm.Cond.lays "java/lang/IndexOutOfBoundsException" "java/lang/Throwable" "suppressedExceptions" "Ljava/util/List;") ∈ lw_all := lw_g (lw_at lw_m13 189 rfl) rfl
theorem q3330 : (Jvm.Cond.lays "java/lang/IndexOutOfBoundsException" "java/lang/Throwable" "detailMessage" "Ljava/lang/String;") ∈ lw_all := lw_g (lw_at lw_m13 190 rfl) rfl
theorem q3331 : (Jvm.Cond.lays "java/lang/IndexOutOfBoundsException" "java/lang/Throwable" "backtrace" "Ljava/lang/Object;") ∈ lw_all := lw_g (lw_at lw_m13 191 rfl) rfl
theorem q3333 : (Jvm.Cond.instanceMethod ({ cls := "java/lang/IndexOutOfBoundsException", name := "<init>", desc := "()V" } : Jvm.MethodName)) ∈ lw_all := lw_g (lw_at lw_m13 193 rfl) rfl
theorem q3334 : (Jvm.Cond.code ({ cls := "java/lang/IndexOutOfBoundsException", name := "<init>", desc := "()V" } : Jvm.MethodName) prog_65_method_1_code (1 : Nat) (Option.none : Option Jvm.ClassFile.FieldType)) ∈ lw_all := lw_g (lw_at lw_m13 194 rfl) rfl
theorem q3335 : (Jvm.Cond.methodLink "java/lang/IndexOutOfBoundsException" (1 : Nat) ({ cls := "java/lang/RuntimeException", name := "<init>", desc := "()V" } : Jvm.MethodName)) ∈ lw_all := lw_g (lw_at lw_m13 195 rfl) rfl
theorem q3336 : (Jvm.Cond.lays "java/lang/IndexOutOfBoundsException" "java/lang/Throwable" "depth" "I") ∈ lw_all := lw_g (lw_at lw_m13 196 rfl) rfl
theorem q3337 : (Jvm.Cond.superclass "java/lang/IndexOutOfBoundsException" "java/lang/RuntimeException") ∈ lw_all := lw_g (lw_at lw_m13 197 rfl) rfl
theorem q4852 : (Jvm.Cond.castable "java/lang/IndexOutOfBoundsException" "java/lang/Object") ∈ lw_tbl := lw_at lw_m20 32 rfl
theorem in_J8 : ∀ w ∈ wsJ80, w ∈ lw_all := lw_in wsJ80 [3327, 3328, 3329, 3330, 3331, 3336] (by decide +kernel) (by decide +kernel)
/-! java/lang/ArrayIndexOutOfBoundsException -/
set_option maxRecDepth 100000
def RJ9 : String := "java/lang/ArrayIndexOutOfBoundsException"
def TJ9 : u_T := fun k => match k with
  | 0 => ("java/lang/Throwable", "backtrace", "Ljava/lang/Object;", false)
  | 1 => ("java/lang/Throwable", "detailMessage", "Ljava/lang/String;", false)
  | 2 => ("java/lang/Throwable", "cause", "Ljava/lang/Throwable;", false)
  | 3 => ("java/lang/Throwable", "stackTrace", "[Ljava/lang/StackTraceElement;", false)
  | 4 => ("java/lang/Throwable", "depth", "I", false)
  | _ => ("java/lang/Throwable", "suppressedExceptions", "Ljava/util/List;", false)
def tyJ9 : Nat → FieldType := fun k => match k with
  | 0 => .object "java/lang/Object"
  | 1 => .object "java/lang/String"
  | 2 => .object "java/lang/Throwable"
  | 3 => .array (.object "java/lang/StackTraceElement")
  | 4 => .int
  | _ => .object "java/util/List"
abbrev wsJ90 : List Cond := u_ws RJ9 TJ9 6
theorem nmJ9 : ∀ a, a < 6 → ∀ b, b < 6 → a ≠ b → (TJ9 a).2.1 ≠ (TJ9 b).2.1 := by decide +kernel
theorem tyJ9_ok : ∀ k, k < 6 → parseFieldDescriptor (TJ9 k).2.2.1 = some (tyJ9 k) := by decide +kernel
abbrev cJ9_init : ByteArray := prog_52_method_2_code
def yJ9_init : MethodName := ⟨RJ9, "<init>", "(Ljava/lang/String;)V"⟩
def dkwJ9_init_0 : List UInt8 := [42, 43, 183, 0, 7, 177]
abbrev dktJ9_init_0 : List UInt8 := dkwJ9_init_0 ++ []
theorem dksJ9_init_0 : cJ9_init.data.toList.drop 0 = dktJ9_init_0 := by decide +kernel
theorem dJ9_init_0 : decode cJ9_init 0 = .ok (.aload_n 0, 1) := dk_42 (dk_at dksJ9_init_0 0 rfl rfl)
theorem dJ9_init_1 : decode cJ9_init 1 = .ok (.aload_n 1, 1) := dk_43 (dk_at dksJ9_init_0 1 rfl rfl)
theorem dJ9_init_2 : decode cJ9_init 2 = .ok (.invokespecial 7, 3) := dk_183 0 7 (dk_at dksJ9_init_0 2 rfl rfl)
theorem dJ9_init_5 : decode cJ9_init 5 = .ok (.return_, 1) := dk_177 (dk_at dksJ9_init_0 5 rfl rfl)
theorem q284 : (Jvm.Cond.initialized "java/lang/ArrayIndexOutOfBoundsException") ∈ lw_all := lw_g (lw_at lw_m1 24 rfl) rfl
theorem q623 : (Jvm.Cond.selects "java/lang/ArrayIndexOutOfBoundsException" ({ cls := "java/lang/Throwable", name := "fillInStackTrace", desc := "()Ljava/lang/Throwable;" } : Jvm.MethodName) ({ cls := "java/lang/Throwable", name := "fillInStackTrace", desc := "()Ljava/lang/Throwable;" } : Jvm.MethodName)) ∈ lw_all := lw_g (lw_at lw_m2 123 rfl) rfl
theorem q1277 : (Jvm.Cond.instantiable "java/lang/ArrayIndexOutOfBoundsException" (6 : Nat)) ∈ lw_all := lw_g (lw_at lw_m5 57 rfl) rfl
theorem q1278 : (Jvm.Cond.instanceMethod ({ cls := "java/lang/ArrayIndexOutOfBoundsException", name := "<init>", desc := "(Ljava/lang/String;)V" } : Jvm.MethodName)) ∈ lw_all := lw_g (lw_at lw_m5 58 rfl) rfl
theorem q1279 : (Jvm.Cond.code ({ cls := "java/lang/ArrayIndexOutOfBoundsException", name := "<init>", desc := "(Ljava/lang/String;)V" } : Jvm.MethodName) prog_52_method_2_code (2 : Nat) (Option.none : Option Jvm.ClassFile.FieldType)) ∈ lw_all := lw_g (lw_at lw_m5 59 rfl) rfl
theorem q1280 : (Jvm.Cond.methodLink "java/lang/ArrayIndexOutOfBoundsException" (7 : Nat) ({ cls := "java/lang/IndexOutOfBoundsException", name := "<init>", desc := "(Ljava/lang/String;)V" } : Jvm.MethodName)) ∈ lw_all := lw_g (lw_at lw_m5 60 rfl) rfl
theorem q1284 : (Jvm.Cond.lays "java/lang/ArrayIndexOutOfBoundsException" "java/lang/Throwable" "backtrace" "Ljava/lang/Object;") ∈ lw_all := lw_g (lw_at lw_m5 64 rfl) rfl
theorem q1285 : (Jvm.Cond.lays "java/lang/ArrayIndexOutOfBoundsException" "java/lang/Throwable" "detailMessage" "Ljava/lang/String;") ∈ lw_all := lw_g (lw_at lw_m5 65 rfl) rfl
theorem q1286 : (Jvm.Cond.lays "java/lang/ArrayIndexOutOfBoundsException" "java/lang/Throwable" "cause" "Ljava/lang/Throwable;") ∈ lw_all := lw_g (lw_at lw_m5 66 rfl) rfl
theorem q1287 : (Jvm.Cond.lays "java/lang/ArrayIndexOutOfBoundsException" "java/lang/Throwable" "stackTrace" "[Ljava/lang/StackTraceElement;") ∈ lw_all := lw_g (lw_at lw_m5 67 rfl) rfl
theorem q1288 : (Jvm.Cond.lays "java/lang/ArrayIndexOutOfBoundsException" "java/lang/Throwable" "depth" "I") ∈ lw_all := lw_g (lw_at lw_m5 68 rfl) rfl
theorem q1289 : (Jvm.Cond.lays "java/lang/ArrayIndexOutOfBoundsException" "java/lang/Throwable" "suppressedExceptions" "Ljava/util/List;") ∈ lw_all := lw_g (lw_at lw_m5 69 rfl) rfl
theorem q1290 : (Jvm.Cond.superclass "java/lang/ArrayIndexOutOfBoundsException" "java/lang/IndexOutOfBoundsException") ∈ lw_all := lw_g (lw_at lw_m5 70 rfl) rfl
theorem q1291 : (Jvm.Cond.castable "java/lang/ArrayIndexOutOfBoundsException" "java/lang/ArrayIndexOutOfBoundsException") ∈ lw_tbl := lw_at lw_m5 71 rfl
theorem q1294 : (Jvm.Cond.selects "java/lang/ArrayIndexOutOfBoundsException" ({ cls := "java/lang/Throwable", name := "fillInStackTrace", desc := "(I)Ljava/lang/Throwable;" } : Jvm.MethodName) ({ cls := "java/lang/Throwable", name := "fillInStackTrace", desc := "(I)Ljava/lang/Throwable;" } : Jvm.MethodName)) ∈ lw_all := lw_g (lw_at lw_m5 74 rfl) rfl
theorem q4806 : (Jvm.Cond.castable "java/lang/ArrayIndexOutOfBoundsException" "java/lang/IndexOutOfBoundsException") ∈ lw_tbl := lw_at lw_m19 226 rfl
theorem q4823 : (Jvm.Cond.castable "java/lang/ArrayIndexOutOfBoundsException" "java/lang/Object") ∈ lw_tbl := lw_at lw_m20 3 rfl
theorem in_J9 : ∀ w ∈ wsJ90, w ∈ lw_all := lw_in wsJ90 [1284, 1285, 1286, 1287, 1288, 1289] (by decide +kernel) (by decide +kernel)
/-! java/lang/NullPointerException -/
set_option maxRecDepth 100000
def RJ10 : String := "java/lang/NullPointerException"
def TJ10 : u_T := fun k => match k with
  | 0 => ("java/lang/Throwable", "backtrace", "Ljava/lang/Object;", false)
  | 1 => ("java/lang/Throwable", "detailMessage", "Ljava/lang/String;", false)
  | 2 => ("java/lang/Throwable", "cause", "Ljava/lang/Throwable;", false)
  | 3 => ("java/lang/Throwable", "stackTrace", "[Ljava/lang/StackTraceElement;", false)
  | 4 => ("java/lang/Throwable", "depth", "I", false)
  | 5 => ("java/lang/Throwable", "suppressedExceptions", "Ljava/util/List;", false)
  | 6 => ("java/lang/NullPointerException", "extendedMessageState", "I", false)
  | _ => ("java/lang/NullPointerException", "extendedMessage", "Ljava/lang/String;", false)
def tyJ10 : Nat → FieldType := fun k => match k with
  | 0 => .object "java/lang/Object"
  | 1 => .object "java/lang/String"
  | 2 => .object "java/lang/Throwable"
  | 3 => .array (.object "java/lang/StackTraceElement")
  | 4 => .int
  | 5 => .object "java/util/List"
  | 6 => .int
  | _ => .object "java/lang/String"
abbrev wsJ100 : List Cond := u_ws RJ10 TJ10 8
theorem nmJ10 : ∀ a, a < 8 → ∀ b, b < 8 → a ≠ b → (TJ10 a).2.1 ≠ (TJ10 b).2.1 := by decide +kernel
theorem tyJ10_ok : ∀ k, k < 8 → parseFieldDescriptor (TJ10 k).2.2.1 = some (tyJ10 k) := by decide +kernel
abbrev cJ10_init : ByteArray := prog_70_method_1_code
def yJ10_init : MethodName := ⟨RJ10, "<init>", "()V"⟩
theorem dJ10_init_0 : decode cJ10_init 0 = .ok (.aload_n 0, 1) := by decide +kernel
theorem dJ10_init_1 : decode cJ10_init 1 = .ok (.invokespecial 1, 3) := by decide +kernel
theorem dJ10_init_4 : decode cJ10_init 4 = .ok (.return_, 1) := by decide +kernel
theorem q285 : (Jvm.Cond.initialized "java/lang/NullPointerException") ∈ lw_all := lw_g (lw_at lw_m1 25 rfl) rfl
theorem q629 : (Jvm.Cond.selects "java/lang/NullPointerException" ({ cls := "java/lang/Throwable", name := "fillInStackTrace", desc := "()Ljava/lang/Throwable;" } : Jvm.MethodName) ({ cls := "java/lang/NullPointerException", name := "fillInStackTrace", desc := "()Ljava/lang/Throwable;" } : Jvm.MethodName)) ∈ lw_all := lw_g (lw_at lw_m2 129 rfl) rfl
theorem q630 : (Jvm.Cond.instanceMethod ({ cls := "java/lang/NullPointerException", name := "fillInStackTrace", desc := "()Ljava/lang/Throwable;" } : Jvm.MethodName)) ∈ lw_all := lw_g (lw_at lw_m2 130 rfl) rfl
theorem q631 : (Jvm.Cond.codeSync ({ cls := "java/lang/NullPointerException", name := "fillInStackTrace", desc := "()Ljava/lang/Throwable;" } : Jvm.MethodName) prog_70_method_3_code (1 : Nat) (Option.some (Jvm.ClassFile.FieldType.object "java/lang/Throwable"))) ∈ lw_all := lw_g (lw_at lw_m2 131 rfl) rfl
theorem q632 : (Jvm.Cond.methodLink "java/lang/NullPointerException" (16 : Nat) ({ cls := "java/lang/NullPointerException", name := "getExtendedNPEMessage", desc := "()Ljava/lang/String;" } : Jvm.MethodName)) ∈ lw_all := lw_g (lw_at lw_m2 132 rfl) rfl
theorem q633 : (Jvm.Cond.privateMethod ({ cls := "java/lang/NullPointerException", name := "getExtendedNPEMessage", desc := "()Ljava/lang/String;" } : Jvm.MethodName)) ∈ lw_tbl := lw_at lw_m2 133 rfl
theorem q634 : (Jvm.Cond.instanceMethod ({ cls := "java/lang/NullPointerException", name := "getExtendedNPEMessage", desc := "()Ljava/lang/String;" } : Jvm.MethodName)) ∈ lw_all := lw_g (lw_at lw_m2 134 rfl) rfl
theorem q635 : (Jvm.Cond.instantiable "java/lang/NullPointerException" (8 : Nat)) ∈ lw_all := lw_g (lw_at lw_m2 135 rfl) rfl
theorem q636 : (Jvm.Cond.native ({ cls := "java/lang/NullPointerException", name := "getExtendedNPEMessage", desc := "()Ljava/lang/String;" } : Jvm.MethodName)) ∈ lw_all := lw_g (lw_at lw_m2 136 rfl) rfl
theorem q637 : (Jvm.Cond.methodLink "java/lang/NullPointerException" (24 : Nat) ({ cls := "java/lang/RuntimeException", name := "fillInStackTrace", desc := "()Ljava/lang/Throwable;" } : Jvm.MethodName)) ∈ lw_all := lw_g (lw_at lw_m2 137 rfl) rfl
theorem q640 : (Jvm.Cond.superclass "java/lang/NullPointerException" "java/lang/RuntimeException") ∈ lw_all := lw_g (lw_at lw_m2 140 rfl) rfl
theorem q1296 : (Jvm.Cond.instanceMethod ({ cls := "java/lang/NullPointerException", name := "<init>", desc := "()V" } : Jvm.MethodName)) ∈ lw_all := lw_g (lw_at lw_m5 76 rfl) rfl
theorem q1297 : (Jvm.Cond.code ({ cls := "java/lang/NullPointerException", name := "<init>", desc := "()V" } : Jvm.MethodName) prog_70_method_1_code (1 : Nat) (Option.none : Option Jvm.ClassFile.FieldType)) ∈ lw_all := lw_g (lw_at lw_m5 77 rfl) rfl
theorem q1298 : (Jvm.Cond.methodLink "java/lang/NullPointerException" (1 : Nat) ({ cls := "java/lang/RuntimeException", name := "<init>", desc := "()V" } : Jvm.MethodName)) ∈ lw_all := lw_g (lw_at lw_m5 78 rfl) rfl
theorem q1305 : (Jvm.Cond.fieldLink "java/lang/NullPointerException" (10 : Nat) "java/lang/NullPointerException" "extendedMessageState" "I") ∈ lw_all := lw_g (lw_at lw_m5 85 rfl) rfl
theorem q1306 : (Jvm.Cond.fieldLink "java/lang/NullPointerException" (20 : Nat) "java/lang/NullPointerException" "extendedMessage" "Ljava/lang/String;") ∈ lw_all := lw_g (lw_at lw_m5 86 rfl) rfl
theorem q1307 : (Jvm.Cond.lays "java/lang/NullPointerException" "java/lang/NullPointerException" "extendedMessageState" "I") ∈ lw_all := lw_g (lw_at lw_m5 87 rfl) rfl
theorem q1308 : (Jvm.Cond.soleField "java/lang/NullPointerException" "extendedMessageState") ∈ lw_all := lw_g (lw_at lw_m5 88 rfl) rfl
theorem q1309 : (Jvm.Cond.lays "java/lang/NullPointerException" "java/lang/NullPointerException" "extendedMessage" "Ljava/lang/String;") ∈ lw_all := lw_g (lw_at lw_m5 89 rfl) rfl
theorem q1310 : (Jvm.Cond.soleField "java/lang/NullPointerException" "extendedMessage") ∈ lw_all := lw_g (lw_at lw_m5 90 rfl) rfl
theorem q1311 : (Jvm.Cond.lays "java/lang/NullPointerException" "java/lang/Throwable" "backtrace" "Ljava/lang/Object;") ∈ lw_all := lw_g (lw_at lw_m5 91 rfl) rfl
theorem q1312 : (Jvm.Cond.lays "java/lang/NullPointerException" "java/lang/Throwable" "detailMessage" "Ljava/lang/String;") ∈ lw_all := lw_g (lw_at lw_m5 92 rfl) rfl
theorem q1313 : (Jvm.Cond.lays "java/lang/NullPointerException" "java/lang/Throwable" "cause" "Ljava/lang/Throwable;") ∈ lw_all := lw_g (lw_at lw_m5 93 rfl) rfl
theorem q1314 : (Jvm.Cond.lays "java/lang/NullPointerException" "java/lang/Throwable" "stackTrace" "[Ljava/lang/StackTraceElement;") ∈ lw_all := lw_g (lw_at lw_m5 94 rfl) rfl
theorem q1315 : (Jvm.Cond.lays "java/lang/NullPointerException" "java/lang/Throwable" "depth" "I") ∈ lw_all := lw_g (lw_at lw_m5 95 rfl) rfl
theorem q1316 : (Jvm.Cond.lays "java/lang/NullPointerException" "java/lang/Throwable" "suppressedExceptions" "Ljava/util/List;") ∈ lw_all := lw_g (lw_at lw_m5 96 rfl) rfl
theorem q1317 : (Jvm.Cond.castable "java/lang/NullPointerException" "java/lang/NullPointerException") ∈ lw_tbl := lw_at lw_m5 97 rfl
theorem q1318 : (Jvm.Cond.selects "java/lang/NullPointerException" ({ cls := "java/lang/Throwable", name := "fillInStackTrace", desc := "(I)Ljava/lang/Throwable;" } : Jvm.MethodName) ({ cls := "java/lang/Throwable", name := "fillInStackTrace", desc := "(I)Ljava/lang/Throwable;" } : Jvm.MethodName)) ∈ lw_all := lw_g (lw_at lw_m5 98 rfl) rfl
theorem q4824 : (Jvm.Cond.castable "java/lang/NullPointerException" "java/lang/Object") ∈ lw_tbl := lw_at lw_m20 4 rfl
theorem in_J10 : ∀ w ∈ wsJ100, w ∈ lw_all := lw_in wsJ100 [1311, 1312, 1313, 1314, 1315, 1316, 1307, 1309] (by decide +kernel) (by decide +kernel)
/-! java/lang/AbstractStringBuilder -/
set_option maxRecDepth 100000
def RJ11 : String := "java/lang/AbstractStringBuilder"
abbrev cJ11_init : ByteArray := prog_49_method_2_code
def yJ11_init : MethodName := ⟨RJ11, "<init>", "(I)V"⟩
def dkwJ11_init_1 : List UInt8 := [167, 0, 16, 42, 27, 184, 0, 26, 181, 0, 15, 42, 4, 181, 0, 22, 177]
abbrev dktJ11_init_1 : List UInt8 := dkwJ11_init_1 ++ []
def dkwJ11_init_0 : List UInt8 := [42, 183, 0, 3, 178, 0, 18, 153, 0, 18, 42, 27, 188, 8, 181, 0, 15, 42, 3, 181, 0, 22]
abbrev dktJ11_init_0 : List UInt8 := dkwJ11_init_0 ++ dktJ11_init_1
theorem dksJ11_init_0 : cJ11_init.data.toList.drop 0 = dktJ11_init_0 := by decide +kernel
theorem dksJ11_init_1 : cJ11_init.data.toList.drop 22 = dktJ11_init_1 := dk_seg dksJ11_init_0 22 rfl rfl
theorem dJ11_init_0 : decode cJ11_init 0 = .ok (.aload_n 0, 1) := dk_42 (dk_at dksJ11_init_0 0 rfl rfl)
theorem dJ11_init_1 : decode cJ11_init 1 = .ok (.invokespecial 3, 3) := dk_183 0 3 (dk_at dksJ11_init_0 1 rfl rfl)
theorem dJ11_init_4 : decode cJ11_init 4 = .ok (.getstatic 18, 3) := dk_178 0 18 (dk_at dksJ11_init_0 4 rfl rfl)
theorem dJ11_init_7 : decode cJ11_init 7 = .ok (.ifCond .eq 18, 3) := dk_153 0 18 (dk_at dksJ11_init_0 7 rfl rfl)
theorem dJ11_init_10 : decode cJ11_init 10 = .ok (.aload_n 0, 1) := dk_42 (dk_at dksJ11_init_0 10 rfl rfl)
theorem dJ11_init_11 : decode cJ11_init 11 = .ok (.iload_n 1, 1) := dk_27 (dk_at dksJ11_init_0 11 rfl rfl)
theorem dJ11_init_12 : decode cJ11_init 12 = .ok (.newarray .byte, 2) := dk_188_8 (dk_at dksJ11_init_0 12 rfl rfl)
theorem dJ11_init_14 : decode cJ11_init 14 = .ok (.putfield 15, 3) := dk_181 0 15 (dk_at dksJ11_init_0 14 rfl rfl)
theorem dJ11_init_17 : decode cJ11_init 17 = .ok (.aload_n 0, 1) := dk_42 (dk_at dksJ11_init_0 17 rfl rfl)
theorem dJ11_init_18 : decode cJ11_init 18 = .ok (.iconst 0, 1) := dk_3 (dk_at dksJ11_init_0 18 rfl rfl)
theorem dJ11_init_19 : decode cJ11_init 19 = .ok (.putfield 22, 3) := dk_181 0 22 (dk_at dksJ11_init_0 19 rfl rfl)
theorem dJ11_init_22 : decode cJ11_init 22 = .ok (.goto 16, 3) := dk_167 0 16 (dk_at dksJ11_init_1 0 rfl rfl)
theorem dJ11_init_25 : decode cJ11_init 25 = .ok (.aload_n 0, 1) := dk_42 (dk_at dksJ11_init_1 3 rfl rfl)
theorem dJ11_init_26 : decode cJ11_init 26 = .ok (.iload_n 1, 1) := dk_27 (dk_at dksJ11_init_1 4 rfl rfl)
theorem dJ11_init_27 : decode cJ11_init 27 = .ok (.invokestatic 26, 3) := dk_184 0 26 (dk_at dksJ11_init_1 5 rfl rfl)
theorem dJ11_init_30 : decode cJ11_init 30 = .ok (.putfield 15, 3) := dk_181 0 15 (dk_at dksJ11_init_1 8 rfl rfl)
theorem dJ11_init_33 : decode cJ11_init 33 = .ok (.aload_n 0, 1) := dk_42 (dk_at dksJ11_init_1 11 rfl rfl)
theorem dJ11_init_34 : decode cJ11_init 34 = .ok (.iconst 1, 1) := dk_4 (dk_at dksJ11_init_1 12 rfl rfl)
theorem dJ11_init_35 : decode cJ11_init 35 = .ok (.putfield 22, 3) := dk_181 0 22 (dk_at dksJ11_init_1 13 rfl rfl)
theorem dJ11_init_38 : decode cJ11_init 38 = .ok (.return_, 1) := dk_177 (dk_at dksJ11_init_1 16 rfl rfl)
abbrev cJ11_append : ByteArray := prog_49_method_31_code
def yJ11_append : MethodName := ⟨RJ11, "append", "(C)Ljava/lang/AbstractStringBuilder;"⟩
def dkwJ11_append_3 : List UInt8 := [181, 0, 79, 27, 184, 0, 197, 42, 176]
abbrev dktJ11_append_3 : List UInt8 := dkwJ11_append_3 ++ []
def dkwJ11_append_2 : List UInt8 := [182, 0, 83, 153, 0, 7, 42, 182, 0, 195, 42, 180, 0, 15, 42, 89, 180, 0, 79, 90, 4, 96]
abbrev dktJ11_append_2 : List UInt8 := dkwJ11_append_2 ++ dktJ11_append_3
def dkwJ11_append_1 : List UInt8 := [42, 180, 0, 15, 42, 89, 180, 0, 79, 90, 4, 96, 181, 0, 79, 27, 145, 84, 167, 0, 33, 42]
abbrev dktJ11_append_1 : List UInt8 := dkwJ11_append_1 ++ dktJ11_append_2
def dkwJ11_append_0 : List UInt8 := [42, 42, 180, 0, 79, 4, 96, 182, 0, 100, 42, 182, 0, 83, 153, 0, 31, 27, 184, 0, 191, 153, 0, 24]
abbrev dktJ11_append_0 : List UInt8 := dkwJ11_append_0 ++ dktJ11_append_1
theorem dksJ11_append_0 : cJ11_append.data.toList.drop 0 = dktJ11_append_0 := by decide +kernel
theorem dksJ11_append_1 : cJ11_append.data.toList.drop 24 = dktJ11_append_1 := dk_seg dksJ11_append_0 24 rfl rfl
theorem dksJ11_append_2 : cJ11_append.data.toList.drop 46 = dktJ11_append_2 := dk_seg dksJ11_append_1 22 rfl rfl
theorem dksJ11_append_3 : cJ11_append.data.toList.drop 68 = dktJ11_append_3 := dk_seg dksJ11_append_2 22 rfl rfl
theorem dJ11_append_0 : decode cJ11_append 0 = .ok (.aload_n 0, 1) := dk_42 (dk_at dksJ11_append_0 0 rfl rfl)
theorem dJ11_append_1 : decode cJ11_append 1 = .ok (.aload_n 0, 1) := dk_42 (dk_at dksJ11_append_0 1 rfl rfl)
theorem dJ11_append_2 : decode cJ11_append 2 = .ok (.getfield 79, 3) := dk_180 0 79 (dk_at dksJ11_append_0 2 rfl rfl)
theorem dJ11_append_5 : decode cJ11_append 5 = .ok (.iconst 1, 1) := dk_4 (dk_at dksJ11_append_0 5 rfl rfl)
theorem dJ11_append_6 : decode cJ11_append 6 = .ok (.iadd, 1) := dk_96 (dk_at dksJ11_append_0 6 rfl rfl)
theorem dJ11_append_7 : decode cJ11_append 7 = .ok (.invokevirtual 100, 3) := dk_182 0 100 (dk_at dksJ11_append_0 7 rfl rfl)
theorem dJ11_append_10 : decode cJ11_append 10 = .ok (.aload_n 0, 1) := dk_42 (dk_at dksJ11_append_0 10 rfl rfl)
theorem dJ11_append_11 : decode cJ11_append 11 = .ok (.invokevirtual 83, 3) := dk_182 0 83 (dk_at dksJ11_append_0 11 rfl rfl)
theorem dJ11_append_14 : decode cJ11_append 14 = .ok (.ifCond .eq 31, 3) := dk_153 0 31 (dk_at dksJ11_append_0 14 rfl rfl)
theorem dJ11_append_17 : decode cJ11_append 17 = .ok (.iload_n 1, 1) := dk_27 (dk_at dksJ11_append_0 17 rfl rfl)
theorem dJ11_append_18 : decode cJ11_append 18 = .ok (.invokestatic 191, 3) := dk_184 0 191 (dk_at dksJ11_append_0 18 rfl rfl)
theorem dJ11_append_21 : decode cJ11_append 21 = .ok (.ifCond .eq 24, 3) := dk_153 0 24 (dk_at dksJ11_append_0 21 rfl rfl)
theorem dJ11_append_24 : decode cJ11_append 24 = .ok (.aload_n 0, 1) := dk_42 (dk_at dksJ11_append_1 0 rfl rfl)
theorem dJ11_append_25 : decode cJ11_append 25 = .ok (.getfield 15, 3) := dk_180 0 15 (dk_at dksJ11_append_1 1 rfl rfl)
theorem dJ11_append_28 : decode cJ11_append 28 = .ok (.aload_n 0, 1) := dk_42 (dk_at dksJ11_append_1 4 rfl rfl)
theorem dJ11_append_29 : decode cJ11_append 29 = .ok (.dup, 1) := dk_89 (dk_at dksJ11_append_1 5 rfl rfl)
theorem dJ11_append_30 : decode cJ11_append 30 = .ok (.getfield 79, 3) := dk_180 0 79 (dk_at dksJ11_append_1 6 rfl rfl)
theorem dJ11_append_33 : decode cJ11_append 33 = .ok (.dup_x1, 1) := dk_90 (dk_at dksJ11_append_1 9 rfl rfl)
theorem dJ11_append_34 : decode cJ11_append 34 = .ok (.iconst 1, 1) := dk_4 (dk_at dksJ11_append_1 10 rfl rfl)
theorem dJ11_append_35 : decode cJ11_append 35 = .ok (.iadd, 1) := dk_96 (dk_at dksJ11_append_1 11 rfl rfl)
theorem dJ11_append_36 : decode cJ11_append 36 = .ok (.putfield 79, 3) := dk_181 0 79 (dk_at dksJ11_append_1 12 rfl rfl)
theorem dJ11_append_39 : decode cJ11_append 39 = .ok (.iload_n 1, 1) := dk_27 (dk_at dksJ11_append_1 15 rfl rfl)
theorem dJ11_append_40 : decode cJ11_append 40 = .ok (.i2b, 1) := dk_145 (dk_at dksJ11_append_1 16 rfl rfl)
theorem dJ11_append_41 : decode cJ11_append 41 = .ok (.bastore, 1) := dk_84 (dk_at dksJ11_append_1 17 rfl rfl)
theorem dJ11_append_42 : decode cJ11_append 42 = .ok (.goto 33, 3) := dk_167 0 33 (dk_at dksJ11_append_1 18 rfl rfl)
theorem dJ11_append_45 : decode cJ11_append 45 = .ok (.aload_n 0, 1) := dk_42 (dk_at dksJ11_append_1 21 rfl rfl)
theorem dJ11_append_46 : decode cJ11_append 46 = .ok (.invokevirtual 83, 3) := dk_182 0 83 (dk_at dksJ11_append_2 0 rfl rfl)
theorem dJ11_append_49 : decode cJ11_append 49 = .ok (.ifCond .eq 7, 3) := dk_153 0 7 (dk_at dksJ11_append_2 3 rfl rfl)
theorem dJ11_append_52 : decode cJ11_append 52 = .ok (.aload_n 0, 1) := dk_42 (dk_at dksJ11_append_2 6 rfl rfl)
theorem dJ11_append_53 : decode cJ11_append 53 = .ok (.invokevirtual 195, 3) := dk_182 0 195 (dk_at dksJ11_append_2 7 rfl rfl)
theorem dJ11_append_56 : decode cJ11_append 56 = .ok (.aload_n 0, 1) := dk_42 (dk_at dksJ11_append_2 10 rfl rfl)
theorem dJ11_append_57 : decode cJ11_append 57 = .ok (.getfield 15, 3) := dk_180 0 15 (dk_at dksJ11_append_2 11 rfl rfl)
theorem dJ11_append_60 : decode cJ11_append 60 = .ok (.aload_n 0, 1) := dk_42 (dk_at dksJ11_append_2 14 rfl rfl)
theorem dJ11_append_61 : decode cJ11_append 61 = .ok (.dup, 1) := dk_89 (dk_at dksJ11_append_2 15 rfl rfl)
theorem dJ11_append_62 : decode cJ11_append 62 = .ok (.getfield 79, 3) := dk_180 0 79 (dk_at dksJ11_append_2 16 rfl rfl)
theorem dJ11_append_65 : decode cJ11_append 65 = .ok (.dup_x1, 1) := dk_90 (dk_at dksJ11_append_2 19 rfl rfl)
theorem dJ11_append_66 : decode cJ11_append 66 = .ok (.iconst 1, 1) := dk_4 (dk_at dksJ11_append_2 20 rfl rfl)
theorem dJ11_append_67 : decode cJ11_append 67 = .ok (.iadd, 1) := dk_96 (dk_at dksJ11_append_2 21 rfl rfl)
theorem dJ11_append_68 : decode cJ11_append 68 = .ok (.putfield 79, 3) := dk_181 0 79 (dk_at dksJ11_append_3 0 rfl rfl)
theorem dJ11_append_71 : decode cJ11_append 71 = .ok (.iload_n 1, 1) := dk_27 (dk_at dksJ11_append_3 3 rfl rfl)
theorem dJ11_append_72 : decode cJ11_append 72 = .ok (.invokestatic 197, 3) := dk_184 0 197 (dk_at dksJ11_append_3 4 rfl rfl)
theorem dJ11_append_75 : decode cJ11_append 75 = .ok (.aload_n 0, 1) := dk_42 (dk_at dksJ11_append_3 7 rfl rfl)
theorem dJ11_append_76 : decode cJ11_append 76 = .ok (.areturn, 1) := dk_176 (dk_at dksJ11_append_3 8 rfl rfl)
abbrev cJ11_ensureCapacityInternal : ByteArray := prog_49_method_9_code
def yJ11_ensureCapacityInternal : MethodName := ⟨RJ11, "ensureCapacityInternal", "(I)V"⟩
def dkwJ11_ensureCapacityInternal_1 : List UInt8 := [182, 0, 104, 42, 180, 0, 22, 120, 184, 0, 108, 181, 0, 15, 177]
abbrev dktJ11_ensureCapacityInternal_1 : List UInt8 := dkwJ11_ensureCapacityInternal_1 ++ []
def dkwJ11_ensureCapacityInternal_0 : List UInt8 := [42, 180, 0, 15, 190, 42, 180, 0, 22, 122, 61, 27, 28, 100, 158, 0, 24, 42, 42, 180, 0, 15, 42, 27]
abbrev dktJ11_ensureCapacityInternal_0 : List UInt8 := dkwJ11_ensureCapacityInternal_0 ++ dktJ11_ensureCapacityInternal_1
theorem dksJ11_ensureCapacityInternal_0 : cJ11_ensureCapacityInternal.data.toList.drop 0 = dktJ11_ensureCapacityInternal_0 := by decide +kernel
theorem dksJ11_ensureCapacityInternal_1 : cJ11_ensureCapacityInternal.data.toList.drop 24 = dktJ11_ensureCapacityInternal_1 := dk_seg dksJ11_ensureCapacityInternal_0 24 rfl rfl
theorem dJ11_ensureCapacityInternal_0 : decode cJ11_ensureCapacityInternal 0 = .ok (.aload_n 0, 1) := dk_42 (dk_at dksJ11_ensureCapacityInternal_0 0 rfl rfl)
theorem dJ11_ensureCapacityInternal_1 : decode cJ11_ensureCapacityInternal 1 = .ok (.getfield 15, 3) := dk_180 0 15 (dk_at dksJ11_ensureCapacityInternal_0 1 rfl rfl)
theorem dJ11_ensureCapacityInternal_4 : decode cJ11_ensureCapacityInternal 4 = .ok (.arraylength, 1) := dk_190 (dk_at dksJ11_ensureCapacityInternal_0 4 rfl rfl)
theorem dJ11_ensureCapacityInternal_5 : decode cJ11_ensureCapacityInternal 5 = .ok (.aload_n 0, 1) := dk_42 (dk_at dksJ11_ensureCapacityInternal_0 5 rfl rfl)
theorem dJ11_ensureCapacityInternal_6 : decode cJ11_ensureCapacityInternal 6 = .ok (.getfield 22, 3) := dk_180 0 22 (dk_at dksJ11_ensureCapacityInternal_0 6 rfl rfl)
theorem dJ11_ensureCapacityInternal_9 : decode cJ11_ensureCapacityInternal 9 = .ok (.ishr, 1) := dk_122 (dk_at dksJ11_ensureCapacityInternal_0 9 rfl rfl)
theorem dJ11_ensureCapacityInternal_10 : decode cJ11_ensureCapacityInternal 10 = .ok (.istore_n 2, 1) := dk_61 (dk_at dksJ11_ensureCapacityInternal_0 10 rfl rfl)
theorem dJ11_ensureCapacityInternal_11 : decode cJ11_ensureCapacityInternal 11 = .ok (.iload_n 1, 1) := dk_27 (dk_at dksJ11_ensureCapacityInternal_0 11 rfl rfl)
theorem dJ11_ensureCapacityInternal_12 : decode cJ11_ensureCapacityInternal 12 = .ok (.iload_n 2, 1) := dk_28 (dk_at dksJ11_ensureCapacityInternal_0 12 rfl rfl)
theorem dJ11_ensureCapacityInternal_13 : decode cJ11_ensureCapacityInternal 13 = .ok (.isub, 1) := dk_100 (dk_at dksJ11_ensureCapacityInternal_0 13 rfl rfl)
theorem dJ11_ensureCapacityInternal_14 : decode cJ11_ensureCapacityInternal 14 = .ok (.ifCond .le 24, 3) := dk_158 0 24 (dk_at dksJ11_ensureCapacityInternal_0 14 rfl rfl)
theorem dJ11_ensureCapacityInternal_17 : decode cJ11_ensureCapacityInternal 17 = .ok (.aload_n 0, 1) := dk_42 (dk_at dksJ11_ensureCapacityInternal_0 17 rfl rfl)
theorem dJ11_ensureCapacityInternal_18 : decode cJ11_ensureCapacityInternal 18 = .ok (.aload_n 0, 1) := dk_42 (dk_at dksJ11_ensureCapacityInternal_0 18 rfl rfl)
theorem dJ11_ensureCapacityInternal_19 : decode cJ11_ensureCapacityInternal 19 = .ok (.getfield 15, 3) := dk_180 0 15 (dk_at dksJ11_ensureCapacityInternal_0 19 rfl rfl)
theorem dJ11_ensureCapacityInternal_22 : decode cJ11_ensureCapacityInternal 22 = .ok (.aload_n 0, 1) := dk_42 (dk_at dksJ11_ensureCapacityInternal_0 22 rfl rfl)
theorem dJ11_ensureCapacityInternal_23 : decode cJ11_ensureCapacityInternal 23 = .ok (.iload_n 1, 1) := dk_27 (dk_at dksJ11_ensureCapacityInternal_0 23 rfl rfl)
theorem dJ11_ensureCapacityInternal_24 : decode cJ11_ensureCapacityInternal 24 = .ok (.invokevirtual 104, 3) := dk_182 0 104 (dk_at dksJ11_ensureCapacityInternal_1 0 rfl rfl)
theorem dJ11_ensureCapacityInternal_27 : decode cJ11_ensureCapacityInternal 27 = .ok (.aload_n 0, 1) := dk_42 (dk_at dksJ11_ensureCapacityInternal_1 3 rfl rfl)
theorem dJ11_ensureCapacityInternal_28 : decode cJ11_ensureCapacityInternal 28 = .ok (.getfield 22, 3) := dk_180 0 22 (dk_at dksJ11_ensureCapacityInternal_1 4 rfl rfl)
theorem dJ11_ensureCapacityInternal_31 : decode cJ11_ensureCapacityInternal 31 = .ok (.ishl, 1) := dk_120 (dk_at dksJ11_ensureCapacityInternal_1 7 rfl rfl)
theorem dJ11_ensureCapacityInternal_32 : decode cJ11_ensureCapacityInternal 32 = .ok (.invokestatic 108, 3) := dk_184 0 108 (dk_at dksJ11_ensureCapacityInternal_1 8 rfl rfl)
theorem dJ11_ensureCapacityInternal_35 : decode cJ11_ensureCapacityInternal 35 = .ok (.putfield 15, 3) := dk_181 0 15 (dk_at dksJ11_ensureCapacityInternal_1 11 rfl rfl)
theorem dJ11_ensureCapacityInternal_38 : decode cJ11_ensureCapacityInternal 38 = .ok (.return_, 1) := dk_177 (dk_at dksJ11_ensureCapacityInternal_1 14 rfl rfl)
abbrev cJ11_newCapacity : ByteArray := prog_49_method_10_code
def yJ11_newCapacity : MethodName := ⟨RJ11, "newCapacity", "(I)I"⟩
def dkwJ11_newCapacity_2 : List UInt8 := [183, 0, 124, 191, 21, 5, 42, 180, 0, 22, 122, 172]
abbrev dktJ11_newCapacity_2 : List UInt8 := dkwJ11_newCapacity_2 ++ []
def dkwJ11_newCapacity_1 : List UInt8 := [180, 0, 22, 120, 96, 184, 0, 114, 54, 5, 21, 5, 18, 39, 160, 0, 13, 187, 0, 120, 89, 18, 122]
abbrev dktJ11_newCapacity_1 : List UInt8 := dkwJ11_newCapacity_1 ++ dktJ11_newCapacity_2
def dkwJ11_newCapacity_0 : List UInt8 := [42, 180, 0, 15, 190, 61, 27, 42, 180, 0, 22, 120, 62, 29, 28, 100, 54, 4, 28, 21, 4, 28, 5, 42]
abbrev dktJ11_newCapacity_0 : List UInt8 := dkwJ11_newCapacity_0 ++ dktJ11_newCapacity_1
theorem dksJ11_newCapacity_0 : cJ11_newCapacity.data.toList.drop 0 = dktJ11_newCapacity_0 := by decide +kernel
theorem dksJ11_newCapacity_1 : cJ11_newCapacity.data.toList.drop 24 = dktJ11_newCapacity_1 := dk_seg dksJ11_newCapacity_0 24 rfl rfl
theorem dksJ11_newCapacity_2 : cJ11_newCapacity.data.toList.drop 47 = dktJ11_newCapacity_2 := dk_seg dksJ11_newCapacity_1 23 rfl rfl
theorem dJ11_newCapacity_0 : decode cJ11_newCapacity 0 = .ok (.aload_n 0, 1) := dk_42 (dk_at dksJ11_newCapacity_0 0 rfl rfl)
theorem dJ11_newCapacity_1 : decode cJ11_newCapacity 1 = .ok (.getfield 15, 3) := dk_180 0 15 (dk_at dksJ11_newCapacity_0 1 rfl rfl)
theorem dJ11_newCapacity_4 : decode cJ11_newCapacity 4 = .ok (.arraylength, 1) := dk_190 (dk_at dksJ11_newCapacity_0 4 rfl rfl)
theorem dJ11_newCapacity_5 : decode cJ11_newCapacity 5 = .ok (.istore_n 2, 1) := dk_61 (dk_at dksJ11_newCapacity_0 5 rfl rfl)
theorem dJ11_newCapacity_6 : decode cJ11_newCapacity 6 = .ok (.iload_n 1, 1) := dk_27 (dk_at dksJ11_newCapacity_0 6 rfl rfl)
theorem dJ11_newCapacity_7 : decode cJ11_newCapacity 7 = .ok (.aload_n 0, 1) := dk_42 (dk_at dksJ11_newCapacity_0 7 rfl rfl)
theorem dJ11_newCapacity_8 : decode cJ11_newCapacity 8 = .ok (.getfield 22, 3) := dk_180 0 22 (dk_at dksJ11_newCapacity_0 8 rfl rfl)
theorem dJ11_newCapacity_11 : decode cJ11_newCapacity 11 = .ok (.ishl, 1) := dk_120 (dk_at dksJ11_newCapacity_0 11 rfl rfl)
theorem dJ11_newCapacity_12 : decode cJ11_newCapacity 12 = .ok (.istore_n 3, 1) := dk_62 (dk_at dksJ11_newCapacity_0 12 rfl rfl)
theorem dJ11_newCapacity_13 : decode cJ11_newCapacity 13 = .ok (.iload_n 3, 1) := dk_29 (dk_at dksJ11_newCapacity_0 13 rfl rfl)
theorem dJ11_newCapacity_14 : decode cJ11_newCapacity 14 = .ok (.iload_n 2, 1) := dk_28 (dk_at dksJ11_newCapacity_0 14 rfl rfl)
theorem dJ11_newCapacity_15 : decode cJ11_newCapacity 15 = .ok (.isub, 1) := dk_100 (dk_at dksJ11_newCapacity_0 15 rfl rfl)
theorem dJ11_newCapacity_16 : decode cJ11_newCapacity 16 = .ok (.istore 4, 2) := dk_54 4 (dk_at dksJ11_newCapacity_0 16 rfl rfl)
theorem dJ11_newCapacity_18 : decode cJ11_newCapacity 18 = .ok (.iload_n 2, 1) := dk_28 (dk_at dksJ11_newCapacity_0 18 rfl rfl)
theorem dJ11_newCapacity_19 : decode cJ11_newCapacity 19 = .ok (.iload 4, 2) := dk_21 4 (dk_at dksJ11_newCapacity_0 19 rfl rfl)
theorem dJ11_newCapacity_21 : decode cJ11_newCapacity 21 = .ok (.iload_n 2, 1) := dk_28 (dk_at dksJ11_newCapacity_0 21 rfl rfl)
theorem dJ11_newCapacity_22 : decode cJ11_newCapacity 22 = .ok (.iconst 2, 1) := dk_5 (dk_at dksJ11_newCapacity_0 22 rfl rfl)
theorem dJ11_newCapacity_23 : decode cJ11_newCapacity 23 = .ok (.aload_n 0, 1) := dk_42 (dk_at dksJ11_newCapacity_0 23 rfl rfl)
theorem dJ11_newCapacity_24 : decode cJ11_newCapacity 24 = .ok (.getfield 22, 3) := dk_180 0 22 (dk_at dksJ11_newCapacity_1 0 rfl rfl)
theorem dJ11_newCapacity_27 : decode cJ11_newCapacity 27 = .ok (.ishl, 1) := dk_120 (dk_at dksJ11_newCapacity_1 3 rfl rfl)
theorem dJ11_newCapacity_28 : decode cJ11_newCapacity 28 = .ok (.iadd, 1) := dk_96 (dk_at dksJ11_newCapacity_1 4 rfl rfl)
theorem dJ11_newCapacity_29 : decode cJ11_newCapacity 29 = .ok (.invokestatic 114, 3) := dk_184 0 114 (dk_at dksJ11_newCapacity_1 5 rfl rfl)
theorem dJ11_newCapacity_32 : decode cJ11_newCapacity 32 = .ok (.istore 5, 2) := dk_54 5 (dk_at dksJ11_newCapacity_1 8 rfl rfl)
theorem dJ11_newCapacity_34 : decode cJ11_newCapacity 34 = .ok (.iload 5, 2) := dk_21 5 (dk_at dksJ11_newCapacity_1 10 rfl rfl)
theorem dJ11_newCapacity_36 : decode cJ11_newCapacity 36 = .ok (.ldc 39, 2) := dk_18 39 (dk_at dksJ11_newCapacity_1 12 rfl rfl)
theorem dJ11_newCapacity_38 : decode cJ11_newCapacity 38 = .ok (.if_icmp .ne 13, 3) := dk_160 0 13 (dk_at dksJ11_newCapacity_1 14 rfl rfl)
theorem dJ11_newCapacity_41 : decode cJ11_newCapacity 41 = .ok (.new 120, 3) := dk_187 0 120 (dk_at dksJ11_newCapacity_1 17 rfl rfl)
theorem dJ11_newCapacity_44 : decode cJ11_newCapacity 44 = .ok (.dup, 1) := dk_89 (dk_at dksJ11_newCapacity_1 20 rfl rfl)
theorem dJ11_newCapacity_45 : decode cJ11_newCapacity 45 = .ok (.ldc 122, 2) := dk_18 122 (dk_at dksJ11_newCapacity_1 21 rfl rfl)
theorem dJ11_newCapacity_47 : decode cJ11_newCapacity 47 = .ok (.invokespecial 124, 3) := dk_183 0 124 (dk_at dksJ11_newCapacity_2 0 rfl rfl)
theorem dJ11_newCapacity_50 : decode cJ11_newCapacity 50 = .ok (.athrow, 1) := dk_191 (dk_at dksJ11_newCapacity_2 3 rfl rfl)
theorem dJ11_newCapacity_51 : decode cJ11_newCapacity 51 = .ok (.iload 5, 2) := dk_21 5 (dk_at dksJ11_newCapacity_2 4 rfl rfl)
theorem dJ11_newCapacity_53 : decode cJ11_newCapacity 53 = .ok (.aload_n 0, 1) := dk_42 (dk_at dksJ11_newCapacity_2 6 rfl rfl)
theorem dJ11_newCapacity_54 : decode cJ11_newCapacity 54 = .ok (.getfield 22, 3) := dk_180 0 22 (dk_at dksJ11_newCapacity_2 7 rfl rfl)
theorem dJ11_newCapacity_57 : decode cJ11_newCapacity 57 = .ok (.ishr, 1) := dk_122 (dk_at dksJ11_newCapacity_2 10 rfl rfl)
theorem dJ11_newCapacity_58 : decode cJ11_newCapacity 58 = .ok (.ireturn, 1) := dk_172 (dk_at dksJ11_newCapacity_2 11 rfl rfl)
abbrev cJ11_isLatin1 : ByteArray := prog_49_method_68_code
def yJ11_isLatin1 : MethodName := ⟨RJ11, "isLatin1", "()Z"⟩
def dkwJ11_isLatin1_0 : List UInt8 := [178, 0, 18, 153, 0, 14, 42, 180, 0, 22, 154, 0, 7, 4, 167, 0, 4, 3, 172]
abbrev dktJ11_isLatin1_0 : List UInt8 := dkwJ11_isLatin1_0 ++ []
theorem dksJ11_isLatin1_0 : cJ11_isLatin1.data.toList.drop 0 = dktJ11_isLatin1_0 := by decide +kernel
theorem dJ11_isLatin1_0 : decode cJ11_isLatin1 0 = .ok (.getstatic 18, 3) := dk_178 0 18 (dk_at dksJ11_isLatin1_0 0 rfl rfl)
theorem dJ11_isLatin1_3 : decode cJ11_isLatin1 3 = .ok (.ifCond .eq 14, 3) := dk_153 0 14 (dk_at dksJ11_isLatin1_0 3 rfl rfl)
theorem dJ11_isLatin1_6 : decode cJ11_isLatin1 6 = .ok (.aload_n 0, 1) := dk_42 (dk_at dksJ11_isLatin1_0 6 rfl rfl)
theorem dJ11_isLatin1_7 : decode cJ11_isLatin1 7 = .ok (.getfield 22, 3) := dk_180 0 22 (dk_at dksJ11_isLatin1_0 7 rfl rfl)
theorem dJ11_isLatin1_10 : decode cJ11_isLatin1 10 = .ok (.ifCond .ne 7, 3) := dk_154 0 7 (dk_at dksJ11_isLatin1_0 10 rfl rfl)
theorem dJ11_isLatin1_13 : decode cJ11_isLatin1 13 = .ok (.iconst 1, 1) := dk_4 (dk_at dksJ11_isLatin1_0 13 rfl rfl)
theorem dJ11_isLatin1_14 : decode cJ11_isLatin1 14 = .ok (.goto 4, 3) := dk_167 0 4 (dk_at dksJ11_isLatin1_0 14 rfl rfl)
theorem dJ11_isLatin1_17 : decode cJ11_isLatin1 17 = .ok (.iconst 0, 1) := dk_3 (dk_at dksJ11_isLatin1_0 17 rfl rfl)
theorem dJ11_isLatin1_18 : decode cJ11_isLatin1 18 = .ok (.ireturn, 1) := dk_172 (dk_at dksJ11_isLatin1_0 18 rfl rfl)
abbrev cJ11_inflate : ByteArray := prog_49_method_11_code
def yJ11_inflate : MethodName := ⟨RJ11, "inflate", "()V"⟩
def dkwJ11_inflate_1 : List UInt8 := [42, 180, 0, 79, 184, 0, 125, 42, 43, 181, 0, 15, 42, 4, 181, 0, 22, 177]
abbrev dktJ11_inflate_1 : List UInt8 := dkwJ11_inflate_1 ++ []
def dkwJ11_inflate_0 : List UInt8 := [42, 182, 0, 83, 154, 0, 4, 177, 42, 180, 0, 15, 190, 184, 0, 26, 76, 42, 180, 0, 15, 3, 43, 3]
abbrev dktJ11_inflate_0 : List UInt8 := dkwJ11_inflate_0 ++ dktJ11_inflate_1
theorem dksJ11_inflate_0 : cJ11_inflate.data.toList.drop 0 = dktJ11_inflate_0 := by decide +kernel
theorem dksJ11_inflate_1 : cJ11_inflate.data.toList.drop 24 = dktJ11_inflate_1 := dk_seg dksJ11_inflate_0 24 rfl rfl
theorem dJ11_inflate_0 : decode cJ11_inflate 0 = .ok (.aload_n 0, 1) := dk_42 (dk_at dksJ11_inflate_0 0 rfl rfl)
theorem dJ11_inflate_1 : decode cJ11_inflate 1 = .ok (.invokevirtual 83, 3) := dk_182 0 83 (dk_at dksJ11_inflate_0 1 rfl rfl)
theorem dJ11_inflate_4 : decode cJ11_inflate 4 = .ok (.ifCond .ne 4, 3) := dk_154 0 4 (dk_at dksJ11_inflate_0 4 rfl rfl)
theorem dJ11_inflate_7 : decode cJ11_inflate 7 = .ok (.return_, 1) := dk_177 (dk_at dksJ11_inflate_0 7 rfl rfl)
theorem dJ11_inflate_8 : decode cJ11_inflate 8 = .ok (.aload_n 0, 1) := dk_42 (dk_at dksJ11_inflate_0 8 rfl rfl)
theorem dJ11_inflate_9 : decode cJ11_inflate 9 = .ok (.getfield 15, 3) := dk_180 0 15 (dk_at dksJ11_inflate_0 9 rfl rfl)
theorem dJ11_inflate_12 : decode cJ11_inflate 12 = .ok (.arraylength, 1) := dk_190 (dk_at dksJ11_inflate_0 12 rfl rfl)
theorem dJ11_inflate_13 : decode cJ11_inflate 13 = .ok (.invokestatic 26, 3) := dk_184 0 26 (dk_at dksJ11_inflate_0 13 rfl rfl)
theorem dJ11_inflate_16 : decode cJ11_inflate 16 = .ok (.astore_n 1, 1) := dk_76 (dk_at dksJ11_inflate_0 16 rfl rfl)
theorem dJ11_inflate_17 : decode cJ11_inflate 17 = .ok (.aload_n 0, 1) := dk_42 (dk_at dksJ11_inflate_0 17 rfl rfl)
theorem dJ11_inflate_18 : decode cJ11_inflate 18 = .ok (.getfield 15, 3) := dk_180 0 15 (dk_at dksJ11_inflate_0 18 rfl rfl)
theorem dJ11_inflate_21 : decode cJ11_inflate 21 = .ok (.iconst 0, 1) := dk_3 (dk_at dksJ11_inflate_0 21 rfl rfl)
theorem dJ11_inflate_22 : decode cJ11_inflate 22 = .ok (.aload_n 1, 1) := dk_43 (dk_at dksJ11_inflate_0 22 rfl rfl)
theorem dJ11_inflate_23 : decode cJ11_inflate 23 = .ok (.iconst 0, 1) := dk_3 (dk_at dksJ11_inflate_0 23 rfl rfl)
theorem dJ11_inflate_24 : decode cJ11_inflate 24 = .ok (.aload_n 0, 1) := dk_42 (dk_at dksJ11_inflate_1 0 rfl rfl)
theorem dJ11_inflate_25 : decode cJ11_inflate 25 = .ok (.getfield 79, 3) := dk_180 0 79 (dk_at dksJ11_inflate_1 1 rfl rfl)
theorem dJ11_inflate_28 : decode cJ11_inflate 28 = .ok (.invokestatic 125, 3) := dk_184 0 125 (dk_at dksJ11_inflate_1 4 rfl rfl)
theorem dJ11_inflate_31 : decode cJ11_inflate 31 = .ok (.aload_n 0, 1) := dk_42 (dk_at dksJ11_inflate_1 7 rfl rfl)
theorem dJ11_inflate_32 : decode cJ11_inflate 32 = .ok (.aload_n 1, 1) := dk_43 (dk_at dksJ11_inflate_1 8 rfl rfl)
theorem dJ11_inflate_33 : decode cJ11_inflate 33 = .ok (.putfield 15, 3) := dk_181 0 15 (dk_at dksJ11_inflate_1 9 rfl rfl)
theorem dJ11_inflate_36 : decode cJ11_inflate 36 = .ok (.aload_n 0, 1) := dk_42 (dk_at dksJ11_inflate_1 12 rfl rfl)
theorem dJ11_inflate_37 : decode cJ11_inflate 37 = .ok (.iconst 1, 1) := dk_4 (dk_at dksJ11_inflate_1 13 rfl rfl)
theorem dJ11_inflate_38 : decode cJ11_inflate 38 = .ok (.putfield 22, 3) := dk_181 0 22 (dk_at dksJ11_inflate_1 14 rfl rfl)
theorem dJ11_inflate_41 : decode cJ11_inflate 41 = .ok (.return_, 1) := dk_177 (dk_at dksJ11_inflate_1 17 rfl rfl)
abbrev cJ11_getValue : ByteArray := prog_49_method_64_code
def yJ11_getValue : MethodName := ⟨RJ11, "getValue", "()[B"⟩
theorem dJ11_getValue_0 : decode cJ11_getValue 0 = .ok (.aload_n 0, 1) := by decide +kernel
theorem dJ11_getValue_1 : decode cJ11_getValue 1 = .ok (.getfield 15, 3) := by decide +kernel
theorem dJ11_getValue_4 : decode cJ11_getValue 4 = .ok (.areturn, 1) := by decide +kernel
abbrev cJ11_length : ByteArray := prog_49_method_6_code
def yJ11_length : MethodName := ⟨RJ11, "length", "()I"⟩
theorem dJ11_length_0 : decode cJ11_length 0 = .ok (.aload_n 0, 1) := by decide +kernel
theorem dJ11_length_1 : decode cJ11_length 1 = .ok (.getfield 79, 3) := by decide +kernel
theorem dJ11_length_4 : decode cJ11_length 4 = .ok (.ireturn, 1) := by decide +kernel
theorem q310 : (Jvm.Cond.initialized "java/lang/AbstractStringBuilder") ∈ lw_all := lw_g (lw_at lw_m1 50 rfl) rfl
theorem q1964 : (Jvm.Cond.instanceMethod ({ cls := "java/lang/AbstractStringBuilder", name := "<init>", desc := "(I)V" } : Jvm.MethodName)) ∈ lw_all := lw_g (lw_at lw_m8 24 rfl) rfl
theorem q1965 : (Jvm.Cond.code ({ cls := "java/lang/AbstractStringBuilder", name := "<init>", desc := "(I)V" } : Jvm.MethodName) prog_49_method_2_code (2 : Nat) (Option.none : Option Jvm.ClassFile.FieldType)) ∈ lw_all := lw_g (lw_at lw_m8 25 rfl) rfl
theorem q1966 : (Jvm.Cond.methodLink "java/lang/AbstractStringBuilder" (3 : Nat) ({ cls := "java/lang/Object", name := "<init>", desc := "()V" } : Jvm.MethodName)) ∈ lw_all := lw_g (lw_at lw_m8 26 rfl) rfl
theorem q1967 : (Jvm.Cond.fieldLink "java/lang/AbstractStringBuilder" (18 : Nat) "java/lang/String" "COMPACT_STRINGS" "Z") ∈ lw_all := lw_g (lw_at lw_m8 27 rfl) rfl
theorem q1968 : (Jvm.Cond.methodLink "java/lang/AbstractStringBuilder" (26 : Nat) ({ cls := "java/lang/StringUTF16", name := "newBytesFor", desc := "(I)[B" } : Jvm.MethodName)) ∈ lw_all := lw_g (lw_at lw_m8 28 rfl) rfl
theorem q1990 : (Jvm.Cond.fieldLink "java/lang/AbstractStringBuilder" (15 : Nat) "java/lang/AbstractStringBuilder" "value" "[B") ∈ lw_all := lw_g (lw_at lw_m8 50 rfl) rfl
theorem q1991 : (Jvm.Cond.fieldLink "java/lang/AbstractStringBuilder" (22 : Nat) "java/lang/AbstractStringBuilder" "coder" "B") ∈ lw_all := lw_g (lw_at lw_m8 51 rfl) rfl
theorem q1993 : (Jvm.Cond.fieldLink "java/lang/AbstractStringBuilder" (79 : Nat) "java/lang/AbstractStringBuilder" "count" "I") ∈ lw_all := lw_g (lw_at lw_m8 53 rfl) rfl
theorem q1995 : (Jvm.Cond.soleField "java/lang/AbstractStringBuilder" "value") ∈ lw_all := lw_g (lw_at lw_m8 55 rfl) rfl
theorem q1997 : (Jvm.Cond.soleField "java/lang/AbstractStringBuilder" "coder") ∈ lw_all := lw_g (lw_at lw_m8 57 rfl) rfl
theorem q1999 : (Jvm.Cond.soleField "java/lang/AbstractStringBuilder" "maybeLatin1") ∈ lw_all := lw_g (lw_at lw_m8 59 rfl) rfl
theorem q2001 : (Jvm.Cond.soleField "java/lang/AbstractStringBuilder" "count") ∈ lw_all := lw_g (lw_at lw_m8 61 rfl) rfl
theorem q2008 : (Jvm.Cond.instanceMethod ({ cls := "java/lang/AbstractStringBuilder", name := "append", desc := "(C)Ljava/lang/AbstractStringBuilder;" } : Jvm.MethodName)) ∈ lw_all := lw_g (lw_at lw_m8 68 rfl) rfl
theorem q2009 : (Jvm.Cond.code ({ cls := "java/lang/AbstractStringBuilder", name := "append", desc := "(C)Ljava/lang/AbstractStringBuilder;" } : Jvm.MethodName) prog_49_method_31_code (2 : Nat) (Option.some (Jvm.ClassFile.FieldType.object "java/lang/AbstractStringBuilder"))) ∈ lw_all := lw_g (lw_at lw_m8 69 rfl) rfl
theorem q2010 : (Jvm.Cond.methodLink "java/lang/AbstractStringBuilder" (100 : Nat) ({ cls := "java/lang/AbstractStringBuilder", name := "ensureCapacityInternal", desc := "(I)V" } : Jvm.MethodName)) ∈ lw_all := lw_g (lw_at lw_m8 70 rfl) rfl
theorem q2011 : (Jvm.Cond.privateMethod ({ cls := "java/lang/AbstractStringBuilder", name := "ensureCapacityInternal", desc := "(I)V" } : Jvm.MethodName)) ∈ lw_tbl := lw_at lw_m8 71 rfl
theorem q2012 : (Jvm.Cond.instanceMethod ({ cls := "java/lang/AbstractStringBuilder", name := "ensureCapacityInternal", desc := "(I)V" } : Jvm.MethodName)) ∈ lw_all := lw_g (lw_at lw_m8 72 rfl) rfl
theorem q2013 : (Jvm.Cond.code ({ cls := "java/lang/AbstractStringBuilder", name := "ensureCapacityInternal", desc := "(I)V" } : Jvm.MethodName) prog_49_method_9_code (3 : Nat) (Option.none : Option Jvm.ClassFile.FieldType)) ∈ lw_all := lw_g (lw_at lw_m8 73 rfl) rfl
theorem q2014 : (Jvm.Cond.methodLink "java/lang/AbstractStringBuilder" (104 : Nat) ({ cls := "java/lang/AbstractStringBuilder", name := "newCapacity", desc := "(I)I" } : Jvm.MethodName)) ∈ lw_all := lw_g (lw_at lw_m8 74 rfl) rfl
theorem q2015 : (Jvm.Cond.privateMethod ({ cls := "java/lang/AbstractStringBuilder", name := "newCapacity", desc := "(I)I" } : Jvm.MethodName)) ∈ lw_tbl := lw_at lw_m8 75 rfl
theorem q2016 : (Jvm.Cond.instanceMethod ({ cls := "java/lang/AbstractStringBuilder", name := "newCapacity", desc := "(I)I" } : Jvm.MethodName)) ∈ lw_all := lw_g (lw_at lw_m8 76 rfl) rfl
theorem q2017 : (Jvm.Cond.code ({ cls := "java/lang/AbstractStringBuilder", name := "newCapacity", desc := "(I)I" } : Jvm.MethodName) prog_49_method_10_code (6 : Nat) (Option.some Jvm.ClassFile.FieldType.int)) ∈ lw_all := lw_g (lw_at lw_m8 77 rfl) rfl
theorem q2018 : (Jvm.Cond.methodLink "java/lang/AbstractStringBuilder" (114 : Nat) ({ cls := "jdk/internal/util/ArraysSupport", name := "newLength", desc := "(III)I" } : Jvm.MethodName)) ∈ lw_all := lw_g (lw_at lw_m8 78 rfl) rfl
theorem q2028 : (Jvm.Cond.constant "java/lang/AbstractStringBuilder" (39 : Nat) (2147483647 : Int32)) ∈ lw_all := lw_g (lw_at lw_m8 88 rfl) rfl
theorem q2029 : (Jvm.Cond.methodLink "java/lang/AbstractStringBuilder" (108 : Nat) ({ cls := "java/util/Arrays", name := "copyOf", desc := "([BI)[B" } : Jvm.MethodName)) ∈ lw_all := lw_g (lw_at lw_m8 89 rfl) rfl
theorem q2045 : (Jvm.Cond.methodLink "java/lang/AbstractStringBuilder" (83 : Nat) ({ cls := "java/lang/AbstractStringBuilder", name := "isLatin1", desc := "()Z" } : Jvm.MethodName)) ∈ lw_all := lw_g (lw_at lw_m8 105 rfl) rfl
theorem q2046 : (Jvm.Cond.instanceMethod ({ cls := "java/lang/AbstractStringBuilder", name := "isLatin1", desc := "()Z" } : Jvm.MethodName)) ∈ lw_all := lw_g (lw_at lw_m8 106 rfl) rfl
theorem q2047 : (Jvm.Cond.sameMethod "java/lang/AbstractStringBuilder" "java/lang/AbstractStringBuilder" "isLatin1" "()Z") ∈ lw_all := lw_g (lw_at lw_m8 107 rfl) rfl
theorem q2049 : (Jvm.Cond.code ({ cls := "java/lang/AbstractStringBuilder", name := "isLatin1", desc := "()Z" } : Jvm.MethodName) prog_49_method_68_code (1 : Nat) (Option.some Jvm.ClassFile.FieldType.boolean)) ∈ lw_all := lw_g (lw_at lw_m8 109 rfl) rfl
theorem q2050 : (Jvm.Cond.methodLink "java/lang/AbstractStringBuilder" (191 : Nat) ({ cls := "java/lang/StringLatin1", name := "canEncode", desc := "(C)Z" } : Jvm.MethodName)) ∈ lw_all := lw_g (lw_at lw_m8 110 rfl) rfl
theorem q2053 : (Jvm.Cond.methodLink "java/lang/AbstractStringBuilder" (195 : Nat) ({ cls := "java/lang/AbstractStringBuilder", name := "inflate", desc := "()V" } : Jvm.MethodName)) ∈ lw_all := lw_g (lw_at lw_m8 113 rfl) rfl
theorem q2054 : (Jvm.Cond.privateMethod ({ cls := "java/lang/AbstractStringBuilder", name := "inflate", desc := "()V" } : Jvm.MethodName)) ∈ lw_tbl := lw_at lw_m8 114 rfl
theorem q2055 : (Jvm.Cond.instanceMethod ({ cls := "java/lang/AbstractStringBuilder", name := "inflate", desc := "()V" } : Jvm.MethodName)) ∈ lw_all := lw_g (lw_at lw_m8 115 rfl) rfl
theorem q2056 : (Jvm.Cond.code ({ cls := "java/lang/AbstractStringBuilder", name := "inflate", desc := "()V" } : Jvm.MethodName) prog_49_method_11_code (2 : Nat) (Option.none : Option Jvm.ClassFile.FieldType)) ∈ lw_all := lw_g (lw_at lw_m8 116 rfl) rfl
theorem q2057 : (Jvm.Cond.methodLink "java/lang/AbstractStringBuilder" (125 : Nat) ({ cls := "java/lang/StringLatin1", name := "inflate", desc := "([BI[BII)V" } : Jvm.MethodName)) ∈ lw_all := lw_g (lw_at lw_m8 117 rfl) rfl
theorem q2075 : (Jvm.Cond.methodLink "java/lang/AbstractStringBuilder" (197 : Nat) ({ cls := "java/lang/StringUTF16", name := "putCharSB", desc := "([BII)V" } : Jvm.MethodName)) ∈ lw_all := lw_g (lw_at lw_m8 135 rfl) rfl
theorem q2091 : (Jvm.Cond.instanceMethod ({ cls := "java/lang/AbstractStringBuilder", name := "getValue", desc := "()[B" } : Jvm.MethodName)) ∈ lw_all := lw_g (lw_at lw_m8 151 rfl) rfl
theorem q2092 : (Jvm.Cond.sameMethod "java/lang/AbstractStringBuilder" "java/lang/AbstractStringBuilder" "getValue" "()[B") ∈ lw_all := lw_g (lw_at lw_m8 152 rfl) rfl
theorem q2094 : (Jvm.Cond.code ({ cls := "java/lang/AbstractStringBuilder", name := "getValue", desc := "()[B" } : Jvm.MethodName) prog_49_method_64_code (1 : Nat) (Option.some (Jvm.ClassFile.FieldType.array Jvm.ClassFile.FieldType.byte))) ∈ lw_all := lw_g (lw_at lw_m8 154 rfl) rfl
theorem q2096 : (Jvm.Cond.instanceMethod ({ cls := "java/lang/AbstractStringBuilder", name := "length", desc := "()I" } : Jvm.MethodName)) ∈ lw_all := lw_g (lw_at lw_m8 156 rfl) rfl
theorem q2097 : (Jvm.Cond.sameMethod "java/lang/AbstractStringBuilder" "java/lang/AbstractStringBuilder" "length" "()I") ∈ lw_all := lw_g (lw_at lw_m8 157 rfl) rfl
theorem q2102 : (Jvm.Cond.code ({ cls := "java/lang/AbstractStringBuilder", name := "length", desc := "()I" } : Jvm.MethodName) prog_49_method_6_code (1 : Nat) (Option.some Jvm.ClassFile.FieldType.int)) ∈ lw_all := lw_g (lw_at lw_m8 162 rfl) rfl
theorem q4786 : (Jvm.Cond.sameMethod "java/lang/AbstractStringBuilder" "java/lang/AbstractStringBuilder" "append" "(C)Ljava/lang/AbstractStringBuilder;") ∈ lw_all := lw_g (lw_at lw_m19 206 rfl) rfl
theorem q4787 : (Jvm.Cond.sameMethod "java/lang/AbstractStringBuilder" "java/lang/AbstractStringBuilder" "ensureCapacityInternal" "(I)V") ∈ lw_all := lw_g (lw_at lw_m19 207 rfl) rfl
theorem q4788 : (Jvm.Cond.sameMethod "java/lang/AbstractStringBuilder" "java/lang/AbstractStringBuilder" "newCapacity" "(I)I") ∈ lw_all := lw_g (lw_at lw_m19 208 rfl) rfl
theorem q4789 : (Jvm.Cond.sameMethod "java/lang/AbstractStringBuilder" "java/lang/AbstractStringBuilder" "inflate" "()V") ∈ lw_all := lw_g (lw_at lw_m19 209 rfl) rfl
/-! java/lang/StringBuilder -/
set_option maxRecDepth 100000
def RJ12 : String := "java/lang/StringBuilder"
def TJ12 : u_T := fun k => match k with
  | 0 => ("java/lang/AbstractStringBuilder", "value", "[B", false)
  | 1 => ("java/lang/AbstractStringBuilder", "coder", "B", false)
  | 2 => ("java/lang/AbstractStringBuilder", "maybeLatin1", "Z", false)
  | _ => ("java/lang/AbstractStringBuilder", "count", "I", false)
def tyJ12 : Nat → FieldType := fun k => match k with
  | 0 => .array .byte
  | 1 => .byte
  | 2 => .boolean
  | _ => .int
abbrev wsJ120 : List Cond := u_ws RJ12 TJ12 4
theorem nmJ12 : ∀ a, a < 4 → ∀ b, b < 4 → a ≠ b → (TJ12 a).2.1 ≠ (TJ12 b).2.1 := by decide +kernel
theorem tyJ12_ok : ∀ k, k < 4 → parseFieldDescriptor (TJ12 k).2.2.1 = some (tyJ12 k) := by decide +kernel
abbrev cJ12_init : ByteArray := prog_75_method_2_code
def yJ12_init : MethodName := ⟨RJ12, "<init>", "(I)V"⟩
def dkwJ12_init_0 : List UInt8 := [42, 27, 183, 0, 1, 177]
abbrev dktJ12_init_0 : List UInt8 := dkwJ12_init_0 ++ []
theorem dksJ12_init_0 : cJ12_init.data.toList.drop 0 = dktJ12_init_0 := by decide +kernel
theorem dJ12_init_0 : decode cJ12_init 0 = .ok (.aload_n 0, 1) := dk_42 (dk_at dksJ12_init_0 0 rfl rfl)
theorem dJ12_init_1 : decode cJ12_init 1 = .ok (.iload_n 1, 1) := dk_27 (dk_at dksJ12_init_0 1 rfl rfl)
theorem dJ12_init_2 : decode cJ12_init 2 = .ok (.invokespecial 1, 3) := dk_183 0 1 (dk_at dksJ12_init_0 2 rfl rfl)
theorem dJ12_init_5 : decode cJ12_init 5 = .ok (.return_, 1) := dk_177 (dk_at dksJ12_init_0 5 rfl rfl)
abbrev cJ12_append : ByteArray := prog_75_method_14_code
def yJ12_append : MethodName := ⟨RJ12, "append", "(C)Ljava/lang/StringBuilder;"⟩
def dkwJ12_append_0 : List UInt8 := [42, 27, 183, 0, 50, 87, 42, 176]
abbrev dktJ12_append_0 : List UInt8 := dkwJ12_append_0 ++ []
theorem dksJ12_append_0 : cJ12_append.data.toList.drop 0 = dktJ12_append_0 := by decide +kernel
theorem dJ12_append_0 : decode cJ12_append 0 = .ok (.aload_n 0, 1) := dk_42 (dk_at dksJ12_append_0 0 rfl rfl)
theorem dJ12_append_1 : decode cJ12_append 1 = .ok (.iload_n 1, 1) := dk_27 (dk_at dksJ12_append_0 1 rfl rfl)
theorem dJ12_append_2 : decode cJ12_append 2 = .ok (.invokespecial 50, 3) := dk_183 0 50 (dk_at dksJ12_append_0 2 rfl rfl)
theorem dJ12_append_5 : decode cJ12_append 5 = .ok (.pop, 1) := dk_87 (dk_at dksJ12_append_0 5 rfl rfl)
theorem dJ12_append_6 : decode cJ12_append 6 = .ok (.aload_n 0, 1) := dk_42 (dk_at dksJ12_append_0 6 rfl rfl)
theorem dJ12_append_7 : decode cJ12_append 7 = .ok (.areturn, 1) := dk_176 (dk_at dksJ12_append_0 7 rfl rfl)
abbrev cJ12_toString : ByteArray := prog_75_method_42_code
def yJ12_toString : MethodName := ⟨RJ12, "toString", "()Ljava/lang/String;"⟩
def dkwJ12_toString_0 : List UInt8 := [187, 0, 18, 89, 42, 183, 0, 137, 176]
abbrev dktJ12_toString_0 : List UInt8 := dkwJ12_toString_0 ++ []
theorem dksJ12_toString_0 : cJ12_toString.data.toList.drop 0 = dktJ12_toString_0 := by decide +kernel
theorem dJ12_toString_0 : decode cJ12_toString 0 = .ok (.new 18, 3) := dk_187 0 18 (dk_at dksJ12_toString_0 0 rfl rfl)
theorem dJ12_toString_3 : decode cJ12_toString 3 = .ok (.dup, 1) := dk_89 (dk_at dksJ12_toString_0 3 rfl rfl)
theorem dJ12_toString_4 : decode cJ12_toString 4 = .ok (.aload_n 0, 1) := dk_42 (dk_at dksJ12_toString_0 4 rfl rfl)
theorem dJ12_toString_5 : decode cJ12_toString 5 = .ok (.invokespecial 137, 3) := dk_183 0 137 (dk_at dksJ12_toString_0 5 rfl rfl)
theorem dJ12_toString_8 : decode cJ12_toString 8 = .ok (.areturn, 1) := dk_176 (dk_at dksJ12_toString_0 8 rfl rfl)
abbrev cJ12_length : ByteArray := prog_75_method_93_code
def yJ12_length : MethodName := ⟨RJ12, "length", "()I"⟩
theorem dJ12_length_0 : decode cJ12_length 0 = .ok (.aload_n 0, 1) := by decide +kernel
theorem dJ12_length_1 : decode cJ12_length 1 = .ok (.invokespecial 343, 3) := by decide +kernel
theorem dJ12_length_4 : decode cJ12_length 4 = .ok (.ireturn, 1) := by decide +kernel
theorem q311 : (Jvm.Cond.initialized "java/lang/StringBuilder") ∈ lw_all := lw_g (lw_at lw_m1 51 rfl) rfl
theorem q1959 : (Jvm.Cond.instantiable "java/lang/StringBuilder" (4 : Nat)) ∈ lw_all := lw_g (lw_at lw_m8 19 rfl) rfl
theorem q1961 : (Jvm.Cond.instanceMethod ({ cls := "java/lang/StringBuilder", name := "<init>", desc := "(I)V" } : Jvm.MethodName)) ∈ lw_all := lw_g (lw_at lw_m8 21 rfl) rfl
theorem q1962 : (Jvm.Cond.code ({ cls := "java/lang/StringBuilder", name := "<init>", desc := "(I)V" } : Jvm.MethodName) prog_75_method_2_code (2 : Nat) (Option.none : Option Jvm.ClassFile.FieldType)) ∈ lw_all := lw_g (lw_at lw_m8 22 rfl) rfl
theorem q1963 : (Jvm.Cond.methodLink "java/lang/StringBuilder" (1 : Nat) ({ cls := "java/lang/AbstractStringBuilder", name := "<init>", desc := "(I)V" } : Jvm.MethodName)) ∈ lw_all := lw_g (lw_at lw_m8 23 rfl) rfl
theorem q1994 : (Jvm.Cond.lays "java/lang/StringBuilder" "java/lang/AbstractStringBuilder" "value" "[B") ∈ lw_all := lw_g (lw_at lw_m8 54 rfl) rfl
theorem q1996 : (Jvm.Cond.lays "java/lang/StringBuilder" "java/lang/AbstractStringBuilder" "coder" "B") ∈ lw_all := lw_g (lw_at lw_m8 56 rfl) rfl
theorem q1998 : (Jvm.Cond.lays "java/lang/StringBuilder" "java/lang/AbstractStringBuilder" "maybeLatin1" "Z") ∈ lw_all := lw_g (lw_at lw_m8 58 rfl) rfl
theorem q2000 : (Jvm.Cond.lays "java/lang/StringBuilder" "java/lang/AbstractStringBuilder" "count" "I") ∈ lw_all := lw_g (lw_at lw_m8 60 rfl) rfl
theorem q2002 : (Jvm.Cond.superclass "java/lang/StringBuilder" "java/lang/AbstractStringBuilder") ∈ lw_all := lw_g (lw_at lw_m8 62 rfl) rfl
theorem q2004 : (Jvm.Cond.instanceMethod ({ cls := "java/lang/StringBuilder", name := "append", desc := "(C)Ljava/lang/StringBuilder;" } : Jvm.MethodName)) ∈ lw_all := lw_g (lw_at lw_m8 64 rfl) rfl
theorem q2005 : (Jvm.Cond.selects "java/lang/StringBuilder" ({ cls := "java/lang/StringBuilder", name := "append", desc := "(C)Ljava/lang/StringBuilder;" } : Jvm.MethodName) ({ cls := "java/lang/StringBuilder", name := "append", desc := "(C)Ljava/lang/StringBuilder;" } : Jvm.MethodName)) ∈ lw_all := lw_g (lw_at lw_m8 65 rfl) rfl
theorem q2006 : (Jvm.Cond.code ({ cls := "java/lang/StringBuilder", name := "append", desc := "(C)Ljava/lang/StringBuilder;" } : Jvm.MethodName) prog_75_method_14_code (2 : Nat) (Option.some (Jvm.ClassFile.FieldType.object "java/lang/StringBuilder"))) ∈ lw_all := lw_g (lw_at lw_m8 66 rfl) rfl
theorem q2007 : (Jvm.Cond.methodLink "java/lang/StringBuilder" (50 : Nat) ({ cls := "java/lang/AbstractStringBuilder", name := "append", desc := "(C)Ljava/lang/AbstractStringBuilder;" } : Jvm.MethodName)) ∈ lw_all := lw_g (lw_at lw_m8 67 rfl) rfl
theorem q2048 : (Jvm.Cond.selects "java/lang/StringBuilder" ({ cls := "java/lang/AbstractStringBuilder", name := "isLatin1", desc := "()Z" } : Jvm.MethodName) ({ cls := "java/lang/AbstractStringBuilder", name := "isLatin1", desc := "()Z" } : Jvm.MethodName)) ∈ lw_all := lw_g (lw_at lw_m8 108 rfl) rfl
theorem q2079 : (Jvm.Cond.instanceMethod ({ cls := "java/lang/StringBuilder", name := "toString", desc := "()Ljava/lang/String;" } : Jvm.MethodName)) ∈ lw_all := lw_g (lw_at lw_m8 139 rfl) rfl
theorem q2080 : (Jvm.Cond.selects "java/lang/StringBuilder" ({ cls := "java/lang/StringBuilder", name := "toString", desc := "()Ljava/lang/String;" } : Jvm.MethodName) ({ cls := "java/lang/StringBuilder", name := "toString", desc := "()Ljava/lang/String;" } : Jvm.MethodName)) ∈ lw_all := lw_g (lw_at lw_m8 140 rfl) rfl
theorem q2081 : (Jvm.Cond.code ({ cls := "java/lang/StringBuilder", name := "toString", desc := "()Ljava/lang/String;" } : Jvm.MethodName) prog_75_method_42_code (1 : Nat) (Option.some (Jvm.ClassFile.FieldType.object "java/lang/String"))) ∈ lw_all := lw_g (lw_at lw_m8 141 rfl) rfl
theorem q2082 : (Jvm.Cond.classLink "java/lang/StringBuilder" (18 : Nat) "java/lang/String") ∈ lw_all := lw_g (lw_at lw_m8 142 rfl) rfl
theorem q2083 : (Jvm.Cond.methodLink "java/lang/StringBuilder" (137 : Nat) ({ cls := "java/lang/String", name := "<init>", desc := "(Ljava/lang/StringBuilder;)V" } : Jvm.MethodName)) ∈ lw_all := lw_g (lw_at lw_m8 143 rfl) rfl
theorem q2093 : (Jvm.Cond.selects "java/lang/StringBuilder" ({ cls := "java/lang/AbstractStringBuilder", name := "getValue", desc := "()[B" } : Jvm.MethodName) ({ cls := "java/lang/AbstractStringBuilder", name := "getValue", desc := "()[B" } : Jvm.MethodName)) ∈ lw_all := lw_g (lw_at lw_m8 153 rfl) rfl
theorem q2098 : (Jvm.Cond.selects "java/lang/StringBuilder" ({ cls := "java/lang/AbstractStringBuilder", name := "length", desc := "()I" } : Jvm.MethodName) ({ cls := "java/lang/StringBuilder", name := "length", desc := "()I" } : Jvm.MethodName)) ∈ lw_all := lw_g (lw_at lw_m8 158 rfl) rfl
theorem q2099 : (Jvm.Cond.instanceMethod ({ cls := "java/lang/StringBuilder", name := "length", desc := "()I" } : Jvm.MethodName)) ∈ lw_all := lw_g (lw_at lw_m8 159 rfl) rfl
theorem q2100 : (Jvm.Cond.code ({ cls := "java/lang/StringBuilder", name := "length", desc := "()I" } : Jvm.MethodName) prog_75_method_93_code (1 : Nat) (Option.some Jvm.ClassFile.FieldType.int)) ∈ lw_all := lw_g (lw_at lw_m8 160 rfl) rfl
theorem q2101 : (Jvm.Cond.methodLink "java/lang/StringBuilder" (343 : Nat) ({ cls := "java/lang/AbstractStringBuilder", name := "length", desc := "()I" } : Jvm.MethodName)) ∈ lw_all := lw_g (lw_at lw_m8 161 rfl) rfl
theorem q4843 : (Jvm.Cond.castable "java/lang/StringBuilder" "java/lang/Object") ∈ lw_tbl := lw_at lw_m20 23 rfl
theorem in_J12 : ∀ w ∈ wsJ120, w ∈ lw_all := lw_in wsJ120 [1994, 1996, 1998, 2000] (by decide +kernel) (by decide +kernel)
/-! java/lang/NegativeArraySizeException -/
set_option maxRecDepth 100000
def RJ13 : String := "java/lang/NegativeArraySizeException"
def TJ13 : u_T := fun k => match k with
  | 0 => ("java/lang/Throwable", "cause", "Ljava/lang/Throwable;", false)
  | 1 => ("java/lang/Throwable", "stackTrace", "[Ljava/lang/StackTraceElement;", false)
  | 2 => ("java/lang/Throwable", "suppressedExceptions", "Ljava/util/List;", false)
  | 3 => ("java/lang/Throwable", "detailMessage", "Ljava/lang/String;", false)
  | 4 => ("java/lang/Throwable", "backtrace", "Ljava/lang/Object;", false)
  | _ => ("java/lang/Throwable", "depth", "I", false)
def tyJ13 : Nat → FieldType := fun k => match k with
  | 0 => .object "java/lang/Throwable"
  | 1 => .array (.object "java/lang/StackTraceElement")
  | 2 => .object "java/util/List"
  | 3 => .object "java/lang/String"
  | 4 => .object "java/lang/Object"
  | _ => .int
abbrev wsJ130 : List Cond := u_ws RJ13 TJ13 6
theorem nmJ13 : ∀ a, a < 6 → ∀ b, b < 6 → a ≠ b → (TJ13 a).2.1 ≠ (TJ13 b).2.1 := by decide +kernel
theorem tyJ13_ok : ∀ k, k < 6 → parseFieldDescriptor (TJ13 k).2.2.1 = some (tyJ13 k) := by decide +kernel
abbrev cJ13_init : ByteArray := prog_69_method_1_code
def yJ13_init : MethodName := ⟨RJ13, "<init>", "()V"⟩
theorem dJ13_init_0 : decode cJ13_init 0 = .ok (.aload_n 0, 1) := by decide +kernel
theorem dJ13_init_1 : decode cJ13_init 1 = .ok (.invokespecial 1, 3) := by decide +kernel
theorem dJ13_init_4 : decode cJ13_init 4 = .ok (.return_, 1) := by decide +kernel
abbrev cJ13_init_2 : ByteArray := prog_69_method_2_code
def yJ13_init_2 : MethodName := ⟨RJ13, "<init>", "(Ljava/lang/String;)V"⟩
def dkwJ13_init_2_0 : List UInt8 := [42, 43, 183, 0, 7, 177]
abbrev dktJ13_init_2_0 : List UInt8 := dkwJ13_init_2_0 ++ []
theorem dksJ13_init_2_0 : cJ13_init_2.data.toList.drop 0 = dktJ13_init_2_0 := by decide +kernel
theorem dJ13_init_2_0 : decode cJ13_init_2 0 = .ok (.aload_n 0, 1) := dk_42 (dk_at dksJ13_init_2_0 0 rfl rfl)
theorem dJ13_init_2_1 : decode cJ13_init_2 1 = .ok (.aload_n 1, 1) := dk_43 (dk_at dksJ13_init_2_0 1 rfl rfl)
theorem dJ13_init_2_2 : decode cJ13_init_2 2 = .ok (.invokespecial 7, 3) := dk_183 0 7 (dk_at dksJ13_init_2_0 2 rfl rfl)
theorem dJ13_init_2_5 : decode cJ13_init_2 5 = .ok (.return_, 1) := dk_177 (dk_at dksJ13_init_2_0 5 rfl rfl)
theorem q312 : (Jvm.Cond.initialized "java/lang/NegativeArraySizeException") ∈ lw_all := lw_g (lw_at lw_m1 52 rfl) rfl
theorem q628 : (Jvm.Cond.selects "java/lang/NegativeArraySizeException" ({ cls := "java/lang/Throwable", name := "fillInStackTrace", desc := "()Ljava/lang/Throwable;" } : Jvm.MethodName) ({ cls := "java/lang/Throwable", name := "fillInStackTrace", desc := "()Ljava/lang/Throwable;" } : Jvm.MethodName)) ∈ lw_all := lw_g (lw_at lw_m2 128 rfl) rfl
theorem q1975 : (Jvm.Cond.instantiable "java/lang/NegativeArraySizeException" (6 : Nat)) ∈ lw_all := lw_g (lw_at lw_m8 35 rfl) rfl
theorem q1976 : (Jvm.Cond.castable "java/lang/NegativeArraySizeException" "java/lang/NegativeArraySizeException") ∈ lw_tbl := lw_at lw_m8 36 rfl
theorem q1977 : (Jvm.Cond.selects "java/lang/NegativeArraySizeException" ({ cls := "java/lang/Throwable", name := "fillInStackTrace", desc := "(I)Ljava/lang/Throwable;" } : Jvm.MethodName) ({ cls := "java/lang/Throwable", name := "fillInStackTrace", desc := "(I)Ljava/lang/Throwable;" } : Jvm.MethodName)) ∈ lw_all := lw_g (lw_at lw_m8 37 rfl) rfl
theorem q1978 : (Jvm.Cond.lays "java/lang/NegativeArraySizeException" "java/lang/Throwable" "cause" "Ljava/lang/Throwable;") ∈ lw_all := lw_g (lw_at lw_m8 38 rfl) rfl
theorem q1979 : (Jvm.Cond.lays "java/lang/NegativeArraySizeException" "java/lang/Throwable" "stackTrace" "[Ljava/lang/StackTraceElement;") ∈ lw_all := lw_g (lw_at lw_m8 39 rfl) rfl
theorem q1980 : (Jvm.Cond.lays "java/lang/NegativeArraySizeException" "java/lang/Throwable" "suppressedExceptions" "Ljava/util/List;") ∈ lw_all := lw_g (lw_at lw_m8 40 rfl) rfl
theorem q1981 : (Jvm.Cond.lays "java/lang/NegativeArraySizeException" "java/lang/Throwable" "detailMessage" "Ljava/lang/String;") ∈ lw_all := lw_g (lw_at lw_m8 41 rfl) rfl
theorem q1982 : (Jvm.Cond.lays "java/lang/NegativeArraySizeException" "java/lang/Throwable" "backtrace" "Ljava/lang/Object;") ∈ lw_all := lw_g (lw_at lw_m8 42 rfl) rfl
theorem q1984 : (Jvm.Cond.instanceMethod ({ cls := "java/lang/NegativeArraySizeException", name := "<init>", desc := "()V" } : Jvm.MethodName)) ∈ lw_all := lw_g (lw_at lw_m8 44 rfl) rfl
theorem q1985 : (Jvm.Cond.code ({ cls := "java/lang/NegativeArraySizeException", name := "<init>", desc := "()V" } : Jvm.MethodName) prog_69_method_1_code (1 : Nat) (Option.none : Option Jvm.ClassFile.FieldType)) ∈ lw_all := lw_g (lw_at lw_m8 45 rfl) rfl
theorem q1986 : (Jvm.Cond.methodLink "java/lang/NegativeArraySizeException" (1 : Nat) ({ cls := "java/lang/RuntimeException", name := "<init>", desc := "()V" } : Jvm.MethodName)) ∈ lw_all := lw_g (lw_at lw_m8 46 rfl) rfl
theorem q1987 : (Jvm.Cond.lays "java/lang/NegativeArraySizeException" "java/lang/Throwable" "depth" "I") ∈ lw_all := lw_g (lw_at lw_m8 47 rfl) rfl
theorem q1988 : (Jvm.Cond.superclass "java/lang/NegativeArraySizeException" "java/lang/RuntimeException") ∈ lw_all := lw_g (lw_at lw_m8 48 rfl) rfl
theorem q2272 : (Jvm.Cond.instanceMethod ({ cls := "java/lang/NegativeArraySizeException", name := "<init>", desc := "(Ljava/lang/String;)V" } : Jvm.MethodName)) ∈ lw_all := lw_g (lw_at lw_m9 92 rfl) rfl
theorem q2273 : (Jvm.Cond.code ({ cls := "java/lang/NegativeArraySizeException", name := "<init>", desc := "(Ljava/lang/String;)V" } : Jvm.MethodName) prog_69_method_2_code (2 : Nat) (Option.none : Option Jvm.ClassFile.FieldType)) ∈ lw_all := lw_g (lw_at lw_m9 93 rfl) rfl
theorem q2274 : (Jvm.Cond.methodLink "java/lang/NegativeArraySizeException" (7 : Nat) ({ cls := "java/lang/RuntimeException", name := "<init>", desc := "(Ljava/lang/String;)V" } : Jvm.MethodName)) ∈ lw_all := lw_g (lw_at lw_m9 94 rfl) rfl
theorem q4844 : (Jvm.Cond.castable "java/lang/NegativeArraySizeException" "java/lang/Object") ∈ lw_tbl := lw_at lw_m20 24 rfl
theorem in_J13 : ∀ w ∈ wsJ130, w ∈ lw_all := lw_in wsJ130 [1978, 1979, 1980, 1981, 1982, 1987] (by decide +kernel) (by decide +kernel)
/-! jdk/internal/util/ArraysSupport -/
set_option maxRecDepth 100000
def RJ14 : String := "jdk/internal/util/ArraysSupport"
abbrev cJ14_newLength : ByteArray := prog_84_method_27_code
def yJ14_newLength : MethodName := ⟨RJ14, "newLength", "(III)I"⟩
def dkwJ14_newLength_1 : List UInt8 := [184, 0, 201, 172]
abbrev dktJ14_newLength_1 : List UInt8 := dkwJ14_newLength_1 ++ []
def dkwJ14_newLength_0 : List UInt8 := [26, 27, 28, 184, 0, 194, 96, 62, 3, 29, 162, 0, 11, 29, 18, 200, 163, 0, 5, 29, 172, 26, 27]
abbrev dktJ14_newLength_0 : List UInt8 := dkwJ14_newLength_0 ++ dktJ14_newLength_1
theorem dksJ14_newLength_0 : cJ14_newLength.data.toList.drop 0 = dktJ14_newLength_0 := by decide +kernel
theorem dksJ14_newLength_1 : cJ14_newLength.data.toList.drop 23 = dktJ14_newLength_1 := dk_seg dksJ14_newLength_0 23 rfl rfl
theorem dJ14_newLength_0 : decode cJ14_newLength 0 = .ok (.iload_n 0, 1) := dk_26 (dk_at dksJ14_newLength_0 0 rfl rfl)
theorem dJ14_newLength_1 : decode cJ14_newLength 1 = .ok (.iload_n 1, 1) := dk_27 (dk_at dksJ14_newLength_0 1 rfl rfl)
theorem dJ14_newLength_2 : decode cJ14_newLength 2 = .ok (.iload_n 2, 1) := dk_28 (dk_at dksJ14_newLength_0 2 rfl rfl)
theorem dJ14_newLength_3 : decode cJ14_newLength 3 = .ok (.invokestatic 194, 3) := dk_184 0 194 (dk_at dksJ14_newLength_0 3 rfl rfl)
theorem dJ14_newLength_6 : decode cJ14_newLength 6 = .ok (.iadd, 1) := dk_96 (dk_at dksJ14_newLength_0 6 rfl rfl)
theorem dJ14_newLength_7 : decode cJ14_newLength 7 = .ok (.istore_n 3, 1) := dk_62 (dk_at dksJ14_newLength_0 7 rfl rfl)
theorem dJ14_newLength_8 : decode cJ14_newLength 8 = .ok (.iconst 0, 1) := dk_3 (dk_at dksJ14_newLength_0 8 rfl rfl)
theorem dJ14_newLength_9 : decode cJ14_newLength 9 = .ok (.iload_n 3, 1) := dk_29 (dk_at dksJ14_newLength_0 9 rfl rfl)
theorem dJ14_newLength_10 : decode cJ14_newLength 10 = .ok (.if_icmp .ge 11, 3) := dk_162 0 11 (dk_at dksJ14_newLength_0 10 rfl rfl)
theorem dJ14_newLength_13 : decode cJ14_newLength 13 = .ok (.iload_n 3, 1) := dk_29 (dk_at dksJ14_newLength_0 13 rfl rfl)
theorem dJ14_newLength_14 : decode cJ14_newLength 14 = .ok (.ldc 200, 2) := dk_18 200 (dk_at dksJ14_newLength_0 14 rfl rfl)
theorem dJ14_newLength_16 : decode cJ14_newLength 16 = .ok (.if_icmp .gt 5, 3) := dk_163 0 5 (dk_at dksJ14_newLength_0 16 rfl rfl)
theorem dJ14_newLength_19 : decode cJ14_newLength 19 = .ok (.iload_n 3, 1) := dk_29 (dk_at dksJ14_newLength_0 19 rfl rfl)
theorem dJ14_newLength_20 : decode cJ14_newLength 20 = .ok (.ireturn, 1) := dk_172 (dk_at dksJ14_newLength_0 20 rfl rfl)
theorem dJ14_newLength_21 : decode cJ14_newLength 21 = .ok (.iload_n 0, 1) := dk_26 (dk_at dksJ14_newLength_0 21 rfl rfl)
theorem dJ14_newLength_22 : decode cJ14_newLength 22 = .ok (.iload_n 1, 1) := dk_27 (dk_at dksJ14_newLength_0 22 rfl rfl)
theorem dJ14_newLength_23 : decode cJ14_newLength 23 = .ok (.invokestatic 201, 3) := dk_184 0 201 (dk_at dksJ14_newLength_1 0 rfl rfl)
theorem dJ14_newLength_26 : decode cJ14_newLength 26 = .ok (.ireturn, 1) := dk_172 (dk_at dksJ14_newLength_1 3 rfl rfl)
abbrev cJ14_hugeLength : ByteArray := prog_84_method_28_code
def yJ14_hugeLength : MethodName := ⟨RJ14, "hugeLength", "(II)I"⟩
def dkwJ14_hugeLength_2 : List UInt8 := [191, 28, 18, 200, 163, 0, 6, 18, 200, 172, 28, 172]
abbrev dktJ14_hugeLength_2 : List UInt8 := dkwJ14_hugeLength_2 ++ []
def dkwJ14_hugeLength_1 : List UInt8 := [26, 182, 0, 98, 18, 208, 182, 0, 94, 27, 182, 0, 98, 18, 210, 182, 0, 94, 182, 0, 101, 183, 0, 212]
abbrev dktJ14_hugeLength_1 : List UInt8 := dkwJ14_hugeLength_1 ++ dktJ14_hugeLength_2
def dkwJ14_hugeLength_0 : List UInt8 := [26, 27, 96, 61, 28, 156, 0, 44, 187, 0, 204, 89, 187, 0, 89, 89, 183, 0, 91, 18, 206, 182, 0, 94]
abbrev dktJ14_hugeLength_0 : List UInt8 := dkwJ14_hugeLength_0 ++ dktJ14_hugeLength_1
theorem dksJ14_hugeLength_0 : cJ14_hugeLength.data.toList.drop 0 = dktJ14_hugeLength_0 := by decide +kernel
theorem dksJ14_hugeLength_1 : cJ14_hugeLength.data.toList.drop 24 = dktJ14_hugeLength_1 := dk_seg dksJ14_hugeLength_0 24 rfl rfl
theorem dksJ14_hugeLength_2 : cJ14_hugeLength.data.toList.drop 48 = dktJ14_hugeLength_2 := dk_seg dksJ14_hugeLength_1 24 rfl rfl
theorem dJ14_hugeLength_0 : decode cJ14_hugeLength 0 = .ok (.iload_n 0, 1) := dk_26 (dk_at dksJ14_hugeLength_0 0 rfl rfl)
theorem dJ14_hugeLength_1 : decode cJ14_hugeLength 1 = .ok (.iload_n 1, 1) := dk_27 (dk_at dksJ14_hugeLength_0 1 rfl rfl)
theorem dJ14_hugeLength_2 : decode cJ14_hugeLength 2 = .ok (.iadd, 1) := dk_96 (dk_at dksJ14_hugeLength_0 2 rfl rfl)
theorem dJ14_hugeLength_3 : decode cJ14_hugeLength 3 = .ok (.istore_n 2, 1) := dk_61 (dk_at dksJ14_hugeLength_0 3 rfl rfl)
theorem dJ14_hugeLength_4 : decode cJ14_hugeLength 4 = .ok (.iload_n 2, 1) := dk_28 (dk_at dksJ14_hugeLength_0 4 rfl rfl)
theorem dJ14_hugeLength_5 : decode cJ14_hugeLength 5 = .ok (.ifCond .ge 44, 3) := dk_156 0 44 (dk_at dksJ14_hugeLength_0 5 rfl rfl)
theorem dJ14_hugeLength_8 : decode cJ14_hugeLength 8 = .ok (.new 204, 3) := dk_187 0 204 (dk_at dksJ14_hugeLength_0 8 rfl rfl)
theorem dJ14_hugeLength_11 : decode cJ14_hugeLength 11 = .ok (.dup, 1) := dk_89 (dk_at dksJ14_hugeLength_0 11 rfl rfl)
theorem dJ14_hugeLength_12 : decode cJ14_hugeLength 12 = .ok (.new 89, 3) := dk_187 0 89 (dk_at dksJ14_hugeLength_0 12 rfl rfl)
theorem dJ14_hugeLength_15 : decode cJ14_hugeLength 15 = .ok (.dup, 1) := dk_89 (dk_at dksJ14_hugeLength_0 15 rfl rfl)
theorem dJ14_hugeLength_16 : decode cJ14_hugeLength 16 = .ok (.invokespecial 91, 3) := dk_183 0 91 (dk_at dksJ14_hugeLength_0 16 rfl rfl)
theorem dJ14_hugeLength_19 : decode cJ14_hugeLength 19 = .ok (.ldc 206, 2) := dk_18 206 (dk_at dksJ14_hugeLength_0 19 rfl rfl)
theorem dJ14_hugeLength_21 : decode cJ14_hugeLength 21 = .ok (.invokevirtual 94, 3) := dk_182 0 94 (dk_at dksJ14_hugeLength_0 21 rfl rfl)
theorem dJ14_hugeLength_24 : decode cJ14_hugeLength 24 = .ok (.iload_n 0, 1) := dk_26 (dk_at dksJ14_hugeLength_1 0 rfl rfl)
theorem dJ14_hugeLength_25 : decode cJ14_hugeLength 25 = .ok (.invokevirtual 98, 3) := dk_182 0 98 (dk_at dksJ14_hugeLength_1 1 rfl rfl)
theorem dJ14_hugeLength_28 : decode cJ14_hugeLength 28 = .ok (.ldc 208, 2) := dk_18 208 (dk_at dksJ14_hugeLength_1 4 rfl rfl)
theorem dJ14_hugeLength_30 : decode cJ14_hugeLength 30 = .ok (.invokevirtual 94, 3) := dk_182 0 94 (dk_at dksJ14_hugeLength_1 6 rfl rfl)
theorem dJ14_hugeLength_33 : decode cJ14_hugeLength 33 = .ok (.iload_n 1, 1) := dk_27 (dk_at dksJ14_hugeLength_1 9 rfl rfl)
theorem dJ14_hugeLength_34 : decode cJ14_hugeLength 34 = .ok (.invokevirtual 98, 3) := dk_182 0 98 (dk_at dksJ14_hugeLength_1 10 rfl rfl)
theorem dJ14_hugeLength_37 : decode cJ14_hugeLength 37 = .ok (.ldc 210, 2) := dk_18 210 (dk_at dksJ14_hugeLength_1 13 rfl rfl)
theorem dJ14_hugeLength_39 : decode cJ14_hugeLength 39 = .ok (.invokevirtual 94, 3) := dk_182 0 94 (dk_at dksJ14_hugeLength_1 15 rfl rfl)
theorem dJ14_hugeLength_42 : decode cJ14_hugeLength 42 = .ok (.invokevirtual 101, 3) := dk_182 0 101 (dk_at dksJ14_hugeLength_1 18 rfl rfl)
theorem dJ14_hugeLength_45 : decode cJ14_hugeLength 45 = .ok (.invokespecial 212, 3) := dk_183 0 212 (dk_at dksJ14_hugeLength_1 21 rfl rfl)
theorem dJ14_hugeLength_48 : decode cJ14_hugeLength 48 = .ok (.athrow, 1) := dk_191 (dk_at dksJ14_hugeLength_2 0 rfl rfl)
theorem dJ14_hugeLength_49 : decode cJ14_hugeLength 49 = .ok (.iload_n 2, 1) := dk_28 (dk_at dksJ14_hugeLength_2 1 rfl rfl)
theorem dJ14_hugeLength_50 : decode cJ14_hugeLength 50 = .ok (.ldc 200, 2) := dk_18 200 (dk_at dksJ14_hugeLength_2 2 rfl rfl)
theorem dJ14_hugeLength_52 : decode cJ14_hugeLength 52 = .ok (.if_icmp .gt 6, 3) := dk_163 0 6 (dk_at dksJ14_hugeLength_2 4 rfl rfl)
theorem dJ14_hugeLength_55 : decode cJ14_hugeLength 55 = .ok (.ldc 200, 2) := dk_18 200 (dk_at dksJ14_hugeLength_2 7 rfl rfl)
theorem dJ14_hugeLength_57 : decode cJ14_hugeLength 57 = .ok (.ireturn, 1) := dk_172 (dk_at dksJ14_hugeLength_2 9 rfl rfl)
theorem dJ14_hugeLength_58 : decode cJ14_hugeLength 58 = .ok (.iload_n 2, 1) := dk_28 (dk_at dksJ14_hugeLength_2 10 rfl rfl)
theorem dJ14_hugeLength_59 : decode cJ14_hugeLength 59 = .ok (.ireturn, 1) := dk_172 (dk_at dksJ14_hugeLength_2 11 rfl rfl)
theorem q313 : (Jvm.Cond.initialized "jdk/internal/util/ArraysSupport") ∈ lw_all := lw_g (lw_at lw_m1 53 rfl) rfl
theorem q2019 : (Jvm.Cond.static ({ cls := "jdk/internal/util/ArraysSupport", name := "newLength", desc := "(III)I" } : Jvm.MethodName)) ∈ lw_all := lw_g (lw_at lw_m8 79 rfl) rfl
theorem q2020 : (Jvm.Cond.code ({ cls := "jdk/internal/util/ArraysSupport", name := "newLength", desc := "(III)I" } : Jvm.MethodName) prog_84_method_27_code (4 : Nat) (Option.some Jvm.ClassFile.FieldType.int)) ∈ lw_all := lw_g (lw_at lw_m8 80 rfl) rfl
theorem q2021 : (Jvm.Cond.methodLink "jdk/internal/util/ArraysSupport" (194 : Nat) ({ cls := "java/lang/Math", name := "max", desc := "(II)I" } : Jvm.MethodName)) ∈ lw_all := lw_g (lw_at lw_m8 81 rfl) rfl
theorem q2024 : (Jvm.Cond.constant "jdk/internal/util/ArraysSupport" (200 : Nat) (2147483639 : Int32)) ∈ lw_all := lw_g (lw_at lw_m8 84 rfl) rfl
theorem q2025 : (Jvm.Cond.methodLink "jdk/internal/util/ArraysSupport" (201 : Nat) ({ cls := "jdk/internal/util/ArraysSupport", name := "hugeLength", desc := "(II)I" } : Jvm.MethodName)) ∈ lw_all := lw_g (lw_at lw_m8 85 rfl) rfl
theorem q2026 : (Jvm.Cond.static ({ cls := "jdk/internal/util/ArraysSupport", name := "hugeLength", desc := "(II)I" } : Jvm.MethodName)) ∈ lw_all := lw_g (lw_at lw_m8 86 rfl) rfl
theorem q2027 : (Jvm.Cond.code ({ cls := "jdk/internal/util/ArraysSupport", name := "hugeLength", desc := "(II)I" } : Jvm.MethodName) prog_84_method_28_code (3 : Nat) (Option.some Jvm.ClassFile.FieldType.int)) ∈ lw_all := lw_g (lw_at lw_m8 87 rfl) rfl
/-! java/lang/Math -/
set_option maxRecDepth 100000
def RJ15 : String := "java/lang/Math"
abbrev cJ15_max : ByteArray := prog_68_method_65_code
def yJ15_max : MethodName := ⟨RJ15, "max", "(II)I"⟩
def dkwJ15_max_0 : List UInt8 := [26, 27, 161, 0, 7, 26, 167, 0, 4, 27, 172]
abbrev dktJ15_max_0 : List UInt8 := dkwJ15_max_0 ++ []
theorem dksJ15_max_0 : cJ15_max.data.toList.drop 0 = dktJ15_max_0 := by decide +kernel
theorem dJ15_max_0 : decode cJ15_max 0 = .ok (.iload_n 0, 1) := dk_26 (dk_at dksJ15_max_0 0 rfl rfl)
theorem dJ15_max_1 : decode cJ15_max 1 = .ok (.iload_n 1, 1) := dk_27 (dk_at dksJ15_max_0 1 rfl rfl)
theorem dJ15_max_2 : decode cJ15_max 2 = .ok (.if_icmp .lt 7, 3) := dk_161 0 7 (dk_at dksJ15_max_0 2 rfl rfl)
theorem dJ15_max_5 : decode cJ15_max 5 = .ok (.iload_n 0, 1) := dk_26 (dk_at dksJ15_max_0 5 rfl rfl)
theorem dJ15_max_6 : decode cJ15_max 6 = .ok (.goto 4, 3) := dk_167 0 4 (dk_at dksJ15_max_0 6 rfl rfl)
theorem dJ15_max_9 : decode cJ15_max 9 = .ok (.iload_n 1, 1) := dk_27 (dk_at dksJ15_max_0 9 rfl rfl)
theorem dJ15_max_10 : decode cJ15_max 10 = .ok (.ireturn, 1) := dk_172 (dk_at dksJ15_max_0 10 rfl rfl)
abbrev cJ15_min : ByteArray := prog_68_method_69_code
def yJ15_min : MethodName := ⟨RJ15, "min", "(II)I"⟩
def dkwJ15_min_0 : List UInt8 := [26, 27, 163, 0, 7, 26, 167, 0, 4, 27, 172]
abbrev dktJ15_min_0 : List UInt8 := dkwJ15_min_0 ++ []
theorem dksJ15_min_0 : cJ15_min.data.toList.drop 0 = dktJ15_min_0 := by decide +kernel
theorem dJ15_min_0 : decode cJ15_min 0 = .ok (.iload_n 0, 1) := dk_26 (dk_at dksJ15_min_0 0 rfl rfl)
theorem dJ15_min_1 : decode cJ15_min 1 = .ok (.iload_n 1, 1) := dk_27 (dk_at dksJ15_min_0 1 rfl rfl)
theorem dJ15_min_2 : decode cJ15_min 2 = .ok (.if_icmp .gt 7, 3) := dk_163 0 7 (dk_at dksJ15_min_0 2 rfl rfl)
theorem dJ15_min_5 : decode cJ15_min 5 = .ok (.iload_n 0, 1) := dk_26 (dk_at dksJ15_min_0 5 rfl rfl)
theorem dJ15_min_6 : decode cJ15_min 6 = .ok (.goto 4, 3) := dk_167 0 4 (dk_at dksJ15_min_0 6 rfl rfl)
theorem dJ15_min_9 : decode cJ15_min 9 = .ok (.iload_n 1, 1) := dk_27 (dk_at dksJ15_min_0 9 rfl rfl)
theorem dJ15_min_10 : decode cJ15_min 10 = .ok (.ireturn, 1) := dk_172 (dk_at dksJ15_min_0 10 rfl rfl)
abbrev cJ15_nextDown : ByteArray := prog_68_method_98_code
def yJ15_nextDown : MethodName := ⟨RJ15, "nextDown", "(F)F"⟩
def dkwJ15_nextDown_1 : List UInt8 := [19, 1, 70, 174, 34, 184, 0, 68, 34, 11, 149, 158, 0, 7, 2, 167, 0, 4, 4, 96, 184, 0, 162, 174]
abbrev dktJ15_nextDown_1 : List UInt8 := dkwJ15_nextDown_1 ++ []
def dkwJ15_nextDown_0 : List UInt8 := [34, 184, 0, 224, 154, 0, 11, 34, 19, 1, 76, 149, 154, 0, 5, 34, 174, 34, 11, 149, 154, 0, 7]
abbrev dktJ15_nextDown_0 : List UInt8 := dkwJ15_nextDown_0 ++ dktJ15_nextDown_1
theorem dksJ15_nextDown_0 : cJ15_nextDown.data.toList.drop 0 = dktJ15_nextDown_0 := by decide +kernel
theorem dksJ15_nextDown_1 : cJ15_nextDown.data.toList.drop 23 = dktJ15_nextDown_1 := dk_seg dksJ15_nextDown_0 23 rfl rfl
theorem dJ15_nextDown_0 : decode cJ15_nextDown 0 = .ok (.fload_n 0, 1) := dk_34 (dk_at dksJ15_nextDown_0 0 rfl rfl)
theorem dJ15_nextDown_1 : decode cJ15_nextDown 1 = .ok (.invokestatic 224, 3) := dk_184 0 224 (dk_at dksJ15_nextDown_0 1 rfl rfl)
theorem dJ15_nextDown_4 : decode cJ15_nextDown 4 = .ok (.ifCond .ne 11, 3) := dk_154 0 11 (dk_at dksJ15_nextDown_0 4 rfl rfl)
theorem dJ15_nextDown_7 : decode cJ15_nextDown 7 = .ok (.fload_n 0, 1) := dk_34 (dk_at dksJ15_nextDown_0 7 rfl rfl)
theorem dJ15_nextDown_8 : decode cJ15_nextDown 8 = .ok (.ldc_w 332, 3) := dk_19 1 76 (dk_at dksJ15_nextDown_0 8 rfl rfl)
theorem dJ15_nextDown_11 : decode cJ15_nextDown 11 = .ok (.fcmp .l, 1) := dk_149 (dk_at dksJ15_nextDown_0 11 rfl rfl)
theorem dJ15_nextDown_12 : decode cJ15_nextDown 12 = .ok (.ifCond .ne 5, 3) := dk_154 0 5 (dk_at dksJ15_nextDown_0 12 rfl rfl)
theorem dJ15_nextDown_15 : decode cJ15_nextDown 15 = .ok (.fload_n 0, 1) := dk_34 (dk_at dksJ15_nextDown_0 15 rfl rfl)
theorem dJ15_nextDown_16 : decode cJ15_nextDown 16 = .ok (.freturn, 1) := dk_174 (dk_at dksJ15_nextDown_0 16 rfl rfl)
theorem dJ15_nextDown_17 : decode cJ15_nextDown 17 = .ok (.fload_n 0, 1) := dk_34 (dk_at dksJ15_nextDown_0 17 rfl rfl)
theorem dJ15_nextDown_18 : decode cJ15_nextDown 18 = .ok (.fconst 0, 1) := dk_11 (dk_at dksJ15_nextDown_0 18 rfl rfl)
theorem dJ15_nextDown_19 : decode cJ15_nextDown 19 = .ok (.fcmp .l, 1) := dk_149 (dk_at dksJ15_nextDown_0 19 rfl rfl)
theorem dJ15_nextDown_20 : decode cJ15_nextDown 20 = .ok (.ifCond .ne 7, 3) := dk_154 0 7 (dk_at dksJ15_nextDown_0 20 rfl rfl)
theorem dJ15_nextDown_23 : decode cJ15_nextDown 23 = .ok (.ldc_w 326, 3) := dk_19 1 70 (dk_at dksJ15_nextDown_1 0 rfl rfl)
theorem dJ15_nextDown_26 : decode cJ15_nextDown 26 = .ok (.freturn, 1) := dk_174 (dk_at dksJ15_nextDown_1 3 rfl rfl)
theorem dJ15_nextDown_27 : decode cJ15_nextDown 27 = .ok (.fload_n 0, 1) := dk_34 (dk_at dksJ15_nextDown_1 4 rfl rfl)
theorem dJ15_nextDown_28 : decode cJ15_nextDown 28 = .ok (.invokestatic 68, 3) := dk_184 0 68 (dk_at dksJ15_nextDown_1 5 rfl rfl)
theorem dJ15_nextDown_31 : decode cJ15_nextDown 31 = .ok (.fload_n 0, 1) := dk_34 (dk_at dksJ15_nextDown_1 8 rfl rfl)
theorem dJ15_nextDown_32 : decode cJ15_nextDown 32 = .ok (.fconst 0, 1) := dk_11 (dk_at dksJ15_nextDown_1 9 rfl rfl)
theorem dJ15_nextDown_33 : decode cJ15_nextDown 33 = .ok (.fcmp .l, 1) := dk_149 (dk_at dksJ15_nextDown_1 10 rfl rfl)
theorem dJ15_nextDown_34 : decode cJ15_nextDown 34 = .ok (.ifCond .le 7, 3) := dk_158 0 7 (dk_at dksJ15_nextDown_1 11 rfl rfl)
theorem dJ15_nextDown_37 : decode cJ15_nextDown 37 = .ok (.iconst (-1), 1) := dk_2 (dk_at dksJ15_nextDown_1 14 rfl rfl)
theorem dJ15_nextDown_38 : decode cJ15_nextDown 38 = .ok (.goto 4, 3) := dk_167 0 4 (dk_at dksJ15_nextDown_1 15 rfl rfl)
theorem dJ15_nextDown_41 : decode cJ15_nextDown 41 = .ok (.iconst 1, 1) := dk_4 (dk_at dksJ15_nextDown_1 18 rfl rfl)
theorem dJ15_nextDown_42 : decode cJ15_nextDown 42 = .ok (.iadd, 1) := dk_96 (dk_at dksJ15_nextDown_1 19 rfl rfl)
theorem dJ15_nextDown_43 : decode cJ15_nextDown 43 = .ok (.invokestatic 162, 3) := dk_184 0 162 (dk_at dksJ15_nextDown_1 20 rfl rfl)
theorem dJ15_nextDown_46 : decode cJ15_nextDown 46 = .ok (.freturn, 1) := dk_174 (dk_at dksJ15_nextDown_1 23 rfl rfl)
abbrev cJ15_nextUp : ByteArray := prog_68_method_96_code
def yJ15_nextUp : MethodName := ⟨RJ15, "nextUp", "(F)F"⟩
def dkwJ15_nextUp_1 : List UInt8 := [2, 96, 184, 0, 162, 174, 34, 174]
abbrev dktJ15_nextUp_1 : List UInt8 := dkwJ15_nextUp_1 ++ []
def dkwJ15_nextUp_0 : List UInt8 := [34, 19, 1, 73, 150, 156, 0, 25, 34, 11, 98, 184, 0, 68, 60, 27, 27, 155, 0, 7, 4, 167, 0, 4]
abbrev dktJ15_nextUp_0 : List UInt8 := dkwJ15_nextUp_0 ++ dktJ15_nextUp_1
theorem dksJ15_nextUp_0 : cJ15_nextUp.data.toList.drop 0 = dktJ15_nextUp_0 := by decide +kernel
theorem dksJ15_nextUp_1 : cJ15_nextUp.data.toList.drop 24 = dktJ15_nextUp_1 := dk_seg dksJ15_nextUp_0 24 rfl rfl
theorem dJ15_nextUp_0 : decode cJ15_nextUp 0 = .ok (.fload_n 0, 1) := dk_34 (dk_at dksJ15_nextUp_0 0 rfl rfl)
theorem dJ15_nextUp_1 : decode cJ15_nextUp 1 = .ok (.ldc_w 329, 3) := dk_19 1 73 (dk_at dksJ15_nextUp_0 1 rfl rfl)
theorem dJ15_nextUp_4 : decode cJ15_nextUp 4 = .ok (.fcmp .g, 1) := dk_150 (dk_at dksJ15_nextUp_0 4 rfl rfl)
theorem dJ15_nextUp_5 : decode cJ15_nextUp 5 = .ok (.ifCond .ge 25, 3) := dk_156 0 25 (dk_at dksJ15_nextUp_0 5 rfl rfl)
theorem dJ15_nextUp_8 : decode cJ15_nextUp 8 = .ok (.fload_n 0, 1) := dk_34 (dk_at dksJ15_nextUp_0 8 rfl rfl)
theorem dJ15_nextUp_9 : decode cJ15_nextUp 9 = .ok (.fconst 0, 1) := dk_11 (dk_at dksJ15_nextUp_0 9 rfl rfl)
theorem dJ15_nextUp_10 : decode cJ15_nextUp 10 = .ok (.fadd, 1) := dk_98 (dk_at dksJ15_nextUp_0 10 rfl rfl)
theorem dJ15_nextUp_11 : decode cJ15_nextUp 11 = .ok (.invokestatic 68, 3) := dk_184 0 68 (dk_at dksJ15_nextUp_0 11 rfl rfl)
theorem dJ15_nextUp_14 : decode cJ15_nextUp 14 = .ok (.istore_n 1, 1) := dk_60 (dk_at dksJ15_nextUp_0 14 rfl rfl)
theorem dJ15_nextUp_15 : decode cJ15_nextUp 15 = .ok (.iload_n 1, 1) := dk_27 (dk_at dksJ15_nextUp_0 15 rfl rfl)
theorem dJ15_nextUp_16 : decode cJ15_nextUp 16 = .ok (.iload_n 1, 1) := dk_27 (dk_at dksJ15_nextUp_0 16 rfl rfl)
theorem dJ15_nextUp_17 : decode cJ15_nextUp 17 = .ok (.ifCond .lt 7, 3) := dk_155 0 7 (dk_at dksJ15_nextUp_0 17 rfl rfl)
theorem dJ15_nextUp_20 : decode cJ15_nextUp 20 = .ok (.iconst 1, 1) := dk_4 (dk_at dksJ15_nextUp_0 20 rfl rfl)
theorem dJ15_nextUp_21 : decode cJ15_nextUp 21 = .ok (.goto 4, 3) := dk_167 0 4 (dk_at dksJ15_nextUp_0 21 rfl rfl)
theorem dJ15_nextUp_24 : decode cJ15_nextUp 24 = .ok (.iconst (-1), 1) := dk_2 (dk_at dksJ15_nextUp_1 0 rfl rfl)
theorem dJ15_nextUp_25 : decode cJ15_nextUp 25 = .ok (.iadd, 1) := dk_96 (dk_at dksJ15_nextUp_1 1 rfl rfl)
theorem dJ15_nextUp_26 : decode cJ15_nextUp 26 = .ok (.invokestatic 162, 3) := dk_184 0 162 (dk_at dksJ15_nextUp_1 2 rfl rfl)
theorem dJ15_nextUp_29 : decode cJ15_nextUp 29 = .ok (.freturn, 1) := dk_174 (dk_at dksJ15_nextUp_1 5 rfl rfl)
theorem dJ15_nextUp_30 : decode cJ15_nextUp 30 = .ok (.fload_n 0, 1) := dk_34 (dk_at dksJ15_nextUp_1 6 rfl rfl)
theorem dJ15_nextUp_31 : decode cJ15_nextUp 31 = .ok (.freturn, 1) := dk_174 (dk_at dksJ15_nextUp_1 7 rfl rfl)
abbrev cJ15_ceil : ByteArray := prog_68_method_16_code
def yJ15_ceil : MethodName := ⟨RJ15, "ceil", "(D)D"⟩
theorem dJ15_ceil_0 : decode cJ15_ceil 0 = .ok (.dload_n 0, 1) := by decide +kernel
theorem dJ15_ceil_1 : decode cJ15_ceil 1 = .ok (.invokestatic 53, 3) := by decide +kernel
theorem dJ15_ceil_4 : decode cJ15_ceil 4 = .ok (.dreturn, 1) := by decide +kernel
abbrev cJ15_getExponent : ByteArray := prog_68_method_92_code
def yJ15_getExponent : MethodName := ⟨RJ15, "getExponent", "(D)I"⟩
def dkwJ15_getExponent_0 : List UInt8 := [38, 184, 0, 79, 20, 0, 87, 127, 16, 52, 123, 20, 1, 66, 101, 136, 172]
abbrev dktJ15_getExponent_0 : List UInt8 := dkwJ15_getExponent_0 ++ []
theorem dksJ15_getExponent_0 : cJ15_getExponent.data.toList.drop 0 = dktJ15_getExponent_0 := by decide +kernel
theorem dJ15_getExponent_0 : decode cJ15_getExponent 0 = .ok (.dload_n 0, 1) := dk_38 (dk_at dksJ15_getExponent_0 0 rfl rfl)
theorem dJ15_getExponent_1 : decode cJ15_getExponent 1 = .ok (.invokestatic 79, 3) := dk_184 0 79 (dk_at dksJ15_getExponent_0 1 rfl rfl)
theorem dJ15_getExponent_4 : decode cJ15_getExponent 4 = .ok (.ldc2_w 87, 3) := dk_20 0 87 (dk_at dksJ15_getExponent_0 4 rfl rfl)
theorem dJ15_getExponent_7 : decode cJ15_getExponent 7 = .ok (.land, 1) := dk_127 (dk_at dksJ15_getExponent_0 7 rfl rfl)
theorem dJ15_getExponent_8 : decode cJ15_getExponent 8 = .ok (.bipush 52, 2) := dk_16 52 (dk_at dksJ15_getExponent_0 8 rfl rfl)
theorem dJ15_getExponent_10 : decode cJ15_getExponent 10 = .ok (.lshr, 1) := dk_123 (dk_at dksJ15_getExponent_0 10 rfl rfl)
theorem dJ15_getExponent_11 : decode cJ15_getExponent 11 = .ok (.ldc2_w 322, 3) := dk_20 1 66 (dk_at dksJ15_getExponent_0 11 rfl rfl)
theorem dJ15_getExponent_14 : decode cJ15_getExponent 14 = .ok (.lsub, 1) := dk_101 (dk_at dksJ15_getExponent_0 14 rfl rfl)
theorem dJ15_getExponent_15 : decode cJ15_getExponent 15 = .ok (.l2i, 1) := dk_136 (dk_at dksJ15_getExponent_0 15 rfl rfl)
theorem dJ15_getExponent_16 : decode cJ15_getExponent 16 = .ok (.ireturn, 1) := dk_172 (dk_at dksJ15_getExponent_0 16 rfl rfl)
abbrev cJ15_floor : ByteArray := prog_68_method_17_code
def yJ15_floor : MethodName := ⟨RJ15, "floor", "(D)D"⟩
theorem dJ15_floor_0 : decode cJ15_floor 0 = .ok (.dload_n 0, 1) := by decide +kernel
theorem dJ15_floor_1 : decode cJ15_floor 1 = .ok (.invokestatic 56, 3) := by decide +kernel
theorem dJ15_floor_4 : decode cJ15_floor 4 = .ok (.dreturn, 1) := by decide +kernel
abbrev cJ15_abs : ByteArray := prog_68_method_64_code
def yJ15_abs : MethodName := ⟨RJ15, "abs", "(D)D"⟩
def dkwJ15_abs_0 : List UInt8 := [38, 184, 0, 79, 20, 0, 135, 127, 184, 0, 166, 175]
abbrev dktJ15_abs_0 : List UInt8 := dkwJ15_abs_0 ++ []
theorem dksJ15_abs_0 : cJ15_abs.data.toList.drop 0 = dktJ15_abs_0 := by decide +kernel
theorem dJ15_abs_0 : decode cJ15_abs 0 = .ok (.dload_n 0, 1) := dk_38 (dk_at dksJ15_abs_0 0 rfl rfl)
theorem dJ15_abs_1 : decode cJ15_abs 1 = .ok (.invokestatic 79, 3) := dk_184 0 79 (dk_at dksJ15_abs_0 1 rfl rfl)
theorem dJ15_abs_4 : decode cJ15_abs 4 = .ok (.ldc2_w 135, 3) := dk_20 0 135 (dk_at dksJ15_abs_0 4 rfl rfl)
theorem dJ15_abs_7 : decode cJ15_abs 7 = .ok (.land, 1) := dk_127 (dk_at dksJ15_abs_0 7 rfl rfl)
theorem dJ15_abs_8 : decode cJ15_abs 8 = .ok (.invokestatic 166, 3) := dk_184 0 166 (dk_at dksJ15_abs_0 8 rfl rfl)
theorem dJ15_abs_11 : decode cJ15_abs 11 = .ok (.dreturn, 1) := dk_175 (dk_at dksJ15_abs_0 11 rfl rfl)
abbrev cJ15_max_2 : ByteArray := prog_68_method_68_code
def yJ15_max_2 : MethodName := ⟨RJ15, "max", "(DD)D"⟩
def dkwJ15_max_2_1 : List UInt8 := [178, 0, 174, 148, 154, 0, 5, 40, 175, 38, 40, 151, 155, 0, 7, 38, 167, 0, 4, 40, 175]
abbrev dktJ15_max_2_1 : List UInt8 := dkwJ15_max_2_1 ++ []
def dkwJ15_max_2_0 : List UInt8 := [38, 38, 151, 153, 0, 5, 38, 175, 38, 14, 151, 154, 0, 22, 40, 14, 151, 154, 0, 16, 38, 184, 0, 79]
abbrev dktJ15_max_2_0 : List UInt8 := dkwJ15_max_2_0 ++ dktJ15_max_2_1
theorem dksJ15_max_2_0 : cJ15_max_2.data.toList.drop 0 = dktJ15_max_2_0 := by decide +kernel
theorem dksJ15_max_2_1 : cJ15_max_2.data.toList.drop 24 = dktJ15_max_2_1 := dk_seg dksJ15_max_2_0 24 rfl rfl
theorem dJ15_max_2_0 : decode cJ15_max_2 0 = .ok (.dload_n 0, 1) := dk_38 (dk_at dksJ15_max_2_0 0 rfl rfl)
theorem dJ15_max_2_1 : decode cJ15_max_2 1 = .ok (.dload_n 0, 1) := dk_38 (dk_at dksJ15_max_2_0 1 rfl rfl)
theorem dJ15_max_2_2 : decode cJ15_max_2 2 = .ok (.dcmp .l, 1) := dk_151 (dk_at dksJ15_max_2_0 2 rfl rfl)
theorem dJ15_max_2_3 : decode cJ15_max_2 3 = .ok (.ifCond .eq 5, 3) := dk_153 0 5 (dk_at dksJ15_max_2_0 3 rfl rfl)
theorem dJ15_max_2_6 : decode cJ15_max_2 6 = .ok (.dload_n 0, 1) := dk_38 (dk_at dksJ15_max_2_0 6 rfl rfl)
theorem dJ15_max_2_7 : decode cJ15_max_2 7 = .ok (.dreturn, 1) := dk_175 (dk_at dksJ15_max_2_0 7 rfl rfl)
theorem dJ15_max_2_8 : decode cJ15_max_2 8 = .ok (.dload_n 0, 1) := dk_38 (dk_at dksJ15_max_2_0 8 rfl rfl)
theorem dJ15_max_2_9 : decode cJ15_max_2 9 = .ok (.dconst 0, 1) := dk_14 (dk_at dksJ15_max_2_0 9 rfl rfl)
theorem dJ15_max_2_10 : decode cJ15_max_2 10 = .ok (.dcmp .l, 1) := dk_151 (dk_at dksJ15_max_2_0 10 rfl rfl)
theorem dJ15_max_2_11 : decode cJ15_max_2 11 = .ok (.ifCond .ne 22, 3) := dk_154 0 22 (dk_at dksJ15_max_2_0 11 rfl rfl)
theorem dJ15_max_2_14 : decode cJ15_max_2 14 = .ok (.dload_n 2, 1) := dk_40 (dk_at dksJ15_max_2_0 14 rfl rfl)
theorem dJ15_max_2_15 : decode cJ15_max_2 15 = .ok (.dconst 0, 1) := dk_14 (dk_at dksJ15_max_2_0 15 rfl rfl)
theorem dJ15_max_2_16 : decode cJ15_max_2 16 = .ok (.dcmp .l, 1) := dk_151 (dk_at dksJ15_max_2_0 16 rfl rfl)
theorem dJ15_max_2_17 : decode cJ15_max_2 17 = .ok (.ifCond .ne 16, 3) := dk_154 0 16 (dk_at dksJ15_max_2_0 17 rfl rfl)
theorem dJ15_max_2_20 : decode cJ15_max_2 20 = .ok (.dload_n 0, 1) := dk_38 (dk_at dksJ15_max_2_0 20 rfl rfl)
theorem dJ15_max_2_21 : decode cJ15_max_2 21 = .ok (.invokestatic 79, 3) := dk_184 0 79 (dk_at dksJ15_max_2_0 21 rfl rfl)
theorem dJ15_max_2_24 : decode cJ15_max_2 24 = .ok (.getstatic 174, 3) := dk_178 0 174 (dk_at dksJ15_max_2_1 0 rfl rfl)
theorem dJ15_max_2_27 : decode cJ15_max_2 27 = .ok (.lcmp, 1) := dk_148 (dk_at dksJ15_max_2_1 3 rfl rfl)
theorem dJ15_max_2_28 : decode cJ15_max_2 28 = .ok (.ifCond .ne 5, 3) := dk_154 0 5 (dk_at dksJ15_max_2_1 4 rfl rfl)
theorem dJ15_max_2_31 : decode cJ15_max_2 31 = .ok (.dload_n 2, 1) := dk_40 (dk_at dksJ15_max_2_1 7 rfl rfl)
theorem dJ15_max_2_32 : decode cJ15_max_2 32 = .ok (.dreturn, 1) := dk_175 (dk_at dksJ15_max_2_1 8 rfl rfl)
theorem dJ15_max_2_33 : decode cJ15_max_2 33 = .ok (.dload_n 0, 1) := dk_38 (dk_at dksJ15_max_2_1 9 rfl rfl)
theorem dJ15_max_2_34 : decode cJ15_max_2 34 = .ok (.dload_n 2, 1) := dk_40 (dk_at dksJ15_max_2_1 10 rfl rfl)
theorem dJ15_max_2_35 : decode cJ15_max_2 35 = .ok (.dcmp .l, 1) := dk_151 (dk_at dksJ15_max_2_1 11 rfl rfl)
theorem dJ15_max_2_36 : decode cJ15_max_2 36 = .ok (.ifCond .lt 7, 3) := dk_155 0 7 (dk_at dksJ15_max_2_1 12 rfl rfl)
theorem dJ15_max_2_39 : decode cJ15_max_2 39 = .ok (.dload_n 0, 1) := dk_38 (dk_at dksJ15_max_2_1 15 rfl rfl)
theorem dJ15_max_2_40 : decode cJ15_max_2 40 = .ok (.goto 4, 3) := dk_167 0 4 (dk_at dksJ15_max_2_1 16 rfl rfl)
theorem dJ15_max_2_43 : decode cJ15_max_2 43 = .ok (.dload_n 2, 1) := dk_40 (dk_at dksJ15_max_2_1 19 rfl rfl)
theorem dJ15_max_2_44 : decode cJ15_max_2 44 = .ok (.dreturn, 1) := dk_175 (dk_at dksJ15_max_2_1 20 rfl rfl)
abbrev cJ15_sqrt : ByteArray := prog_68_method_13_code
def yJ15_sqrt : MethodName := ⟨RJ15, "sqrt", "(D)D"⟩
theorem dJ15_sqrt_0 : decode cJ15_sqrt 0 = .ok (.dload_n 0, 1) := by decide +kernel
theorem dJ15_sqrt_1 : decode cJ15_sqrt 1 = .ok (.invokestatic 43, 3) := by decide +kernel
theorem dJ15_sqrt_4 : decode cJ15_sqrt 4 = .ok (.dreturn, 1) := by decide +kernel
abbrev cJ15_nextDown_2 : ByteArray := prog_68_method_97_code
def yJ15_nextDown_2 : MethodName := ⟨RJ15, "nextDown", "(D)D"⟩
def dkwJ15_nextDown_2_2 : List UInt8 := [184, 0, 166, 175]
abbrev dktJ15_nextDown_2_2 : List UInt8 := dkwJ15_nextDown_2_2 ++ []
def dkwJ15_nextDown_2_1 : List UInt8 := [20, 1, 68, 175, 38, 184, 0, 79, 38, 14, 151, 158, 0, 9, 20, 0, 130, 167, 0, 4, 10, 97]
abbrev dktJ15_nextDown_2_1 : List UInt8 := dkwJ15_nextDown_2_1 ++ dktJ15_nextDown_2_2
def dkwJ15_nextDown_2_0 : List UInt8 := [38, 184, 0, 205, 154, 0, 11, 38, 20, 1, 74, 151, 154, 0, 5, 38, 175, 38, 14, 151, 154, 0, 7]
abbrev dktJ15_nextDown_2_0 : List UInt8 := dkwJ15_nextDown_2_0 ++ dktJ15_nextDown_2_1
theorem dksJ15_nextDown_2_0 : cJ15_nextDown_2.data.toList.drop 0 = dktJ15_nextDown_2_0 := by decide +kernel
theorem dksJ15_nextDown_2_1 : cJ15_nextDown_2.data.toList.drop 23 = dktJ15_nextDown_2_1 := dk_seg dksJ15_nextDown_2_0 23 rfl rfl
theorem dksJ15_nextDown_2_2 : cJ15_nextDown_2.data.toList.drop 45 = dktJ15_nextDown_2_2 := dk_seg dksJ15_nextDown_2_1 22 rfl rfl
theorem dJ15_nextDown_2_0 : decode cJ15_nextDown_2 0 = .ok (.dload_n 0, 1) := dk_38 (dk_at dksJ15_nextDown_2_0 0 rfl rfl)
theorem dJ15_nextDown_2_1 : decode cJ15_nextDown_2 1 = .ok (.invokestatic 205, 3) := dk_184 0 205 (dk_at dksJ15_nextDown_2_0 1 rfl rfl)
theorem dJ15_nextDown_2_4 : decode cJ15_nextDown_2 4 = .ok (.ifCond .ne 11, 3) := dk_154 0 11 (dk_at dksJ15_nextDown_2_0 4 rfl rfl)
theorem dJ15_nextDown_2_7 : decode cJ15_nextDown_2 7 = .ok (.dload_n 0, 1) := dk_38 (dk_at dksJ15_nextDown_2_0 7 rfl rfl)
theorem dJ15_nextDown_2_8 : decode cJ15_nextDown_2 8 = .ok (.ldc2_w 330, 3) := dk_20 1 74 (dk_at dksJ15_nextDown_2_0 8 rfl rfl)
theorem dJ15_nextDown_2_11 : decode cJ15_nextDown_2 11 = .ok (.dcmp .l, 1) := dk_151 (dk_at dksJ15_nextDown_2_0 11 rfl rfl)
theorem dJ15_nextDown_2_12 : decode cJ15_nextDown_2 12 = .ok (.ifCond .ne 5, 3) := dk_154 0 5 (dk_at dksJ15_nextDown_2_0 12 rfl rfl)
theorem dJ15_nextDown_2_15 : decode cJ15_nextDown_2 15 = .ok (.dload_n 0, 1) := dk_38 (dk_at dksJ15_nextDown_2_0 15 rfl rfl)
theorem dJ15_nextDown_2_16 : decode cJ15_nextDown_2 16 = .ok (.dreturn, 1) := dk_175 (dk_at dksJ15_nextDown_2_0 16 rfl rfl)
theorem dJ15_nextDown_2_17 : decode cJ15_nextDown_2 17 = .ok (.dload_n 0, 1) := dk_38 (dk_at dksJ15_nextDown_2_0 17 rfl rfl)
theorem dJ15_nextDown_2_18 : decode cJ15_nextDown_2 18 = .ok (.dconst 0, 1) := dk_14 (dk_at dksJ15_nextDown_2_0 18 rfl rfl)
theorem dJ15_nextDown_2_19 : decode cJ15_nextDown_2 19 = .ok (.dcmp .l, 1) := dk_151 (dk_at dksJ15_nextDown_2_0 19 rfl rfl)
theorem dJ15_nextDown_2_20 : decode cJ15_nextDown_2 20 = .ok (.ifCond .ne 7, 3) := dk_154 0 7 (dk_at dksJ15_nextDown_2_0 20 rfl rfl)
theorem dJ15_nextDown_2_23 : decode cJ15_nextDown_2 23 = .ok (.ldc2_w 324, 3) := dk_20 1 68 (dk_at dksJ15_nextDown_2_1 0 rfl rfl)
theorem dJ15_nextDown_2_26 : decode cJ15_nextDown_2 26 = .ok (.dreturn, 1) := dk_175 (dk_at dksJ15_nextDown_2_1 3 rfl rfl)
theorem dJ15_nextDown_2_27 : decode cJ15_nextDown_2 27 = .ok (.dload_n 0, 1) := dk_38 (dk_at dksJ15_nextDown_2_1 4 rfl rfl)
theorem dJ15_nextDown_2_28 : decode cJ15_nextDown_2 28 = .ok (.invokestatic 79, 3) := dk_184 0 79 (dk_at dksJ15_nextDown_2_1 5 rfl rfl)
theorem dJ15_nextDown_2_31 : decode cJ15_nextDown_2 31 = .ok (.dload_n 0, 1) := dk_38 (dk_at dksJ15_nextDown_2_1 8 rfl rfl)
theorem dJ15_nextDown_2_32 : decode cJ15_nextDown_2 32 = .ok (.dconst 0, 1) := dk_14 (dk_at dksJ15_nextDown_2_1 9 rfl rfl)
theorem dJ15_nextDown_2_33 : decode cJ15_nextDown_2 33 = .ok (.dcmp .l, 1) := dk_151 (dk_at dksJ15_nextDown_2_1 10 rfl rfl)
theorem dJ15_nextDown_2_34 : decode cJ15_nextDown_2 34 = .ok (.ifCond .le 9, 3) := dk_158 0 9 (dk_at dksJ15_nextDown_2_1 11 rfl rfl)
theorem dJ15_nextDown_2_37 : decode cJ15_nextDown_2 37 = .ok (.ldc2_w 130, 3) := dk_20 0 130 (dk_at dksJ15_nextDown_2_1 14 rfl rfl)
theorem dJ15_nextDown_2_40 : decode cJ15_nextDown_2 40 = .ok (.goto 4, 3) := dk_167 0 4 (dk_at dksJ15_nextDown_2_1 17 rfl rfl)
theorem dJ15_nextDown_2_43 : decode cJ15_nextDown_2 43 = .ok (.lconst 1, 1) := dk_10 (dk_at dksJ15_nextDown_2_1 20 rfl rfl)
theorem dJ15_nextDown_2_44 : decode cJ15_nextDown_2 44 = .ok (.ladd, 1) := dk_97 (dk_at dksJ15_nextDown_2_1 21 rfl rfl)
theorem dJ15_nextDown_2_45 : decode cJ15_nextDown_2 45 = .ok (.invokestatic 166, 3) := dk_184 0 166 (dk_at dksJ15_nextDown_2_2 0 rfl rfl)
theorem dJ15_nextDown_2_48 : decode cJ15_nextDown_2 48 = .ok (.dreturn, 1) := dk_175 (dk_at dksJ15_nextDown_2_2 3 rfl rfl)
abbrev cJ15_nextUp_2 : ByteArray := prog_68_method_95_code
def yJ15_nextUp_2 : MethodName := ⟨RJ15, "nextUp", "(D)D"⟩
def dkwJ15_nextUp_2_1 : List UInt8 := [167, 0, 6, 20, 0, 130, 97, 184, 0, 166, 175, 38, 175]
abbrev dktJ15_nextUp_2_1 : List UInt8 := dkwJ15_nextUp_2_1 ++ []
def dkwJ15_nextUp_2_0 : List UInt8 := [38, 20, 1, 71, 152, 156, 0, 29, 38, 14, 99, 184, 0, 79, 65, 32, 32, 9, 148, 155, 0, 7, 10]
abbrev dktJ15_nextUp_2_0 : List UInt8 := dkwJ15_nextUp_2_0 ++ dktJ15_nextUp_2_1
theorem dksJ15_nextUp_2_0 : cJ15_nextUp_2.data.toList.drop 0 = dktJ15_nextUp_2_0 := by decide +kernel
theorem dksJ15_nextUp_2_1 : cJ15_nextUp_2.data.toList.drop 23 = dktJ15_nextUp_2_1 := dk_seg dksJ15_nextUp_2_0 23 rfl rfl
theorem dJ15_nextUp_2_0 : decode cJ15_nextUp_2 0 = .ok (.dload_n 0, 1) := dk_38 (dk_at dksJ15_nextUp_2_0 0 rfl rfl)
theorem dJ15_nextUp_2_1 : decode cJ15_nextUp_2 1 = .ok (.ldc2_w 327, 3) := dk_20 1 71 (dk_at dksJ15_nextUp_2_0 1 rfl rfl)
theorem dJ15_nextUp_2_4 : decode cJ15_nextUp_2 4 = .ok (.dcmp .g, 1) := dk_152 (dk_at dksJ15_nextUp_2_0 4 rfl rfl)
theorem dJ15_nextUp_2_5 : decode cJ15_nextUp_2 5 = .ok (.ifCond .ge 29, 3) := dk_156 0 29 (dk_at dksJ15_nextUp_2_0 5 rfl rfl)
theorem dJ15_nextUp_2_8 : decode cJ15_nextUp_2 8 = .ok (.dload_n 0, 1) := dk_38 (dk_at dksJ15_nextUp_2_0 8 rfl rfl)
theorem dJ15_nextUp_2_9 : decode cJ15_nextUp_2 9 = .ok (.dconst 0, 1) := dk_14 (dk_at dksJ15_nextUp_2_0 9 rfl rfl)
theorem dJ15_nextUp_2_10 : decode cJ15_nextUp_2 10 = .ok (.dadd, 1) := dk_99 (dk_at dksJ15_nextUp_2_0 10 rfl rfl)
theorem dJ15_nextUp_2_11 : decode cJ15_nextUp_2 11 = .ok (.invokestatic 79, 3) := dk_184 0 79 (dk_at dksJ15_nextUp_2_0 11 rfl rfl)
theorem dJ15_nextUp_2_14 : decode cJ15_nextUp_2 14 = .ok (.lstore_n 2, 1) := dk_65 (dk_at dksJ15_nextUp_2_0 14 rfl rfl)
theorem dJ15_nextUp_2_15 : decode cJ15_nextUp_2 15 = .ok (.lload_n 2, 1) := dk_32 (dk_at dksJ15_nextUp_2_0 15 rfl rfl)
theorem dJ15_nextUp_2_16 : decode cJ15_nextUp_2 16 = .ok (.lload_n 2, 1) := dk_32 (dk_at dksJ15_nextUp_2_0 16 rfl rfl)
theorem dJ15_nextUp_2_17 : decode cJ15_nextUp_2 17 = .ok (.lconst 0, 1) := dk_9 (dk_at dksJ15_nextUp_2_0 17 rfl rfl)
theorem dJ15_nextUp_2_18 : decode cJ15_nextUp_2 18 = .ok (.lcmp, 1) := dk_148 (dk_at dksJ15_nextUp_2_0 18 rfl rfl)
theorem dJ15_nextUp_2_19 : decode cJ15_nextUp_2 19 = .ok (.ifCond .lt 7, 3) := dk_155 0 7 (dk_at dksJ15_nextUp_2_0 19 rfl rfl)
theorem dJ15_nextUp_2_22 : decode cJ15_nextUp_2 22 = .ok (.lconst 1, 1) := dk_10 (dk_at dksJ15_nextUp_2_0 22 rfl rfl)
theorem dJ15_nextUp_2_23 : decode cJ15_nextUp_2 23 = .ok (.goto 6, 3) := dk_167 0 6 (dk_at dksJ15_nextUp_2_1 0 rfl rfl)
theorem dJ15_nextUp_2_26 : decode cJ15_nextUp_2 26 = .ok (.ldc2_w 130, 3) := dk_20 0 130 (dk_at dksJ15_nextUp_2_1 3 rfl rfl)
theorem dJ15_nextUp_2_29 : decode cJ15_nextUp_2 29 = .ok (.ladd, 1) := dk_97 (dk_at dksJ15_nextUp_2_1 6 rfl rfl)
theorem dJ15_nextUp_2_30 : decode cJ15_nextUp_2 30 = .ok (.invokestatic 166, 3) := dk_184 0 166 (dk_at dksJ15_nextUp_2_1 7 rfl rfl)
theorem dJ15_nextUp_2_33 : decode cJ15_nextUp_2 33 = .ok (.dreturn, 1) := dk_175 (dk_at dksJ15_nextUp_2_1 10 rfl rfl)
theorem dJ15_nextUp_2_34 : decode cJ15_nextUp_2 34 = .ok (.dload_n 0, 1) := dk_38 (dk_at dksJ15_nextUp_2_1 11 rfl rfl)
theorem dJ15_nextUp_2_35 : decode cJ15_nextUp_2 35 = .ok (.dreturn, 1) := dk_175 (dk_at dksJ15_nextUp_2_1 12 rfl rfl)
abbrev cJ15_rint : ByteArray := prog_68_method_18_code
def yJ15_rint : MethodName := ⟨RJ15, "rint", "(D)D"⟩
theorem dJ15_rint_0 : decode cJ15_rint 0 = .ok (.dload_n 0, 1) := by decide +kernel
theorem dJ15_rint_1 : decode cJ15_rint 1 = .ok (.invokestatic 59, 3) := by decide +kernel
theorem dJ15_rint_4 : decode cJ15_rint 4 = .ok (.dreturn, 1) := by decide +kernel
abbrev cJ15_copySign : ByteArray := prog_68_method_89_code
def yJ15_copySign : MethodName := ⟨RJ15, "copySign", "(DD)D"⟩
def dkwJ15_copySign_0 : List UInt8 := [40, 184, 0, 79, 20, 0, 128, 127, 38, 184, 0, 79, 20, 0, 135, 127, 129, 184, 0, 166, 175]
abbrev dktJ15_copySign_0 : List UInt8 := dkwJ15_copySign_0 ++ []
theorem dksJ15_copySign_0 : cJ15_copySign.data.toList.drop 0 = dktJ15_copySign_0 := by decide +kernel
theorem dJ15_copySign_0 : decode cJ15_copySign 0 = .ok (.dload_n 2, 1) := dk_40 (dk_at dksJ15_copySign_0 0 rfl rfl)
theorem dJ15_copySign_1 : decode cJ15_copySign 1 = .ok (.invokestatic 79, 3) := dk_184 0 79 (dk_at dksJ15_copySign_0 1 rfl rfl)
theorem dJ15_copySign_4 : decode cJ15_copySign 4 = .ok (.ldc2_w 128, 3) := dk_20 0 128 (dk_at dksJ15_copySign_0 4 rfl rfl)
theorem dJ15_copySign_7 : decode cJ15_copySign 7 = .ok (.land, 1) := dk_127 (dk_at dksJ15_copySign_0 7 rfl rfl)
theorem dJ15_copySign_8 : decode cJ15_copySign 8 = .ok (.dload_n 0, 1) := dk_38 (dk_at dksJ15_copySign_0 8 rfl rfl)
theorem dJ15_copySign_9 : decode cJ15_copySign 9 = .ok (.invokestatic 79, 3) := dk_184 0 79 (dk_at dksJ15_copySign_0 9 rfl rfl)
theorem dJ15_copySign_12 : decode cJ15_copySign 12 = .ok (.ldc2_w 135, 3) := dk_20 0 135 (dk_at dksJ15_copySign_0 12 rfl rfl)
theorem dJ15_copySign_15 : decode cJ15_copySign 15 = .ok (.land, 1) := dk_127 (dk_at dksJ15_copySign_0 15 rfl rfl)
theorem dJ15_copySign_16 : decode cJ15_copySign 16 = .ok (.lor, 1) := dk_129 (dk_at dksJ15_copySign_0 16 rfl rfl)
theorem dJ15_copySign_17 : decode cJ15_copySign 17 = .ok (.invokestatic 166, 3) := dk_184 0 166 (dk_at dksJ15_copySign_0 17 rfl rfl)
theorem dJ15_copySign_20 : decode cJ15_copySign 20 = .ok (.dreturn, 1) := dk_175 (dk_at dksJ15_copySign_0 20 rfl rfl)
abbrev cJ15_signum : ByteArray := prog_68_method_81_code
def yJ15_signum : MethodName := ⟨RJ15, "signum", "(D)D"⟩
def dkwJ15_signum_0 : List UInt8 := [38, 14, 151, 153, 0, 10, 38, 184, 0, 205, 153, 0, 7, 38, 167, 0, 8, 15, 38, 184, 1, 43, 175]
abbrev dktJ15_signum_0 : List UInt8 := dkwJ15_signum_0 ++ []
theorem dksJ15_signum_0 : cJ15_signum.data.toList.drop 0 = dktJ15_signum_0 := by decide +kernel
theorem dJ15_signum_0 : decode cJ15_signum 0 = .ok (.dload_n 0, 1) := dk_38 (dk_at dksJ15_signum_0 0 rfl rfl)
theorem dJ15_signum_1 : decode cJ15_signum 1 = .ok (.dconst 0, 1) := dk_14 (dk_at dksJ15_signum_0 1 rfl rfl)
theorem dJ15_signum_2 : decode cJ15_signum 2 = .ok (.dcmp .l, 1) := dk_151 (dk_at dksJ15_signum_0 2 rfl rfl)
theorem dJ15_signum_3 : decode cJ15_signum 3 = .ok (.ifCond .eq 10, 3) := dk_153 0 10 (dk_at dksJ15_signum_0 3 rfl rfl)
theorem dJ15_signum_6 : decode cJ15_signum 6 = .ok (.dload_n 0, 1) := dk_38 (dk_at dksJ15_signum_0 6 rfl rfl)
theorem dJ15_signum_7 : decode cJ15_signum 7 = .ok (.invokestatic 205, 3) := dk_184 0 205 (dk_at dksJ15_signum_0 7 rfl rfl)
theorem dJ15_signum_10 : decode cJ15_signum 10 = .ok (.ifCond .eq 7, 3) := dk_153 0 7 (dk_at dksJ15_signum_0 10 rfl rfl)
theorem dJ15_signum_13 : decode cJ15_signum 13 = .ok (.dload_n 0, 1) := dk_38 (dk_at dksJ15_signum_0 13 rfl rfl)
theorem dJ15_signum_14 : decode cJ15_signum 14 = .ok (.goto 8, 3) := dk_167 0 8 (dk_at dksJ15_signum_0 14 rfl rfl)
theorem dJ15_signum_17 : decode cJ15_signum 17 = .ok (.dconst 1, 1) := dk_15 (dk_at dksJ15_signum_0 17 rfl rfl)
theorem dJ15_signum_18 : decode cJ15_signum 18 = .ok (.dload_n 0, 1) := dk_38 (dk_at dksJ15_signum_0 18 rfl rfl)
theorem dJ15_signum_19 : decode cJ15_signum 19 = .ok (.invokestatic 299, 3) := dk_184 1 43 (dk_at dksJ15_signum_0 19 rfl rfl)
theorem dJ15_signum_22 : decode cJ15_signum 22 = .ok (.dreturn, 1) := dk_175 (dk_at dksJ15_signum_0 22 rfl rfl)
abbrev cJ15_min_2 : ByteArray := prog_68_method_72_code
def yJ15_min_2 : MethodName := ⟨RJ15, "min", "(DD)D"⟩
def dkwJ15_min_2_1 : List UInt8 := [178, 0, 174, 148, 154, 0, 5, 40, 175, 38, 40, 152, 157, 0, 7, 38, 167, 0, 4, 40, 175]
abbrev dktJ15_min_2_1 : List UInt8 := dkwJ15_min_2_1 ++ []
def dkwJ15_min_2_0 : List UInt8 := [38, 38, 151, 153, 0, 5, 38, 175, 38, 14, 151, 154, 0, 22, 40, 14, 151, 154, 0, 16, 40, 184, 0, 79]
abbrev dktJ15_min_2_0 : List UInt8 := dkwJ15_min_2_0 ++ dktJ15_min_2_1
theorem dksJ15_min_2_0 : cJ15_min_2.data.toList.drop 0 = dktJ15_min_2_0 := by decide +kernel
theorem dksJ15_min_2_1 : cJ15_min_2.data.toList.drop 24 = dktJ15_min_2_1 := dk_seg dksJ15_min_2_0 24 rfl rfl
theorem dJ15_min_2_0 : decode cJ15_min_2 0 = .ok (.dload_n 0, 1) := dk_38 (dk_at dksJ15_min_2_0 0 rfl rfl)
theorem dJ15_min_2_1 : decode cJ15_min_2 1 = .ok (.dload_n 0, 1) := dk_38 (dk_at dksJ15_min_2_0 1 rfl rfl)
theorem dJ15_min_2_2 : decode cJ15_min_2 2 = .ok (.dcmp .l, 1) := dk_151 (dk_at dksJ15_min_2_0 2 rfl rfl)
theorem dJ15_min_2_3 : decode cJ15_min_2 3 = .ok (.ifCond .eq 5, 3) := dk_153 0 5 (dk_at dksJ15_min_2_0 3 rfl rfl)
theorem dJ15_min_2_6 : decode cJ15_min_2 6 = .ok (.dload_n 0, 1) := dk_38 (dk_at dksJ15_min_2_0 6 rfl rfl)
theorem dJ15_min_2_7 : decode cJ15_min_2 7 = .ok (.dreturn, 1) := dk_175 (dk_at dksJ15_min_2_0 7 rfl rfl)
theorem dJ15_min_2_8 : decode cJ15_min_2 8 = .ok (.dload_n 0, 1) := dk_38 (dk_at dksJ15_min_2_0 8 rfl rfl)
theorem dJ15_min_2_9 : decode cJ15_min_2 9 = .ok (.dconst 0, 1) := dk_14 (dk_at dksJ15_min_2_0 9 rfl rfl)
theorem dJ15_min_2_10 : decode cJ15_min_2 10 = .ok (.dcmp .l, 1) := dk_151 (dk_at dksJ15_min_2_0 10 rfl rfl)
theorem dJ15_min_2_11 : decode cJ15_min_2 11 = .ok (.ifCond .ne 22, 3) := dk_154 0 22 (dk_at dksJ15_min_2_0 11 rfl rfl)
theorem dJ15_min_2_14 : decode cJ15_min_2 14 = .ok (.dload_n 2, 1) := dk_40 (dk_at dksJ15_min_2_0 14 rfl rfl)
theorem dJ15_min_2_15 : decode cJ15_min_2 15 = .ok (.dconst 0, 1) := dk_14 (dk_at dksJ15_min_2_0 15 rfl rfl)
theorem dJ15_min_2_16 : decode cJ15_min_2 16 = .ok (.dcmp .l, 1) := dk_151 (dk_at dksJ15_min_2_0 16 rfl rfl)
theorem dJ15_min_2_17 : decode cJ15_min_2 17 = .ok (.ifCond .ne 16, 3) := dk_154 0 16 (dk_at dksJ15_min_2_0 17 rfl rfl)
theorem dJ15_min_2_20 : decode cJ15_min_2 20 = .ok (.dload_n 2, 1) := dk_40 (dk_at dksJ15_min_2_0 20 rfl rfl)
theorem dJ15_min_2_21 : decode cJ15_min_2 21 = .ok (.invokestatic 79, 3) := dk_184 0 79 (dk_at dksJ15_min_2_0 21 rfl rfl)
theorem dJ15_min_2_24 : decode cJ15_min_2 24 = .ok (.getstatic 174, 3) := dk_178 0 174 (dk_at dksJ15_min_2_1 0 rfl rfl)
theorem dJ15_min_2_27 : decode cJ15_min_2 27 = .ok (.lcmp, 1) := dk_148 (dk_at dksJ15_min_2_1 3 rfl rfl)
theorem dJ15_min_2_28 : decode cJ15_min_2 28 = .ok (.ifCond .ne 5, 3) := dk_154 0 5 (dk_at dksJ15_min_2_1 4 rfl rfl)
theorem dJ15_min_2_31 : decode cJ15_min_2 31 = .ok (.dload_n 2, 1) := dk_40 (dk_at dksJ15_min_2_1 7 rfl rfl)
theorem dJ15_min_2_32 : decode cJ15_min_2 32 = .ok (.dreturn, 1) := dk_175 (dk_at dksJ15_min_2_1 8 rfl rfl)
theorem dJ15_min_2_33 : decode cJ15_min_2 33 = .ok (.dload_n 0, 1) := dk_38 (dk_at dksJ15_min_2_1 9 rfl rfl)
theorem dJ15_min_2_34 : decode cJ15_min_2 34 = .ok (.dload_n 2, 1) := dk_40 (dk_at dksJ15_min_2_1 10 rfl rfl)
theorem dJ15_min_2_35 : decode cJ15_min_2 35 = .ok (.dcmp .g, 1) := dk_152 (dk_at dksJ15_min_2_1 11 rfl rfl)
theorem dJ15_min_2_36 : decode cJ15_min_2 36 = .ok (.ifCond .gt 7, 3) := dk_157 0 7 (dk_at dksJ15_min_2_1 12 rfl rfl)
theorem dJ15_min_2_39 : decode cJ15_min_2 39 = .ok (.dload_n 0, 1) := dk_38 (dk_at dksJ15_min_2_1 15 rfl rfl)
theorem dJ15_min_2_40 : decode cJ15_min_2 40 = .ok (.goto 4, 3) := dk_167 0 4 (dk_at dksJ15_min_2_1 16 rfl rfl)
theorem dJ15_min_2_43 : decode cJ15_min_2 43 = .ok (.dload_n 2, 1) := dk_40 (dk_at dksJ15_min_2_1 19 rfl rfl)
theorem dJ15_min_2_44 : decode cJ15_min_2 44 = .ok (.dreturn, 1) := dk_175 (dk_at dksJ15_min_2_1 20 rfl rfl)
theorem q314 : (Jvm.Cond.initialized "java/lang/Math") ∈ lw_all := lw_g (lw_at lw_m1 54 rfl) rfl
theorem q2022 : (Jvm.Cond.static ({ cls := "java/lang/Math", name := "max", desc := "(II)I" } : Jvm.MethodName)) ∈ lw_all := lw_g (lw_at lw_m8 82 rfl) rfl
theorem q2023 : (Jvm.Cond.code ({ cls := "java/lang/Math", name := "max", desc := "(II)I" } : Jvm.MethodName) prog_68_method_65_code (2 : Nat) (Option.some Jvm.ClassFile.FieldType.int)) ∈ lw_all := lw_g (lw_at lw_m8 83 rfl) rfl
theorem q2040 : (Jvm.Cond.static ({ cls := "java/lang/Math", name := "min", desc := "(II)I" } : Jvm.MethodName)) ∈ lw_all := lw_g (lw_at lw_m8 100 rfl) rfl
theorem q2041 : (Jvm.Cond.code ({ cls := "java/lang/Math", name := "min", desc := "(II)I" } : Jvm.MethodName) prog_68_method_69_code (2 : Nat) (Option.some Jvm.ClassFile.FieldType.int)) ∈ lw_all := lw_g (lw_at lw_m8 101 rfl) rfl
theorem q2182 : (Jvm.Cond.static ({ cls := "java/lang/Math", name := "nextDown", desc := "(F)F" } : Jvm.MethodName)) ∈ lw_all := lw_g (lw_at lw_m9 2 rfl) rfl
theorem q2183 : (Jvm.Cond.code ({ cls := "java/lang/Math", name := "nextDown", desc := "(F)F" } : Jvm.MethodName) prog_68_method_98_code (1 : Nat) (Option.some Jvm.ClassFile.FieldType.float)) ∈ lw_all := lw_g (lw_at lw_m9 3 rfl) rfl
theorem q2184 : (Jvm.Cond.methodLink "java/lang/Math" (224 : Nat) ({ cls := "java/lang/Float", name := "isNaN", desc := "(F)Z" } : Jvm.MethodName)) ∈ lw_all := lw_g (lw_at lw_m9 4 rfl) rfl
theorem q2187 : (Jvm.Cond.constantFloat "java/lang/Math" (332 : Nat) (4286578688 : UInt32)) ∈ lw_all := lw_g (lw_at lw_m9 7 rfl) rfl
theorem q2188 : (Jvm.Cond.constantFloat "java/lang/Math" (326 : Nat) (2147483649 : UInt32)) ∈ lw_all := lw_g (lw_at lw_m9 8 rfl) rfl
theorem q2189 : (Jvm.Cond.methodLink "java/lang/Math" (68 : Nat) ({ cls := "java/lang/Float", name := "floatToRawIntBits", desc := "(F)I" } : Jvm.MethodName)) ∈ lw_all := lw_g (lw_at lw_m9 9 rfl) rfl
theorem q2192 : (Jvm.Cond.methodLink "java/lang/Math" (162 : Nat) ({ cls := "java/lang/Float", name := "intBitsToFloat", desc := "(I)F" } : Jvm.MethodName)) ∈ lw_all := lw_g (lw_at lw_m9 12 rfl) rfl
theorem q2202 : (Jvm.Cond.static ({ cls := "java/lang/Math", name := "nextUp", desc := "(F)F" } : Jvm.MethodName)) ∈ lw_all := lw_g (lw_at lw_m9 22 rfl) rfl
theorem q2203 : (Jvm.Cond.code ({ cls := "java/lang/Math", name := "nextUp", desc := "(F)F" } : Jvm.MethodName) prog_68_method_96_code (2 : Nat) (Option.some Jvm.ClassFile.FieldType.float)) ∈ lw_all := lw_g (lw_at lw_m9 23 rfl) rfl
theorem q2204 : (Jvm.Cond.constantFloat "java/lang/Math" (329 : Nat) (2139095040 : UInt32)) ∈ lw_all := lw_g (lw_at lw_m9 24 rfl) rfl
theorem q2226 : (Jvm.Cond.static ({ cls := "java/lang/Math", name := "ceil", desc := "(D)D" } : Jvm.MethodName)) ∈ lw_all := lw_g (lw_at lw_m9 46 rfl) rfl
theorem q2227 : (Jvm.Cond.code ({ cls := "java/lang/Math", name := "ceil", desc := "(D)D" } : Jvm.MethodName) prog_68_method_16_code (2 : Nat) (Option.some Jvm.ClassFile.FieldType.double)) ∈ lw_all := lw_g (lw_at lw_m9 47 rfl) rfl
theorem q2228 : (Jvm.Cond.methodLink "java/lang/Math" (53 : Nat) ({ cls := "java/lang/StrictMath", name := "ceil", desc := "(D)D" } : Jvm.MethodName)) ∈ lw_all := lw_g (lw_at lw_m9 48 rfl) rfl
theorem q2236 : (Jvm.Cond.static ({ cls := "java/lang/Math", name := "getExponent", desc := "(D)I" } : Jvm.MethodName)) ∈ lw_all := lw_g (lw_at lw_m9 56 rfl) rfl
theorem q2237 : (Jvm.Cond.code ({ cls := "java/lang/Math", name := "getExponent", desc := "(D)I" } : Jvm.MethodName) prog_68_method_92_code (2 : Nat) (Option.some Jvm.ClassFile.FieldType.int)) ∈ lw_all := lw_g (lw_at lw_m9 57 rfl) rfl
theorem q2238 : (Jvm.Cond.methodLink "java/lang/Math" (79 : Nat) ({ cls := "java/lang/Double", name := "doubleToRawLongBits", desc := "(D)J" } : Jvm.MethodName)) ∈ lw_all := lw_g (lw_at lw_m9 58 rfl) rfl
theorem q2241 : (Jvm.Cond.constantLong "java/lang/Math" (87 : Nat) (9218868437227405312 : Int64)) ∈ lw_all := lw_g (lw_at lw_m9 61 rfl) rfl
theorem q2242 : (Jvm.Cond.constantLong "java/lang/Math" (322 : Nat) (1023 : Int64)) ∈ lw_all := lw_g (lw_at lw_m9 62 rfl) rfl
theorem q2252 : (Jvm.Cond.static ({ cls := "java/lang/Math", name := "floor", desc := "(D)D" } : Jvm.MethodName)) ∈ lw_all := lw_g (lw_at lw_m9 72 rfl) rfl
theorem q2253 : (Jvm.Cond.code ({ cls := "java/lang/Math", name := "floor", desc := "(D)D" } : Jvm.MethodName) prog_68_method_17_code (2 : Nat) (Option.some Jvm.ClassFile.FieldType.double)) ∈ lw_all := lw_g (lw_at lw_m9 73 rfl) rfl
theorem q2254 : (Jvm.Cond.methodLink "java/lang/Math" (56 : Nat) ({ cls := "java/lang/StrictMath", name := "floor", desc := "(D)D" } : Jvm.MethodName)) ∈ lw_all := lw_g (lw_at lw_m9 74 rfl) rfl
theorem q2558 : (Jvm.Cond.static ({ cls := "java/lang/Math", name := "abs", desc := "(D)D" } : Jvm.MethodName)) ∈ lw_all := lw_g (lw_at lw_m10 138 rfl) rfl
theorem q2559 : (Jvm.Cond.code ({ cls := "java/lang/Math", name := "abs", desc := "(D)D" } : Jvm.MethodName) prog_68_method_64_code (2 : Nat) (Option.some Jvm.ClassFile.FieldType.double)) ∈ lw_all := lw_g (lw_at lw_m10 139 rfl) rfl
theorem q2560 : (Jvm.Cond.constantLong "java/lang/Math" (135 : Nat) (9223372036854775807 : Int64)) ∈ lw_all := lw_g (lw_at lw_m10 140 rfl) rfl
theorem q2561 : (Jvm.Cond.methodLink "java/lang/Math" (166 : Nat) ({ cls := "java/lang/Double", name := "longBitsToDouble", desc := "(J)D" } : Jvm.MethodName)) ∈ lw_all := lw_g (lw_at lw_m10 141 rfl) rfl
theorem q2563 : (Jvm.Cond.static ({ cls := "java/lang/Math", name := "max", desc := "(DD)D" } : Jvm.MethodName)) ∈ lw_all := lw_g (lw_at lw_m10 143 rfl) rfl
theorem q2564 : (Jvm.Cond.code ({ cls := "java/lang/Math", name := "max", desc := "(DD)D" } : Jvm.MethodName) prog_68_method_68_code (4 : Nat) (Option.some Jvm.ClassFile.FieldType.double)) ∈ lw_all := lw_g (lw_at lw_m10 144 rfl) rfl
theorem q2565 : (Jvm.Cond.fieldLink "java/lang/Math" (174 : Nat) "java/lang/Math" "negativeZeroDoubleBits" "J") ∈ lw_all := lw_g (lw_at lw_m10 145 rfl) rfl
theorem q2566 : (Jvm.Cond.laysStatic "java/lang/Math" "negativeZeroDoubleBits" "J") ∈ lw_tbl := lw_at lw_m10 146 rfl
theorem q2583 : (Jvm.Cond.static ({ cls := "java/lang/Math", name := "sqrt", desc := "(D)D" } : Jvm.MethodName)) ∈ lw_all := lw_g (lw_at lw_m10 163 rfl) rfl
theorem q2584 : (Jvm.Cond.code ({ cls := "java/lang/Math", name := "sqrt", desc := "(D)D" } : Jvm.MethodName) prog_68_method_13_code (2 : Nat) (Option.some Jvm.ClassFile.FieldType.double)) ∈ lw_all := lw_g (lw_at lw_m10 164 rfl) rfl
theorem q2585 : (Jvm.Cond.methodLink "java/lang/Math" (43 : Nat) ({ cls := "java/lang/StrictMath", name := "sqrt", desc := "(D)D" } : Jvm.MethodName)) ∈ lw_all := lw_g (lw_at lw_m10 165 rfl) rfl
theorem q2620 : (Jvm.Cond.static ({ cls := "java/lang/Math", name := "nextDown", desc := "(D)D" } : Jvm.MethodName)) ∈ lw_all := lw_g (lw_at lw_m10 200 rfl) rfl
theorem q2621 : (Jvm.Cond.code ({ cls := "java/lang/Math", name := "nextDown", desc := "(D)D" } : Jvm.MethodName) prog_68_method_97_code (2 : Nat) (Option.some Jvm.ClassFile.FieldType.double)) ∈ lw_all := lw_g (lw_at lw_m10 201 rfl) rfl
theorem q2622 : (Jvm.Cond.methodLink "java/lang/Math" (205 : Nat) ({ cls := "java/lang/Double", name := "isNaN", desc := "(D)Z" } : Jvm.MethodName)) ∈ lw_all := lw_g (lw_at lw_m10 202 rfl) rfl
theorem q2625 : (Jvm.Cond.constantDouble "java/lang/Math" (330 : Nat) (18442240474082181120 : UInt64)) ∈ lw_all := lw_g (lw_at lw_m10 205 rfl) rfl
theorem q2626 : (Jvm.Cond.constantDouble "java/lang/Math" (324 : Nat) (9223372036854775809 : UInt64)) ∈ lw_all := lw_g (lw_at lw_m10 206 rfl) rfl
theorem q2627 : (Jvm.Cond.constantLong "java/lang/Math" (130 : Nat) (-1 : Int64)) ∈ lw_all := lw_g (lw_at lw_m10 207 rfl) rfl
theorem q2634 : (Jvm.Cond.static ({ cls := "java/lang/Math", name := "nextUp", desc := "(D)D" } : Jvm.MethodName)) ∈ lw_all := lw_g (lw_at lw_m10 214 rfl) rfl
theorem q2635 : (Jvm.Cond.code ({ cls := "java/lang/Math", name := "nextUp", desc := "(D)D" } : Jvm.MethodName) prog_68_method_95_code (4 : Nat) (Option.some Jvm.ClassFile.FieldType.double)) ∈ lw_all := lw_g (lw_at lw_m10 215 rfl) rfl
theorem q2636 : (Jvm.Cond.constantDouble "java/lang/Math" (327 : Nat) (9218868437227405312 : UInt64)) ∈ lw_all := lw_g (lw_at lw_m10 216 rfl) rfl
theorem q2659 : (Jvm.Cond.static ({ cls := "java/lang/Math", name := "rint", desc := "(D)D" } : Jvm.MethodName)) ∈ lw_all := lw_g (lw_at lw_m10 239 rfl) rfl
theorem q2660 : (Jvm.Cond.code ({ cls := "java/lang/Math", name := "rint", desc := "(D)D" } : Jvm.MethodName) prog_68_method_18_code (2 : Nat) (Option.some Jvm.ClassFile.FieldType.double)) ∈ lw_all := lw_g (lw_at lw_m11 0 rfl) rfl
theorem q2661 : (Jvm.Cond.methodLink "java/lang/Math" (59 : Nat) ({ cls := "java/lang/StrictMath", name := "rint", desc := "(D)D" } : Jvm.MethodName)) ∈ lw_all := lw_g (lw_at lw_m11 1 rfl) rfl
theorem q2666 : (Jvm.Cond.static ({ cls := "java/lang/Math", name := "copySign", desc := "(DD)D" } : Jvm.MethodName)) ∈ lw_all := lw_g (lw_at lw_m11 6 rfl) rfl
theorem q2667 : (Jvm.Cond.code ({ cls := "java/lang/Math", name := "copySign", desc := "(DD)D" } : Jvm.MethodName) prog_68_method_89_code (4 : Nat) (Option.some Jvm.ClassFile.FieldType.double)) ∈ lw_all := lw_g (lw_at lw_m11 7 rfl) rfl
theorem q2668 : (Jvm.Cond.constantLong "java/lang/Math" (128 : Nat) (-9223372036854775808 : Int64)) ∈ lw_all := lw_g (lw_at lw_m11 8 rfl) rfl
theorem q2671 : (Jvm.Cond.static ({ cls := "java/lang/Math", name := "signum", desc := "(D)D" } : Jvm.MethodName)) ∈ lw_all := lw_g (lw_at lw_m11 11 rfl) rfl
theorem q2672 : (Jvm.Cond.code ({ cls := "java/lang/Math", name := "signum", desc := "(D)D" } : Jvm.MethodName) prog_68_method_81_code (2 : Nat) (Option.some Jvm.ClassFile.FieldType.double)) ∈ lw_all := lw_g (lw_at lw_m11 12 rfl) rfl
theorem q2673 : (Jvm.Cond.methodLink "java/lang/Math" (299 : Nat) ({ cls := "java/lang/Math", name := "copySign", desc := "(DD)D" } : Jvm.MethodName)) ∈ lw_all := lw_g (lw_at lw_m11 13 rfl) rfl
theorem q2693 : (Jvm.Cond.static ({ cls := "java/lang/Math", name := "min", desc := "(DD)D" } : Jvm.MethodName)) ∈ lw_all := lw_g (lw_at lw_m11 33 rfl) rfl
theorem q2694 : (Jvm.Cond.code ({ cls := "java/lang/Math", name := "min", desc := "(DD)D" } : Jvm.MethodName) prog_68_method_72_code (4 : Nat) (Option.some Jvm.ClassFile.FieldType.double)) ∈ lw_all := lw_g (lw_at lw_m11 34 rfl) rfl
/-! java/util/Arrays -/
set_option maxRecDepth 100000
def RJ16 : String := "java/util/Arrays"
abbrev cJ16_copyOf : ByteArray := prog_82_method_121_code
def yJ16_copyOf : MethodName := ⟨RJ16, "copyOf", "([BI)[B"⟩
def dkwJ16_copyOf_1 : List UInt8 := [27, 184, 1, 48, 184, 0, 150, 44, 176]
abbrev dktJ16_copyOf_1 : List UInt8 := dkwJ16_copyOf_1 ++ []
def dkwJ16_copyOf_0 : List UInt8 := [27, 42, 190, 160, 0, 11, 42, 182, 1, 54, 192, 1, 55, 176, 27, 188, 8, 77, 42, 3, 44, 3, 42, 190]
abbrev dktJ16_copyOf_0 : List UInt8 := dkwJ16_copyOf_0 ++ dktJ16_copyOf_1
theorem dksJ16_copyOf_0 : cJ16_copyOf.data.toList.drop 0 = dktJ16_copyOf_0 := by decide +kernel
theorem dksJ16_copyOf_1 : cJ16_copyOf.data.toList.drop 24 = dktJ16_copyOf_1 := dk_seg dksJ16_copyOf_0 24 rfl rfl
theorem dJ16_copyOf_0 : decode cJ16_copyOf 0 = .ok (.iload_n 1, 1) := dk_27 (dk_at dksJ16_copyOf_0 0 rfl rfl)
theorem dJ16_copyOf_1 : decode cJ16_copyOf 1 = .ok (.aload_n 0, 1) := dk_42 (dk_at dksJ16_copyOf_0 1 rfl rfl)
theorem dJ16_copyOf_2 : decode cJ16_copyOf 2 = .ok (.arraylength, 1) := dk_190 (dk_at dksJ16_copyOf_0 2 rfl rfl)
theorem dJ16_copyOf_3 : decode cJ16_copyOf 3 = .ok (.if_icmp .ne 11, 3) := dk_160 0 11 (dk_at dksJ16_copyOf_0 3 rfl rfl)
theorem dJ16_copyOf_6 : decode cJ16_copyOf 6 = .ok (.aload_n 0, 1) := dk_42 (dk_at dksJ16_copyOf_0 6 rfl rfl)
theorem dJ16_copyOf_7 : decode cJ16_copyOf 7 = .ok (.invokevirtual 310, 3) := dk_182 1 54 (dk_at dksJ16_copyOf_0 7 rfl rfl)
theorem dJ16_copyOf_10 : decode cJ16_copyOf 10 = .ok (.checkcast 311, 3) := dk_192 1 55 (dk_at dksJ16_copyOf_0 10 rfl rfl)
theorem dJ16_copyOf_13 : decode cJ16_copyOf 13 = .ok (.areturn, 1) := dk_176 (dk_at dksJ16_copyOf_0 13 rfl rfl)
theorem dJ16_copyOf_14 : decode cJ16_copyOf 14 = .ok (.iload_n 1, 1) := dk_27 (dk_at dksJ16_copyOf_0 14 rfl rfl)
theorem dJ16_copyOf_15 : decode cJ16_copyOf 15 = .ok (.newarray .byte, 2) := dk_188_8 (dk_at dksJ16_copyOf_0 15 rfl rfl)
theorem dJ16_copyOf_17 : decode cJ16_copyOf 17 = .ok (.astore_n 2, 1) := dk_77 (dk_at dksJ16_copyOf_0 17 rfl rfl)
theorem dJ16_copyOf_18 : decode cJ16_copyOf 18 = .ok (.aload_n 0, 1) := dk_42 (dk_at dksJ16_copyOf_0 18 rfl rfl)
theorem dJ16_copyOf_19 : decode cJ16_copyOf 19 = .ok (.iconst 0, 1) := dk_3 (dk_at dksJ16_copyOf_0 19 rfl rfl)
theorem dJ16_copyOf_20 : decode cJ16_copyOf 20 = .ok (.aload_n 2, 1) := dk_44 (dk_at dksJ16_copyOf_0 20 rfl rfl)
theorem dJ16_copyOf_21 : decode cJ16_copyOf 21 = .ok (.iconst 0, 1) := dk_3 (dk_at dksJ16_copyOf_0 21 rfl rfl)
theorem dJ16_copyOf_22 : decode cJ16_copyOf 22 = .ok (.aload_n 0, 1) := dk_42 (dk_at dksJ16_copyOf_0 22 rfl rfl)
theorem dJ16_copyOf_23 : decode cJ16_copyOf 23 = .ok (.arraylength, 1) := dk_190 (dk_at dksJ16_copyOf_0 23 rfl rfl)
theorem dJ16_copyOf_24 : decode cJ16_copyOf 24 = .ok (.iload_n 1, 1) := dk_27 (dk_at dksJ16_copyOf_1 0 rfl rfl)
theorem dJ16_copyOf_25 : decode cJ16_copyOf 25 = .ok (.invokestatic 304, 3) := dk_184 1 48 (dk_at dksJ16_copyOf_1 1 rfl rfl)
theorem dJ16_copyOf_28 : decode cJ16_copyOf 28 = .ok (.invokestatic 150, 3) := dk_184 0 150 (dk_at dksJ16_copyOf_1 4 rfl rfl)
theorem dJ16_copyOf_31 : decode cJ16_copyOf 31 = .ok (.aload_n 2, 1) := dk_44 (dk_at dksJ16_copyOf_1 7 rfl rfl)
theorem dJ16_copyOf_32 : decode cJ16_copyOf 32 = .ok (.areturn, 1) := dk_176 (dk_at dksJ16_copyOf_1 8 rfl rfl)
abbrev cJ16_copyOfRange : ByteArray := prog_82_method_132_code
def yJ16_copyOfRange : MethodName := ⟨RJ16, "copyOfRange", "([BII)[B"⟩
def dkwJ16_copyOfRange_1 : List UInt8 := [176]
abbrev dktJ16_copyOfRange_1 : List UInt8 := dkwJ16_copyOfRange_1 ++ []
def dkwJ16_copyOfRange_0 : List UInt8 := [27, 154, 0, 9, 28, 42, 190, 159, 0, 10, 42, 27, 28, 184, 1, 83, 176, 42, 182, 1, 54, 192, 1, 55]
abbrev dktJ16_copyOfRange_0 : List UInt8 := dkwJ16_copyOfRange_0 ++ dktJ16_copyOfRange_1
theorem dksJ16_copyOfRange_0 : cJ16_copyOfRange.data.toList.drop 0 = dktJ16_copyOfRange_0 := by decide +kernel
theorem dksJ16_copyOfRange_1 : cJ16_copyOfRange.data.toList.drop 24 = dktJ16_copyOfRange_1 := dk_seg dksJ16_copyOfRange_0 24 rfl rfl
theorem dJ16_copyOfRange_0 : decode cJ16_copyOfRange 0 = .ok (.iload_n 1, 1) := dk_27 (dk_at dksJ16_copyOfRange_0 0 rfl rfl)
theorem dJ16_copyOfRange_1 : decode cJ16_copyOfRange 1 = .ok (.ifCond .ne 9, 3) := dk_154 0 9 (dk_at dksJ16_copyOfRange_0 1 rfl rfl)
theorem dJ16_copyOfRange_4 : decode cJ16_copyOfRange 4 = .ok (.iload_n 2, 1) := dk_28 (dk_at dksJ16_copyOfRange_0 4 rfl rfl)
theorem dJ16_copyOfRange_5 : decode cJ16_copyOfRange 5 = .ok (.aload_n 0, 1) := dk_42 (dk_at dksJ16_copyOfRange_0 5 rfl rfl)
theorem dJ16_copyOfRange_6 : decode cJ16_copyOfRange 6 = .ok (.arraylength, 1) := dk_190 (dk_at dksJ16_copyOfRange_0 6 rfl rfl)
theorem dJ16_copyOfRange_7 : decode cJ16_copyOfRange 7 = .ok (.if_icmp .eq 10, 3) := dk_159 0 10 (dk_at dksJ16_copyOfRange_0 7 rfl rfl)
theorem dJ16_copyOfRange_10 : decode cJ16_copyOfRange 10 = .ok (.aload_n 0, 1) := dk_42 (dk_at dksJ16_copyOfRange_0 10 rfl rfl)
theorem dJ16_copyOfRange_11 : decode cJ16_copyOfRange 11 = .ok (.iload_n 1, 1) := dk_27 (dk_at dksJ16_copyOfRange_0 11 rfl rfl)
theorem dJ16_copyOfRange_12 : decode cJ16_copyOfRange 12 = .ok (.iload_n 2, 1) := dk_28 (dk_at dksJ16_copyOfRange_0 12 rfl rfl)
theorem dJ16_copyOfRange_13 : decode cJ16_copyOfRange 13 = .ok (.invokestatic 339, 3) := dk_184 1 83 (dk_at dksJ16_copyOfRange_0 13 rfl rfl)
theorem dJ16_copyOfRange_16 : decode cJ16_copyOfRange 16 = .ok (.areturn, 1) := dk_176 (dk_at dksJ16_copyOfRange_0 16 rfl rfl)
theorem dJ16_copyOfRange_17 : decode cJ16_copyOfRange 17 = .ok (.aload_n 0, 1) := dk_42 (dk_at dksJ16_copyOfRange_0 17 rfl rfl)
theorem dJ16_copyOfRange_18 : decode cJ16_copyOfRange 18 = .ok (.invokevirtual 310, 3) := dk_182 1 54 (dk_at dksJ16_copyOfRange_0 18 rfl rfl)
theorem dJ16_copyOfRange_21 : decode cJ16_copyOfRange 21 = .ok (.checkcast 311, 3) := dk_192 1 55 (dk_at dksJ16_copyOfRange_0 21 rfl rfl)
theorem dJ16_copyOfRange_24 : decode cJ16_copyOfRange 24 = .ok (.areturn, 1) := dk_176 (dk_at dksJ16_copyOfRange_1 0 rfl rfl)
abbrev cJ16_copyOfRangeByte : ByteArray := prog_82_method_133_code
def yJ16_copyOfRangeByte : MethodName := ⟨RJ16, "copyOfRangeByte", "([BII)[B"⟩
def dkwJ16_copyOfRangeByte_1 : List UInt8 := [184, 1, 48, 184, 0, 150, 25, 4, 176]
abbrev dktJ16_copyOfRangeByte_1 : List UInt8 := dkwJ16_copyOfRangeByte_1 ++ []
def dkwJ16_copyOfRangeByte_0 : List UInt8 := [27, 28, 184, 1, 87, 28, 27, 100, 62, 29, 188, 8, 58, 4, 42, 27, 25, 4, 3, 42, 190, 27, 100, 29]
abbrev dktJ16_copyOfRangeByte_0 : List UInt8 := dkwJ16_copyOfRangeByte_0 ++ dktJ16_copyOfRangeByte_1
theorem dksJ16_copyOfRangeByte_0 : cJ16_copyOfRangeByte.data.toList.drop 0 = dktJ16_copyOfRangeByte_0 := by decide +kernel
theorem dksJ16_copyOfRangeByte_1 : cJ16_copyOfRangeByte.data.toList.drop 24 = dktJ16_copyOfRangeByte_1 := dk_seg dksJ16_copyOfRangeByte_0 24 rfl rfl
theorem dJ16_copyOfRangeByte_0 : decode cJ16_copyOfRangeByte 0 = .ok (.iload_n 1, 1) := dk_27 (dk_at dksJ16_copyOfRangeByte_0 0 rfl rfl)
theorem dJ16_copyOfRangeByte_1 : decode cJ16_copyOfRangeByte 1 = .ok (.iload_n 2, 1) := dk_28 (dk_at dksJ16_copyOfRangeByte_0 1 rfl rfl)
theorem dJ16_copyOfRangeByte_2 : decode cJ16_copyOfRangeByte 2 = .ok (.invokestatic 343, 3) := dk_184 1 87 (dk_at dksJ16_copyOfRangeByte_0 2 rfl rfl)
theorem dJ16_copyOfRangeByte_5 : decode cJ16_copyOfRangeByte 5 = .ok (.iload_n 2, 1) := dk_28 (dk_at dksJ16_copyOfRangeByte_0 5 rfl rfl)
theorem dJ16_copyOfRangeByte_6 : decode cJ16_copyOfRangeByte 6 = .ok (.iload_n 1, 1) := dk_27 (dk_at dksJ16_copyOfRangeByte_0 6 rfl rfl)
theorem dJ16_copyOfRangeByte_7 : decode cJ16_copyOfRangeByte 7 = .ok (.isub, 1) := dk_100 (dk_at dksJ16_copyOfRangeByte_0 7 rfl rfl)
theorem dJ16_copyOfRangeByte_8 : decode cJ16_copyOfRangeByte 8 = .ok (.istore_n 3, 1) := dk_62 (dk_at dksJ16_copyOfRangeByte_0 8 rfl rfl)
theorem dJ16_copyOfRangeByte_9 : decode cJ16_copyOfRangeByte 9 = .ok (.iload_n 3, 1) := dk_29 (dk_at dksJ16_copyOfRangeByte_0 9 rfl rfl)
theorem dJ16_copyOfRangeByte_10 : decode cJ16_copyOfRangeByte 10 = .ok (.newarray .byte, 2) := dk_188_8 (dk_at dksJ16_copyOfRangeByte_0 10 rfl rfl)
theorem dJ16_copyOfRangeByte_12 : decode cJ16_copyOfRangeByte 12 = .ok (.astore 4, 2) := dk_58 4 (dk_at dksJ16_copyOfRangeByte_0 12 rfl rfl)
theorem dJ16_copyOfRangeByte_14 : decode cJ16_copyOfRangeByte 14 = .ok (.aload_n 0, 1) := dk_42 (dk_at dksJ16_copyOfRangeByte_0 14 rfl rfl)
theorem dJ16_copyOfRangeByte_15 : decode cJ16_copyOfRangeByte 15 = .ok (.iload_n 1, 1) := dk_27 (dk_at dksJ16_copyOfRangeByte_0 15 rfl rfl)
theorem dJ16_copyOfRangeByte_16 : decode cJ16_copyOfRangeByte 16 = .ok (.aload 4, 2) := dk_25 4 (dk_at dksJ16_copyOfRangeByte_0 16 rfl rfl)
theorem dJ16_copyOfRangeByte_18 : decode cJ16_copyOfRangeByte 18 = .ok (.iconst 0, 1) := dk_3 (dk_at dksJ16_copyOfRangeByte_0 18 rfl rfl)
theorem dJ16_copyOfRangeByte_19 : decode cJ16_copyOfRangeByte 19 = .ok (.aload_n 0, 1) := dk_42 (dk_at dksJ16_copyOfRangeByte_0 19 rfl rfl)
theorem dJ16_copyOfRangeByte_20 : decode cJ16_copyOfRangeByte 20 = .ok (.arraylength, 1) := dk_190 (dk_at dksJ16_copyOfRangeByte_0 20 rfl rfl)
theorem dJ16_copyOfRangeByte_21 : decode cJ16_copyOfRangeByte 21 = .ok (.iload_n 1, 1) := dk_27 (dk_at dksJ16_copyOfRangeByte_0 21 rfl rfl)
theorem dJ16_copyOfRangeByte_22 : decode cJ16_copyOfRangeByte 22 = .ok (.isub, 1) := dk_100 (dk_at dksJ16_copyOfRangeByte_0 22 rfl rfl)
theorem dJ16_copyOfRangeByte_23 : decode cJ16_copyOfRangeByte 23 = .ok (.iload_n 3, 1) := dk_29 (dk_at dksJ16_copyOfRangeByte_0 23 rfl rfl)
theorem dJ16_copyOfRangeByte_24 : decode cJ16_copyOfRangeByte 24 = .ok (.invokestatic 304, 3) := dk_184 1 48 (dk_at dksJ16_copyOfRangeByte_1 0 rfl rfl)
theorem dJ16_copyOfRangeByte_27 : decode cJ16_copyOfRangeByte 27 = .ok (.invokestatic 150, 3) := dk_184 0 150 (dk_at dksJ16_copyOfRangeByte_1 3 rfl rfl)
theorem dJ16_copyOfRangeByte_30 : decode cJ16_copyOfRangeByte 30 = .ok (.aload 4, 2) := dk_25 4 (dk_at dksJ16_copyOfRangeByte_1 6 rfl rfl)
theorem dJ16_copyOfRangeByte_32 : decode cJ16_copyOfRangeByte 32 = .ok (.areturn, 1) := dk_176 (dk_at dksJ16_copyOfRangeByte_1 8 rfl rfl)
abbrev cJ16_checkLength : ByteArray := prog_82_method_131_code
def yJ16_checkLength : MethodName := ⟨RJ16, "checkLength", "(II)V"⟩
def dkwJ16_checkLength_1 : List UInt8 := [182, 0, 50, 27, 182, 0, 54, 182, 0, 61, 183, 0, 65, 191, 177]
abbrev dktJ16_checkLength_1 : List UInt8 := dkwJ16_checkLength_1 ++ []
def dkwJ16_checkLength_0 : List UInt8 := [27, 26, 162, 0, 35, 187, 0, 43, 89, 187, 0, 45, 89, 183, 0, 47, 26, 182, 0, 54, 19, 1, 81]
abbrev dktJ16_checkLength_0 : List UInt8 := dkwJ16_checkLength_0 ++ dktJ16_checkLength_1
theorem dksJ16_checkLength_0 : cJ16_checkLength.data.toList.drop 0 = dktJ16_checkLength_0 := by decide +kernel
theorem dksJ16_checkLength_1 : cJ16_checkLength.data.toList.drop 23 = dktJ16_checkLength_1 := dk_seg dksJ16_checkLength_0 23 rfl rfl
theorem dJ16_checkLength_0 : decode cJ16_checkLength 0 = .ok (.iload_n 1, 1) := dk_27 (dk_at dksJ16_checkLength_0 0 rfl rfl)
theorem dJ16_checkLength_1 : decode cJ16_checkLength 1 = .ok (.iload_n 0, 1) := dk_26 (dk_at dksJ16_checkLength_0 1 rfl rfl)
theorem dJ16_checkLength_2 : decode cJ16_checkLength 2 = .ok (.if_icmp .ge 35, 3) := dk_162 0 35 (dk_at dksJ16_checkLength_0 2 rfl rfl)
theorem dJ16_checkLength_5 : decode cJ16_checkLength 5 = .ok (.new 43, 3) := dk_187 0 43 (dk_at dksJ16_checkLength_0 5 rfl rfl)
theorem dJ16_checkLength_8 : decode cJ16_checkLength 8 = .ok (.dup, 1) := dk_89 (dk_at dksJ16_checkLength_0 8 rfl rfl)
theorem dJ16_checkLength_9 : decode cJ16_checkLength 9 = .ok (.new 45, 3) := dk_187 0 45 (dk_at dksJ16_checkLength_0 9 rfl rfl)
theorem dJ16_checkLength_12 : decode cJ16_checkLength 12 = .ok (.dup, 1) := dk_89 (dk_at dksJ16_checkLength_0 12 rfl rfl)
theorem dJ16_checkLength_13 : decode cJ16_checkLength 13 = .ok (.invokespecial 47, 3) := dk_183 0 47 (dk_at dksJ16_checkLength_0 13 rfl rfl)
theorem dJ16_checkLength_16 : decode cJ16_checkLength 16 = .ok (.iload_n 0, 1) := dk_26 (dk_at dksJ16_checkLength_0 16 rfl rfl)
theorem dJ16_checkLength_17 : decode cJ16_checkLength 17 = .ok (.invokevirtual 54, 3) := dk_182 0 54 (dk_at dksJ16_checkLength_0 17 rfl rfl)
theorem dJ16_checkLength_20 : decode cJ16_checkLength 20 = .ok (.ldc_w 337, 3) := dk_19 1 81 (dk_at dksJ16_checkLength_0 20 rfl rfl)
theorem dJ16_checkLength_23 : decode cJ16_checkLength 23 = .ok (.invokevirtual 50, 3) := dk_182 0 50 (dk_at dksJ16_checkLength_1 0 rfl rfl)
theorem dJ16_checkLength_26 : decode cJ16_checkLength 26 = .ok (.iload_n 1, 1) := dk_27 (dk_at dksJ16_checkLength_1 3 rfl rfl)
theorem dJ16_checkLength_27 : decode cJ16_checkLength 27 = .ok (.invokevirtual 54, 3) := dk_182 0 54 (dk_at dksJ16_checkLength_1 4 rfl rfl)
theorem dJ16_checkLength_30 : decode cJ16_checkLength 30 = .ok (.invokevirtual 61, 3) := dk_182 0 61 (dk_at dksJ16_checkLength_1 7 rfl rfl)
theorem dJ16_checkLength_33 : decode cJ16_checkLength 33 = .ok (.invokespecial 65, 3) := dk_183 0 65 (dk_at dksJ16_checkLength_1 10 rfl rfl)
theorem dJ16_checkLength_36 : decode cJ16_checkLength 36 = .ok (.athrow, 1) := dk_191 (dk_at dksJ16_checkLength_1 13 rfl rfl)
theorem dJ16_checkLength_37 : decode cJ16_checkLength 37 = .ok (.return_, 1) := dk_177 (dk_at dksJ16_checkLength_1 14 rfl rfl)
theorem q315 : (Jvm.Cond.initialized "java/util/Arrays") ∈ lw_all := lw_g (lw_at lw_m1 55 rfl) rfl
theorem q2030 : (Jvm.Cond.static ({ cls := "java/util/Arrays", name := "copyOf", desc := "([BI)[B" } : Jvm.MethodName)) ∈ lw_all := lw_g (lw_at lw_m8 90 rfl) rfl
theorem q2031 : (Jvm.Cond.code ({ cls := "java/util/Arrays", name := "copyOf", desc := "([BI)[B" } : Jvm.MethodName) prog_82_method_121_code (3 : Nat) (Option.some (Jvm.ClassFile.FieldType.array Jvm.ClassFile.FieldType.byte))) ∈ lw_all := lw_g (lw_at lw_m8 91 rfl) rfl
theorem q2032 : (Jvm.Cond.methodLink "java/util/Arrays" (310 : Nat) ({ cls := "[B", name := "clone", desc := "()Ljava/lang/Object;" } : Jvm.MethodName)) ∈ lw_all := lw_g (lw_at lw_m8 92 rfl) rfl
theorem q2038 : (Jvm.Cond.classLink "java/util/Arrays" (311 : Nat) "[B") ∈ lw_all := lw_g (lw_at lw_m8 98 rfl) rfl
theorem q2039 : (Jvm.Cond.methodLink "java/util/Arrays" (304 : Nat) ({ cls := "java/lang/Math", name := "min", desc := "(II)I" } : Jvm.MethodName)) ∈ lw_all := lw_g (lw_at lw_m8 99 rfl) rfl
theorem q2042 : (Jvm.Cond.methodLink "java/util/Arrays" (150 : Nat) ({ cls := "java/lang/System", name := "arraycopy", desc := "(Ljava/lang/Object;ILjava/lang/Object;II)V" } : Jvm.MethodName)) ∈ lw_all := lw_g (lw_at lw_m8 102 rfl) rfl
theorem q2105 : (Jvm.Cond.static ({ cls := "java/util/Arrays", name := "copyOfRange", desc := "([BII)[B" } : Jvm.MethodName)) ∈ lw_all := lw_g (lw_at lw_m8 165 rfl) rfl
theorem q2106 : (Jvm.Cond.code ({ cls := "java/util/Arrays", name := "copyOfRange", desc := "([BII)[B" } : Jvm.MethodName) prog_82_method_132_code (3 : Nat) (Option.some (Jvm.ClassFile.FieldType.array Jvm.ClassFile.FieldType.byte))) ∈ lw_all := lw_g (lw_at lw_m8 166 rfl) rfl
theorem q2107 : (Jvm.Cond.methodLink "java/util/Arrays" (339 : Nat) ({ cls := "java/util/Arrays", name := "copyOfRangeByte", desc := "([BII)[B" } : Jvm.MethodName)) ∈ lw_all := lw_g (lw_at lw_m8 167 rfl) rfl
theorem q2108 : (Jvm.Cond.static ({ cls := "java/util/Arrays", name := "copyOfRangeByte", desc := "([BII)[B" } : Jvm.MethodName)) ∈ lw_all := lw_g (lw_at lw_m8 168 rfl) rfl
theorem q2109 : (Jvm.Cond.code ({ cls := "java/util/Arrays", name := "copyOfRangeByte", desc := "([BII)[B" } : Jvm.MethodName) prog_82_method_133_code (5 : Nat) (Option.some (Jvm.ClassFile.FieldType.array Jvm.ClassFile.FieldType.byte))) ∈ lw_all := lw_g (lw_at lw_m8 169 rfl) rfl
theorem q2110 : (Jvm.Cond.methodLink "java/util/Arrays" (343 : Nat) ({ cls := "java/util/Arrays", name := "checkLength", desc := "(II)V" } : Jvm.MethodName)) ∈ lw_all := lw_g (lw_at lw_m8 170 rfl) rfl
theorem q2111 : (Jvm.Cond.static ({ cls := "java/util/Arrays", name := "checkLength", desc := "(II)V" } : Jvm.MethodName)) ∈ lw_all := lw_g (lw_at lw_m8 171 rfl) rfl
theorem q2112 : (Jvm.Cond.code ({ cls := "java/util/Arrays", name := "checkLength", desc := "(II)V" } : Jvm.MethodName) prog_82_method_131_code (2 : Nat) (Option.none : Option Jvm.ClassFile.FieldType)) ∈ lw_all := lw_g (lw_at lw_m8 172 rfl) rfl
/-! java/lang/ClassCastException -/
set_option maxRecDepth 100000
def RJ17 : String := "java/lang/ClassCastException"
def TJ17 : u_T := fun k => match k with
  | 0 => ("java/lang/Throwable", "backtrace", "Ljava/lang/Object;", false)
  | 1 => ("java/lang/Throwable", "detailMessage", "Ljava/lang/String;", false)
  | 2 => ("java/lang/Throwable", "cause", "Ljava/lang/Throwable;", false)
  | 3 => ("java/lang/Throwable", "stackTrace", "[Ljava/lang/StackTraceElement;", false)
  | 4 => ("java/lang/Throwable", "depth", "I", false)
  | _ => ("java/lang/Throwable", "suppressedExceptions", "Ljava/util/List;", false)
def tyJ17 : Nat → FieldType := fun k => match k with
  | 0 => .object "java/lang/Object"
  | 1 => .object "java/lang/String"
  | 2 => .object "java/lang/Throwable"
  | 3 => .array (.object "java/lang/StackTraceElement")
  | 4 => .int
  | _ => .object "java/util/List"
abbrev wsJ170 : List Cond := u_ws RJ17 TJ17 6
theorem nmJ17 : ∀ a, a < 6 → ∀ b, b < 6 → a ≠ b → (TJ17 a).2.1 ≠ (TJ17 b).2.1 := by decide +kernel
theorem tyJ17_ok : ∀ k, k < 6 → parseFieldDescriptor (TJ17 k).2.2.1 = some (tyJ17 k) := by decide +kernel
abbrev cJ17_init : ByteArray := prog_56_method_2_code
def yJ17_init : MethodName := ⟨RJ17, "<init>", "(Ljava/lang/String;)V"⟩
def dkwJ17_init_0 : List UInt8 := [42, 43, 183, 0, 7, 177]
abbrev dktJ17_init_0 : List UInt8 := dkwJ17_init_0 ++ []
theorem dksJ17_init_0 : cJ17_init.data.toList.drop 0 = dktJ17_init_0 := by decide +kernel
theorem dJ17_init_0 : decode cJ17_init 0 = .ok (.aload_n 0, 1) := dk_42 (dk_at dksJ17_init_0 0 rfl rfl)
theorem dJ17_init_1 : decode cJ17_init 1 = .ok (.aload_n 1, 1) := dk_43 (dk_at dksJ17_init_0 1 rfl rfl)
theorem dJ17_init_2 : decode cJ17_init 2 = .ok (.invokespecial 7, 3) := dk_183 0 7 (dk_at dksJ17_init_0 2 rfl rfl)
theorem dJ17_init_5 : decode cJ17_init 5 = .ok (.return_, 1) := dk_177 (dk_at dksJ17_init_0 5 rfl rfl)
theorem q317 : (Jvm.Cond.initialized "java/lang/ClassCastException") ∈ lw_all := lw_g (lw_at lw_m1 57 rfl) rfl
theorem q625 : (Jvm.Cond.selects "java/lang/ClassCastException" ({ cls := "java/lang/Throwable", name := "fillInStackTrace", desc := "()Ljava/lang/Throwable;" } : Jvm.MethodName) ({ cls := "java/lang/Throwable", name := "fillInStackTrace", desc := "()Ljava/lang/Throwable;" } : Jvm.MethodName)) ∈ lw_all := lw_g (lw_at lw_m2 125 rfl) rfl
theorem q2150 : (Jvm.Cond.instantiable "java/lang/ClassCastException" (6 : Nat)) ∈ lw_all := lw_g (lw_at lw_m8 210 rfl) rfl
theorem q2151 : (Jvm.Cond.instanceMethod ({ cls := "java/lang/ClassCastException", name := "<init>", desc := "(Ljava/lang/String;)V" } : Jvm.MethodName)) ∈ lw_all := lw_g (lw_at lw_m8 211 rfl) rfl
theorem q2152 : (Jvm.Cond.code ({ cls := "java/lang/ClassCastException", name := "<init>", desc := "(Ljava/lang/String;)V" } : Jvm.MethodName) prog_56_method_2_code (2 : Nat) (Option.none : Option Jvm.ClassFile.FieldType)) ∈ lw_all := lw_g (lw_at lw_m8 212 rfl) rfl
theorem q2153 : (Jvm.Cond.methodLink "java/lang/ClassCastException" (7 : Nat) ({ cls := "java/lang/RuntimeException", name := "<init>", desc := "(Ljava/lang/String;)V" } : Jvm.MethodName)) ∈ lw_all := lw_g (lw_at lw_m8 213 rfl) rfl
theorem q2154 : (Jvm.Cond.lays "java/lang/ClassCastException" "java/lang/Throwable" "backtrace" "Ljava/lang/Object;") ∈ lw_all := lw_g (lw_at lw_m8 214 rfl) rfl
theorem q2155 : (Jvm.Cond.lays "java/lang/ClassCastException" "java/lang/Throwable" "detailMessage" "Ljava/lang/String;") ∈ lw_all := lw_g (lw_at lw_m8 215 rfl) rfl
theorem q2156 : (Jvm.Cond.lays "java/lang/ClassCastException" "java/lang/Throwable" "cause" "Ljava/lang/Throwable;") ∈ lw_all := lw_g (lw_at lw_m8 216 rfl) rfl
theorem q2157 : (Jvm.Cond.lays "java/lang/ClassCastException" "java/lang/Throwable" "stackTrace" "[Ljava/lang/StackTraceElement;") ∈ lw_all := lw_g (lw_at lw_m8 217 rfl) rfl
theorem q2158 : (Jvm.Cond.lays "java/lang/ClassCastException" "java/lang/Throwable" "depth" "I") ∈ lw_all := lw_g (lw_at lw_m8 218 rfl) rfl
theorem q2159 : (Jvm.Cond.lays "java/lang/ClassCastException" "java/lang/Throwable" "suppressedExceptions" "Ljava/util/List;") ∈ lw_all := lw_g (lw_at lw_m8 219 rfl) rfl
theorem q2160 : (Jvm.Cond.superclass "java/lang/ClassCastException" "java/lang/RuntimeException") ∈ lw_all := lw_g (lw_at lw_m8 220 rfl) rfl
theorem q2161 : (Jvm.Cond.castable "java/lang/ClassCastException" "java/lang/ClassCastException") ∈ lw_tbl := lw_at lw_m8 221 rfl
theorem q2162 : (Jvm.Cond.selects "java/lang/ClassCastException" ({ cls := "java/lang/Throwable", name := "fillInStackTrace", desc := "(I)Ljava/lang/Throwable;" } : Jvm.MethodName) ({ cls := "java/lang/Throwable", name := "fillInStackTrace", desc := "(I)Ljava/lang/Throwable;" } : Jvm.MethodName)) ∈ lw_all := lw_g (lw_at lw_m8 222 rfl) rfl
theorem q4846 : (Jvm.Cond.castable "java/lang/ClassCastException" "java/lang/Object") ∈ lw_tbl := lw_at lw_m20 26 rfl
theorem in_J17 : ∀ w ∈ wsJ170, w ∈ lw_all := lw_in wsJ170 [2154, 2155, 2156, 2157, 2158, 2159] (by decide +kernel) (by decide +kernel)
/-! java/lang/Float -/
set_option maxRecDepth 100000
def RJ18 : String := "java/lang/Float"
abbrev cJ18_isNaN : ByteArray := prog_63_method_6_code
def yJ18_isNaN : MethodName := ⟨RJ18, "isNaN", "(F)Z"⟩
def dkwJ18_isNaN_0 : List UInt8 := [34, 34, 149, 153, 0, 7, 4, 167, 0, 4, 3, 172]
abbrev dktJ18_isNaN_0 : List UInt8 := dkwJ18_isNaN_0 ++ []
theorem dksJ18_isNaN_0 : cJ18_isNaN.data.toList.drop 0 = dktJ18_isNaN_0 := by decide +kernel
theorem dJ18_isNaN_0 : decode cJ18_isNaN 0 = .ok (.fload_n 0, 1) := dk_34 (dk_at dksJ18_isNaN_0 0 rfl rfl)
theorem dJ18_isNaN_1 : decode cJ18_isNaN 1 = .ok (.fload_n 0, 1) := dk_34 (dk_at dksJ18_isNaN_0 1 rfl rfl)
theorem dJ18_isNaN_2 : decode cJ18_isNaN 2 = .ok (.fcmp .l, 1) := dk_149 (dk_at dksJ18_isNaN_0 2 rfl rfl)
theorem dJ18_isNaN_3 : decode cJ18_isNaN 3 = .ok (.ifCond .eq 7, 3) := dk_153 0 7 (dk_at dksJ18_isNaN_0 3 rfl rfl)
theorem dJ18_isNaN_6 : decode cJ18_isNaN 6 = .ok (.iconst 1, 1) := dk_4 (dk_at dksJ18_isNaN_0 6 rfl rfl)
theorem dJ18_isNaN_7 : decode cJ18_isNaN 7 = .ok (.goto 4, 3) := dk_167 0 4 (dk_at dksJ18_isNaN_0 7 rfl rfl)
theorem dJ18_isNaN_10 : decode cJ18_isNaN 10 = .ok (.iconst 0, 1) := dk_3 (dk_at dksJ18_isNaN_0 10 rfl rfl)
theorem dJ18_isNaN_11 : decode cJ18_isNaN 11 = .ok (.ireturn, 1) := dk_172 (dk_at dksJ18_isNaN_0 11 rfl rfl)
abbrev cJ18_floatToIntBits : ByteArray := prog_63_method_24_code
def yJ18_floatToIntBits : MethodName := ⟨RJ18, "floatToIntBits", "(F)I"⟩
def dkwJ18_floatToIntBits_0 : List UInt8 := [34, 184, 0, 59, 154, 0, 8, 34, 184, 0, 74, 172, 18, 77, 172]
abbrev dktJ18_floatToIntBits_0 : List UInt8 := dkwJ18_floatToIntBits_0 ++ []
theorem dksJ18_floatToIntBits_0 : cJ18_floatToIntBits.data.toList.drop 0 = dktJ18_floatToIntBits_0 := by decide +kernel
theorem dJ18_floatToIntBits_0 : decode cJ18_floatToIntBits 0 = .ok (.fload_n 0, 1) := dk_34 (dk_at dksJ18_floatToIntBits_0 0 rfl rfl)
theorem dJ18_floatToIntBits_1 : decode cJ18_floatToIntBits 1 = .ok (.invokestatic 59, 3) := dk_184 0 59 (dk_at dksJ18_floatToIntBits_0 1 rfl rfl)
theorem dJ18_floatToIntBits_4 : decode cJ18_floatToIntBits 4 = .ok (.ifCond .ne 8, 3) := dk_154 0 8 (dk_at dksJ18_floatToIntBits_0 4 rfl rfl)
theorem dJ18_floatToIntBits_7 : decode cJ18_floatToIntBits 7 = .ok (.fload_n 0, 1) := dk_34 (dk_at dksJ18_floatToIntBits_0 7 rfl rfl)
theorem dJ18_floatToIntBits_8 : decode cJ18_floatToIntBits 8 = .ok (.invokestatic 74, 3) := dk_184 0 74 (dk_at dksJ18_floatToIntBits_0 8 rfl rfl)
theorem dJ18_floatToIntBits_11 : decode cJ18_floatToIntBits 11 = .ok (.ireturn, 1) := dk_172 (dk_at dksJ18_floatToIntBits_0 11 rfl rfl)
theorem dJ18_floatToIntBits_12 : decode cJ18_floatToIntBits 12 = .ok (.ldc 77, 2) := dk_18 77 (dk_at dksJ18_floatToIntBits_0 12 rfl rfl)
theorem dJ18_floatToIntBits_14 : decode cJ18_floatToIntBits 14 = .ok (.ireturn, 1) := dk_172 (dk_at dksJ18_floatToIntBits_0 14 rfl rfl)
theorem q319 : (Jvm.Cond.initialized "java/lang/Float") ∈ lw_all := lw_g (lw_at lw_m1 59 rfl) rfl
theorem q2185 : (Jvm.Cond.static ({ cls := "java/lang/Float", name := "isNaN", desc := "(F)Z" } : Jvm.MethodName)) ∈ lw_all := lw_g (lw_at lw_m9 5 rfl) rfl
theorem q2186 : (Jvm.Cond.code ({ cls := "java/lang/Float", name := "isNaN", desc := "(F)Z" } : Jvm.MethodName) prog_63_method_6_code (1 : Nat) (Option.some Jvm.ClassFile.FieldType.boolean)) ∈ lw_all := lw_g (lw_at lw_m9 6 rfl) rfl
theorem q2190 : (Jvm.Cond.static ({ cls := "java/lang/Float", name := "floatToRawIntBits", desc := "(F)I" } : Jvm.MethodName)) ∈ lw_all := lw_g (lw_at lw_m9 10 rfl) rfl
theorem q2191 : (Jvm.Cond.native ({ cls := "java/lang/Float", name := "floatToRawIntBits", desc := "(F)I" } : Jvm.MethodName)) ∈ lw_all := lw_g (lw_at lw_m9 11 rfl) rfl
theorem q2193 : (Jvm.Cond.static ({ cls := "java/lang/Float", name := "intBitsToFloat", desc := "(I)F" } : Jvm.MethodName)) ∈ lw_all := lw_g (lw_at lw_m9 13 rfl) rfl
theorem q2194 : (Jvm.Cond.native ({ cls := "java/lang/Float", name := "intBitsToFloat", desc := "(I)F" } : Jvm.MethodName)) ∈ lw_all := lw_g (lw_at lw_m9 14 rfl) rfl
theorem q3361 : (Jvm.Cond.static ({ cls := "java/lang/Float", name := "floatToIntBits", desc := "(F)I" } : Jvm.MethodName)) ∈ lw_all := lw_g (lw_at lw_m13 221 rfl) rfl
theorem q3362 : (Jvm.Cond.code ({ cls := "java/lang/Float", name := "floatToIntBits", desc := "(F)I" } : Jvm.MethodName) prog_63_method_24_code (1 : Nat) (Option.some Jvm.ClassFile.FieldType.int)) ∈ lw_all := lw_g (lw_at lw_m13 222 rfl) rfl
theorem q3363 : (Jvm.Cond.methodLink "java/lang/Float" (59 : Nat) ({ cls := "java/lang/Float", name := "isNaN", desc := "(F)Z" } : Jvm.MethodName)) ∈ lw_all := lw_g (lw_at lw_m13 223 rfl) rfl
theorem q3364 : (Jvm.Cond.methodLink "java/lang/Float" (74 : Nat) ({ cls := "java/lang/Float", name := "floatToRawIntBits", desc := "(F)I" } : Jvm.MethodName)) ∈ lw_all := lw_g (lw_at lw_m13 224 rfl) rfl
theorem q3365 : (Jvm.Cond.constant "java/lang/Float" (77 : Nat) (2143289344 : Int32)) ∈ lw_all := lw_g (lw_at lw_m13 225 rfl) rfl
/-! java/lang/StrictMath -/
set_option maxRecDepth 100000
def RJ19 : String := "java/lang/StrictMath"
abbrev cJ19_ceil : ByteArray := prog_73_method_16_code
def yJ19_ceil : MethodName := ⟨RJ19, "ceil", "(D)D"⟩
def dkwJ19_ceil_0 : List UInt8 := [38, 20, 0, 58, 15, 15, 184, 0, 60, 175]
abbrev dktJ19_ceil_0 : List UInt8 := dkwJ19_ceil_0 ++ []
theorem dksJ19_ceil_0 : cJ19_ceil.data.toList.drop 0 = dktJ19_ceil_0 := by decide +kernel
theorem dJ19_ceil_0 : decode cJ19_ceil 0 = .ok (.dload_n 0, 1) := dk_38 (dk_at dksJ19_ceil_0 0 rfl rfl)
theorem dJ19_ceil_1 : decode cJ19_ceil 1 = .ok (.ldc2_w 58, 3) := dk_20 0 58 (dk_at dksJ19_ceil_0 1 rfl rfl)
theorem dJ19_ceil_4 : decode cJ19_ceil 4 = .ok (.dconst 1, 1) := dk_15 (dk_at dksJ19_ceil_0 4 rfl rfl)
theorem dJ19_ceil_5 : decode cJ19_ceil 5 = .ok (.dconst 1, 1) := dk_15 (dk_at dksJ19_ceil_0 5 rfl rfl)
theorem dJ19_ceil_6 : decode cJ19_ceil 6 = .ok (.invokestatic 60, 3) := dk_184 0 60 (dk_at dksJ19_ceil_0 6 rfl rfl)
theorem dJ19_ceil_9 : decode cJ19_ceil 9 = .ok (.dreturn, 1) := dk_175 (dk_at dksJ19_ceil_0 9 rfl rfl)
abbrev cJ19_floorOrCeil : ByteArray := prog_73_method_18_code
def yJ19_floorOrCeil : MethodName := ⟨RJ19, "floorOrCeil", "(DDDD)D"⟩
def dkwJ19_floorOrCeil_5 : List UInt8 := [24, 13, 24, 6, 99, 57, 13, 24, 13, 175]
abbrev dktJ19_floorOrCeil_5 : List UInt8 := dkwJ19_floorOrCeil_5 ++ []
def dkwJ19_floorOrCeil_4 : List UInt8 := [175, 22, 9, 22, 11, 20, 0, 87, 131, 127, 184, 0, 89, 57, 13, 24, 6, 38, 107, 14, 151, 158, 0, 10]
abbrev dktJ19_floorOrCeil_4 : List UInt8 := dkwJ19_floorOrCeil_4 ++ dktJ19_floorOrCeil_5
def dkwJ19_floorOrCeil_3 : List UInt8 := [184, 0, 77, 55, 9, 20, 0, 85, 21, 8, 123, 55, 11, 22, 11, 22, 9, 127, 9, 148, 154, 0, 5, 38]
abbrev dktJ19_floorOrCeil_3 : List UInt8 := dkwJ19_floorOrCeil_3 ++ dktJ19_floorOrCeil_4
def dkwJ19_floorOrCeil_2 : List UInt8 := [154, 0, 23, 21, 8, 155, 0, 10, 21, 8, 16, 51, 164, 0, 11, 187, 0, 74, 89, 183, 0, 76, 191, 38]
abbrev dktJ19_floorOrCeil_2 : List UInt8 := dkwJ19_floorOrCeil_2 ++ dktJ19_floorOrCeil_3
def dkwJ19_floorOrCeil_1 : List UInt8 := [156, 0, 7, 40, 167, 0, 5, 24, 4, 175, 21, 8, 16, 52, 161, 0, 5, 38, 175, 178, 0, 70]
abbrev dktJ19_floorOrCeil_1 : List UInt8 := dkwJ19_floorOrCeil_1 ++ dktJ19_floorOrCeil_2
def dkwJ19_floorOrCeil_0 : List UInt8 := [38, 184, 0, 66, 54, 8, 21, 8, 156, 0, 26, 38, 14, 151, 154, 0, 7, 38, 167, 0, 15, 38, 14, 152]
abbrev dktJ19_floorOrCeil_0 : List UInt8 := dkwJ19_floorOrCeil_0 ++ dktJ19_floorOrCeil_1
theorem dksJ19_floorOrCeil_0 : cJ19_floorOrCeil.data.toList.drop 0 = dktJ19_floorOrCeil_0 := by decide +kernel
theorem dksJ19_floorOrCeil_1 : cJ19_floorOrCeil.data.toList.drop 24 = dktJ19_floorOrCeil_1 := dk_seg dksJ19_floorOrCeil_0 24 rfl rfl
theorem dksJ19_floorOrCeil_2 : cJ19_floorOrCeil.data.toList.drop 46 = dktJ19_floorOrCeil_2 := dk_seg dksJ19_floorOrCeil_1 22 rfl rfl
theorem dksJ19_floorOrCeil_3 : cJ19_floorOrCeil.data.toList.drop 70 = dktJ19_floorOrCeil_3 := dk_seg dksJ19_floorOrCeil_2 24 rfl rfl
theorem dksJ19_floorOrCeil_4 : cJ19_floorOrCeil.data.toList.drop 94 = dktJ19_floorOrCeil_4 := dk_seg dksJ19_floorOrCeil_3 24 rfl rfl
theorem dksJ19_floorOrCeil_5 : cJ19_floorOrCeil.data.toList.drop 118 = dktJ19_floorOrCeil_5 := dk_seg dksJ19_floorOrCeil_4 24 rfl rfl
theorem dJ19_floorOrCeil_0 : decode cJ19_floorOrCeil 0 = .ok (.dload_n 0, 1) := dk_38 (dk_at dksJ19_floorOrCeil_0 0 rfl rfl)
theorem dJ19_floorOrCeil_1 : decode cJ19_floorOrCeil 1 = .ok (.invokestatic 66, 3) := dk_184 0 66 (dk_at dksJ19_floorOrCeil_0 1 rfl rfl)
theorem dJ19_floorOrCeil_4 : decode cJ19_floorOrCeil 4 = .ok (.istore 8, 2) := dk_54 8 (dk_at dksJ19_floorOrCeil_0 4 rfl rfl)
theorem dJ19_floorOrCeil_6 : decode cJ19_floorOrCeil 6 = .ok (.iload 8, 2) := dk_21 8 (dk_at dksJ19_floorOrCeil_0 6 rfl rfl)
theorem dJ19_floorOrCeil_8 : decode cJ19_floorOrCeil 8 = .ok (.ifCond .ge 26, 3) := dk_156 0 26 (dk_at dksJ19_floorOrCeil_0 8 rfl rfl)
theorem dJ19_floorOrCeil_11 : decode cJ19_floorOrCeil 11 = .ok (.dload_n 0, 1) := dk_38 (dk_at dksJ19_floorOrCeil_0 11 rfl rfl)
theorem dJ19_floorOrCeil_12 : decode cJ19_floorOrCeil 12 = .ok (.dconst 0, 1) := dk_14 (dk_at dksJ19_floorOrCeil_0 12 rfl rfl)
theorem dJ19_floorOrCeil_13 : decode cJ19_floorOrCeil 13 = .ok (.dcmp .l, 1) := dk_151 (dk_at dksJ19_floorOrCeil_0 13 rfl rfl)
theorem dJ19_floorOrCeil_14 : decode cJ19_floorOrCeil 14 = .ok (.ifCond .ne 7, 3) := dk_154 0 7 (dk_at dksJ19_floorOrCeil_0 14 rfl rfl)
theorem dJ19_floorOrCeil_17 : decode cJ19_floorOrCeil 17 = .ok (.dload_n 0, 1) := dk_38 (dk_at dksJ19_floorOrCeil_0 17 rfl rfl)
theorem dJ19_floorOrCeil_18 : decode cJ19_floorOrCeil 18 = .ok (.goto 15, 3) := dk_167 0 15 (dk_at dksJ19_floorOrCeil_0 18 rfl rfl)
theorem dJ19_floorOrCeil_21 : decode cJ19_floorOrCeil 21 = .ok (.dload_n 0, 1) := dk_38 (dk_at dksJ19_floorOrCeil_0 21 rfl rfl)
theorem dJ19_floorOrCeil_22 : decode cJ19_floorOrCeil 22 = .ok (.dconst 0, 1) := dk_14 (dk_at dksJ19_floorOrCeil_0 22 rfl rfl)
theorem dJ19_floorOrCeil_23 : decode cJ19_floorOrCeil 23 = .ok (.dcmp .g, 1) := dk_152 (dk_at dksJ19_floorOrCeil_0 23 rfl rfl)
theorem dJ19_floorOrCeil_24 : decode cJ19_floorOrCeil 24 = .ok (.ifCond .ge 7, 3) := dk_156 0 7 (dk_at dksJ19_floorOrCeil_1 0 rfl rfl)
theorem dJ19_floorOrCeil_27 : decode cJ19_floorOrCeil 27 = .ok (.dload_n 2, 1) := dk_40 (dk_at dksJ19_floorOrCeil_1 3 rfl rfl)
theorem dJ19_floorOrCeil_28 : decode cJ19_floorOrCeil 28 = .ok (.goto 5, 3) := dk_167 0 5 (dk_at dksJ19_floorOrCeil_1 4 rfl rfl)
theorem dJ19_floorOrCeil_31 : decode cJ19_floorOrCeil 31 = .ok (.dload 4, 2) := dk_24 4 (dk_at dksJ19_floorOrCeil_1 7 rfl rfl)
theorem dJ19_floorOrCeil_33 : decode cJ19_floorOrCeil 33 = .ok (.dreturn, 1) := dk_175 (dk_at dksJ19_floorOrCeil_1 9 rfl rfl)
theorem dJ19_floorOrCeil_34 : decode cJ19_floorOrCeil 34 = .ok (.iload 8, 2) := dk_21 8 (dk_at dksJ19_floorOrCeil_1 10 rfl rfl)
theorem dJ19_floorOrCeil_36 : decode cJ19_floorOrCeil 36 = .ok (.bipush 52, 2) := dk_16 52 (dk_at dksJ19_floorOrCeil_1 12 rfl rfl)
theorem dJ19_floorOrCeil_38 : decode cJ19_floorOrCeil 38 = .ok (.if_icmp .lt 5, 3) := dk_161 0 5 (dk_at dksJ19_floorOrCeil_1 14 rfl rfl)
theorem dJ19_floorOrCeil_41 : decode cJ19_floorOrCeil 41 = .ok (.dload_n 0, 1) := dk_38 (dk_at dksJ19_floorOrCeil_1 17 rfl rfl)
theorem dJ19_floorOrCeil_42 : decode cJ19_floorOrCeil 42 = .ok (.dreturn, 1) := dk_175 (dk_at dksJ19_floorOrCeil_1 18 rfl rfl)
theorem dJ19_floorOrCeil_43 : decode cJ19_floorOrCeil 43 = .ok (.getstatic 70, 3) := dk_178 0 70 (dk_at dksJ19_floorOrCeil_1 19 rfl rfl)
theorem dJ19_floorOrCeil_46 : decode cJ19_floorOrCeil 46 = .ok (.ifCond .ne 23, 3) := dk_154 0 23 (dk_at dksJ19_floorOrCeil_2 0 rfl rfl)
theorem dJ19_floorOrCeil_49 : decode cJ19_floorOrCeil 49 = .ok (.iload 8, 2) := dk_21 8 (dk_at dksJ19_floorOrCeil_2 3 rfl rfl)
theorem dJ19_floorOrCeil_51 : decode cJ19_floorOrCeil 51 = .ok (.ifCond .lt 10, 3) := dk_155 0 10 (dk_at dksJ19_floorOrCeil_2 5 rfl rfl)
theorem dJ19_floorOrCeil_54 : decode cJ19_floorOrCeil 54 = .ok (.iload 8, 2) := dk_21 8 (dk_at dksJ19_floorOrCeil_2 8 rfl rfl)
theorem dJ19_floorOrCeil_56 : decode cJ19_floorOrCeil 56 = .ok (.bipush 51, 2) := dk_16 51 (dk_at dksJ19_floorOrCeil_2 10 rfl rfl)
theorem dJ19_floorOrCeil_58 : decode cJ19_floorOrCeil 58 = .ok (.if_icmp .le 11, 3) := dk_164 0 11 (dk_at dksJ19_floorOrCeil_2 12 rfl rfl)
theorem dJ19_floorOrCeil_61 : decode cJ19_floorOrCeil 61 = .ok (.new 74, 3) := dk_187 0 74 (dk_at dksJ19_floorOrCeil_2 15 rfl rfl)
theorem dJ19_floorOrCeil_64 : decode cJ19_floorOrCeil 64 = .ok (.dup, 1) := dk_89 (dk_at dksJ19_floorOrCeil_2 18 rfl rfl)
theorem dJ19_floorOrCeil_65 : decode cJ19_floorOrCeil 65 = .ok (.invokespecial 76, 3) := dk_183 0 76 (dk_at dksJ19_floorOrCeil_2 19 rfl rfl)
theorem dJ19_floorOrCeil_68 : decode cJ19_floorOrCeil 68 = .ok (.athrow, 1) := dk_191 (dk_at dksJ19_floorOrCeil_2 22 rfl rfl)
theorem dJ19_floorOrCeil_69 : decode cJ19_floorOrCeil 69 = .ok (.dload_n 0, 1) := dk_38 (dk_at dksJ19_floorOrCeil_2 23 rfl rfl)
theorem dJ19_floorOrCeil_70 : decode cJ19_floorOrCeil 70 = .ok (.invokestatic 77, 3) := dk_184 0 77 (dk_at dksJ19_floorOrCeil_3 0 rfl rfl)
theorem dJ19_floorOrCeil_73 : decode cJ19_floorOrCeil 73 = .ok (.lstore 9, 2) := dk_55 9 (dk_at dksJ19_floorOrCeil_3 3 rfl rfl)
theorem dJ19_floorOrCeil_75 : decode cJ19_floorOrCeil 75 = .ok (.ldc2_w 85, 3) := dk_20 0 85 (dk_at dksJ19_floorOrCeil_3 5 rfl rfl)
theorem dJ19_floorOrCeil_78 : decode cJ19_floorOrCeil 78 = .ok (.iload 8, 2) := dk_21 8 (dk_at dksJ19_floorOrCeil_3 8 rfl rfl)
theorem dJ19_floorOrCeil_80 : decode cJ19_floorOrCeil 80 = .ok (.lshr, 1) := dk_123 (dk_at dksJ19_floorOrCeil_3 10 rfl rfl)
theorem dJ19_floorOrCeil_81 : decode cJ19_floorOrCeil 81 = .ok (.lstore 11, 2) := dk_55 11 (dk_at dksJ19_floorOrCeil_3 11 rfl rfl)
theorem dJ19_floorOrCeil_83 : decode cJ19_floorOrCeil 83 = .ok (.lload 11, 2) := dk_22 11 (dk_at dksJ19_floorOrCeil_3 13 rfl rfl)
theorem dJ19_floorOrCeil_85 : decode cJ19_floorOrCeil 85 = .ok (.lload 9, 2) := dk_22 9 (dk_at dksJ19_floorOrCeil_3 15 rfl rfl)
theorem dJ19_floorOrCeil_87 : decode cJ19_floorOrCeil 87 = .ok (.land, 1) := dk_127 (dk_at dksJ19_floorOrCeil_3 17 rfl rfl)
theorem dJ19_floorOrCeil_88 : decode cJ19_floorOrCeil 88 = .ok (.lconst 0, 1) := dk_9 (dk_at dksJ19_floorOrCeil_3 18 rfl rfl)
theorem dJ19_floorOrCeil_89 : decode cJ19_floorOrCeil 89 = .ok (.lcmp, 1) := dk_148 (dk_at dksJ19_floorOrCeil_3 19 rfl rfl)
theorem dJ19_floorOrCeil_90 : decode cJ19_floorOrCeil 90 = .ok (.ifCond .ne 5, 3) := dk_154 0 5 (dk_at dksJ19_floorOrCeil_3 20 rfl rfl)
theorem dJ19_floorOrCeil_93 : decode cJ19_floorOrCeil 93 = .ok (.dload_n 0, 1) := dk_38 (dk_at dksJ19_floorOrCeil_3 23 rfl rfl)
theorem dJ19_floorOrCeil_94 : decode cJ19_floorOrCeil 94 = .ok (.dreturn, 1) := dk_175 (dk_at dksJ19_floorOrCeil_4 0 rfl rfl)
theorem dJ19_floorOrCeil_95 : decode cJ19_floorOrCeil 95 = .ok (.lload 9, 2) := dk_22 9 (dk_at dksJ19_floorOrCeil_4 1 rfl rfl)
theorem dJ19_floorOrCeil_97 : decode cJ19_floorOrCeil 97 = .ok (.lload 11, 2) := dk_22 11 (dk_at dksJ19_floorOrCeil_4 3 rfl rfl)
theorem dJ19_floorOrCeil_99 : decode cJ19_floorOrCeil 99 = .ok (.ldc2_w 87, 3) := dk_20 0 87 (dk_at dksJ19_floorOrCeil_4 5 rfl rfl)
theorem dJ19_floorOrCeil_102 : decode cJ19_floorOrCeil 102 = .ok (.lxor, 1) := dk_131 (dk_at dksJ19_floorOrCeil_4 8 rfl rfl)
theorem dJ19_floorOrCeil_103 : decode cJ19_floorOrCeil 103 = .ok (.land, 1) := dk_127 (dk_at dksJ19_floorOrCeil_4 9 rfl rfl)
theorem dJ19_floorOrCeil_104 : decode cJ19_floorOrCeil 104 = .ok (.invokestatic 89, 3) := dk_184 0 89 (dk_at dksJ19_floorOrCeil_4 10 rfl rfl)
theorem dJ19_floorOrCeil_107 : decode cJ19_floorOrCeil 107 = .ok (.dstore 13, 2) := dk_57 13 (dk_at dksJ19_floorOrCeil_4 13 rfl rfl)
theorem dJ19_floorOrCeil_109 : decode cJ19_floorOrCeil 109 = .ok (.dload 6, 2) := dk_24 6 (dk_at dksJ19_floorOrCeil_4 15 rfl rfl)
theorem dJ19_floorOrCeil_111 : decode cJ19_floorOrCeil 111 = .ok (.dload_n 0, 1) := dk_38 (dk_at dksJ19_floorOrCeil_4 17 rfl rfl)
theorem dJ19_floorOrCeil_112 : decode cJ19_floorOrCeil 112 = .ok (.dmul, 1) := dk_107 (dk_at dksJ19_floorOrCeil_4 18 rfl rfl)
theorem dJ19_floorOrCeil_113 : decode cJ19_floorOrCeil 113 = .ok (.dconst 0, 1) := dk_14 (dk_at dksJ19_floorOrCeil_4 19 rfl rfl)
theorem dJ19_floorOrCeil_114 : decode cJ19_floorOrCeil 114 = .ok (.dcmp .l, 1) := dk_151 (dk_at dksJ19_floorOrCeil_4 20 rfl rfl)
theorem dJ19_floorOrCeil_115 : decode cJ19_floorOrCeil 115 = .ok (.ifCond .le 10, 3) := dk_158 0 10 (dk_at dksJ19_floorOrCeil_4 21 rfl rfl)
theorem dJ19_floorOrCeil_118 : decode cJ19_floorOrCeil 118 = .ok (.dload 13, 2) := dk_24 13 (dk_at dksJ19_floorOrCeil_5 0 rfl rfl)
theorem dJ19_floorOrCeil_120 : decode cJ19_floorOrCeil 120 = .ok (.dload 6, 2) := dk_24 6 (dk_at dksJ19_floorOrCeil_5 2 rfl rfl)
theorem dJ19_floorOrCeil_122 : decode cJ19_floorOrCeil 122 = .ok (.dadd, 1) := dk_99 (dk_at dksJ19_floorOrCeil_5 4 rfl rfl)
theorem dJ19_floorOrCeil_123 : decode cJ19_floorOrCeil 123 = .ok (.dstore 13, 2) := dk_57 13 (dk_at dksJ19_floorOrCeil_5 5 rfl rfl)
theorem dJ19_floorOrCeil_125 : decode cJ19_floorOrCeil 125 = .ok (.dload 13, 2) := dk_24 13 (dk_at dksJ19_floorOrCeil_5 7 rfl rfl)
theorem dJ19_floorOrCeil_127 : decode cJ19_floorOrCeil 127 = .ok (.dreturn, 1) := dk_175 (dk_at dksJ19_floorOrCeil_5 9 rfl rfl)
abbrev cJ19_floor : ByteArray := prog_73_method_17_code
def yJ19_floor : MethodName := ⟨RJ19, "floor", "(D)D"⟩
def dkwJ19_floor_0 : List UInt8 := [38, 20, 0, 64, 14, 20, 0, 64, 184, 0, 60, 175]
abbrev dktJ19_floor_0 : List UInt8 := dkwJ19_floor_0 ++ []
theorem dksJ19_floor_0 : cJ19_floor.data.toList.drop 0 = dktJ19_floor_0 := by decide +kernel
theorem dJ19_floor_0 : decode cJ19_floor 0 = .ok (.dload_n 0, 1) := dk_38 (dk_at dksJ19_floor_0 0 rfl rfl)
theorem dJ19_floor_1 : decode cJ19_floor 1 = .ok (.ldc2_w 64, 3) := dk_20 0 64 (dk_at dksJ19_floor_0 1 rfl rfl)
theorem dJ19_floor_4 : decode cJ19_floor 4 = .ok (.dconst 0, 1) := dk_14 (dk_at dksJ19_floor_0 4 rfl rfl)
theorem dJ19_floor_5 : decode cJ19_floor 5 = .ok (.ldc2_w 64, 3) := dk_20 0 64 (dk_at dksJ19_floor_0 5 rfl rfl)
theorem dJ19_floor_8 : decode cJ19_floor 8 = .ok (.invokestatic 60, 3) := dk_184 0 60 (dk_at dksJ19_floor_0 8 rfl rfl)
theorem dJ19_floor_11 : decode cJ19_floor 11 = .ok (.dreturn, 1) := dk_175 (dk_at dksJ19_floor_0 11 rfl rfl)
abbrev cJ19_sqrt : ByteArray := prog_73_method_13_code
def yJ19_sqrt : MethodName := ⟨RJ19, "sqrt", "(D)D"⟩
theorem dJ19_sqrt_0 : decode cJ19_sqrt 0 = .ok (.dload_n 0, 1) := by decide +kernel
theorem dJ19_sqrt_1 : decode cJ19_sqrt 1 = .ok (.invokestatic 47, 3) := by decide +kernel
theorem dJ19_sqrt_4 : decode cJ19_sqrt 4 = .ok (.dreturn, 1) := by decide +kernel
abbrev cJ19_rint : ByteArray := prog_73_method_19_code
def yJ19_rint : MethodName := ⟨RJ19, "rint", "(D)D"⟩
def dkwJ19_rint_1 : List UInt8 := [99, 40, 103, 71, 24, 4, 38, 107, 175]
abbrev dktJ19_rint_1 : List UInt8 := dkwJ19_rint_1 ++ []
def dkwJ19_rint_0 : List UInt8 := [20, 0, 93, 73, 15, 38, 184, 0, 95, 57, 4, 38, 184, 0, 98, 71, 38, 40, 152, 156, 0, 9, 40, 38]
abbrev dktJ19_rint_0 : List UInt8 := dkwJ19_rint_0 ++ dktJ19_rint_1
theorem dksJ19_rint_0 : cJ19_rint.data.toList.drop 0 = dktJ19_rint_0 := by decide +kernel
theorem dksJ19_rint_1 : cJ19_rint.data.toList.drop 24 = dktJ19_rint_1 := dk_seg dksJ19_rint_0 24 rfl rfl
theorem dJ19_rint_0 : decode cJ19_rint 0 = .ok (.ldc2_w 93, 3) := dk_20 0 93 (dk_at dksJ19_rint_0 0 rfl rfl)
theorem dJ19_rint_3 : decode cJ19_rint 3 = .ok (.dstore_n 2, 1) := dk_73 (dk_at dksJ19_rint_0 3 rfl rfl)
theorem dJ19_rint_4 : decode cJ19_rint 4 = .ok (.dconst 1, 1) := dk_15 (dk_at dksJ19_rint_0 4 rfl rfl)
theorem dJ19_rint_5 : decode cJ19_rint 5 = .ok (.dload_n 0, 1) := dk_38 (dk_at dksJ19_rint_0 5 rfl rfl)
theorem dJ19_rint_6 : decode cJ19_rint 6 = .ok (.invokestatic 95, 3) := dk_184 0 95 (dk_at dksJ19_rint_0 6 rfl rfl)
theorem dJ19_rint_9 : decode cJ19_rint 9 = .ok (.dstore 4, 2) := dk_57 4 (dk_at dksJ19_rint_0 9 rfl rfl)
theorem dJ19_rint_11 : decode cJ19_rint 11 = .ok (.dload_n 0, 1) := dk_38 (dk_at dksJ19_rint_0 11 rfl rfl)
theorem dJ19_rint_12 : decode cJ19_rint 12 = .ok (.invokestatic 98, 3) := dk_184 0 98 (dk_at dksJ19_rint_0 12 rfl rfl)
theorem dJ19_rint_15 : decode cJ19_rint 15 = .ok (.dstore_n 0, 1) := dk_71 (dk_at dksJ19_rint_0 15 rfl rfl)
theorem dJ19_rint_16 : decode cJ19_rint 16 = .ok (.dload_n 0, 1) := dk_38 (dk_at dksJ19_rint_0 16 rfl rfl)
theorem dJ19_rint_17 : decode cJ19_rint 17 = .ok (.dload_n 2, 1) := dk_40 (dk_at dksJ19_rint_0 17 rfl rfl)
theorem dJ19_rint_18 : decode cJ19_rint 18 = .ok (.dcmp .g, 1) := dk_152 (dk_at dksJ19_rint_0 18 rfl rfl)
theorem dJ19_rint_19 : decode cJ19_rint 19 = .ok (.ifCond .ge 9, 3) := dk_156 0 9 (dk_at dksJ19_rint_0 19 rfl rfl)
theorem dJ19_rint_22 : decode cJ19_rint 22 = .ok (.dload_n 2, 1) := dk_40 (dk_at dksJ19_rint_0 22 rfl rfl)
theorem dJ19_rint_23 : decode cJ19_rint 23 = .ok (.dload_n 0, 1) := dk_38 (dk_at dksJ19_rint_0 23 rfl rfl)
theorem dJ19_rint_24 : decode cJ19_rint 24 = .ok (.dadd, 1) := dk_99 (dk_at dksJ19_rint_1 0 rfl rfl)
theorem dJ19_rint_25 : decode cJ19_rint 25 = .ok (.dload_n 2, 1) := dk_40 (dk_at dksJ19_rint_1 1 rfl rfl)
theorem dJ19_rint_26 : decode cJ19_rint 26 = .ok (.dsub, 1) := dk_103 (dk_at dksJ19_rint_1 2 rfl rfl)
theorem dJ19_rint_27 : decode cJ19_rint 27 = .ok (.dstore_n 0, 1) := dk_71 (dk_at dksJ19_rint_1 3 rfl rfl)
theorem dJ19_rint_28 : decode cJ19_rint 28 = .ok (.dload 4, 2) := dk_24 4 (dk_at dksJ19_rint_1 4 rfl rfl)
theorem dJ19_rint_30 : decode cJ19_rint 30 = .ok (.dload_n 0, 1) := dk_38 (dk_at dksJ19_rint_1 6 rfl rfl)
theorem dJ19_rint_31 : decode cJ19_rint 31 = .ok (.dmul, 1) := dk_107 (dk_at dksJ19_rint_1 7 rfl rfl)
theorem dJ19_rint_32 : decode cJ19_rint 32 = .ok (.dreturn, 1) := dk_175 (dk_at dksJ19_rint_1 8 rfl rfl)
theorem q320 : (Jvm.Cond.initialized "java/lang/StrictMath") ∈ lw_all := lw_g (lw_at lw_m1 60 rfl) rfl
theorem q2229 : (Jvm.Cond.static ({ cls := "java/lang/StrictMath", name := "ceil", desc := "(D)D" } : Jvm.MethodName)) ∈ lw_all := lw_g (lw_at lw_m9 49 rfl) rfl
theorem q2230 : (Jvm.Cond.code ({ cls := "java/lang/StrictMath", name := "ceil", desc := "(D)D" } : Jvm.MethodName) prog_73_method_16_code (2 : Nat) (Option.some Jvm.ClassFile.FieldType.double)) ∈ lw_all := lw_g (lw_at lw_m9 50 rfl) rfl
theorem q2231 : (Jvm.Cond.constantDouble "java/lang/StrictMath" (58 : Nat) (9223372036854775808 : UInt64)) ∈ lw_all := lw_g (lw_at lw_m9 51 rfl) rfl
theorem q2232 : (Jvm.Cond.methodLink "java/lang/StrictMath" (60 : Nat) ({ cls := "java/lang/StrictMath", name := "floorOrCeil", desc := "(DDDD)D" } : Jvm.MethodName)) ∈ lw_all := lw_g (lw_at lw_m9 52 rfl) rfl
theorem q2233 : (Jvm.Cond.static ({ cls := "java/lang/StrictMath", name := "floorOrCeil", desc := "(DDDD)D" } : Jvm.MethodName)) ∈ lw_all := lw_g (lw_at lw_m9 53 rfl) rfl
theorem q2234 : (Jvm.Cond.code ({ cls := "java/lang/StrictMath", name := "floorOrCeil", desc := "(DDDD)D" } : Jvm.MethodName) prog_73_method_18_code (15 : Nat) (Option.some Jvm.ClassFile.FieldType.double)) ∈ lw_all := lw_g (lw_at lw_m9 54 rfl) rfl
theorem q2235 : (Jvm.Cond.methodLink "java/lang/StrictMath" (66 : Nat) ({ cls := "java/lang/Math", name := "getExponent", desc := "(D)I" } : Jvm.MethodName)) ∈ lw_all := lw_g (lw_at lw_m9 55 rfl) rfl
theorem q2243 : (Jvm.Cond.fieldLink "java/lang/StrictMath" (70 : Nat) "java/lang/StrictMath" "$assertionsDisabled" "Z") ∈ lw_all := lw_g (lw_at lw_m9 63 rfl) rfl
theorem q2244 : (Jvm.Cond.laysStatic "java/lang/StrictMath" "$assertionsDisabled" "Z") ∈ lw_tbl := lw_at lw_m9 64 rfl
theorem q2245 : (Jvm.Cond.methodLink "java/lang/StrictMath" (77 : Nat) ({ cls := "java/lang/Double", name := "doubleToRawLongBits", desc := "(D)J" } : Jvm.MethodName)) ∈ lw_all := lw_g (lw_at lw_m9 65 rfl) rfl
theorem q2246 : (Jvm.Cond.constantLong "java/lang/StrictMath" (85 : Nat) (4503599627370495 : Int64)) ∈ lw_all := lw_g (lw_at lw_m9 66 rfl) rfl
theorem q2247 : (Jvm.Cond.constantLong "java/lang/StrictMath" (87 : Nat) (-1 : Int64)) ∈ lw_all := lw_g (lw_at lw_m9 67 rfl) rfl
theorem q2248 : (Jvm.Cond.methodLink "java/lang/StrictMath" (89 : Nat) ({ cls := "java/lang/Double", name := "longBitsToDouble", desc := "(J)D" } : Jvm.MethodName)) ∈ lw_all := lw_g (lw_at lw_m9 68 rfl) rfl
theorem q2255 : (Jvm.Cond.static ({ cls := "java/lang/StrictMath", name := "floor", desc := "(D)D" } : Jvm.MethodName)) ∈ lw_all := lw_g (lw_at lw_m9 75 rfl) rfl
theorem q2256 : (Jvm.Cond.code ({ cls := "java/lang/StrictMath", name := "floor", desc := "(D)D" } : Jvm.MethodName) prog_73_method_17_code (2 : Nat) (Option.some Jvm.ClassFile.FieldType.double)) ∈ lw_all := lw_g (lw_at lw_m9 76 rfl) rfl
theorem q2257 : (Jvm.Cond.constantDouble "java/lang/StrictMath" (64 : Nat) (13830554455654793216 : UInt64)) ∈ lw_all := lw_g (lw_at lw_m9 77 rfl) rfl
theorem q2586 : (Jvm.Cond.static ({ cls := "java/lang/StrictMath", name := "sqrt", desc := "(D)D" } : Jvm.MethodName)) ∈ lw_all := lw_g (lw_at lw_m10 166 rfl) rfl
theorem q2587 : (Jvm.Cond.code ({ cls := "java/lang/StrictMath", name := "sqrt", desc := "(D)D" } : Jvm.MethodName) prog_73_method_13_code (2 : Nat) (Option.some Jvm.ClassFile.FieldType.double)) ∈ lw_all := lw_g (lw_at lw_m10 167 rfl) rfl
theorem q2588 : (Jvm.Cond.methodLink "java/lang/StrictMath" (47 : Nat) ({ cls := "java/lang/FdLibm$Sqrt", name := "compute", desc := "(D)D" } : Jvm.MethodName)) ∈ lw_all := lw_g (lw_at lw_m10 168 rfl) rfl
theorem q2662 : (Jvm.Cond.static ({ cls := "java/lang/StrictMath", name := "rint", desc := "(D)D" } : Jvm.MethodName)) ∈ lw_all := lw_g (lw_at lw_m11 2 rfl) rfl
theorem q2663 : (Jvm.Cond.code ({ cls := "java/lang/StrictMath", name := "rint", desc := "(D)D" } : Jvm.MethodName) prog_73_method_19_code (6 : Nat) (Option.some Jvm.ClassFile.FieldType.double)) ∈ lw_all := lw_g (lw_at lw_m11 3 rfl) rfl
theorem q2664 : (Jvm.Cond.constantDouble "java/lang/StrictMath" (93 : Nat) (4841369599423283200 : UInt64)) ∈ lw_all := lw_g (lw_at lw_m11 4 rfl) rfl
theorem q2665 : (Jvm.Cond.methodLink "java/lang/StrictMath" (95 : Nat) ({ cls := "java/lang/Math", name := "copySign", desc := "(DD)D" } : Jvm.MethodName)) ∈ lw_all := lw_g (lw_at lw_m11 5 rfl) rfl
theorem q2669 : (Jvm.Cond.methodLink "java/lang/StrictMath" (98 : Nat) ({ cls := "java/lang/Math", name := "abs", desc := "(D)D" } : Jvm.MethodName)) ∈ lw_all := lw_g (lw_at lw_m11 9 rfl) rfl
/-! java/lang/Double -/
set_option maxRecDepth 100000
def RJ20 : String := "java/lang/Double"
abbrev cJ20_isNaN : ByteArray := prog_59_method_6_code
def yJ20_isNaN : MethodName := ⟨RJ20, "isNaN", "(D)Z"⟩
def dkwJ20_isNaN_0 : List UInt8 := [38, 38, 151, 153, 0, 7, 4, 167, 0, 4, 3, 172]
abbrev dktJ20_isNaN_0 : List UInt8 := dkwJ20_isNaN_0 ++ []
theorem dksJ20_isNaN_0 : cJ20_isNaN.data.toList.drop 0 = dktJ20_isNaN_0 := by decide +kernel
theorem dJ20_isNaN_0 : decode cJ20_isNaN 0 = .ok (.dload_n 0, 1) := dk_38 (dk_at dksJ20_isNaN_0 0 rfl rfl)
theorem dJ20_isNaN_1 : decode cJ20_isNaN 1 = .ok (.dload_n 0, 1) := dk_38 (dk_at dksJ20_isNaN_0 1 rfl rfl)
theorem dJ20_isNaN_2 : decode cJ20_isNaN 2 = .ok (.dcmp .l, 1) := dk_151 (dk_at dksJ20_isNaN_0 2 rfl rfl)
theorem dJ20_isNaN_3 : decode cJ20_isNaN 3 = .ok (.ifCond .eq 7, 3) := dk_153 0 7 (dk_at dksJ20_isNaN_0 3 rfl rfl)
theorem dJ20_isNaN_6 : decode cJ20_isNaN 6 = .ok (.iconst 1, 1) := dk_4 (dk_at dksJ20_isNaN_0 6 rfl rfl)
theorem dJ20_isNaN_7 : decode cJ20_isNaN 7 = .ok (.goto 4, 3) := dk_167 0 4 (dk_at dksJ20_isNaN_0 7 rfl rfl)
theorem dJ20_isNaN_10 : decode cJ20_isNaN 10 = .ok (.iconst 0, 1) := dk_3 (dk_at dksJ20_isNaN_0 10 rfl rfl)
theorem dJ20_isNaN_11 : decode cJ20_isNaN 11 = .ok (.ireturn, 1) := dk_172 (dk_at dksJ20_isNaN_0 11 rfl rfl)
abbrev cJ20_doubleToLongBits : ByteArray := prog_59_method_23_code
def yJ20_doubleToLongBits : MethodName := ⟨RJ20, "doubleToLongBits", "(D)J"⟩
def dkwJ20_doubleToLongBits_0 : List UInt8 := [38, 184, 0, 122, 154, 0, 8, 38, 184, 0, 134, 173, 20, 0, 137, 173]
abbrev dktJ20_doubleToLongBits_0 : List UInt8 := dkwJ20_doubleToLongBits_0 ++ []
theorem dksJ20_doubleToLongBits_0 : cJ20_doubleToLongBits.data.toList.drop 0 = dktJ20_doubleToLongBits_0 := by decide +kernel
theorem dJ20_doubleToLongBits_0 : decode cJ20_doubleToLongBits 0 = .ok (.dload_n 0, 1) := dk_38 (dk_at dksJ20_doubleToLongBits_0 0 rfl rfl)
theorem dJ20_doubleToLongBits_1 : decode cJ20_doubleToLongBits 1 = .ok (.invokestatic 122, 3) := dk_184 0 122 (dk_at dksJ20_doubleToLongBits_0 1 rfl rfl)
theorem dJ20_doubleToLongBits_4 : decode cJ20_doubleToLongBits 4 = .ok (.ifCond .ne 8, 3) := dk_154 0 8 (dk_at dksJ20_doubleToLongBits_0 4 rfl rfl)
theorem dJ20_doubleToLongBits_7 : decode cJ20_doubleToLongBits 7 = .ok (.dload_n 0, 1) := dk_38 (dk_at dksJ20_doubleToLongBits_0 7 rfl rfl)
theorem dJ20_doubleToLongBits_8 : decode cJ20_doubleToLongBits 8 = .ok (.invokestatic 134, 3) := dk_184 0 134 (dk_at dksJ20_doubleToLongBits_0 8 rfl rfl)
theorem dJ20_doubleToLongBits_11 : decode cJ20_doubleToLongBits 11 = .ok (.lreturn, 1) := dk_173 (dk_at dksJ20_doubleToLongBits_0 11 rfl rfl)
theorem dJ20_doubleToLongBits_12 : decode cJ20_doubleToLongBits 12 = .ok (.ldc2_w 137, 3) := dk_20 0 137 (dk_at dksJ20_doubleToLongBits_0 12 rfl rfl)
theorem dJ20_doubleToLongBits_15 : decode cJ20_doubleToLongBits 15 = .ok (.lreturn, 1) := dk_173 (dk_at dksJ20_doubleToLongBits_0 15 rfl rfl)
theorem q321 : (Jvm.Cond.initialized "java/lang/Double") ∈ lw_all := lw_g (lw_at lw_m1 61 rfl) rfl
theorem q2239 : (Jvm.Cond.static ({ cls := "java/lang/Double", name := "doubleToRawLongBits", desc := "(D)J" } : Jvm.MethodName)) ∈ lw_all := lw_g (lw_at lw_m9 59 rfl) rfl
theorem q2240 : (Jvm.Cond.native ({ cls := "java/lang/Double", name := "doubleToRawLongBits", desc := "(D)J" } : Jvm.MethodName)) ∈ lw_all := lw_g (lw_at lw_m9 60 rfl) rfl
theorem q2249 : (Jvm.Cond.static ({ cls := "java/lang/Double", name := "longBitsToDouble", desc := "(J)D" } : Jvm.MethodName)) ∈ lw_all := lw_g (lw_at lw_m9 69 rfl) rfl
theorem q2250 : (Jvm.Cond.native ({ cls := "java/lang/Double", name := "longBitsToDouble", desc := "(J)D" } : Jvm.MethodName)) ∈ lw_all := lw_g (lw_at lw_m9 70 rfl) rfl
theorem q2623 : (Jvm.Cond.static ({ cls := "java/lang/Double", name := "isNaN", desc := "(D)Z" } : Jvm.MethodName)) ∈ lw_all := lw_g (lw_at lw_m10 203 rfl) rfl
theorem q2624 : (Jvm.Cond.code ({ cls := "java/lang/Double", name := "isNaN", desc := "(D)Z" } : Jvm.MethodName) prog_59_method_6_code (2 : Nat) (Option.some Jvm.ClassFile.FieldType.boolean)) ∈ lw_all := lw_g (lw_at lw_m10 204 rfl) rfl
theorem q3347 : (Jvm.Cond.static ({ cls := "java/lang/Double", name := "doubleToLongBits", desc := "(D)J" } : Jvm.MethodName)) ∈ lw_all := lw_g (lw_at lw_m13 207 rfl) rfl
theorem q3348 : (Jvm.Cond.code ({ cls := "java/lang/Double", name := "doubleToLongBits", desc := "(D)J" } : Jvm.MethodName) prog_59_method_23_code (2 : Nat) (Option.some Jvm.ClassFile.FieldType.long)) ∈ lw_all := lw_g (lw_at lw_m13 208 rfl) rfl
theorem q3349 : (Jvm.Cond.methodLink "java/lang/Double" (122 : Nat) ({ cls := "java/lang/Double", name := "isNaN", desc := "(D)Z" } : Jvm.MethodName)) ∈ lw_all := lw_g (lw_at lw_m13 209 rfl) rfl
theorem q3350 : (Jvm.Cond.methodLink "java/lang/Double" (134 : Nat) ({ cls := "java/lang/Double", name := "doubleToRawLongBits", desc := "(D)J" } : Jvm.MethodName)) ∈ lw_all := lw_g (lw_at lw_m13 210 rfl) rfl
theorem q3351 : (Jvm.Cond.constantLong "java/lang/Double" (137 : Nat) (9221120237041090560 : Int64)) ∈ lw_all := lw_g (lw_at lw_m13 211 rfl) rfl
/-! java/lang/ArrayStoreException -/
set_option maxRecDepth 100000
def RJ21 : String := "java/lang/ArrayStoreException"
def TJ21 : u_T := fun k => match k with
  | 0 => ("java/lang/Throwable", "backtrace", "Ljava/lang/Object;", false)
  | 1 => ("java/lang/Throwable", "detailMessage", "Ljava/lang/String;", false)
  | 2 => ("java/lang/Throwable", "cause", "Ljava/lang/Throwable;", false)
  | 3 => ("java/lang/Throwable", "stackTrace", "[Ljava/lang/StackTraceElement;", false)
  | 4 => ("java/lang/Throwable", "depth", "I", false)
  | _ => ("java/lang/Throwable", "suppressedExceptions", "Ljava/util/List;", false)
def tyJ21 : Nat → FieldType := fun k => match k with
  | 0 => .object "java/lang/Object"
  | 1 => .object "java/lang/String"
  | 2 => .object "java/lang/Throwable"
  | 3 => .array (.object "java/lang/StackTraceElement")
  | 4 => .int
  | _ => .object "java/util/List"
abbrev wsJ210 : List Cond := u_ws RJ21 TJ21 6
theorem nmJ21 : ∀ a, a < 6 → ∀ b, b < 6 → a ≠ b → (TJ21 a).2.1 ≠ (TJ21 b).2.1 := by decide +kernel
theorem tyJ21_ok : ∀ k, k < 6 → parseFieldDescriptor (TJ21 k).2.2.1 = some (tyJ21 k) := by decide +kernel
abbrev cJ21_init : ByteArray := prog_53_method_2_code
def yJ21_init : MethodName := ⟨RJ21, "<init>", "(Ljava/lang/String;)V"⟩
def dkwJ21_init_0 : List UInt8 := [42, 43, 183, 0, 7, 177]
abbrev dktJ21_init_0 : List UInt8 := dkwJ21_init_0 ++ []
theorem dksJ21_init_0 : cJ21_init.data.toList.drop 0 = dktJ21_init_0 := by decide +kernel
theorem dJ21_init_0 : decode cJ21_init 0 = .ok (.aload_n 0, 1) := dk_42 (dk_at dksJ21_init_0 0 rfl rfl)
theorem dJ21_init_1 : decode cJ21_init 1 = .ok (.aload_n 1, 1) := dk_43 (dk_at dksJ21_init_0 1 rfl rfl)
theorem dJ21_init_2 : decode cJ21_init 2 = .ok (.invokespecial 7, 3) := dk_183 0 7 (dk_at dksJ21_init_0 2 rfl rfl)
theorem dJ21_init_5 : decode cJ21_init 5 = .ok (.return_, 1) := dk_177 (dk_at dksJ21_init_0 5 rfl rfl)
theorem q323 : (Jvm.Cond.initialized "java/lang/ArrayStoreException") ∈ lw_all := lw_g (lw_at lw_m1 63 rfl) rfl
theorem q624 : (Jvm.Cond.selects "java/lang/ArrayStoreException" ({ cls := "java/lang/Throwable", name := "fillInStackTrace", desc := "()Ljava/lang/Throwable;" } : Jvm.MethodName) ({ cls := "java/lang/Throwable", name := "fillInStackTrace", desc := "()Ljava/lang/Throwable;" } : Jvm.MethodName)) ∈ lw_all := lw_g (lw_at lw_m2 124 rfl) rfl
theorem q2329 : (Jvm.Cond.instantiable "java/lang/ArrayStoreException" (6 : Nat)) ∈ lw_all := lw_g (lw_at lw_m9 149 rfl) rfl
theorem q2330 : (Jvm.Cond.instanceMethod ({ cls := "java/lang/ArrayStoreException", name := "<init>", desc := "(Ljava/lang/String;)V" } : Jvm.MethodName)) ∈ lw_all := lw_g (lw_at lw_m9 150 rfl) rfl
theorem q2331 : (Jvm.Cond.code ({ cls := "java/lang/ArrayStoreException", name := "<init>", desc := "(Ljava/lang/String;)V" } : Jvm.MethodName) prog_53_method_2_code (2 : Nat) (Option.none : Option Jvm.ClassFile.FieldType)) ∈ lw_all := lw_g (lw_at lw_m9 151 rfl) rfl
theorem q2332 : (Jvm.Cond.methodLink "java/lang/ArrayStoreException" (7 : Nat) ({ cls := "java/lang/RuntimeException", name := "<init>", desc := "(Ljava/lang/String;)V" } : Jvm.MethodName)) ∈ lw_all := lw_g (lw_at lw_m9 152 rfl) rfl
theorem q2333 : (Jvm.Cond.lays "java/lang/ArrayStoreException" "java/lang/Throwable" "backtrace" "Ljava/lang/Object;") ∈ lw_all := lw_g (lw_at lw_m9 153 rfl) rfl
theorem q2334 : (Jvm.Cond.lays "java/lang/ArrayStoreException" "java/lang/Throwable" "detailMessage" "Ljava/lang/String;") ∈ lw_all := lw_g (lw_at lw_m9 154 rfl) rfl
theorem q2335 : (Jvm.Cond.lays "java/lang/ArrayStoreException" "java/lang/Throwable" "cause" "Ljava/lang/Throwable;") ∈ lw_all := lw_g (lw_at lw_m9 155 rfl) rfl
theorem q2336 : (Jvm.Cond.lays "java/lang/ArrayStoreException" "java/lang/Throwable" "stackTrace" "[Ljava/lang/StackTraceElement;") ∈ lw_all := lw_g (lw_at lw_m9 156 rfl) rfl
theorem q2337 : (Jvm.Cond.lays "java/lang/ArrayStoreException" "java/lang/Throwable" "depth" "I") ∈ lw_all := lw_g (lw_at lw_m9 157 rfl) rfl
theorem q2338 : (Jvm.Cond.lays "java/lang/ArrayStoreException" "java/lang/Throwable" "suppressedExceptions" "Ljava/util/List;") ∈ lw_all := lw_g (lw_at lw_m9 158 rfl) rfl
theorem q2339 : (Jvm.Cond.superclass "java/lang/ArrayStoreException" "java/lang/RuntimeException") ∈ lw_all := lw_g (lw_at lw_m9 159 rfl) rfl
theorem q2340 : (Jvm.Cond.castable "java/lang/ArrayStoreException" "java/lang/ArrayStoreException") ∈ lw_tbl := lw_at lw_m9 160 rfl
theorem q2341 : (Jvm.Cond.selects "java/lang/ArrayStoreException" ({ cls := "java/lang/Throwable", name := "fillInStackTrace", desc := "(I)Ljava/lang/Throwable;" } : Jvm.MethodName) ({ cls := "java/lang/Throwable", name := "fillInStackTrace", desc := "(I)Ljava/lang/Throwable;" } : Jvm.MethodName)) ∈ lw_all := lw_g (lw_at lw_m9 161 rfl) rfl
theorem q4848 : (Jvm.Cond.castable "java/lang/ArrayStoreException" "java/lang/Object") ∈ lw_tbl := lw_at lw_m20 28 rfl
theorem in_J21 : ∀ w ∈ wsJ210, w ∈ lw_all := lw_in wsJ210 [2333, 2334, 2335, 2336, 2337, 2338] (by decide +kernel) (by decide +kernel)
/-! java/lang/Character -/
set_option maxRecDepth 100000
def RJ22 : String := "java/lang/Character"
abbrev cJ22_isValidCodePoint : ByteArray := prog_55_method_11_code
def yJ22_isValidCodePoint : MethodName := ⟨RJ22, "isValidCodePoint", "(I)Z"⟩
def dkwJ22_isValidCodePoint_0 : List UInt8 := [26, 16, 16, 124, 60, 27, 16, 17, 162, 0, 7, 4, 167, 0, 4, 3, 172]
abbrev dktJ22_isValidCodePoint_0 : List UInt8 := dkwJ22_isValidCodePoint_0 ++ []
theorem dksJ22_isValidCodePoint_0 : cJ22_isValidCodePoint.data.toList.drop 0 = dktJ22_isValidCodePoint_0 := by decide +kernel
theorem dJ22_isValidCodePoint_0 : decode cJ22_isValidCodePoint 0 = .ok (.iload_n 0, 1) := dk_26 (dk_at dksJ22_isValidCodePoint_0 0 rfl rfl)
theorem dJ22_isValidCodePoint_1 : decode cJ22_isValidCodePoint 1 = .ok (.bipush 16, 2) := dk_16 16 (dk_at dksJ22_isValidCodePoint_0 1 rfl rfl)
theorem dJ22_isValidCodePoint_3 : decode cJ22_isValidCodePoint 3 = .ok (.iushr, 1) := dk_124 (dk_at dksJ22_isValidCodePoint_0 3 rfl rfl)
theorem dJ22_isValidCodePoint_4 : decode cJ22_isValidCodePoint 4 = .ok (.istore_n 1, 1) := dk_60 (dk_at dksJ22_isValidCodePoint_0 4 rfl rfl)
theorem dJ22_isValidCodePoint_5 : decode cJ22_isValidCodePoint 5 = .ok (.iload_n 1, 1) := dk_27 (dk_at dksJ22_isValidCodePoint_0 5 rfl rfl)
theorem dJ22_isValidCodePoint_6 : decode cJ22_isValidCodePoint 6 = .ok (.bipush 17, 2) := dk_16 17 (dk_at dksJ22_isValidCodePoint_0 6 rfl rfl)
theorem dJ22_isValidCodePoint_8 : decode cJ22_isValidCodePoint 8 = .ok (.if_icmp .ge 7, 3) := dk_162 0 7 (dk_at dksJ22_isValidCodePoint_0 8 rfl rfl)
theorem dJ22_isValidCodePoint_11 : decode cJ22_isValidCodePoint 11 = .ok (.iconst 1, 1) := dk_4 (dk_at dksJ22_isValidCodePoint_0 11 rfl rfl)
theorem dJ22_isValidCodePoint_12 : decode cJ22_isValidCodePoint 12 = .ok (.goto 4, 3) := dk_167 0 4 (dk_at dksJ22_isValidCodePoint_0 12 rfl rfl)
theorem dJ22_isValidCodePoint_15 : decode cJ22_isValidCodePoint 15 = .ok (.iconst 0, 1) := dk_3 (dk_at dksJ22_isValidCodePoint_0 15 rfl rfl)
theorem dJ22_isValidCodePoint_16 : decode cJ22_isValidCodePoint 16 = .ok (.ireturn, 1) := dk_172 (dk_at dksJ22_isValidCodePoint_0 16 rfl rfl)
abbrev cJ22_highSurrogate : ByteArray := prog_55_method_28_code
def yJ22_highSurrogate : MethodName := ⟨RJ22, "highSurrogate", "(I)C"⟩
def dkwJ22_highSurrogate_0 : List UInt8 := [26, 16, 10, 124, 18, 110, 96, 146, 172]
abbrev dktJ22_highSurrogate_0 : List UInt8 := dkwJ22_highSurrogate_0 ++ []
theorem dksJ22_highSurrogate_0 : cJ22_highSurrogate.data.toList.drop 0 = dktJ22_highSurrogate_0 := by decide +kernel
theorem dJ22_highSurrogate_0 : decode cJ22_highSurrogate 0 = .ok (.iload_n 0, 1) := dk_26 (dk_at dksJ22_highSurrogate_0 0 rfl rfl)
theorem dJ22_highSurrogate_1 : decode cJ22_highSurrogate 1 = .ok (.bipush 10, 2) := dk_16 10 (dk_at dksJ22_highSurrogate_0 1 rfl rfl)
theorem dJ22_highSurrogate_3 : decode cJ22_highSurrogate 3 = .ok (.iushr, 1) := dk_124 (dk_at dksJ22_highSurrogate_0 3 rfl rfl)
theorem dJ22_highSurrogate_4 : decode cJ22_highSurrogate 4 = .ok (.ldc 110, 2) := dk_18 110 (dk_at dksJ22_highSurrogate_0 4 rfl rfl)
theorem dJ22_highSurrogate_6 : decode cJ22_highSurrogate 6 = .ok (.iadd, 1) := dk_96 (dk_at dksJ22_highSurrogate_0 6 rfl rfl)
theorem dJ22_highSurrogate_7 : decode cJ22_highSurrogate 7 = .ok (.i2c, 1) := dk_146 (dk_at dksJ22_highSurrogate_0 7 rfl rfl)
theorem dJ22_highSurrogate_8 : decode cJ22_highSurrogate 8 = .ok (.ireturn, 1) := dk_172 (dk_at dksJ22_highSurrogate_0 8 rfl rfl)
abbrev cJ22_lowSurrogate : ByteArray := prog_55_method_29_code
def yJ22_lowSurrogate : MethodName := ⟨RJ22, "lowSurrogate", "(I)C"⟩
def dkwJ22_lowSurrogate_0 : List UInt8 := [26, 17, 3, 255, 126, 18, 76, 96, 146, 172]
abbrev dktJ22_lowSurrogate_0 : List UInt8 := dkwJ22_lowSurrogate_0 ++ []
theorem dksJ22_lowSurrogate_0 : cJ22_lowSurrogate.data.toList.drop 0 = dktJ22_lowSurrogate_0 := by decide +kernel
theorem dJ22_lowSurrogate_0 : decode cJ22_lowSurrogate 0 = .ok (.iload_n 0, 1) := dk_26 (dk_at dksJ22_lowSurrogate_0 0 rfl rfl)
theorem dJ22_lowSurrogate_1 : decode cJ22_lowSurrogate 1 = .ok (.sipush 1023, 3) := dk_17 3 255 (dk_at dksJ22_lowSurrogate_0 1 rfl rfl)
theorem dJ22_lowSurrogate_4 : decode cJ22_lowSurrogate 4 = .ok (.iand, 1) := dk_126 (dk_at dksJ22_lowSurrogate_0 4 rfl rfl)
theorem dJ22_lowSurrogate_5 : decode cJ22_lowSurrogate 5 = .ok (.ldc 76, 2) := dk_18 76 (dk_at dksJ22_lowSurrogate_0 5 rfl rfl)
theorem dJ22_lowSurrogate_7 : decode cJ22_lowSurrogate 7 = .ok (.iadd, 1) := dk_96 (dk_at dksJ22_lowSurrogate_0 7 rfl rfl)
theorem dJ22_lowSurrogate_8 : decode cJ22_lowSurrogate 8 = .ok (.i2c, 1) := dk_146 (dk_at dksJ22_lowSurrogate_0 8 rfl rfl)
theorem dJ22_lowSurrogate_9 : decode cJ22_lowSurrogate 9 = .ok (.ireturn, 1) := dk_172 (dk_at dksJ22_lowSurrogate_0 9 rfl rfl)
theorem q324 : (Jvm.Cond.initialized "java/lang/Character") ∈ lw_all := lw_g (lw_at lw_m1 64 rfl) rfl
theorem q4021 : (Jvm.Cond.static ({ cls := "java/lang/Character", name := "isValidCodePoint", desc := "(I)Z" } : Jvm.MethodName)) ∈ lw_all := lw_g (lw_at lw_m16 161 rfl) rfl
theorem q4022 : (Jvm.Cond.code ({ cls := "java/lang/Character", name := "isValidCodePoint", desc := "(I)Z" } : Jvm.MethodName) prog_55_method_11_code (2 : Nat) (Option.some Jvm.ClassFile.FieldType.boolean)) ∈ lw_all := lw_g (lw_at lw_m16 162 rfl) rfl
theorem q4024 : (Jvm.Cond.static ({ cls := "java/lang/Character", name := "highSurrogate", desc := "(I)C" } : Jvm.MethodName)) ∈ lw_all := lw_g (lw_at lw_m16 164 rfl) rfl
theorem q4025 : (Jvm.Cond.code ({ cls := "java/lang/Character", name := "highSurrogate", desc := "(I)C" } : Jvm.MethodName) prog_55_method_28_code (1 : Nat) (Option.some Jvm.ClassFile.FieldType.char)) ∈ lw_all := lw_g (lw_at lw_m16 165 rfl) rfl
theorem q4026 : (Jvm.Cond.constant "java/lang/Character" (110 : Nat) (55232 : Int32)) ∈ lw_all := lw_g (lw_at lw_m16 166 rfl) rfl
theorem q4028 : (Jvm.Cond.static ({ cls := "java/lang/Character", name := "lowSurrogate", desc := "(I)C" } : Jvm.MethodName)) ∈ lw_all := lw_g (lw_at lw_m16 168 rfl) rfl
theorem q4029 : (Jvm.Cond.code ({ cls := "java/lang/Character", name := "lowSurrogate", desc := "(I)C" } : Jvm.MethodName) prog_55_method_29_code (1 : Nat) (Option.some Jvm.ClassFile.FieldType.char)) ∈ lw_all := lw_g (lw_at lw_m16 169 rfl) rfl
theorem q4030 : (Jvm.Cond.constant "java/lang/Character" (76 : Nat) (56320 : Int32)) ∈ lw_all := lw_g (lw_at lw_m16 170 rfl) rfl
/-! java/lang/Long -/
set_option maxRecDepth 100000
def RJ23 : String := "java/lang/Long"
abbrev cJ23_bitCount : ByteArray := prog_67_method_50_code
def yJ23_bitCount : MethodName := ⟨RJ23, "bitCount", "(J)I"⟩
def dkwJ23_bitCount_2 : List UInt8 := [30, 30, 16, 32, 125, 97, 63, 30, 136, 16, 127, 126, 172]
abbrev dktJ23_bitCount_2 : List UInt8 := dkwJ23_bitCount_2 ++ []
def dkwJ23_bitCount_1 : List UInt8 := [30, 30, 7, 125, 97, 20, 1, 62, 127, 63, 30, 30, 16, 8, 125, 97, 63, 30, 30, 16, 16, 125, 97, 63]
abbrev dktJ23_bitCount_1 : List UInt8 := dkwJ23_bitCount_1 ++ dktJ23_bitCount_2
def dkwJ23_bitCount_0 : List UInt8 := [30, 30, 4, 125, 20, 1, 58, 127, 101, 63, 30, 20, 1, 60, 127, 30, 5, 125, 20, 1, 60, 127, 97, 63]
abbrev dktJ23_bitCount_0 : List UInt8 := dkwJ23_bitCount_0 ++ dktJ23_bitCount_1
theorem dksJ23_bitCount_0 : cJ23_bitCount.data.toList.drop 0 = dktJ23_bitCount_0 := by decide +kernel
theorem dksJ23_bitCount_1 : cJ23_bitCount.data.toList.drop 24 = dktJ23_bitCount_1 := dk_seg dksJ23_bitCount_0 24 rfl rfl
theorem dksJ23_bitCount_2 : cJ23_bitCount.data.toList.drop 48 = dktJ23_bitCount_2 := dk_seg dksJ23_bitCount_1 24 rfl rfl
theorem dJ23_bitCount_0 : decode cJ23_bitCount 0 = .ok (.lload_n 0, 1) := dk_30 (dk_at dksJ23_bitCount_0 0 rfl rfl)
theorem dJ23_bitCount_1 : decode cJ23_bitCount 1 = .ok (.lload_n 0, 1) := dk_30 (dk_at dksJ23_bitCount_0 1 rfl rfl)
theorem dJ23_bitCount_2 : decode cJ23_bitCount 2 = .ok (.iconst 1, 1) := dk_4 (dk_at dksJ23_bitCount_0 2 rfl rfl)
theorem dJ23_bitCount_3 : decode cJ23_bitCount 3 = .ok (.lushr, 1) := dk_125 (dk_at dksJ23_bitCount_0 3 rfl rfl)
theorem dJ23_bitCount_4 : decode cJ23_bitCount 4 = .ok (.ldc2_w 314, 3) := dk_20 1 58 (dk_at dksJ23_bitCount_0 4 rfl rfl)
theorem dJ23_bitCount_7 : decode cJ23_bitCount 7 = .ok (.land, 1) := dk_127 (dk_at dksJ23_bitCount_0 7 rfl rfl)
theorem dJ23_bitCount_8 : decode cJ23_bitCount 8 = .ok (.lsub, 1) := dk_101 (dk_at dksJ23_bitCount_0 8 rfl rfl)
theorem dJ23_bitCount_9 : decode cJ23_bitCount 9 = .ok (.lstore_n 0, 1) := dk_63 (dk_at dksJ23_bitCount_0 9 rfl rfl)
theorem dJ23_bitCount_10 : decode cJ23_bitCount 10 = .ok (.lload_n 0, 1) := dk_30 (dk_at dksJ23_bitCount_0 10 rfl rfl)
theorem dJ23_bitCount_11 : decode cJ23_bitCount 11 = .ok (.ldc2_w 316, 3) := dk_20 1 60 (dk_at dksJ23_bitCount_0 11 rfl rfl)
theorem dJ23_bitCount_14 : decode cJ23_bitCount 14 = .ok (.land, 1) := dk_127 (dk_at dksJ23_bitCount_0 14 rfl rfl)
theorem dJ23_bitCount_15 : decode cJ23_bitCount 15 = .ok (.lload_n 0, 1) := dk_30 (dk_at dksJ23_bitCount_0 15 rfl rfl)
theorem dJ23_bitCount_16 : decode cJ23_bitCount 16 = .ok (.iconst 2, 1) := dk_5 (dk_at dksJ23_bitCount_0 16 rfl rfl)
theorem dJ23_bitCount_17 : decode cJ23_bitCount 17 = .ok (.lushr, 1) := dk_125 (dk_at dksJ23_bitCount_0 17 rfl rfl)
theorem dJ23_bitCount_18 : decode cJ23_bitCount 18 = .ok (.ldc2_w 316, 3) := dk_20 1 60 (dk_at dksJ23_bitCount_0 18 rfl rfl)
theorem dJ23_bitCount_21 : decode cJ23_bitCount 21 = .ok (.land, 1) := dk_127 (dk_at dksJ23_bitCount_0 21 rfl rfl)
theorem dJ23_bitCount_22 : decode cJ23_bitCount 22 = .ok (.ladd, 1) := dk_97 (dk_at dksJ23_bitCount_0 22 rfl rfl)
theorem dJ23_bitCount_23 : decode cJ23_bitCount 23 = .ok (.lstore_n 0, 1) := dk_63 (dk_at dksJ23_bitCount_0 23 rfl rfl)
theorem dJ23_bitCount_24 : decode cJ23_bitCount 24 = .ok (.lload_n 0, 1) := dk_30 (dk_at dksJ23_bitCount_1 0 rfl rfl)
theorem dJ23_bitCount_25 : decode cJ23_bitCount 25 = .ok (.lload_n 0, 1) := dk_30 (dk_at dksJ23_bitCount_1 1 rfl rfl)
theorem dJ23_bitCount_26 : decode cJ23_bitCount 26 = .ok (.iconst 4, 1) := dk_7 (dk_at dksJ23_bitCount_1 2 rfl rfl)
theorem dJ23_bitCount_27 : decode cJ23_bitCount 27 = .ok (.lushr, 1) := dk_125 (dk_at dksJ23_bitCount_1 3 rfl rfl)
theorem dJ23_bitCount_28 : decode cJ23_bitCount 28 = .ok (.ladd, 1) := dk_97 (dk_at dksJ23_bitCount_1 4 rfl rfl)
theorem dJ23_bitCount_29 : decode cJ23_bitCount 29 = .ok (.ldc2_w 318, 3) := dk_20 1 62 (dk_at dksJ23_bitCount_1 5 rfl rfl)
theorem dJ23_bitCount_32 : decode cJ23_bitCount 32 = .ok (.land, 1) := dk_127 (dk_at dksJ23_bitCount_1 8 rfl rfl)
theorem dJ23_bitCount_33 : decode cJ23_bitCount 33 = .ok (.lstore_n 0, 1) := dk_63 (dk_at dksJ23_bitCount_1 9 rfl rfl)
theorem dJ23_bitCount_34 : decode cJ23_bitCount 34 = .ok (.lload_n 0, 1) := dk_30 (dk_at dksJ23_bitCount_1 10 rfl rfl)
theorem dJ23_bitCount_35 : decode cJ23_bitCount 35 = .ok (.lload_n 0, 1) := dk_30 (dk_at dksJ23_bitCount_1 11 rfl rfl)
theorem dJ23_bitCount_36 : decode cJ23_bitCount 36 = .ok (.bipush 8, 2) := dk_16 8 (dk_at dksJ23_bitCount_1 12 rfl rfl)
theorem dJ23_bitCount_38 : decode cJ23_bitCount 38 = .ok (.lushr, 1) := dk_125 (dk_at dksJ23_bitCount_1 14 rfl rfl)
theorem dJ23_bitCount_39 : decode cJ23_bitCount 39 = .ok (.ladd, 1) := dk_97 (dk_at dksJ23_bitCount_1 15 rfl rfl)
theorem dJ23_bitCount_40 : decode cJ23_bitCount 40 = .ok (.lstore_n 0, 1) := dk_63 (dk_at dksJ23_bitCount_1 16 rfl rfl)
theorem dJ23_bitCount_41 : decode cJ23_bitCount 41 = .ok (.lload_n 0, 1) := dk_30 (dk_at dksJ23_bitCount_1 17 rfl rfl)
theorem dJ23_bitCount_42 : decode cJ23_bitCount 42 = .ok (.lload_n 0, 1) := dk_30 (dk_at dksJ23_bitCount_1 18 rfl rfl)
theorem dJ23_bitCount_43 : decode cJ23_bitCount 43 = .ok (.bipush 16, 2) := dk_16 16 (dk_at dksJ23_bitCount_1 19 rfl rfl)
theorem dJ23_bitCount_45 : decode cJ23_bitCount 45 = .ok (.lushr, 1) := dk_125 (dk_at dksJ23_bitCount_1 21 rfl rfl)
theorem dJ23_bitCount_46 : decode cJ23_bitCount 46 = .ok (.ladd, 1) := dk_97 (dk_at dksJ23_bitCount_1 22 rfl rfl)
theorem dJ23_bitCount_47 : decode cJ23_bitCount 47 = .ok (.lstore_n 0, 1) := dk_63 (dk_at dksJ23_bitCount_1 23 rfl rfl)
theorem dJ23_bitCount_48 : decode cJ23_bitCount 48 = .ok (.lload_n 0, 1) := dk_30 (dk_at dksJ23_bitCount_2 0 rfl rfl)
theorem dJ23_bitCount_49 : decode cJ23_bitCount 49 = .ok (.lload_n 0, 1) := dk_30 (dk_at dksJ23_bitCount_2 1 rfl rfl)
theorem dJ23_bitCount_50 : decode cJ23_bitCount 50 = .ok (.bipush 32, 2) := dk_16 32 (dk_at dksJ23_bitCount_2 2 rfl rfl)
theorem dJ23_bitCount_52 : decode cJ23_bitCount 52 = .ok (.lushr, 1) := dk_125 (dk_at dksJ23_bitCount_2 4 rfl rfl)
theorem dJ23_bitCount_53 : decode cJ23_bitCount 53 = .ok (.ladd, 1) := dk_97 (dk_at dksJ23_bitCount_2 5 rfl rfl)
theorem dJ23_bitCount_54 : decode cJ23_bitCount 54 = .ok (.lstore_n 0, 1) := dk_63 (dk_at dksJ23_bitCount_2 6 rfl rfl)
theorem dJ23_bitCount_55 : decode cJ23_bitCount 55 = .ok (.lload_n 0, 1) := dk_30 (dk_at dksJ23_bitCount_2 7 rfl rfl)
theorem dJ23_bitCount_56 : decode cJ23_bitCount 56 = .ok (.l2i, 1) := dk_136 (dk_at dksJ23_bitCount_2 8 rfl rfl)
theorem dJ23_bitCount_57 : decode cJ23_bitCount 57 = .ok (.bipush 127, 2) := dk_16 127 (dk_at dksJ23_bitCount_2 9 rfl rfl)
theorem dJ23_bitCount_59 : decode cJ23_bitCount 59 = .ok (.iand, 1) := dk_126 (dk_at dksJ23_bitCount_2 11 rfl rfl)
theorem dJ23_bitCount_60 : decode cJ23_bitCount 60 = .ok (.ireturn, 1) := dk_172 (dk_at dksJ23_bitCount_2 12 rfl rfl)
abbrev cJ23_numberOfTrailingZeros : ByteArray := prog_67_method_49_code
def yJ23_numberOfTrailingZeros : MethodName := ⟨RJ23, "numberOfTrailingZeros", "(J)I"⟩
def dkwJ23_numberOfTrailingZeros_1 : List UInt8 := [184, 1, 55, 172]
abbrev dktJ23_numberOfTrailingZeros_1 : List UInt8 := dkwJ23_numberOfTrailingZeros_1 ++ []
def dkwJ23_numberOfTrailingZeros_0 : List UInt8 := [30, 136, 61, 28, 154, 0, 17, 16, 32, 30, 16, 32, 125, 136, 184, 1, 55, 96, 167, 0, 7, 28]
abbrev dktJ23_numberOfTrailingZeros_0 : List UInt8 := dkwJ23_numberOfTrailingZeros_0 ++ dktJ23_numberOfTrailingZeros_1
theorem dksJ23_numberOfTrailingZeros_0 : cJ23_numberOfTrailingZeros.data.toList.drop 0 = dktJ23_numberOfTrailingZeros_0 := by decide +kernel
theorem dksJ23_numberOfTrailingZeros_1 : cJ23_numberOfTrailingZeros.data.toList.drop 22 = dktJ23_numberOfTrailingZeros_1 := dk_seg dksJ23_numberOfTrailingZeros_0 22 rfl rfl
theorem dJ23_numberOfTrailingZeros_0 : decode cJ23_numberOfTrailingZeros 0 = .ok (.lload_n 0, 1) := dk_30 (dk_at dksJ23_numberOfTrailingZeros_0 0 rfl rfl)
theorem dJ23_numberOfTrailingZeros_1 : decode cJ23_numberOfTrailingZeros 1 = .ok (.l2i, 1) := dk_136 (dk_at dksJ23_numberOfTrailingZeros_0 1 rfl rfl)
theorem dJ23_numberOfTrailingZeros_2 : decode cJ23_numberOfTrailingZeros 2 = .ok (.istore_n 2, 1) := dk_61 (dk_at dksJ23_numberOfTrailingZeros_0 2 rfl rfl)
theorem dJ23_numberOfTrailingZeros_3 : decode cJ23_numberOfTrailingZeros 3 = .ok (.iload_n 2, 1) := dk_28 (dk_at dksJ23_numberOfTrailingZeros_0 3 rfl rfl)
theorem dJ23_numberOfTrailingZeros_4 : decode cJ23_numberOfTrailingZeros 4 = .ok (.ifCond .ne 17, 3) := dk_154 0 17 (dk_at dksJ23_numberOfTrailingZeros_0 4 rfl rfl)
theorem dJ23_numberOfTrailingZeros_7 : decode cJ23_numberOfTrailingZeros 7 = .ok (.bipush 32, 2) := dk_16 32 (dk_at dksJ23_numberOfTrailingZeros_0 7 rfl rfl)
theorem dJ23_numberOfTrailingZeros_9 : decode cJ23_numberOfTrailingZeros 9 = .ok (.lload_n 0, 1) := dk_30 (dk_at dksJ23_numberOfTrailingZeros_0 9 rfl rfl)
theorem dJ23_numberOfTrailingZeros_10 : decode cJ23_numberOfTrailingZeros 10 = .ok (.bipush 32, 2) := dk_16 32 (dk_at dksJ23_numberOfTrailingZeros_0 10 rfl rfl)
theorem dJ23_numberOfTrailingZeros_12 : decode cJ23_numberOfTrailingZeros 12 = .ok (.lushr, 1) := dk_125 (dk_at dksJ23_numberOfTrailingZeros_0 12 rfl rfl)
theorem dJ23_numberOfTrailingZeros_13 : decode cJ23_numberOfTrailingZeros 13 = .ok (.l2i, 1) := dk_136 (dk_at dksJ23_numberOfTrailingZeros_0 13 rfl rfl)
theorem dJ23_numberOfTrailingZeros_14 : decode cJ23_numberOfTrailingZeros 14 = .ok (.invokestatic 311, 3) := dk_184 1 55 (dk_at dksJ23_numberOfTrailingZeros_0 14 rfl rfl)
theorem dJ23_numberOfTrailingZeros_17 : decode cJ23_numberOfTrailingZeros 17 = .ok (.iadd, 1) := dk_96 (dk_at dksJ23_numberOfTrailingZeros_0 17 rfl rfl)
theorem dJ23_numberOfTrailingZeros_18 : decode cJ23_numberOfTrailingZeros 18 = .ok (.goto 7, 3) := dk_167 0 7 (dk_at dksJ23_numberOfTrailingZeros_0 18 rfl rfl)
theorem dJ23_numberOfTrailingZeros_21 : decode cJ23_numberOfTrailingZeros 21 = .ok (.iload_n 2, 1) := dk_28 (dk_at dksJ23_numberOfTrailingZeros_0 21 rfl rfl)
theorem dJ23_numberOfTrailingZeros_22 : decode cJ23_numberOfTrailingZeros 22 = .ok (.invokestatic 311, 3) := dk_184 1 55 (dk_at dksJ23_numberOfTrailingZeros_1 0 rfl rfl)
theorem dJ23_numberOfTrailingZeros_25 : decode cJ23_numberOfTrailingZeros 25 = .ok (.ireturn, 1) := dk_172 (dk_at dksJ23_numberOfTrailingZeros_1 3 rfl rfl)
abbrev cJ23_numberOfLeadingZeros : ByteArray := prog_67_method_48_code
def yJ23_numberOfLeadingZeros : MethodName := ⟨RJ23, "numberOfLeadingZeros", "(J)I"⟩
def dkwJ23_numberOfLeadingZeros_1 : List UInt8 := [184, 1, 52, 172]
abbrev dktJ23_numberOfLeadingZeros_1 : List UInt8 := dkwJ23_numberOfLeadingZeros_1 ++ []
def dkwJ23_numberOfLeadingZeros_0 : List UInt8 := [30, 16, 32, 125, 136, 61, 28, 154, 0, 14, 16, 32, 30, 136, 184, 1, 52, 96, 167, 0, 7, 28]
abbrev dktJ23_numberOfLeadingZeros_0 : List UInt8 := dkwJ23_numberOfLeadingZeros_0 ++ dktJ23_numberOfLeadingZeros_1
theorem dksJ23_numberOfLeadingZeros_0 : cJ23_numberOfLeadingZeros.data.toList.drop 0 = dktJ23_numberOfLeadingZeros_0 := by decide +kernel
theorem dksJ23_numberOfLeadingZeros_1 : cJ23_numberOfLeadingZeros.data.toList.drop 22 = dktJ23_numberOfLeadingZeros_1 := dk_seg dksJ23_numberOfLeadingZeros_0 22 rfl rfl
theorem dJ23_numberOfLeadingZeros_0 : decode cJ23_numberOfLeadingZeros 0 = .ok (.lload_n 0, 1) := dk_30 (dk_at dksJ23_numberOfLeadingZeros_0 0 rfl rfl)
theorem dJ23_numberOfLeadingZeros_1 : decode cJ23_numberOfLeadingZeros 1 = .ok (.bipush 32, 2) := dk_16 32 (dk_at dksJ23_numberOfLeadingZeros_0 1 rfl rfl)
theorem dJ23_numberOfLeadingZeros_3 : decode cJ23_numberOfLeadingZeros 3 = .ok (.lushr, 1) := dk_125 (dk_at dksJ23_numberOfLeadingZeros_0 3 rfl rfl)
theorem dJ23_numberOfLeadingZeros_4 : decode cJ23_numberOfLeadingZeros 4 = .ok (.l2i, 1) := dk_136 (dk_at dksJ23_numberOfLeadingZeros_0 4 rfl rfl)
theorem dJ23_numberOfLeadingZeros_5 : decode cJ23_numberOfLeadingZeros 5 = .ok (.istore_n 2, 1) := dk_61 (dk_at dksJ23_numberOfLeadingZeros_0 5 rfl rfl)
theorem dJ23_numberOfLeadingZeros_6 : decode cJ23_numberOfLeadingZeros 6 = .ok (.iload_n 2, 1) := dk_28 (dk_at dksJ23_numberOfLeadingZeros_0 6 rfl rfl)
theorem dJ23_numberOfLeadingZeros_7 : decode cJ23_numberOfLeadingZeros 7 = .ok (.ifCond .ne 14, 3) := dk_154 0 14 (dk_at dksJ23_numberOfLeadingZeros_0 7 rfl rfl)
theorem dJ23_numberOfLeadingZeros_10 : decode cJ23_numberOfLeadingZeros 10 = .ok (.bipush 32, 2) := dk_16 32 (dk_at dksJ23_numberOfLeadingZeros_0 10 rfl rfl)
theorem dJ23_numberOfLeadingZeros_12 : decode cJ23_numberOfLeadingZeros 12 = .ok (.lload_n 0, 1) := dk_30 (dk_at dksJ23_numberOfLeadingZeros_0 12 rfl rfl)
theorem dJ23_numberOfLeadingZeros_13 : decode cJ23_numberOfLeadingZeros 13 = .ok (.l2i, 1) := dk_136 (dk_at dksJ23_numberOfLeadingZeros_0 13 rfl rfl)
theorem dJ23_numberOfLeadingZeros_14 : decode cJ23_numberOfLeadingZeros 14 = .ok (.invokestatic 308, 3) := dk_184 1 52 (dk_at dksJ23_numberOfLeadingZeros_0 14 rfl rfl)
theorem dJ23_numberOfLeadingZeros_17 : decode cJ23_numberOfLeadingZeros 17 = .ok (.iadd, 1) := dk_96 (dk_at dksJ23_numberOfLeadingZeros_0 17 rfl rfl)
theorem dJ23_numberOfLeadingZeros_18 : decode cJ23_numberOfLeadingZeros 18 = .ok (.goto 7, 3) := dk_167 0 7 (dk_at dksJ23_numberOfLeadingZeros_0 18 rfl rfl)
theorem dJ23_numberOfLeadingZeros_21 : decode cJ23_numberOfLeadingZeros 21 = .ok (.iload_n 2, 1) := dk_28 (dk_at dksJ23_numberOfLeadingZeros_0 21 rfl rfl)
theorem dJ23_numberOfLeadingZeros_22 : decode cJ23_numberOfLeadingZeros 22 = .ok (.invokestatic 308, 3) := dk_184 1 52 (dk_at dksJ23_numberOfLeadingZeros_1 0 rfl rfl)
theorem dJ23_numberOfLeadingZeros_25 : decode cJ23_numberOfLeadingZeros 25 = .ok (.ireturn, 1) := dk_172 (dk_at dksJ23_numberOfLeadingZeros_1 3 rfl rfl)
theorem q325 : (Jvm.Cond.initialized "java/lang/Long") ∈ lw_all := lw_g (lw_at lw_m1 65 rfl) rfl
theorem q4386 : (Jvm.Cond.static ({ cls := "java/lang/Long", name := "bitCount", desc := "(J)I" } : Jvm.MethodName)) ∈ lw_all := lw_g (lw_at lw_m18 46 rfl) rfl
theorem q4387 : (Jvm.Cond.code ({ cls := "java/lang/Long", name := "bitCount", desc := "(J)I" } : Jvm.MethodName) prog_67_method_50_code (2 : Nat) (Option.some Jvm.ClassFile.FieldType.int)) ∈ lw_all := lw_g (lw_at lw_m18 47 rfl) rfl
theorem q4388 : (Jvm.Cond.constantLong "java/lang/Long" (314 : Nat) (6148914691236517205 : Int64)) ∈ lw_all := lw_g (lw_at lw_m18 48 rfl) rfl
theorem q4389 : (Jvm.Cond.constantLong "java/lang/Long" (316 : Nat) (3689348814741910323 : Int64)) ∈ lw_all := lw_g (lw_at lw_m18 49 rfl) rfl
theorem q4390 : (Jvm.Cond.constantLong "java/lang/Long" (318 : Nat) (1085102592571150095 : Int64)) ∈ lw_all := lw_g (lw_at lw_m18 50 rfl) rfl
theorem q4472 : (Jvm.Cond.static ({ cls := "java/lang/Long", name := "numberOfTrailingZeros", desc := "(J)I" } : Jvm.MethodName)) ∈ lw_all := lw_g (lw_at lw_m18 132 rfl) rfl
theorem q4473 : (Jvm.Cond.code ({ cls := "java/lang/Long", name := "numberOfTrailingZeros", desc := "(J)I" } : Jvm.MethodName) prog_67_method_49_code (3 : Nat) (Option.some Jvm.ClassFile.FieldType.int)) ∈ lw_all := lw_g (lw_at lw_m18 133 rfl) rfl
theorem q4474 : (Jvm.Cond.methodLink "java/lang/Long" (311 : Nat) ({ cls := "java/lang/Integer", name := "numberOfTrailingZeros", desc := "(I)I" } : Jvm.MethodName)) ∈ lw_all := lw_g (lw_at lw_m18 134 rfl) rfl
theorem q4476 : (Jvm.Cond.static ({ cls := "java/lang/Long", name := "numberOfLeadingZeros", desc := "(J)I" } : Jvm.MethodName)) ∈ lw_all := lw_g (lw_at lw_m18 136 rfl) rfl
theorem q4477 : (Jvm.Cond.code ({ cls := "java/lang/Long", name := "numberOfLeadingZeros", desc := "(J)I" } : Jvm.MethodName) prog_67_method_48_code (3 : Nat) (Option.some Jvm.ClassFile.FieldType.int)) ∈ lw_all := lw_g (lw_at lw_m18 137 rfl) rfl
theorem q4478 : (Jvm.Cond.methodLink "java/lang/Long" (308 : Nat) ({ cls := "java/lang/Integer", name := "numberOfLeadingZeros", desc := "(I)I" } : Jvm.MethodName)) ∈ lw_all := lw_g (lw_at lw_m18 138 rfl) rfl
/-! java/lang/FdLibm$Sqrt -/
set_option maxRecDepth 100000
def RJ24 : String := "java/lang/FdLibm$Sqrt"
abbrev cJ24_compute : ByteArray := prog_62_method_2_code
def yJ24_compute : MethodName := ⟨RJ24, "compute", "(D)D"⟩
def dkwJ24_compute_24 : List UInt8 := [21, 13, 16, 20, 120, 96, 54, 10, 21, 10, 21, 8, 184, 0, 33, 175]
abbrev dktJ24_compute_24 : List UInt8 := dkwJ24_compute_24 ++ []
def dkwJ24_compute_23 : List UInt8 := [21, 9, 4, 124, 54, 8, 21, 12, 4, 126, 4, 160, 0, 10, 21, 8, 21, 4, 128, 54, 8, 21, 10]
abbrev dktJ24_compute_23 : List UInt8 := dkwJ24_compute_23 ++ dktJ24_compute_24
def dkwJ24_compute_22 : List UInt8 := [132, 9, 2, 167, 0, 12, 21, 9, 21, 9, 4, 126, 96, 54, 9, 21, 12, 4, 122, 18, 32, 96, 54, 10]
abbrev dktJ24_compute_22 : List UInt8 := dkwJ24_compute_22 ++ dktJ24_compute_23
def dkwJ24_compute_21 : List UInt8 := [132, 12, 1, 167, 0, 34, 40, 15, 151, 158, 0, 19, 21, 9, 16, 254, 160, 0, 6, 132, 12, 1]
abbrev dktJ24_compute_21 : List UInt8 := dkwJ24_compute_21 ++ dktJ24_compute_22
def dkwJ24_compute_20 : List UInt8 := [153, 0, 59, 15, 73, 40, 15, 151, 155, 0, 51, 15, 73, 21, 9, 2, 160, 0, 12, 3, 54, 9]
abbrev dktJ24_compute_20 : List UInt8 := dkwJ24_compute_20 ++ dktJ24_compute_21
def dkwJ24_compute_19 : List UInt8 := [54, 10, 21, 8, 21, 8, 96, 54, 8, 21, 5, 4, 124, 54, 5, 167, 255, 125, 21, 10, 21, 8, 128]
abbrev dktJ24_compute_19 : List UInt8 := dkwJ24_compute_19 ++ dktJ24_compute_20
def dkwJ24_compute_18 : List UInt8 := [100, 54, 8, 21, 9, 21, 5, 96, 54, 9, 21, 10, 21, 10, 21, 8, 21, 4, 126, 16, 31, 124, 96, 96]
abbrev dktJ24_compute_18 : List UInt8 := dkwJ24_compute_18 ++ dktJ24_compute_19
def dkwJ24_compute_17 : List UInt8 := [21, 10, 21, 14, 100, 54, 10, 21, 8, 21, 6, 184, 0, 24, 156, 0, 6, 132, 10, 255, 21, 8, 21, 6]
abbrev dktJ24_compute_17 : List UInt8 := dkwJ24_compute_17 ++ dktJ24_compute_18
def dkwJ24_compute_16 : List UInt8 := [96, 54, 7, 21, 6, 21, 4, 126, 21, 4, 160, 0, 14, 21, 7, 21, 4, 126, 154, 0, 6, 132, 11, 1]
abbrev dktJ24_compute_16 : List UInt8 := dkwJ24_compute_16 ++ dktJ24_compute_17
def dkwJ24_compute_15 : List UInt8 := [161, 0, 20, 21, 14, 21, 10, 160, 0, 75, 21, 6, 21, 8, 184, 0, 24, 157, 0, 65, 21, 6, 21, 5]
abbrev dktJ24_compute_15 : List UInt8 := dkwJ24_compute_15 ++ dktJ24_compute_16
def dkwJ24_compute_14 : List UInt8 := [21, 4, 54, 5, 21, 5, 153, 0, 132, 21, 7, 21, 5, 96, 54, 6, 21, 11, 54, 14, 21, 14, 21, 10]
abbrev dktJ24_compute_14 : List UInt8 := dkwJ24_compute_14 ++ dktJ24_compute_15
def dkwJ24_compute_13 : List UInt8 := [16, 31, 124, 96, 96, 54, 10, 21, 8, 21, 8, 96, 54, 8, 21, 5, 4, 124, 54, 5, 167, 255, 187]
abbrev dktJ24_compute_13 : List UInt8 := dkwJ24_compute_13 ++ dktJ24_compute_14
def dkwJ24_compute_12 : List UInt8 := [21, 10, 21, 14, 100, 54, 10, 21, 12, 21, 5, 96, 54, 12, 21, 10, 21, 10, 21, 8, 21, 4, 126]
abbrev dktJ24_compute_12 : List UInt8 := dkwJ24_compute_12 ++ dktJ24_compute_13
def dkwJ24_compute_11 : List UInt8 := [153, 0, 70, 21, 11, 21, 5, 96, 54, 14, 21, 14, 21, 10, 163, 0, 24, 21, 14, 21, 5, 96, 54, 11]
abbrev dktJ24_compute_11 : List UInt8 := dkwJ24_compute_11 ++ dktJ24_compute_12
def dkwJ24_compute_10 : List UInt8 := [21, 8, 96, 54, 8, 3, 89, 54, 7, 89, 54, 11, 89, 54, 9, 54, 12, 18, 23, 54, 5, 21, 5]
abbrev dktJ24_compute_10 : List UInt8 := dkwJ24_compute_10 ++ dktJ24_compute_11
def dkwJ24_compute_9 : List UInt8 := [21, 13, 4, 122, 54, 13, 21, 10, 21, 10, 21, 8, 21, 4, 126, 16, 31, 124, 96, 96, 54, 10, 21, 8]
abbrev dktJ24_compute_9 : List UInt8 := dkwJ24_compute_9 ++ dktJ24_compute_10
def dkwJ24_compute_8 : List UInt8 := [21, 10, 21, 10, 21, 8, 21, 4, 126, 16, 31, 124, 96, 96, 54, 10, 21, 8, 21, 8, 96, 54, 8]
abbrev dktJ24_compute_8 : List UInt8 := dkwJ24_compute_8 ++ dktJ24_compute_9
def dkwJ24_compute_7 : List UInt8 := [196, 132, 0, 13, 252, 1, 21, 10, 18, 22, 126, 18, 21, 128, 54, 10, 21, 13, 4, 126, 153, 0, 26]
abbrev dktJ24_compute_7 : List UInt8 := dkwJ24_compute_7 ++ dktJ24_compute_8
def dkwJ24_compute_6 : List UInt8 := [21, 10, 21, 8, 16, 32, 21, 15, 100, 124, 128, 54, 10, 21, 8, 21, 15, 120, 54, 8]
abbrev dktJ24_compute_6 : List UInt8 := dkwJ24_compute_6 ++ dktJ24_compute_7
def dkwJ24_compute_5 : List UInt8 := [154, 0, 15, 21, 10, 4, 120, 54, 10, 132, 15, 1, 167, 255, 239, 21, 13, 21, 15, 4, 100, 100, 54, 13]
abbrev dktJ24_compute_5 : List UInt8 := dkwJ24_compute_5 ++ dktJ24_compute_6
def dkwJ24_compute_4 : List UInt8 := [124, 128, 54, 10, 21, 8, 16, 21, 120, 54, 8, 167, 255, 231, 3, 54, 15, 21, 10, 18, 21, 126]
abbrev dktJ24_compute_4 : List UInt8 := dkwJ24_compute_4 ++ dktJ24_compute_5
def dkwJ24_compute_3 : List UInt8 := [16, 20, 122, 54, 13, 21, 13, 154, 0, 83, 21, 10, 154, 0, 26, 132, 13, 235, 21, 10, 21, 8, 16, 11]
abbrev dktJ24_compute_3 : List UInt8 := dkwJ24_compute_3 ++ dktJ24_compute_4
def dkwJ24_compute_2 : List UInt8 := [21, 8, 128, 154, 0, 5, 38, 175, 21, 10, 156, 0, 11, 38, 38, 103, 38, 38, 103, 111, 175, 21, 10]
abbrev dktJ24_compute_2 : List UInt8 := dkwJ24_compute_2 ++ dktJ24_compute_3
def dkwJ24_compute_1 : List UInt8 := [18, 20, 160, 0, 9, 38, 38, 107, 38, 99, 175, 21, 10, 157, 0, 31, 21, 10, 21, 4, 2, 130, 126]
abbrev dktJ24_compute_1 : List UInt8 := dkwJ24_compute_1 ++ dktJ24_compute_2
def dkwJ24_compute_0 : List UInt8 := [14, 73, 18, 12, 54, 4, 38, 184, 0, 13, 54, 10, 38, 184, 0, 17, 54, 8, 21, 10, 18, 20, 126]
abbrev dktJ24_compute_0 : List UInt8 := dkwJ24_compute_0 ++ dktJ24_compute_1
theorem dksJ24_compute_0 : cJ24_compute.data.toList.drop 0 = dktJ24_compute_0 := by decide +kernel
theorem dksJ24_compute_1 : cJ24_compute.data.toList.drop 23 = dktJ24_compute_1 := dk_seg dksJ24_compute_0 23 rfl rfl
theorem dksJ24_compute_2 : cJ24_compute.data.toList.drop 46 = dktJ24_compute_2 := dk_seg dksJ24_compute_1 23 rfl rfl
theorem dksJ24_compute_3 : cJ24_compute.data.toList.drop 69 = dktJ24_compute_3 := dk_seg dksJ24_compute_2 23 rfl rfl
theorem dksJ24_compute_4 : cJ24_compute.data.toList.drop 93 = dktJ24_compute_4 := dk_seg dksJ24_compute_3 24 rfl rfl
theorem dksJ24_compute_5 : cJ24_compute.data.toList.drop 115 = dktJ24_compute_5 := dk_seg dksJ24_compute_4 22 rfl rfl
theorem dksJ24_compute_6 : cJ24_compute.data.toList.drop 139 = dktJ24_compute_6 := dk_seg dksJ24_compute_5 24 rfl rfl
theorem dksJ24_compute_7 : cJ24_compute.data.toList.drop 159 = dktJ24_compute_7 := dk_seg dksJ24_compute_6 20 rfl rfl
theorem dksJ24_compute_8 : cJ24_compute.data.toList.drop 182 = dktJ24_compute_8 := dk_seg dksJ24_compute_7 23 rfl rfl
theorem dksJ24_compute_9 : cJ24_compute.data.toList.drop 205 = dktJ24_compute_9 := dk_seg dksJ24_compute_8 23 rfl rfl
theorem dksJ24_compute_10 : cJ24_compute.data.toList.drop 229 = dktJ24_compute_10 := dk_seg dksJ24_compute_9 24 rfl rfl
theorem dksJ24_compute_11 : cJ24_compute.data.toList.drop 252 = dktJ24_compute_11 := dk_seg dksJ24_compute_10 23 rfl rfl
theorem dksJ24_compute_12 : cJ24_compute.data.toList.drop 276 = dktJ24_compute_12 := dk_seg dksJ24_compute_11 24 rfl rfl
theorem dksJ24_compute_13 : cJ24_compute.data.toList.drop 299 = dktJ24_compute_13 := dk_seg dksJ24_compute_12 23 rfl rfl
theorem dksJ24_compute_14 : cJ24_compute.data.toList.drop 322 = dktJ24_compute_14 := dk_seg dksJ24_compute_13 23 rfl rfl
theorem dksJ24_compute_15 : cJ24_compute.data.toList.drop 346 = dktJ24_compute_15 := dk_seg dksJ24_compute_14 24 rfl rfl
theorem dksJ24_compute_16 : cJ24_compute.data.toList.drop 370 = dktJ24_compute_16 := dk_seg dksJ24_compute_15 24 rfl rfl
theorem dksJ24_compute_17 : cJ24_compute.data.toList.drop 394 = dktJ24_compute_17 := dk_seg dksJ24_compute_16 24 rfl rfl
theorem dksJ24_compute_18 : cJ24_compute.data.toList.drop 418 = dktJ24_compute_18 := dk_seg dksJ24_compute_17 24 rfl rfl
theorem dksJ24_compute_19 : cJ24_compute.data.toList.drop 442 = dktJ24_compute_19 := dk_seg dksJ24_compute_18 24 rfl rfl
theorem dksJ24_compute_20 : cJ24_compute.data.toList.drop 465 = dktJ24_compute_20 := dk_seg dksJ24_compute_19 23 rfl rfl
theorem dksJ24_compute_21 : cJ24_compute.data.toList.drop 487 = dktJ24_compute_21 := dk_seg dksJ24_compute_20 22 rfl rfl
theorem dksJ24_compute_22 : cJ24_compute.data.toList.drop 509 = dktJ24_compute_22 := dk_seg dksJ24_compute_21 22 rfl rfl
theorem dksJ24_compute_23 : cJ24_compute.data.toList.drop 533 = dktJ24_compute_23 := dk_seg dksJ24_compute_22 24 rfl rfl
theorem dksJ24_compute_24 : cJ24_compute.data.toList.drop 556 = dktJ24_compute_24 := dk_seg dksJ24_compute_23 23 rfl rfl
theorem dJ24_compute_0 : decode cJ24_compute 0 = .ok (.dconst 0, 1) := dk_14 (dk_at dksJ24_compute_0 0 rfl rfl)
theorem dJ24_compute_1 : decode cJ24_compute 1 = .ok (.dstore_n 2, 1) := dk_73 (dk_at dksJ24_compute_0 1 rfl rfl)
theorem dJ24_compute_2 : decode cJ24_compute 2 = .ok (.ldc 12, 2) := dk_18 12 (dk_at dksJ24_compute_0 2 rfl rfl)
theorem dJ24_compute_4 : decode cJ24_compute 4 = .ok (.istore 4, 2) := dk_54 4 (dk_at dksJ24_compute_0 4 rfl rfl)
theorem dJ24_compute_6 : decode cJ24_compute 6 = .ok (.dload_n 0, 1) := dk_38 (dk_at dksJ24_compute_0 6 rfl rfl)
theorem dJ24_compute_7 : decode cJ24_compute 7 = .ok (.invokestatic 13, 3) := dk_184 0 13 (dk_at dksJ24_compute_0 7 rfl rfl)
theorem dJ24_compute_10 : decode cJ24_compute 10 = .ok (.istore 10, 2) := dk_54 10 (dk_at dksJ24_compute_0 10 rfl rfl)
theorem dJ24_compute_12 : decode cJ24_compute 12 = .ok (.dload_n 0, 1) := dk_38 (dk_at dksJ24_compute_0 12 rfl rfl)
theorem dJ24_compute_13 : decode cJ24_compute 13 = .ok (.invokestatic 17, 3) := dk_184 0 17 (dk_at dksJ24_compute_0 13 rfl rfl)
theorem dJ24_compute_16 : decode cJ24_compute 16 = .ok (.istore 8, 2) := dk_54 8 (dk_at dksJ24_compute_0 16 rfl rfl)
theorem dJ24_compute_18 : decode cJ24_compute 18 = .ok (.iload 10, 2) := dk_21 10 (dk_at dksJ24_compute_0 18 rfl rfl)
theorem dJ24_compute_20 : decode cJ24_compute 20 = .ok (.ldc 20, 2) := dk_18 20 (dk_at dksJ24_compute_0 20 rfl rfl)
theorem dJ24_compute_22 : decode cJ24_compute 22 = .ok (.iand, 1) := dk_126 (dk_at dksJ24_compute_0 22 rfl rfl)
theorem dJ24_compute_23 : decode cJ24_compute 23 = .ok (.ldc 20, 2) := dk_18 20 (dk_at dksJ24_compute_1 0 rfl rfl)
theorem dJ24_compute_25 : decode cJ24_compute 25 = .ok (.if_icmp .ne 9, 3) := dk_160 0 9 (dk_at dksJ24_compute_1 2 rfl rfl)
theorem dJ24_compute_28 : decode cJ24_compute 28 = .ok (.dload_n 0, 1) := dk_38 (dk_at dksJ24_compute_1 5 rfl rfl)
theorem dJ24_compute_29 : decode cJ24_compute 29 = .ok (.dload_n 0, 1) := dk_38 (dk_at dksJ24_compute_1 6 rfl rfl)
theorem dJ24_compute_30 : decode cJ24_compute 30 = .ok (.dmul, 1) := dk_107 (dk_at dksJ24_compute_1 7 rfl rfl)
theorem dJ24_compute_31 : decode cJ24_compute 31 = .ok (.dload_n 0, 1) := dk_38 (dk_at dksJ24_compute_1 8 rfl rfl)
theorem dJ24_compute_32 : decode cJ24_compute 32 = .ok (.dadd, 1) := dk_99 (dk_at dksJ24_compute_1 9 rfl rfl)
theorem dJ24_compute_33 : decode cJ24_compute 33 = .ok (.dreturn, 1) := dk_175 (dk_at dksJ24_compute_1 10 rfl rfl)
theorem dJ24_compute_34 : decode cJ24_compute 34 = .ok (.iload 10, 2) := dk_21 10 (dk_at dksJ24_compute_1 11 rfl rfl)
theorem dJ24_compute_36 : decode cJ24_compute 36 = .ok (.ifCond .gt 31, 3) := dk_157 0 31 (dk_at dksJ24_compute_1 13 rfl rfl)
theorem dJ24_compute_39 : decode cJ24_compute 39 = .ok (.iload 10, 2) := dk_21 10 (dk_at dksJ24_compute_1 16 rfl rfl)
theorem dJ24_compute_41 : decode cJ24_compute 41 = .ok (.iload 4, 2) := dk_21 4 (dk_at dksJ24_compute_1 18 rfl rfl)
theorem dJ24_compute_43 : decode cJ24_compute 43 = .ok (.iconst (-1), 1) := dk_2 (dk_at dksJ24_compute_1 20 rfl rfl)
theorem dJ24_compute_44 : decode cJ24_compute 44 = .ok (.ixor, 1) := dk_130 (dk_at dksJ24_compute_1 21 rfl rfl)
theorem dJ24_compute_45 : decode cJ24_compute 45 = .ok (.iand, 1) := dk_126 (dk_at dksJ24_compute_1 22 rfl rfl)
theorem dJ24_compute_46 : decode cJ24_compute 46 = .ok (.iload 8, 2) := dk_21 8 (dk_at dksJ24_compute_2 0 rfl rfl)
theorem dJ24_compute_48 : decode cJ24_compute 48 = .ok (.ior, 1) := dk_128 (dk_at dksJ24_compute_2 2 rfl rfl)
theorem dJ24_compute_49 : decode cJ24_compute 49 = .ok (.ifCond .ne 5, 3) := dk_154 0 5 (dk_at dksJ24_compute_2 3 rfl rfl)
theorem dJ24_compute_52 : decode cJ24_compute 52 = .ok (.dload_n 0, 1) := dk_38 (dk_at dksJ24_compute_2 6 rfl rfl)
theorem dJ24_compute_53 : decode cJ24_compute 53 = .ok (.dreturn, 1) := dk_175 (dk_at dksJ24_compute_2 7 rfl rfl)
theorem dJ24_compute_54 : decode cJ24_compute 54 = .ok (.iload 10, 2) := dk_21 10 (dk_at dksJ24_compute_2 8 rfl rfl)
theorem dJ24_compute_56 : decode cJ24_compute 56 = .ok (.ifCond .ge 11, 3) := dk_156 0 11 (dk_at dksJ24_compute_2 10 rfl rfl)
theorem dJ24_compute_59 : decode cJ24_compute 59 = .ok (.dload_n 0, 1) := dk_38 (dk_at dksJ24_compute_2 13 rfl rfl)
theorem dJ24_compute_60 : decode cJ24_compute 60 = .ok (.dload_n 0, 1) := dk_38 (dk_at dksJ24_compute_2 14 rfl rfl)
theorem dJ24_compute_61 : decode cJ24_compute 61 = .ok (.dsub, 1) := dk_103 (dk_at dksJ24_compute_2 15 rfl rfl)
theorem dJ24_compute_62 : decode cJ24_compute 62 = .ok (.dload_n 0, 1) := dk_38 (dk_at dksJ24_compute_2 16 rfl rfl)
theorem dJ24_compute_63 : decode cJ24_compute 63 = .ok (.dload_n 0, 1) := dk_38 (dk_at dksJ24_compute_2 17 rfl rfl)
theorem dJ24_compute_64 : decode cJ24_compute 64 = .ok (.dsub, 1) := dk_103 (dk_at dksJ24_compute_2 18 rfl rfl)
theorem dJ24_compute_65 : decode cJ24_compute 65 = .ok (.ddiv, 1) := dk_111 (dk_at dksJ24_compute_2 19 rfl rfl)
theorem dJ24_compute_66 : decode cJ24_compute 66 = .ok (.dreturn, 1) := dk_175 (dk_at dksJ24_compute_2 20 rfl rfl)
theorem dJ24_compute_67 : decode cJ24_compute 67 = .ok (.iload 10, 2) := dk_21 10 (dk_at dksJ24_compute_2 21 rfl rfl)
theorem dJ24_compute_69 : decode cJ24_compute 69 = .ok (.bipush 20, 2) := dk_16 20 (dk_at dksJ24_compute_3 0 rfl rfl)
theorem dJ24_compute_71 : decode cJ24_compute 71 = .ok (.ishr, 1) := dk_122 (dk_at dksJ24_compute_3 2 rfl rfl)
theorem dJ24_compute_72 : decode cJ24_compute 72 = .ok (.istore 13, 2) := dk_54 13 (dk_at dksJ24_compute_3 3 rfl rfl)
theorem dJ24_compute_74 : decode cJ24_compute 74 = .ok (.iload 13, 2) := dk_21 13 (dk_at dksJ24_compute_3 5 rfl rfl)
theorem dJ24_compute_76 : decode cJ24_compute 76 = .ok (.ifCond .ne 83, 3) := dk_154 0 83 (dk_at dksJ24_compute_3 7 rfl rfl)
theorem dJ24_compute_79 : decode cJ24_compute 79 = .ok (.iload 10, 2) := dk_21 10 (dk_at dksJ24_compute_3 10 rfl rfl)
theorem dJ24_compute_81 : decode cJ24_compute 81 = .ok (.ifCond .ne 26, 3) := dk_154 0 26 (dk_at dksJ24_compute_3 12 rfl rfl)
theorem dJ24_compute_84 : decode cJ24_compute 84 = .ok (.iinc 13 (-21), 3) := dk_132 13 235 (dk_at dksJ24_compute_3 15 rfl rfl)
theorem dJ24_compute_87 : decode cJ24_compute 87 = .ok (.iload 10, 2) := dk_21 10 (dk_at dksJ24_compute_3 18 rfl rfl)
theorem dJ24_compute_89 : decode cJ24_compute 89 = .ok (.iload 8, 2) := dk_21 8 (dk_at dksJ24_compute_3 20 rfl rfl)
theorem dJ24_compute_91 : decode cJ24_compute 91 = .ok (.bipush 11, 2) := dk_16 11 (dk_at dksJ24_compute_3 22 rfl rfl)
theorem dJ24_compute_93 : decode cJ24_compute 93 = .ok (.iushr, 1) := dk_124 (dk_at dksJ24_compute_4 0 rfl rfl)
theorem dJ24_compute_94 : decode cJ24_compute 94 = .ok (.ior, 1) := dk_128 (dk_at dksJ24_compute_4 1 rfl rfl)
theorem dJ24_compute_95 : decode cJ24_compute 95 = .ok (.istore 10, 2) := dk_54 10 (dk_at dksJ24_compute_4 2 rfl rfl)
theorem dJ24_compute_97 : decode cJ24_compute 97 = .ok (.iload 8, 2) := dk_21 8 (dk_at dksJ24_compute_4 4 rfl rfl)
theorem dJ24_compute_99 : decode cJ24_compute 99 = .ok (.bipush 21, 2) := dk_16 21 (dk_at dksJ24_compute_4 6 rfl rfl)
theorem dJ24_compute_101 : decode cJ24_compute 101 = .ok (.ishl, 1) := dk_120 (dk_at dksJ24_compute_4 8 rfl rfl)
theorem dJ24_compute_102 : decode cJ24_compute 102 = .ok (.istore 8, 2) := dk_54 8 (dk_at dksJ24_compute_4 9 rfl rfl)
theorem dJ24_compute_104 : decode cJ24_compute 104 = .ok (.goto (-25), 3) := dk_167 255 231 (dk_at dksJ24_compute_4 11 rfl rfl)
theorem dJ24_compute_107 : decode cJ24_compute 107 = .ok (.iconst 0, 1) := dk_3 (dk_at dksJ24_compute_4 14 rfl rfl)
theorem dJ24_compute_108 : decode cJ24_compute 108 = .ok (.istore 15, 2) := dk_54 15 (dk_at dksJ24_compute_4 15 rfl rfl)
theorem dJ24_compute_110 : decode cJ24_compute 110 = .ok (.iload 10, 2) := dk_21 10 (dk_at dksJ24_compute_4 17 rfl rfl)
theorem dJ24_compute_112 : decode cJ24_compute 112 = .ok (.ldc 21, 2) := dk_18 21 (dk_at dksJ24_compute_4 19 rfl rfl)
theorem dJ24_compute_114 : decode cJ24_compute 114 = .ok (.iand, 1) := dk_126 (dk_at dksJ24_compute_4 21 rfl rfl)
theorem dJ24_compute_115 : decode cJ24_compute 115 = .ok (.ifCond .ne 15, 3) := dk_154 0 15 (dk_at dksJ24_compute_5 0 rfl rfl)
theorem dJ24_compute_118 : decode cJ24_compute 118 = .ok (.iload 10, 2) := dk_21 10 (dk_at dksJ24_compute_5 3 rfl rfl)
theorem dJ24_compute_120 : decode cJ24_compute 120 = .ok (.iconst 1, 1) := dk_4 (dk_at dksJ24_compute_5 5 rfl rfl)
theorem dJ24_compute_121 : decode cJ24_compute 121 = .ok (.ishl, 1) := dk_120 (dk_at dksJ24_compute_5 6 rfl rfl)
theorem dJ24_compute_122 : decode cJ24_compute 122 = .ok (.istore 10, 2) := dk_54 10 (dk_at dksJ24_compute_5 7 rfl rfl)
theorem dJ24_compute_124 : decode cJ24_compute 124 = .ok (.iinc 15 1, 3) := dk_132 15 1 (dk_at dksJ24_compute_5 9 rfl rfl)
theorem dJ24_compute_127 : decode cJ24_compute 127 = .ok (.goto (-17), 3) := dk_167 255 239 (dk_at dksJ24_compute_5 12 rfl rfl)
theorem dJ24_compute_130 : decode cJ24_compute 130 = .ok (.iload 13, 2) := dk_21 13 (dk_at dksJ24_compute_5 15 rfl rfl)
theorem dJ24_compute_132 : decode cJ24_compute 132 = .ok (.iload 15, 2) := dk_21 15 (dk_at dksJ24_compute_5 17 rfl rfl)
theorem dJ24_compute_134 : decode cJ24_compute 134 = .ok (.iconst 1, 1) := dk_4 (dk_at dksJ24_compute_5 19 rfl rfl)
theorem dJ24_compute_135 : decode cJ24_compute 135 = .ok (.isub, 1) := dk_100 (dk_at dksJ24_compute_5 20 rfl rfl)
theorem dJ24_compute_136 : decode cJ24_compute 136 = .ok (.isub, 1) := dk_100 (dk_at dksJ24_compute_5 21 rfl rfl)
theorem dJ24_compute_137 : decode cJ24_compute 137 = .ok (.istore 13, 2) := dk_54 13 (dk_at dksJ24_compute_5 22 rfl rfl)
theorem dJ24_compute_139 : decode cJ24_compute 139 = .ok (.iload 10, 2) := dk_21 10 (dk_at dksJ24_compute_6 0 rfl rfl)
theorem dJ24_compute_141 : decode cJ24_compute 141 = .ok (.iload 8, 2) := dk_21 8 (dk_at dksJ24_compute_6 2 rfl rfl)
theorem dJ24_compute_143 : decode cJ24_compute 143 = .ok (.bipush 32, 2) := dk_16 32 (dk_at dksJ24_compute_6 4 rfl rfl)
theorem dJ24_compute_145 : decode cJ24_compute 145 = .ok (.iload 15, 2) := dk_21 15 (dk_at dksJ24_compute_6 6 rfl rfl)
theorem dJ24_compute_147 : decode cJ24_compute 147 = .ok (.isub, 1) := dk_100 (dk_at dksJ24_compute_6 8 rfl rfl)
theorem dJ24_compute_148 : decode cJ24_compute 148 = .ok (.iushr, 1) := dk_124 (dk_at dksJ24_compute_6 9 rfl rfl)
theorem dJ24_compute_149 : decode cJ24_compute 149 = .ok (.ior, 1) := dk_128 (dk_at dksJ24_compute_6 10 rfl rfl)
theorem dJ24_compute_150 : decode cJ24_compute 150 = .ok (.istore 10, 2) := dk_54 10 (dk_at dksJ24_compute_6 11 rfl rfl)
theorem dJ24_compute_152 : decode cJ24_compute 152 = .ok (.iload 8, 2) := dk_21 8 (dk_at dksJ24_compute_6 13 rfl rfl)
theorem dJ24_compute_154 : decode cJ24_compute 154 = .ok (.iload 15, 2) := dk_21 15 (dk_at dksJ24_compute_6 15 rfl rfl)
theorem dJ24_compute_156 : decode cJ24_compute 156 = .ok (.ishl, 1) := dk_120 (dk_at dksJ24_compute_6 17 rfl rfl)
theorem dJ24_compute_157 : decode cJ24_compute 157 = .ok (.istore 8, 2) := dk_54 8 (dk_at dksJ24_compute_6 18 rfl rfl)
theorem dJ24_compute_159 : decode cJ24_compute 159 = .ok (.iinc 13 (-1023), 6) := by decide +kernel
theorem dJ24_compute_165 : decode cJ24_compute 165 = .ok (.iload 10, 2) := dk_21 10 (dk_at dksJ24_compute_7 6 rfl rfl)
theorem dJ24_compute_167 : decode cJ24_compute 167 = .ok (.ldc 22, 2) := dk_18 22 (dk_at dksJ24_compute_7 8 rfl rfl)
theorem dJ24_compute_169 : decode cJ24_compute 169 = .ok (.iand, 1) := dk_126 (dk_at dksJ24_compute_7 10 rfl rfl)
theorem dJ24_compute_170 : decode cJ24_compute 170 = .ok (.ldc 21, 2) := dk_18 21 (dk_at dksJ24_compute_7 11 rfl rfl)
theorem dJ24_compute_172 : decode cJ24_compute 172 = .ok (.ior, 1) := dk_128 (dk_at dksJ24_compute_7 13 rfl rfl)
theorem dJ24_compute_173 : decode cJ24_compute 173 = .ok (.istore 10, 2) := dk_54 10 (dk_at dksJ24_compute_7 14 rfl rfl)
theorem dJ24_compute_175 : decode cJ24_compute 175 = .ok (.iload 13, 2) := dk_21 13 (dk_at dksJ24_compute_7 16 rfl rfl)
theorem dJ24_compute_177 : decode cJ24_compute 177 = .ok (.iconst 1, 1) := dk_4 (dk_at dksJ24_compute_7 18 rfl rfl)
theorem dJ24_compute_178 : decode cJ24_compute 178 = .ok (.iand, 1) := dk_126 (dk_at dksJ24_compute_7 19 rfl rfl)
theorem dJ24_compute_179 : decode cJ24_compute 179 = .ok (.ifCond .eq 26, 3) := dk_153 0 26 (dk_at dksJ24_compute_7 20 rfl rfl)
theorem dJ24_compute_182 : decode cJ24_compute 182 = .ok (.iload 10, 2) := dk_21 10 (dk_at dksJ24_compute_8 0 rfl rfl)
theorem dJ24_compute_184 : decode cJ24_compute 184 = .ok (.iload 10, 2) := dk_21 10 (dk_at dksJ24_compute_8 2 rfl rfl)
theorem dJ24_compute_186 : decode cJ24_compute 186 = .ok (.iload 8, 2) := dk_21 8 (dk_at dksJ24_compute_8 4 rfl rfl)
theorem dJ24_compute_188 : decode cJ24_compute 188 = .ok (.iload 4, 2) := dk_21 4 (dk_at dksJ24_compute_8 6 rfl rfl)
theorem dJ24_compute_190 : decode cJ24_compute 190 = .ok (.iand, 1) := dk_126 (dk_at dksJ24_compute_8 8 rfl rfl)
theorem dJ24_compute_191 : decode cJ24_compute 191 = .ok (.bipush 31, 2) := dk_16 31 (dk_at dksJ24_compute_8 9 rfl rfl)
theorem dJ24_compute_193 : decode cJ24_compute 193 = .ok (.iushr, 1) := dk_124 (dk_at dksJ24_compute_8 11 rfl rfl)
theorem dJ24_compute_194 : decode cJ24_compute 194 = .ok (.iadd, 1) := dk_96 (dk_at dksJ24_compute_8 12 rfl rfl)
theorem dJ24_compute_195 : decode cJ24_compute 195 = .ok (.iadd, 1) := dk_96 (dk_at dksJ24_compute_8 13 rfl rfl)
theorem dJ24_compute_196 : decode cJ24_compute 196 = .ok (.istore 10, 2) := dk_54 10 (dk_at dksJ24_compute_8 14 rfl rfl)
theorem dJ24_compute_198 : decode cJ24_compute 198 = .ok (.iload 8, 2) := dk_21 8 (dk_at dksJ24_compute_8 16 rfl rfl)
theorem dJ24_compute_200 : decode cJ24_compute 200 = .ok (.iload 8, 2) := dk_21 8 (dk_at dksJ24_compute_8 18 rfl rfl)
theorem dJ24_compute_202 : decode cJ24_compute 202 = .ok (.iadd, 1) := dk_96 (dk_at dksJ24_compute_8 20 rfl rfl)
theorem dJ24_compute_203 : decode cJ24_compute 203 = .ok (.istore 8, 2) := dk_54 8 (dk_at dksJ24_compute_8 21 rfl rfl)
theorem dJ24_compute_205 : decode cJ24_compute 205 = .ok (.iload 13, 2) := dk_21 13 (dk_at dksJ24_compute_9 0 rfl rfl)
theorem dJ24_compute_207 : decode cJ24_compute 207 = .ok (.iconst 1, 1) := dk_4 (dk_at dksJ24_compute_9 2 rfl rfl)
theorem dJ24_compute_208 : decode cJ24_compute 208 = .ok (.ishr, 1) := dk_122 (dk_at dksJ24_compute_9 3 rfl rfl)
theorem dJ24_compute_209 : decode cJ24_compute 209 = .ok (.istore 13, 2) := dk_54 13 (dk_at dksJ24_compute_9 4 rfl rfl)
theorem dJ24_compute_211 : decode cJ24_compute 211 = .ok (.iload 10, 2) := dk_21 10 (dk_at dksJ24_compute_9 6 rfl rfl)
theorem dJ24_compute_213 : decode cJ24_compute 213 = .ok (.iload 10, 2) := dk_21 10 (dk_at dksJ24_compute_9 8 rfl rfl)
theorem dJ24_compute_215 : decode cJ24_compute 215 = .ok (.iload 8, 2) := dk_21 8 (dk_at dksJ24_compute_9 10 rfl rfl)
theorem dJ24_compute_217 : decode cJ24_compute 217 = .ok (.iload 4, 2) := dk_21 4 (dk_at dksJ24_compute_9 12 rfl rfl)
theorem dJ24_compute_219 : decode cJ24_compute 219 = .ok (.iand, 1) := dk_126 (dk_at dksJ24_compute_9 14 rfl rfl)
theorem dJ24_compute_220 : decode cJ24_compute 220 = .ok (.bipush 31, 2) := dk_16 31 (dk_at dksJ24_compute_9 15 rfl rfl)
theorem dJ24_compute_222 : decode cJ24_compute 222 = .ok (.iushr, 1) := dk_124 (dk_at dksJ24_compute_9 17 rfl rfl)
theorem dJ24_compute_223 : decode cJ24_compute 223 = .ok (.iadd, 1) := dk_96 (dk_at dksJ24_compute_9 18 rfl rfl)
theorem dJ24_compute_224 : decode cJ24_compute 224 = .ok (.iadd, 1) := dk_96 (dk_at dksJ24_compute_9 19 rfl rfl)
theorem dJ24_compute_225 : decode cJ24_compute 225 = .ok (.istore 10, 2) := dk_54 10 (dk_at dksJ24_compute_9 20 rfl rfl)
theorem dJ24_compute_227 : decode cJ24_compute 227 = .ok (.iload 8, 2) := dk_21 8 (dk_at dksJ24_compute_9 22 rfl rfl)
theorem dJ24_compute_229 : decode cJ24_compute 229 = .ok (.iload 8, 2) := dk_21 8 (dk_at dksJ24_compute_10 0 rfl rfl)
theorem dJ24_compute_231 : decode cJ24_compute 231 = .ok (.iadd, 1) := dk_96 (dk_at dksJ24_compute_10 2 rfl rfl)
theorem dJ24_compute_232 : decode cJ24_compute 232 = .ok (.istore 8, 2) := dk_54 8 (dk_at dksJ24_compute_10 3 rfl rfl)
theorem dJ24_compute_234 : decode cJ24_compute 234 = .ok (.iconst 0, 1) := dk_3 (dk_at dksJ24_compute_10 5 rfl rfl)
theorem dJ24_compute_235 : decode cJ24_compute 235 = .ok (.dup, 1) := dk_89 (dk_at dksJ24_compute_10 6 rfl rfl)
theorem dJ24_compute_236 : decode cJ24_compute 236 = .ok (.istore 7, 2) := dk_54 7 (dk_at dksJ24_compute_10 7 rfl rfl)
theorem dJ24_compute_238 : decode cJ24_compute 238 = .ok (.dup, 1) := dk_89 (dk_at dksJ24_compute_10 9 rfl rfl)
theorem dJ24_compute_239 : decode cJ24_compute 239 = .ok (.istore 11, 2) := dk_54 11 (dk_at dksJ24_compute_10 10 rfl rfl)
theorem dJ24_compute_241 : decode cJ24_compute 241 = .ok (.dup, 1) := dk_89 (dk_at dksJ24_compute_10 12 rfl rfl)
theorem dJ24_compute_242 : decode cJ24_compute 242 = .ok (.istore 9, 2) := dk_54 9 (dk_at dksJ24_compute_10 13 rfl rfl)
theorem dJ24_compute_244 : decode cJ24_compute 244 = .ok (.istore 12, 2) := dk_54 12 (dk_at dksJ24_compute_10 15 rfl rfl)
theorem dJ24_compute_246 : decode cJ24_compute 246 = .ok (.ldc 23, 2) := dk_18 23 (dk_at dksJ24_compute_10 17 rfl rfl)
theorem dJ24_compute_248 : decode cJ24_compute 248 = .ok (.istore 5, 2) := dk_54 5 (dk_at dksJ24_compute_10 19 rfl rfl)
theorem dJ24_compute_250 : decode cJ24_compute 250 = .ok (.iload 5, 2) := dk_21 5 (dk_at dksJ24_compute_10 21 rfl rfl)
theorem dJ24_compute_252 : decode cJ24_compute 252 = .ok (.ifCond .eq 70, 3) := dk_153 0 70 (dk_at dksJ24_compute_11 0 rfl rfl)
theorem dJ24_compute_255 : decode cJ24_compute 255 = .ok (.iload 11, 2) := dk_21 11 (dk_at dksJ24_compute_11 3 rfl rfl)
theorem dJ24_compute_257 : decode cJ24_compute 257 = .ok (.iload 5, 2) := dk_21 5 (dk_at dksJ24_compute_11 5 rfl rfl)
theorem dJ24_compute_259 : decode cJ24_compute 259 = .ok (.iadd, 1) := dk_96 (dk_at dksJ24_compute_11 7 rfl rfl)
theorem dJ24_compute_260 : decode cJ24_compute 260 = .ok (.istore 14, 2) := dk_54 14 (dk_at dksJ24_compute_11 8 rfl rfl)
theorem dJ24_compute_262 : decode cJ24_compute 262 = .ok (.iload 14, 2) := dk_21 14 (dk_at dksJ24_compute_11 10 rfl rfl)
theorem dJ24_compute_264 : decode cJ24_compute 264 = .ok (.iload 10, 2) := dk_21 10 (dk_at dksJ24_compute_11 12 rfl rfl)
theorem dJ24_compute_266 : decode cJ24_compute 266 = .ok (.if_icmp .gt 24, 3) := dk_163 0 24 (dk_at dksJ24_compute_11 14 rfl rfl)
theorem dJ24_compute_269 : decode cJ24_compute 269 = .ok (.iload 14, 2) := dk_21 14 (dk_at dksJ24_compute_11 17 rfl rfl)
theorem dJ24_compute_271 : decode cJ24_compute 271 = .ok (.iload 5, 2) := dk_21 5 (dk_at dksJ24_compute_11 19 rfl rfl)
theorem dJ24_compute_273 : decode cJ24_compute 273 = .ok (.iadd, 1) := dk_96 (dk_at dksJ24_compute_11 21 rfl rfl)
theorem dJ24_compute_274 : decode cJ24_compute 274 = .ok (.istore 11, 2) := dk_54 11 (dk_at dksJ24_compute_11 22 rfl rfl)
theorem dJ24_compute_276 : decode cJ24_compute 276 = .ok (.iload 10, 2) := dk_21 10 (dk_at dksJ24_compute_12 0 rfl rfl)
theorem dJ24_compute_278 : decode cJ24_compute 278 = .ok (.iload 14, 2) := dk_21 14 (dk_at dksJ24_compute_12 2 rfl rfl)
theorem dJ24_compute_280 : decode cJ24_compute 280 = .ok (.isub, 1) := dk_100 (dk_at dksJ24_compute_12 4 rfl rfl)
theorem dJ24_compute_281 : decode cJ24_compute 281 = .ok (.istore 10, 2) := dk_54 10 (dk_at dksJ24_compute_12 5 rfl rfl)
theorem dJ24_compute_283 : decode cJ24_compute 283 = .ok (.iload 12, 2) := dk_21 12 (dk_at dksJ24_compute_12 7 rfl rfl)
theorem dJ24_compute_285 : decode cJ24_compute 285 = .ok (.iload 5, 2) := dk_21 5 (dk_at dksJ24_compute_12 9 rfl rfl)
theorem dJ24_compute_287 : decode cJ24_compute 287 = .ok (.iadd, 1) := dk_96 (dk_at dksJ24_compute_12 11 rfl rfl)
theorem dJ24_compute_288 : decode cJ24_compute 288 = .ok (.istore 12, 2) := dk_54 12 (dk_at dksJ24_compute_12 12 rfl rfl)
theorem dJ24_compute_290 : decode cJ24_compute 290 = .ok (.iload 10, 2) := dk_21 10 (dk_at dksJ24_compute_12 14 rfl rfl)
theorem dJ24_compute_292 : decode cJ24_compute 292 = .ok (.iload 10, 2) := dk_21 10 (dk_at dksJ24_compute_12 16 rfl rfl)
theorem dJ24_compute_294 : decode cJ24_compute 294 = .ok (.iload 8, 2) := dk_21 8 (dk_at dksJ24_compute_12 18 rfl rfl)
theorem dJ24_compute_296 : decode cJ24_compute 296 = .ok (.iload 4, 2) := dk_21 4 (dk_at dksJ24_compute_12 20 rfl rfl)
theorem dJ24_compute_298 : decode cJ24_compute 298 = .ok (.iand, 1) := dk_126 (dk_at dksJ24_compute_12 22 rfl rfl)
theorem dJ24_compute_299 : decode cJ24_compute 299 = .ok (.bipush 31, 2) := dk_16 31 (dk_at dksJ24_compute_13 0 rfl rfl)
theorem dJ24_compute_301 : decode cJ24_compute 301 = .ok (.iushr, 1) := dk_124 (dk_at dksJ24_compute_13 2 rfl rfl)
theorem dJ24_compute_302 : decode cJ24_compute 302 = .ok (.iadd, 1) := dk_96 (dk_at dksJ24_compute_13 3 rfl rfl)
theorem dJ24_compute_303 : decode cJ24_compute 303 = .ok (.iadd, 1) := dk_96 (dk_at dksJ24_compute_13 4 rfl rfl)
theorem dJ24_compute_304 : decode cJ24_compute 304 = .ok (.istore 10, 2) := dk_54 10 (dk_at dksJ24_compute_13 5 rfl rfl)
theorem dJ24_compute_306 : decode cJ24_compute 306 = .ok (.iload 8, 2) := dk_21 8 (dk_at dksJ24_compute_13 7 rfl rfl)
theorem dJ24_compute_308 : decode cJ24_compute 308 = .ok (.iload 8, 2) := dk_21 8 (dk_at dksJ24_compute_13 9 rfl rfl)
theorem dJ24_compute_310 : decode cJ24_compute 310 = .ok (.iadd, 1) := dk_96 (dk_at dksJ24_compute_13 11 rfl rfl)
theorem dJ24_compute_311 : decode cJ24_compute 311 = .ok (.istore 8, 2) := dk_54 8 (dk_at dksJ24_compute_13 12 rfl rfl)
theorem dJ24_compute_313 : decode cJ24_compute 313 = .ok (.iload 5, 2) := dk_21 5 (dk_at dksJ24_compute_13 14 rfl rfl)
theorem dJ24_compute_315 : decode cJ24_compute 315 = .ok (.iconst 1, 1) := dk_4 (dk_at dksJ24_compute_13 16 rfl rfl)
theorem dJ24_compute_316 : decode cJ24_compute 316 = .ok (.iushr, 1) := dk_124 (dk_at dksJ24_compute_13 17 rfl rfl)
theorem dJ24_compute_317 : decode cJ24_compute 317 = .ok (.istore 5, 2) := dk_54 5 (dk_at dksJ24_compute_13 18 rfl rfl)
theorem dJ24_compute_319 : decode cJ24_compute 319 = .ok (.goto (-69), 3) := dk_167 255 187 (dk_at dksJ24_compute_13 20 rfl rfl)
theorem dJ24_compute_322 : decode cJ24_compute 322 = .ok (.iload 4, 2) := dk_21 4 (dk_at dksJ24_compute_14 0 rfl rfl)
theorem dJ24_compute_324 : decode cJ24_compute 324 = .ok (.istore 5, 2) := dk_54 5 (dk_at dksJ24_compute_14 2 rfl rfl)
theorem dJ24_compute_326 : decode cJ24_compute 326 = .ok (.iload 5, 2) := dk_21 5 (dk_at dksJ24_compute_14 4 rfl rfl)
theorem dJ24_compute_328 : decode cJ24_compute 328 = .ok (.ifCond .eq 132, 3) := dk_153 0 132 (dk_at dksJ24_compute_14 6 rfl rfl)
theorem dJ24_compute_331 : decode cJ24_compute 331 = .ok (.iload 7, 2) := dk_21 7 (dk_at dksJ24_compute_14 9 rfl rfl)
theorem dJ24_compute_333 : decode cJ24_compute 333 = .ok (.iload 5, 2) := dk_21 5 (dk_at dksJ24_compute_14 11 rfl rfl)
theorem dJ24_compute_335 : decode cJ24_compute 335 = .ok (.iadd, 1) := dk_96 (dk_at dksJ24_compute_14 13 rfl rfl)
theorem dJ24_compute_336 : decode cJ24_compute 336 = .ok (.istore 6, 2) := dk_54 6 (dk_at dksJ24_compute_14 14 rfl rfl)
theorem dJ24_compute_338 : decode cJ24_compute 338 = .ok (.iload 11, 2) := dk_21 11 (dk_at dksJ24_compute_14 16 rfl rfl)
theorem dJ24_compute_340 : decode cJ24_compute 340 = .ok (.istore 14, 2) := dk_54 14 (dk_at dksJ24_compute_14 18 rfl rfl)
theorem dJ24_compute_342 : decode cJ24_compute 342 = .ok (.iload 14, 2) := dk_21 14 (dk_at dksJ24_compute_14 20 rfl rfl)
theorem dJ24_compute_344 : decode cJ24_compute 344 = .ok (.iload 10, 2) := dk_21 10 (dk_at dksJ24_compute_14 22 rfl rfl)
theorem dJ24_compute_346 : decode cJ24_compute 346 = .ok (.if_icmp .lt 20, 3) := dk_161 0 20 (dk_at dksJ24_compute_15 0 rfl rfl)
theorem dJ24_compute_349 : decode cJ24_compute 349 = .ok (.iload 14, 2) := dk_21 14 (dk_at dksJ24_compute_15 3 rfl rfl)
theorem dJ24_compute_351 : decode cJ24_compute 351 = .ok (.iload 10, 2) := dk_21 10 (dk_at dksJ24_compute_15 5 rfl rfl)
theorem dJ24_compute_353 : decode cJ24_compute 353 = .ok (.if_icmp .ne 75, 3) := dk_160 0 75 (dk_at dksJ24_compute_15 7 rfl rfl)
theorem dJ24_compute_356 : decode cJ24_compute 356 = .ok (.iload 6, 2) := dk_21 6 (dk_at dksJ24_compute_15 10 rfl rfl)
theorem dJ24_compute_358 : decode cJ24_compute 358 = .ok (.iload 8, 2) := dk_21 8 (dk_at dksJ24_compute_15 12 rfl rfl)
theorem dJ24_compute_360 : decode cJ24_compute 360 = .ok (.invokestatic 24, 3) := dk_184 0 24 (dk_at dksJ24_compute_15 14 rfl rfl)
theorem dJ24_compute_363 : decode cJ24_compute 363 = .ok (.ifCond .gt 65, 3) := dk_157 0 65 (dk_at dksJ24_compute_15 17 rfl rfl)
theorem dJ24_compute_366 : decode cJ24_compute 366 = .ok (.iload 6, 2) := dk_21 6 (dk_at dksJ24_compute_15 20 rfl rfl)
theorem dJ24_compute_368 : decode cJ24_compute 368 = .ok (.iload 5, 2) := dk_21 5 (dk_at dksJ24_compute_15 22 rfl rfl)
theorem dJ24_compute_370 : decode cJ24_compute 370 = .ok (.iadd, 1) := dk_96 (dk_at dksJ24_compute_16 0 rfl rfl)
theorem dJ24_compute_371 : decode cJ24_compute 371 = .ok (.istore 7, 2) := dk_54 7 (dk_at dksJ24_compute_16 1 rfl rfl)
theorem dJ24_compute_373 : decode cJ24_compute 373 = .ok (.iload 6, 2) := dk_21 6 (dk_at dksJ24_compute_16 3 rfl rfl)
theorem dJ24_compute_375 : decode cJ24_compute 375 = .ok (.iload 4, 2) := dk_21 4 (dk_at dksJ24_compute_16 5 rfl rfl)
theorem dJ24_compute_377 : decode cJ24_compute 377 = .ok (.iand, 1) := dk_126 (dk_at dksJ24_compute_16 7 rfl rfl)
theorem dJ24_compute_378 : decode cJ24_compute 378 = .ok (.iload 4, 2) := dk_21 4 (dk_at dksJ24_compute_16 8 rfl rfl)
theorem dJ24_compute_380 : decode cJ24_compute 380 = .ok (.if_icmp .ne 14, 3) := dk_160 0 14 (dk_at dksJ24_compute_16 10 rfl rfl)
theorem dJ24_compute_383 : decode cJ24_compute 383 = .ok (.iload 7, 2) := dk_21 7 (dk_at dksJ24_compute_16 13 rfl rfl)
theorem dJ24_compute_385 : decode cJ24_compute 385 = .ok (.iload 4, 2) := dk_21 4 (dk_at dksJ24_compute_16 15 rfl rfl)
theorem dJ24_compute_387 : decode cJ24_compute 387 = .ok (.iand, 1) := dk_126 (dk_at dksJ24_compute_16 17 rfl rfl)
theorem dJ24_compute_388 : decode cJ24_compute 388 = .ok (.ifCond .ne 6, 3) := dk_154 0 6 (dk_at dksJ24_compute_16 18 rfl rfl)
theorem dJ24_compute_391 : decode cJ24_compute 391 = .ok (.iinc 11 1, 3) := dk_132 11 1 (dk_at dksJ24_compute_16 21 rfl rfl)
theorem dJ24_compute_394 : decode cJ24_compute 394 = .ok (.iload 10, 2) := dk_21 10 (dk_at dksJ24_compute_17 0 rfl rfl)
theorem dJ24_compute_396 : decode cJ24_compute 396 = .ok (.iload 14, 2) := dk_21 14 (dk_at dksJ24_compute_17 2 rfl rfl)
theorem dJ24_compute_398 : decode cJ24_compute 398 = .ok (.isub, 1) := dk_100 (dk_at dksJ24_compute_17 4 rfl rfl)
theorem dJ24_compute_399 : decode cJ24_compute 399 = .ok (.istore 10, 2) := dk_54 10 (dk_at dksJ24_compute_17 5 rfl rfl)
theorem dJ24_compute_401 : decode cJ24_compute 401 = .ok (.iload 8, 2) := dk_21 8 (dk_at dksJ24_compute_17 7 rfl rfl)
theorem dJ24_compute_403 : decode cJ24_compute 403 = .ok (.iload 6, 2) := dk_21 6 (dk_at dksJ24_compute_17 9 rfl rfl)
theorem dJ24_compute_405 : decode cJ24_compute 405 = .ok (.invokestatic 24, 3) := dk_184 0 24 (dk_at dksJ24_compute_17 11 rfl rfl)
theorem dJ24_compute_408 : decode cJ24_compute 408 = .ok (.ifCond .ge 6, 3) := dk_156 0 6 (dk_at dksJ24_compute_17 14 rfl rfl)
theorem dJ24_compute_411 : decode cJ24_compute 411 = .ok (.iinc 10 (-1), 3) := dk_132 10 255 (dk_at dksJ24_compute_17 17 rfl rfl)
theorem dJ24_compute_414 : decode cJ24_compute 414 = .ok (.iload 8, 2) := dk_21 8 (dk_at dksJ24_compute_17 20 rfl rfl)
theorem dJ24_compute_416 : decode cJ24_compute 416 = .ok (.iload 6, 2) := dk_21 6 (dk_at dksJ24_compute_17 22 rfl rfl)
theorem dJ24_compute_418 : decode cJ24_compute 418 = .ok (.isub, 1) := dk_100 (dk_at dksJ24_compute_18 0 rfl rfl)
theorem dJ24_compute_419 : decode cJ24_compute 419 = .ok (.istore 8, 2) := dk_54 8 (dk_at dksJ24_compute_18 1 rfl rfl)
theorem dJ24_compute_421 : decode cJ24_compute 421 = .ok (.iload 9, 2) := dk_21 9 (dk_at dksJ24_compute_18 3 rfl rfl)
theorem dJ24_compute_423 : decode cJ24_compute 423 = .ok (.iload 5, 2) := dk_21 5 (dk_at dksJ24_compute_18 5 rfl rfl)
theorem dJ24_compute_425 : decode cJ24_compute 425 = .ok (.iadd, 1) := dk_96 (dk_at dksJ24_compute_18 7 rfl rfl)
theorem dJ24_compute_426 : decode cJ24_compute 426 = .ok (.istore 9, 2) := dk_54 9 (dk_at dksJ24_compute_18 8 rfl rfl)
theorem dJ24_compute_428 : decode cJ24_compute 428 = .ok (.iload 10, 2) := dk_21 10 (dk_at dksJ24_compute_18 10 rfl rfl)
theorem dJ24_compute_430 : decode cJ24_compute 430 = .ok (.iload 10, 2) := dk_21 10 (dk_at dksJ24_compute_18 12 rfl rfl)
theorem dJ24_compute_432 : decode cJ24_compute 432 = .ok (.iload 8, 2) := dk_21 8 (dk_at dksJ24_compute_18 14 rfl rfl)
theorem dJ24_compute_434 : decode cJ24_compute 434 = .ok (.iload 4, 2) := dk_21 4 (dk_at dksJ24_compute_18 16 rfl rfl)
theorem dJ24_compute_436 : decode cJ24_compute 436 = .ok (.iand, 1) := dk_126 (dk_at dksJ24_compute_18 18 rfl rfl)
theorem dJ24_compute_437 : decode cJ24_compute 437 = .ok (.bipush 31, 2) := dk_16 31 (dk_at dksJ24_compute_18 19 rfl rfl)
theorem dJ24_compute_439 : decode cJ24_compute 439 = .ok (.iushr, 1) := dk_124 (dk_at dksJ24_compute_18 21 rfl rfl)
theorem dJ24_compute_440 : decode cJ24_compute 440 = .ok (.iadd, 1) := dk_96 (dk_at dksJ24_compute_18 22 rfl rfl)
theorem dJ24_compute_441 : decode cJ24_compute 441 = .ok (.iadd, 1) := dk_96 (dk_at dksJ24_compute_18 23 rfl rfl)
theorem dJ24_compute_442 : decode cJ24_compute 442 = .ok (.istore 10, 2) := dk_54 10 (dk_at dksJ24_compute_19 0 rfl rfl)
theorem dJ24_compute_444 : decode cJ24_compute 444 = .ok (.iload 8, 2) := dk_21 8 (dk_at dksJ24_compute_19 2 rfl rfl)
theorem dJ24_compute_446 : decode cJ24_compute 446 = .ok (.iload 8, 2) := dk_21 8 (dk_at dksJ24_compute_19 4 rfl rfl)
theorem dJ24_compute_448 : decode cJ24_compute 448 = .ok (.iadd, 1) := dk_96 (dk_at dksJ24_compute_19 6 rfl rfl)
theorem dJ24_compute_449 : decode cJ24_compute 449 = .ok (.istore 8, 2) := dk_54 8 (dk_at dksJ24_compute_19 7 rfl rfl)
theorem dJ24_compute_451 : decode cJ24_compute 451 = .ok (.iload 5, 2) := dk_21 5 (dk_at dksJ24_compute_19 9 rfl rfl)
theorem dJ24_compute_453 : decode cJ24_compute 453 = .ok (.iconst 1, 1) := dk_4 (dk_at dksJ24_compute_19 11 rfl rfl)
theorem dJ24_compute_454 : decode cJ24_compute 454 = .ok (.iushr, 1) := dk_124 (dk_at dksJ24_compute_19 12 rfl rfl)
theorem dJ24_compute_455 : decode cJ24_compute 455 = .ok (.istore 5, 2) := dk_54 5 (dk_at dksJ24_compute_19 13 rfl rfl)
theorem dJ24_compute_457 : decode cJ24_compute 457 = .ok (.goto (-131), 3) := dk_167 255 125 (dk_at dksJ24_compute_19 15 rfl rfl)
theorem dJ24_compute_460 : decode cJ24_compute 460 = .ok (.iload 10, 2) := dk_21 10 (dk_at dksJ24_compute_19 18 rfl rfl)
theorem dJ24_compute_462 : decode cJ24_compute 462 = .ok (.iload 8, 2) := dk_21 8 (dk_at dksJ24_compute_19 20 rfl rfl)
theorem dJ24_compute_464 : decode cJ24_compute 464 = .ok (.ior, 1) := dk_128 (dk_at dksJ24_compute_19 22 rfl rfl)
theorem dJ24_compute_465 : decode cJ24_compute 465 = .ok (.ifCond .eq 59, 3) := dk_153 0 59 (dk_at dksJ24_compute_20 0 rfl rfl)
theorem dJ24_compute_468 : decode cJ24_compute 468 = .ok (.dconst 1, 1) := dk_15 (dk_at dksJ24_compute_20 3 rfl rfl)
theorem dJ24_compute_469 : decode cJ24_compute 469 = .ok (.dstore_n 2, 1) := dk_73 (dk_at dksJ24_compute_20 4 rfl rfl)
theorem dJ24_compute_470 : decode cJ24_compute 470 = .ok (.dload_n 2, 1) := dk_40 (dk_at dksJ24_compute_20 5 rfl rfl)
theorem dJ24_compute_471 : decode cJ24_compute 471 = .ok (.dconst 1, 1) := dk_15 (dk_at dksJ24_compute_20 6 rfl rfl)
theorem dJ24_compute_472 : decode cJ24_compute 472 = .ok (.dcmp .l, 1) := dk_151 (dk_at dksJ24_compute_20 7 rfl rfl)
theorem dJ24_compute_473 : decode cJ24_compute 473 = .ok (.ifCond .lt 51, 3) := dk_155 0 51 (dk_at dksJ24_compute_20 8 rfl rfl)
theorem dJ24_compute_476 : decode cJ24_compute 476 = .ok (.dconst 1, 1) := dk_15 (dk_at dksJ24_compute_20 11 rfl rfl)
theorem dJ24_compute_477 : decode cJ24_compute 477 = .ok (.dstore_n 2, 1) := dk_73 (dk_at dksJ24_compute_20 12 rfl rfl)
theorem dJ24_compute_478 : decode cJ24_compute 478 = .ok (.iload 9, 2) := dk_21 9 (dk_at dksJ24_compute_20 13 rfl rfl)
theorem dJ24_compute_480 : decode cJ24_compute 480 = .ok (.iconst (-1), 1) := dk_2 (dk_at dksJ24_compute_20 15 rfl rfl)
theorem dJ24_compute_481 : decode cJ24_compute 481 = .ok (.if_icmp .ne 12, 3) := dk_160 0 12 (dk_at dksJ24_compute_20 16 rfl rfl)
theorem dJ24_compute_484 : decode cJ24_compute 484 = .ok (.iconst 0, 1) := dk_3 (dk_at dksJ24_compute_20 19 rfl rfl)
theorem dJ24_compute_485 : decode cJ24_compute 485 = .ok (.istore 9, 2) := dk_54 9 (dk_at dksJ24_compute_20 20 rfl rfl)
theorem dJ24_compute_487 : decode cJ24_compute 487 = .ok (.iinc 12 1, 3) := dk_132 12 1 (dk_at dksJ24_compute_21 0 rfl rfl)
theorem dJ24_compute_490 : decode cJ24_compute 490 = .ok (.goto 34, 3) := dk_167 0 34 (dk_at dksJ24_compute_21 3 rfl rfl)
theorem dJ24_compute_493 : decode cJ24_compute 493 = .ok (.dload_n 2, 1) := dk_40 (dk_at dksJ24_compute_21 6 rfl rfl)
theorem dJ24_compute_494 : decode cJ24_compute 494 = .ok (.dconst 1, 1) := dk_15 (dk_at dksJ24_compute_21 7 rfl rfl)
theorem dJ24_compute_495 : decode cJ24_compute 495 = .ok (.dcmp .l, 1) := dk_151 (dk_at dksJ24_compute_21 8 rfl rfl)
theorem dJ24_compute_496 : decode cJ24_compute 496 = .ok (.ifCond .le 19, 3) := dk_158 0 19 (dk_at dksJ24_compute_21 9 rfl rfl)
theorem dJ24_compute_499 : decode cJ24_compute 499 = .ok (.iload 9, 2) := dk_21 9 (dk_at dksJ24_compute_21 12 rfl rfl)
theorem dJ24_compute_501 : decode cJ24_compute 501 = .ok (.bipush (-2), 2) := dk_16 254 (dk_at dksJ24_compute_21 14 rfl rfl)
theorem dJ24_compute_503 : decode cJ24_compute 503 = .ok (.if_icmp .ne 6, 3) := dk_160 0 6 (dk_at dksJ24_compute_21 16 rfl rfl)
theorem dJ24_compute_506 : decode cJ24_compute 506 = .ok (.iinc 12 1, 3) := dk_132 12 1 (dk_at dksJ24_compute_21 19 rfl rfl)
theorem dJ24_compute_509 : decode cJ24_compute 509 = .ok (.iinc 9 2, 3) := dk_132 9 2 (dk_at dksJ24_compute_22 0 rfl rfl)
theorem dJ24_compute_512 : decode cJ24_compute 512 = .ok (.goto 12, 3) := dk_167 0 12 (dk_at dksJ24_compute_22 3 rfl rfl)
theorem dJ24_compute_515 : decode cJ24_compute 515 = .ok (.iload 9, 2) := dk_21 9 (dk_at dksJ24_compute_22 6 rfl rfl)
theorem dJ24_compute_517 : decode cJ24_compute 517 = .ok (.iload 9, 2) := dk_21 9 (dk_at dksJ24_compute_22 8 rfl rfl)
theorem dJ24_compute_519 : decode cJ24_compute 519 = .ok (.iconst 1, 1) := dk_4 (dk_at dksJ24_compute_22 10 rfl rfl)
theorem dJ24_compute_520 : decode cJ24_compute 520 = .ok (.iand, 1) := dk_126 (dk_at dksJ24_compute_22 11 rfl rfl)
theorem dJ24_compute_521 : decode cJ24_compute 521 = .ok (.iadd, 1) := dk_96 (dk_at dksJ24_compute_22 12 rfl rfl)
theorem dJ24_compute_522 : decode cJ24_compute 522 = .ok (.istore 9, 2) := dk_54 9 (dk_at dksJ24_compute_22 13 rfl rfl)
theorem dJ24_compute_524 : decode cJ24_compute 524 = .ok (.iload 12, 2) := dk_21 12 (dk_at dksJ24_compute_22 15 rfl rfl)
theorem dJ24_compute_526 : decode cJ24_compute 526 = .ok (.iconst 1, 1) := dk_4 (dk_at dksJ24_compute_22 17 rfl rfl)
theorem dJ24_compute_527 : decode cJ24_compute 527 = .ok (.ishr, 1) := dk_122 (dk_at dksJ24_compute_22 18 rfl rfl)
theorem dJ24_compute_528 : decode cJ24_compute 528 = .ok (.ldc 32, 2) := dk_18 32 (dk_at dksJ24_compute_22 19 rfl rfl)
theorem dJ24_compute_530 : decode cJ24_compute 530 = .ok (.iadd, 1) := dk_96 (dk_at dksJ24_compute_22 21 rfl rfl)
theorem dJ24_compute_531 : decode cJ24_compute 531 = .ok (.istore 10, 2) := dk_54 10 (dk_at dksJ24_compute_22 22 rfl rfl)
theorem dJ24_compute_533 : decode cJ24_compute 533 = .ok (.iload 9, 2) := dk_21 9 (dk_at dksJ24_compute_23 0 rfl rfl)
theorem dJ24_compute_535 : decode cJ24_compute 535 = .ok (.iconst 1, 1) := dk_4 (dk_at dksJ24_compute_23 2 rfl rfl)
theorem dJ24_compute_536 : decode cJ24_compute 536 = .ok (.iushr, 1) := dk_124 (dk_at dksJ24_compute_23 3 rfl rfl)
theorem dJ24_compute_537 : decode cJ24_compute 537 = .ok (.istore 8, 2) := dk_54 8 (dk_at dksJ24_compute_23 4 rfl rfl)
theorem dJ24_compute_539 : decode cJ24_compute 539 = .ok (.iload 12, 2) := dk_21 12 (dk_at dksJ24_compute_23 6 rfl rfl)
theorem dJ24_compute_541 : decode cJ24_compute 541 = .ok (.iconst 1, 1) := dk_4 (dk_at dksJ24_compute_23 8 rfl rfl)
theorem dJ24_compute_542 : decode cJ24_compute 542 = .ok (.iand, 1) := dk_126 (dk_at dksJ24_compute_23 9 rfl rfl)
theorem dJ24_compute_543 : decode cJ24_compute 543 = .ok (.iconst 1, 1) := dk_4 (dk_at dksJ24_compute_23 10 rfl rfl)
theorem dJ24_compute_544 : decode cJ24_compute 544 = .ok (.if_icmp .ne 10, 3) := dk_160 0 10 (dk_at dksJ24_compute_23 11 rfl rfl)
theorem dJ24_compute_547 : decode cJ24_compute 547 = .ok (.iload 8, 2) := dk_21 8 (dk_at dksJ24_compute_23 14 rfl rfl)
theorem dJ24_compute_549 : decode cJ24_compute 549 = .ok (.iload 4, 2) := dk_21 4 (dk_at dksJ24_compute_23 16 rfl rfl)
theorem dJ24_compute_551 : decode cJ24_compute 551 = .ok (.ior, 1) := dk_128 (dk_at dksJ24_compute_23 18 rfl rfl)
theorem dJ24_compute_552 : decode cJ24_compute 552 = .ok (.istore 8, 2) := dk_54 8 (dk_at dksJ24_compute_23 19 rfl rfl)
theorem dJ24_compute_554 : decode cJ24_compute 554 = .ok (.iload 10, 2) := dk_21 10 (dk_at dksJ24_compute_23 21 rfl rfl)
theorem dJ24_compute_556 : decode cJ24_compute 556 = .ok (.iload 13, 2) := dk_21 13 (dk_at dksJ24_compute_24 0 rfl rfl)
theorem dJ24_compute_558 : decode cJ24_compute 558 = .ok (.bipush 20, 2) := dk_16 20 (dk_at dksJ24_compute_24 2 rfl rfl)
theorem dJ24_compute_560 : decode cJ24_compute 560 = .ok (.ishl, 1) := dk_120 (dk_at dksJ24_compute_24 4 rfl rfl)
theorem dJ24_compute_561 : decode cJ24_compute 561 = .ok (.iadd, 1) := dk_96 (dk_at dksJ24_compute_24 5 rfl rfl)
theorem dJ24_compute_562 : decode cJ24_compute 562 = .ok (.istore 10, 2) := dk_54 10 (dk_at dksJ24_compute_24 6 rfl rfl)
theorem dJ24_compute_564 : decode cJ24_compute 564 = .ok (.iload 10, 2) := dk_21 10 (dk_at dksJ24_compute_24 8 rfl rfl)
theorem dJ24_compute_566 : decode cJ24_compute 566 = .ok (.iload 8, 2) := dk_21 8 (dk_at dksJ24_compute_24 10 rfl rfl)
theorem dJ24_compute_568 : decode cJ24_compute 568 = .ok (.invokestatic 33, 3) := dk_184 0 33 (dk_at dksJ24_compute_24 12 rfl rfl)
theorem dJ24_compute_571 : decode cJ24_compute 571 = .ok (.dreturn, 1) := dk_175 (dk_at dksJ24_compute_24 15 rfl rfl)
theorem q326 : (Jvm.Cond.initialized "java/lang/FdLibm$Sqrt") ∈ lw_all := lw_g (lw_at lw_m1 66 rfl) rfl
theorem q2589 : (Jvm.Cond.static ({ cls := "java/lang/FdLibm$Sqrt", name := "compute", desc := "(D)D" } : Jvm.MethodName)) ∈ lw_all := lw_g (lw_at lw_m10 169 rfl) rfl
theorem q2590 : (Jvm.Cond.code ({ cls := "java/lang/FdLibm$Sqrt", name := "compute", desc := "(D)D" } : Jvm.MethodName) prog_62_method_2_code (16 : Nat) (Option.some Jvm.ClassFile.FieldType.double)) ∈ lw_all := lw_g (lw_at lw_m10 170 rfl) rfl
theorem q2591 : (Jvm.Cond.constant "java/lang/FdLibm$Sqrt" (12 : Nat) (-2147483648 : Int32)) ∈ lw_all := lw_g (lw_at lw_m10 171 rfl) rfl
theorem q2592 : (Jvm.Cond.methodLinkNest "java/lang/FdLibm$Sqrt" (13 : Nat) ({ cls := "java/lang/FdLibm", name := "__HI", desc := "(D)I" } : Jvm.MethodName) "java/lang/FdLibm") ∈ lw_tbl := lw_at lw_m10 172 rfl
theorem q2596 : (Jvm.Cond.methodLinkNest "java/lang/FdLibm$Sqrt" (17 : Nat) ({ cls := "java/lang/FdLibm", name := "__LO", desc := "(D)I" } : Jvm.MethodName) "java/lang/FdLibm") ∈ lw_tbl := lw_at lw_m10 176 rfl
theorem q2599 : (Jvm.Cond.constant "java/lang/FdLibm$Sqrt" (20 : Nat) (2146435072 : Int32)) ∈ lw_all := lw_g (lw_at lw_m10 179 rfl) rfl
theorem q2600 : (Jvm.Cond.constant "java/lang/FdLibm$Sqrt" (21 : Nat) (1048576 : Int32)) ∈ lw_all := lw_g (lw_at lw_m10 180 rfl) rfl
theorem q2601 : (Jvm.Cond.constant "java/lang/FdLibm$Sqrt" (22 : Nat) (1048575 : Int32)) ∈ lw_all := lw_g (lw_at lw_m10 181 rfl) rfl
theorem q2602 : (Jvm.Cond.constant "java/lang/FdLibm$Sqrt" (23 : Nat) (2097152 : Int32)) ∈ lw_all := lw_g (lw_at lw_m10 182 rfl) rfl
theorem q2603 : (Jvm.Cond.methodLink "java/lang/FdLibm$Sqrt" (24 : Nat) ({ cls := "java/lang/Integer", name := "compareUnsigned", desc := "(II)I" } : Jvm.MethodName)) ∈ lw_all := lw_g (lw_at lw_m10 183 rfl) rfl
theorem q2610 : (Jvm.Cond.constant "java/lang/FdLibm$Sqrt" (32 : Nat) (1071644672 : Int32)) ∈ lw_all := lw_g (lw_at lw_m10 190 rfl) rfl
theorem q2611 : (Jvm.Cond.methodLinkNest "java/lang/FdLibm$Sqrt" (33 : Nat) ({ cls := "java/lang/FdLibm", name := "__HI_LO", desc := "(II)D" } : Jvm.MethodName) "java/lang/FdLibm") ∈ lw_tbl := lw_at lw_m10 191 rfl
/-! java/lang/FdLibm -/
set_option maxRecDepth 100000
def RJ25 : String := "java/lang/FdLibm"
abbrev cJ25___HI : ByteArray := prog_61_method_4_code
def yJ25___HI : MethodName := ⟨RJ25, "__HI", "(D)I"⟩
def dkwJ25___HI_0 : List UInt8 := [38, 184, 0, 16, 65, 32, 16, 32, 123, 136, 172]
abbrev dktJ25___HI_0 : List UInt8 := dkwJ25___HI_0 ++ []
theorem dksJ25___HI_0 : cJ25___HI.data.toList.drop 0 = dktJ25___HI_0 := by decide +kernel
theorem dJ25___HI_0 : decode cJ25___HI 0 = .ok (.dload_n 0, 1) := dk_38 (dk_at dksJ25___HI_0 0 rfl rfl)
theorem dJ25___HI_1 : decode cJ25___HI 1 = .ok (.invokestatic 16, 3) := dk_184 0 16 (dk_at dksJ25___HI_0 1 rfl rfl)
theorem dJ25___HI_4 : decode cJ25___HI 4 = .ok (.lstore_n 2, 1) := dk_65 (dk_at dksJ25___HI_0 4 rfl rfl)
theorem dJ25___HI_5 : decode cJ25___HI 5 = .ok (.lload_n 2, 1) := dk_32 (dk_at dksJ25___HI_0 5 rfl rfl)
theorem dJ25___HI_6 : decode cJ25___HI 6 = .ok (.bipush 32, 2) := dk_16 32 (dk_at dksJ25___HI_0 6 rfl rfl)
theorem dJ25___HI_8 : decode cJ25___HI 8 = .ok (.lshr, 1) := dk_123 (dk_at dksJ25___HI_0 8 rfl rfl)
theorem dJ25___HI_9 : decode cJ25___HI 9 = .ok (.l2i, 1) := dk_136 (dk_at dksJ25___HI_0 9 rfl rfl)
theorem dJ25___HI_10 : decode cJ25___HI 10 = .ok (.ireturn, 1) := dk_172 (dk_at dksJ25___HI_0 10 rfl rfl)
abbrev cJ25___LO : ByteArray := prog_61_method_2_code
def yJ25___LO : MethodName := ⟨RJ25, "__LO", "(D)I"⟩
def dkwJ25___LO_0 : List UInt8 := [38, 184, 0, 16, 65, 32, 136, 172]
abbrev dktJ25___LO_0 : List UInt8 := dkwJ25___LO_0 ++ []
theorem dksJ25___LO_0 : cJ25___LO.data.toList.drop 0 = dktJ25___LO_0 := by decide +kernel
theorem dJ25___LO_0 : decode cJ25___LO 0 = .ok (.dload_n 0, 1) := dk_38 (dk_at dksJ25___LO_0 0 rfl rfl)
theorem dJ25___LO_1 : decode cJ25___LO 1 = .ok (.invokestatic 16, 3) := dk_184 0 16 (dk_at dksJ25___LO_0 1 rfl rfl)
theorem dJ25___LO_4 : decode cJ25___LO 4 = .ok (.lstore_n 2, 1) := dk_65 (dk_at dksJ25___LO_0 4 rfl rfl)
theorem dJ25___LO_5 : decode cJ25___LO 5 = .ok (.lload_n 2, 1) := dk_32 (dk_at dksJ25___LO_0 5 rfl rfl)
theorem dJ25___LO_6 : decode cJ25___LO 6 = .ok (.l2i, 1) := dk_136 (dk_at dksJ25___LO_0 6 rfl rfl)
theorem dJ25___LO_7 : decode cJ25___LO 7 = .ok (.ireturn, 1) := dk_172 (dk_at dksJ25___LO_0 7 rfl rfl)
abbrev cJ25___HI_LO : ByteArray := prog_61_method_6_code
def yJ25___HI_LO : MethodName := ⟨RJ25, "__HI_LO", "(II)D"⟩
def dkwJ25___HI_LO_0 : List UInt8 := [26, 133, 16, 32, 121, 27, 133, 20, 0, 22, 127, 129, 184, 0, 24, 175]
abbrev dktJ25___HI_LO_0 : List UInt8 := dkwJ25___HI_LO_0 ++ []
theorem dksJ25___HI_LO_0 : cJ25___HI_LO.data.toList.drop 0 = dktJ25___HI_LO_0 := by decide +kernel
theorem dJ25___HI_LO_0 : decode cJ25___HI_LO 0 = .ok (.iload_n 0, 1) := dk_26 (dk_at dksJ25___HI_LO_0 0 rfl rfl)
theorem dJ25___HI_LO_1 : decode cJ25___HI_LO 1 = .ok (.i2l, 1) := dk_133 (dk_at dksJ25___HI_LO_0 1 rfl rfl)
theorem dJ25___HI_LO_2 : decode cJ25___HI_LO 2 = .ok (.bipush 32, 2) := dk_16 32 (dk_at dksJ25___HI_LO_0 2 rfl rfl)
theorem dJ25___HI_LO_4 : decode cJ25___HI_LO 4 = .ok (.lshl, 1) := dk_121 (dk_at dksJ25___HI_LO_0 4 rfl rfl)
theorem dJ25___HI_LO_5 : decode cJ25___HI_LO 5 = .ok (.iload_n 1, 1) := dk_27 (dk_at dksJ25___HI_LO_0 5 rfl rfl)
theorem dJ25___HI_LO_6 : decode cJ25___HI_LO 6 = .ok (.i2l, 1) := dk_133 (dk_at dksJ25___HI_LO_0 6 rfl rfl)
theorem dJ25___HI_LO_7 : decode cJ25___HI_LO 7 = .ok (.ldc2_w 22, 3) := dk_20 0 22 (dk_at dksJ25___HI_LO_0 7 rfl rfl)
theorem dJ25___HI_LO_10 : decode cJ25___HI_LO 10 = .ok (.land, 1) := dk_127 (dk_at dksJ25___HI_LO_0 10 rfl rfl)
theorem dJ25___HI_LO_11 : decode cJ25___HI_LO 11 = .ok (.lor, 1) := dk_129 (dk_at dksJ25___HI_LO_0 11 rfl rfl)
theorem dJ25___HI_LO_12 : decode cJ25___HI_LO 12 = .ok (.invokestatic 24, 3) := dk_184 0 24 (dk_at dksJ25___HI_LO_0 12 rfl rfl)
theorem dJ25___HI_LO_15 : decode cJ25___HI_LO 15 = .ok (.dreturn, 1) := dk_175 (dk_at dksJ25___HI_LO_0 15 rfl rfl)
theorem q327 : (Jvm.Cond.initialized "java/lang/FdLibm") ∈ lw_all := lw_g (lw_at lw_m1 67 rfl) rfl
theorem q2593 : (Jvm.Cond.static ({ cls := "java/lang/FdLibm", name := "__HI", desc := "(D)I" } : Jvm.MethodName)) ∈ lw_all := lw_g (lw_at lw_m10 173 rfl) rfl
theorem q2594 : (Jvm.Cond.code ({ cls := "java/lang/FdLibm", name := "__HI", desc := "(D)I" } : Jvm.MethodName) prog_61_method_4_code (4 : Nat) (Option.some Jvm.ClassFile.FieldType.int)) ∈ lw_all := lw_g (lw_at lw_m10 174 rfl) rfl
theorem q2595 : (Jvm.Cond.methodLink "java/lang/FdLibm" (16 : Nat) ({ cls := "java/lang/Double", name := "doubleToRawLongBits", desc := "(D)J" } : Jvm.MethodName)) ∈ lw_all := lw_g (lw_at lw_m10 175 rfl) rfl
theorem q2597 : (Jvm.Cond.static ({ cls := "java/lang/FdLibm", name := "__LO", desc := "(D)I" } : Jvm.MethodName)) ∈ lw_all := lw_g (lw_at lw_m10 177 rfl) rfl
theorem q2598 : (Jvm.Cond.code ({ cls := "java/lang/FdLibm", name := "__LO", desc := "(D)I" } : Jvm.MethodName) prog_61_method_2_code (4 : Nat) (Option.some Jvm.ClassFile.FieldType.int)) ∈ lw_all := lw_g (lw_at lw_m10 178 rfl) rfl
theorem q2612 : (Jvm.Cond.static ({ cls := "java/lang/FdLibm", name := "__HI_LO", desc := "(II)D" } : Jvm.MethodName)) ∈ lw_all := lw_g (lw_at lw_m10 192 rfl) rfl
theorem q2613 : (Jvm.Cond.code ({ cls := "java/lang/FdLibm", name := "__HI_LO", desc := "(II)D" } : Jvm.MethodName) prog_61_method_6_code (2 : Nat) (Option.some Jvm.ClassFile.FieldType.double)) ∈ lw_all := lw_g (lw_at lw_m10 193 rfl) rfl
theorem q2614 : (Jvm.Cond.constantLong "java/lang/FdLibm" (22 : Nat) (4294967295 : Int64)) ∈ lw_all := lw_g (lw_at lw_m10 194 rfl) rfl
theorem q2615 : (Jvm.Cond.methodLink "java/lang/FdLibm" (24 : Nat) ({ cls := "java/lang/Double", name := "longBitsToDouble", desc := "(J)D" } : Jvm.MethodName)) ∈ lw_all := lw_g (lw_at lw_m10 195 rfl) rfl
/-! java/lang/Integer -/
set_option maxRecDepth 100000
def RJ26 : String := "java/lang/Integer"
abbrev cJ26_compareUnsigned : ByteArray := prog_66_method_41_code
def yJ26_compareUnsigned : MethodName := ⟨RJ26, "compareUnsigned", "(II)I"⟩
def dkwJ26_compareUnsigned_0 : List UInt8 := [26, 18, 127, 96, 27, 18, 127, 96, 184, 1, 3, 172]
abbrev dktJ26_compareUnsigned_0 : List UInt8 := dkwJ26_compareUnsigned_0 ++ []
theorem dksJ26_compareUnsigned_0 : cJ26_compareUnsigned.data.toList.drop 0 = dktJ26_compareUnsigned_0 := by decide +kernel
theorem dJ26_compareUnsigned_0 : decode cJ26_compareUnsigned 0 = .ok (.iload_n 0, 1) := dk_26 (dk_at dksJ26_compareUnsigned_0 0 rfl rfl)
theorem dJ26_compareUnsigned_1 : decode cJ26_compareUnsigned 1 = .ok (.ldc 127, 2) := dk_18 127 (dk_at dksJ26_compareUnsigned_0 1 rfl rfl)
theorem dJ26_compareUnsigned_3 : decode cJ26_compareUnsigned 3 = .ok (.iadd, 1) := dk_96 (dk_at dksJ26_compareUnsigned_0 3 rfl rfl)
theorem dJ26_compareUnsigned_4 : decode cJ26_compareUnsigned 4 = .ok (.iload_n 1, 1) := dk_27 (dk_at dksJ26_compareUnsigned_0 4 rfl rfl)
theorem dJ26_compareUnsigned_5 : decode cJ26_compareUnsigned 5 = .ok (.ldc 127, 2) := dk_18 127 (dk_at dksJ26_compareUnsigned_0 5 rfl rfl)
theorem dJ26_compareUnsigned_7 : decode cJ26_compareUnsigned 7 = .ok (.iadd, 1) := dk_96 (dk_at dksJ26_compareUnsigned_0 7 rfl rfl)
theorem dJ26_compareUnsigned_8 : decode cJ26_compareUnsigned 8 = .ok (.invokestatic 259, 3) := dk_184 1 3 (dk_at dksJ26_compareUnsigned_0 8 rfl rfl)
theorem dJ26_compareUnsigned_11 : decode cJ26_compareUnsigned 11 = .ok (.ireturn, 1) := dk_172 (dk_at dksJ26_compareUnsigned_0 11 rfl rfl)
abbrev cJ26_compare : ByteArray := prog_66_method_40_code
def yJ26_compare : MethodName := ⟨RJ26, "compare", "(II)I"⟩
def dkwJ26_compare_0 : List UInt8 := [26, 27, 162, 0, 7, 2, 167, 0, 13, 26, 27, 160, 0, 7, 3, 167, 0, 4, 4, 172]
abbrev dktJ26_compare_0 : List UInt8 := dkwJ26_compare_0 ++ []
theorem dksJ26_compare_0 : cJ26_compare.data.toList.drop 0 = dktJ26_compare_0 := by decide +kernel
theorem dJ26_compare_0 : decode cJ26_compare 0 = .ok (.iload_n 0, 1) := dk_26 (dk_at dksJ26_compare_0 0 rfl rfl)
theorem dJ26_compare_1 : decode cJ26_compare 1 = .ok (.iload_n 1, 1) := dk_27 (dk_at dksJ26_compare_0 1 rfl rfl)
theorem dJ26_compare_2 : decode cJ26_compare 2 = .ok (.if_icmp .ge 7, 3) := dk_162 0 7 (dk_at dksJ26_compare_0 2 rfl rfl)
theorem dJ26_compare_5 : decode cJ26_compare 5 = .ok (.iconst (-1), 1) := dk_2 (dk_at dksJ26_compare_0 5 rfl rfl)
theorem dJ26_compare_6 : decode cJ26_compare 6 = .ok (.goto 13, 3) := dk_167 0 13 (dk_at dksJ26_compare_0 6 rfl rfl)
theorem dJ26_compare_9 : decode cJ26_compare 9 = .ok (.iload_n 0, 1) := dk_26 (dk_at dksJ26_compare_0 9 rfl rfl)
theorem dJ26_compare_10 : decode cJ26_compare 10 = .ok (.iload_n 1, 1) := dk_27 (dk_at dksJ26_compare_0 10 rfl rfl)
theorem dJ26_compare_11 : decode cJ26_compare 11 = .ok (.if_icmp .ne 7, 3) := dk_160 0 7 (dk_at dksJ26_compare_0 11 rfl rfl)
theorem dJ26_compare_14 : decode cJ26_compare 14 = .ok (.iconst 0, 1) := dk_3 (dk_at dksJ26_compare_0 14 rfl rfl)
theorem dJ26_compare_15 : decode cJ26_compare 15 = .ok (.goto 4, 3) := dk_167 0 4 (dk_at dksJ26_compare_0 15 rfl rfl)
theorem dJ26_compare_18 : decode cJ26_compare 18 = .ok (.iconst 1, 1) := dk_4 (dk_at dksJ26_compare_0 18 rfl rfl)
theorem dJ26_compare_19 : decode cJ26_compare 19 = .ok (.ireturn, 1) := dk_172 (dk_at dksJ26_compare_0 19 rfl rfl)
abbrev cJ26_bitCount : ByteArray := prog_66_method_49_code
def yJ26_bitCount : MethodName := ⟨RJ26, "bitCount", "(I)I"⟩
def dkwJ26_bitCount_2 : List UInt8 := [26, 16, 63, 126, 172]
abbrev dktJ26_bitCount_2 : List UInt8 := dkwJ26_bitCount_2 ++ []
def dkwJ26_bitCount_1 : List UInt8 := [26, 26, 7, 124, 96, 19, 1, 11, 126, 59, 26, 26, 16, 8, 124, 96, 59, 26, 26, 16, 16, 124, 96, 59]
abbrev dktJ26_bitCount_1 : List UInt8 := dkwJ26_bitCount_1 ++ dktJ26_bitCount_2
def dkwJ26_bitCount_0 : List UInt8 := [26, 26, 4, 124, 19, 1, 9, 126, 100, 59, 26, 19, 1, 10, 126, 26, 5, 124, 19, 1, 10, 126, 96, 59]
abbrev dktJ26_bitCount_0 : List UInt8 := dkwJ26_bitCount_0 ++ dktJ26_bitCount_1
theorem dksJ26_bitCount_0 : cJ26_bitCount.data.toList.drop 0 = dktJ26_bitCount_0 := by decide +kernel
theorem dksJ26_bitCount_1 : cJ26_bitCount.data.toList.drop 24 = dktJ26_bitCount_1 := dk_seg dksJ26_bitCount_0 24 rfl rfl
theorem dksJ26_bitCount_2 : cJ26_bitCount.data.toList.drop 48 = dktJ26_bitCount_2 := dk_seg dksJ26_bitCount_1 24 rfl rfl
theorem dJ26_bitCount_0 : decode cJ26_bitCount 0 = .ok (.iload_n 0, 1) := dk_26 (dk_at dksJ26_bitCount_0 0 rfl rfl)
theorem dJ26_bitCount_1 : decode cJ26_bitCount 1 = .ok (.iload_n 0, 1) := dk_26 (dk_at dksJ26_bitCount_0 1 rfl rfl)
theorem dJ26_bitCount_2 : decode cJ26_bitCount 2 = .ok (.iconst 1, 1) := dk_4 (dk_at dksJ26_bitCount_0 2 rfl rfl)
theorem dJ26_bitCount_3 : decode cJ26_bitCount 3 = .ok (.iushr, 1) := dk_124 (dk_at dksJ26_bitCount_0 3 rfl rfl)
theorem dJ26_bitCount_4 : decode cJ26_bitCount 4 = .ok (.ldc_w 265, 3) := dk_19 1 9 (dk_at dksJ26_bitCount_0 4 rfl rfl)
theorem dJ26_bitCount_7 : decode cJ26_bitCount 7 = .ok (.iand, 1) := dk_126 (dk_at dksJ26_bitCount_0 7 rfl rfl)
theorem dJ26_bitCount_8 : decode cJ26_bitCount 8 = .ok (.isub, 1) := dk_100 (dk_at dksJ26_bitCount_0 8 rfl rfl)
theorem dJ26_bitCount_9 : decode cJ26_bitCount 9 = .ok (.istore_n 0, 1) := dk_59 (dk_at dksJ26_bitCount_0 9 rfl rfl)
theorem dJ26_bitCount_10 : decode cJ26_bitCount 10 = .ok (.iload_n 0, 1) := dk_26 (dk_at dksJ26_bitCount_0 10 rfl rfl)
theorem dJ26_bitCount_11 : decode cJ26_bitCount 11 = .ok (.ldc_w 266, 3) := dk_19 1 10 (dk_at dksJ26_bitCount_0 11 rfl rfl)
theorem dJ26_bitCount_14 : decode cJ26_bitCount 14 = .ok (.iand, 1) := dk_126 (dk_at dksJ26_bitCount_0 14 rfl rfl)
theorem dJ26_bitCount_15 : decode cJ26_bitCount 15 = .ok (.iload_n 0, 1) := dk_26 (dk_at dksJ26_bitCount_0 15 rfl rfl)
theorem dJ26_bitCount_16 : decode cJ26_bitCount 16 = .ok (.iconst 2, 1) := dk_5 (dk_at dksJ26_bitCount_0 16 rfl rfl)
theorem dJ26_bitCount_17 : decode cJ26_bitCount 17 = .ok (.iushr, 1) := dk_124 (dk_at dksJ26_bitCount_0 17 rfl rfl)
theorem dJ26_bitCount_18 : decode cJ26_bitCount 18 = .ok (.ldc_w 266, 3) := dk_19 1 10 (dk_at dksJ26_bitCount_0 18 rfl rfl)
theorem dJ26_bitCount_21 : decode cJ26_bitCount 21 = .ok (.iand, 1) := dk_126 (dk_at dksJ26_bitCount_0 21 rfl rfl)
theorem dJ26_bitCount_22 : decode cJ26_bitCount 22 = .ok (.iadd, 1) := dk_96 (dk_at dksJ26_bitCount_0 22 rfl rfl)
theorem dJ26_bitCount_23 : decode cJ26_bitCount 23 = .ok (.istore_n 0, 1) := dk_59 (dk_at dksJ26_bitCount_0 23 rfl rfl)
theorem dJ26_bitCount_24 : decode cJ26_bitCount 24 = .ok (.iload_n 0, 1) := dk_26 (dk_at dksJ26_bitCount_1 0 rfl rfl)
theorem dJ26_bitCount_25 : decode cJ26_bitCount 25 = .ok (.iload_n 0, 1) := dk_26 (dk_at dksJ26_bitCount_1 1 rfl rfl)
theorem dJ26_bitCount_26 : decode cJ26_bitCount 26 = .ok (.iconst 4, 1) := dk_7 (dk_at dksJ26_bitCount_1 2 rfl rfl)
theorem dJ26_bitCount_27 : decode cJ26_bitCount 27 = .ok (.iushr, 1) := dk_124 (dk_at dksJ26_bitCount_1 3 rfl rfl)
theorem dJ26_bitCount_28 : decode cJ26_bitCount 28 = .ok (.iadd, 1) := dk_96 (dk_at dksJ26_bitCount_1 4 rfl rfl)
theorem dJ26_bitCount_29 : decode cJ26_bitCount 29 = .ok (.ldc_w 267, 3) := dk_19 1 11 (dk_at dksJ26_bitCount_1 5 rfl rfl)
theorem dJ26_bitCount_32 : decode cJ26_bitCount 32 = .ok (.iand, 1) := dk_126 (dk_at dksJ26_bitCount_1 8 rfl rfl)
theorem dJ26_bitCount_33 : decode cJ26_bitCount 33 = .ok (.istore_n 0, 1) := dk_59 (dk_at dksJ26_bitCount_1 9 rfl rfl)
theorem dJ26_bitCount_34 : decode cJ26_bitCount 34 = .ok (.iload_n 0, 1) := dk_26 (dk_at dksJ26_bitCount_1 10 rfl rfl)
theorem dJ26_bitCount_35 : decode cJ26_bitCount 35 = .ok (.iload_n 0, 1) := dk_26 (dk_at dksJ26_bitCount_1 11 rfl rfl)
theorem dJ26_bitCount_36 : decode cJ26_bitCount 36 = .ok (.bipush 8, 2) := dk_16 8 (dk_at dksJ26_bitCount_1 12 rfl rfl)
theorem dJ26_bitCount_38 : decode cJ26_bitCount 38 = .ok (.iushr, 1) := dk_124 (dk_at dksJ26_bitCount_1 14 rfl rfl)
theorem dJ26_bitCount_39 : decode cJ26_bitCount 39 = .ok (.iadd, 1) := dk_96 (dk_at dksJ26_bitCount_1 15 rfl rfl)
theorem dJ26_bitCount_40 : decode cJ26_bitCount 40 = .ok (.istore_n 0, 1) := dk_59 (dk_at dksJ26_bitCount_1 16 rfl rfl)
theorem dJ26_bitCount_41 : decode cJ26_bitCount 41 = .ok (.iload_n 0, 1) := dk_26 (dk_at dksJ26_bitCount_1 17 rfl rfl)
theorem dJ26_bitCount_42 : decode cJ26_bitCount 42 = .ok (.iload_n 0, 1) := dk_26 (dk_at dksJ26_bitCount_1 18 rfl rfl)
theorem dJ26_bitCount_43 : decode cJ26_bitCount 43 = .ok (.bipush 16, 2) := dk_16 16 (dk_at dksJ26_bitCount_1 19 rfl rfl)
theorem dJ26_bitCount_45 : decode cJ26_bitCount 45 = .ok (.iushr, 1) := dk_124 (dk_at dksJ26_bitCount_1 21 rfl rfl)
theorem dJ26_bitCount_46 : decode cJ26_bitCount 46 = .ok (.iadd, 1) := dk_96 (dk_at dksJ26_bitCount_1 22 rfl rfl)
theorem dJ26_bitCount_47 : decode cJ26_bitCount 47 = .ok (.istore_n 0, 1) := dk_59 (dk_at dksJ26_bitCount_1 23 rfl rfl)
theorem dJ26_bitCount_48 : decode cJ26_bitCount 48 = .ok (.iload_n 0, 1) := dk_26 (dk_at dksJ26_bitCount_2 0 rfl rfl)
theorem dJ26_bitCount_49 : decode cJ26_bitCount 49 = .ok (.bipush 63, 2) := dk_16 63 (dk_at dksJ26_bitCount_2 1 rfl rfl)
theorem dJ26_bitCount_51 : decode cJ26_bitCount 51 = .ok (.iand, 1) := dk_126 (dk_at dksJ26_bitCount_2 3 rfl rfl)
theorem dJ26_bitCount_52 : decode cJ26_bitCount 52 = .ok (.ireturn, 1) := dk_172 (dk_at dksJ26_bitCount_2 4 rfl rfl)
abbrev cJ26_numberOfTrailingZeros : ByteArray := prog_66_method_48_code
def yJ26_numberOfTrailingZeros : MethodName := ⟨RJ26, "numberOfTrailingZeros", "(I)I"⟩
def dkwJ26_numberOfTrailingZeros_3 : List UInt8 := [5, 124, 59, 27, 26, 4, 124, 96, 172]
abbrev dktJ26_numberOfTrailingZeros_3 : List UInt8 := dkwJ26_numberOfTrailingZeros_3 ++ []
def dkwJ26_numberOfTrailingZeros_2 : List UInt8 := [124, 59, 26, 16, 16, 164, 0, 10, 132, 1, 4, 26, 7, 124, 59, 26, 7, 164, 0, 10, 132, 1, 2, 26]
abbrev dktJ26_numberOfTrailingZeros_2 : List UInt8 := dkwJ26_numberOfTrailingZeros_2 ++ dktJ26_numberOfTrailingZeros_3
def dkwJ26_numberOfTrailingZeros_1 : List UInt8 := [164, 0, 11, 132, 1, 16, 26, 16, 16, 124, 59, 26, 17, 1, 0, 164, 0, 11, 132, 1, 8, 26, 16, 8]
abbrev dktJ26_numberOfTrailingZeros_1 : List UInt8 := dkwJ26_numberOfTrailingZeros_1 ++ dktJ26_numberOfTrailingZeros_2
def dkwJ26_numberOfTrailingZeros_0 : List UInt8 := [26, 2, 130, 26, 4, 100, 126, 59, 26, 157, 0, 8, 26, 16, 32, 126, 172, 4, 60, 26, 19, 1, 8]
abbrev dktJ26_numberOfTrailingZeros_0 : List UInt8 := dkwJ26_numberOfTrailingZeros_0 ++ dktJ26_numberOfTrailingZeros_1
theorem dksJ26_numberOfTrailingZeros_0 : cJ26_numberOfTrailingZeros.data.toList.drop 0 = dktJ26_numberOfTrailingZeros_0 := by decide +kernel
theorem dksJ26_numberOfTrailingZeros_1 : cJ26_numberOfTrailingZeros.data.toList.drop 23 = dktJ26_numberOfTrailingZeros_1 := dk_seg dksJ26_numberOfTrailingZeros_0 23 rfl rfl
theorem dksJ26_numberOfTrailingZeros_2 : cJ26_numberOfTrailingZeros.data.toList.drop 47 = dktJ26_numberOfTrailingZeros_2 := dk_seg dksJ26_numberOfTrailingZeros_1 24 rfl rfl
theorem dksJ26_numberOfTrailingZeros_3 : cJ26_numberOfTrailingZeros.data.toList.drop 71 = dktJ26_numberOfTrailingZeros_3 := dk_seg dksJ26_numberOfTrailingZeros_2 24 rfl rfl
theorem dJ26_numberOfTrailingZeros_0 : decode cJ26_numberOfTrailingZeros 0 = .ok (.iload_n 0, 1) := dk_26 (dk_at dksJ26_numberOfTrailingZeros_0 0 rfl rfl)
theorem dJ26_numberOfTrailingZeros_1 : decode cJ26_numberOfTrailingZeros 1 = .ok (.iconst (-1), 1) := dk_2 (dk_at dksJ26_numberOfTrailingZeros_0 1 rfl rfl)
theorem dJ26_numberOfTrailingZeros_2 : decode cJ26_numberOfTrailingZeros 2 = .ok (.ixor, 1) := dk_130 (dk_at dksJ26_numberOfTrailingZeros_0 2 rfl rfl)
theorem dJ26_numberOfTrailingZeros_3 : decode cJ26_numberOfTrailingZeros 3 = .ok (.iload_n 0, 1) := dk_26 (dk_at dksJ26_numberOfTrailingZeros_0 3 rfl rfl)
theorem dJ26_numberOfTrailingZeros_4 : decode cJ26_numberOfTrailingZeros 4 = .ok (.iconst 1, 1) := dk_4 (dk_at dksJ26_numberOfTrailingZeros_0 4 rfl rfl)
theorem dJ26_numberOfTrailingZeros_5 : decode cJ26_numberOfTrailingZeros 5 = .ok (.isub, 1) := dk_100 (dk_at dksJ26_numberOfTrailingZeros_0 5 rfl rfl)
theorem dJ26_numberOfTrailingZeros_6 : decode cJ26_numberOfTrailingZeros 6 = .ok (.iand, 1) := dk_126 (dk_at dksJ26_numberOfTrailingZeros_0 6 rfl rfl)
theorem dJ26_numberOfTrailingZeros_7 : decode cJ26_numberOfTrailingZeros 7 = .ok (.istore_n 0, 1) := dk_59 (dk_at dksJ26_numberOfTrailingZeros_0 7 rfl rfl)
theorem dJ26_numberOfTrailingZeros_8 : decode cJ26_numberOfTrailingZeros 8 = .ok (.iload_n 0, 1) := dk_26 (dk_at dksJ26_numberOfTrailingZeros_0 8 rfl rfl)
theorem dJ26_numberOfTrailingZeros_9 : decode cJ26_numberOfTrailingZeros 9 = .ok (.ifCond .gt 8, 3) := dk_157 0 8 (dk_at dksJ26_numberOfTrailingZeros_0 9 rfl rfl)
theorem dJ26_numberOfTrailingZeros_12 : decode cJ26_numberOfTrailingZeros 12 = .ok (.iload_n 0, 1) := dk_26 (dk_at dksJ26_numberOfTrailingZeros_0 12 rfl rfl)
theorem dJ26_numberOfTrailingZeros_13 : decode cJ26_numberOfTrailingZeros 13 = .ok (.bipush 32, 2) := dk_16 32 (dk_at dksJ26_numberOfTrailingZeros_0 13 rfl rfl)
theorem dJ26_numberOfTrailingZeros_15 : decode cJ26_numberOfTrailingZeros 15 = .ok (.iand, 1) := dk_126 (dk_at dksJ26_numberOfTrailingZeros_0 15 rfl rfl)
theorem dJ26_numberOfTrailingZeros_16 : decode cJ26_numberOfTrailingZeros 16 = .ok (.ireturn, 1) := dk_172 (dk_at dksJ26_numberOfTrailingZeros_0 16 rfl rfl)
theorem dJ26_numberOfTrailingZeros_17 : decode cJ26_numberOfTrailingZeros 17 = .ok (.iconst 1, 1) := dk_4 (dk_at dksJ26_numberOfTrailingZeros_0 17 rfl rfl)
theorem dJ26_numberOfTrailingZeros_18 : decode cJ26_numberOfTrailingZeros 18 = .ok (.istore_n 1, 1) := dk_60 (dk_at dksJ26_numberOfTrailingZeros_0 18 rfl rfl)
theorem dJ26_numberOfTrailingZeros_19 : decode cJ26_numberOfTrailingZeros 19 = .ok (.iload_n 0, 1) := dk_26 (dk_at dksJ26_numberOfTrailingZeros_0 19 rfl rfl)
theorem dJ26_numberOfTrailingZeros_20 : decode cJ26_numberOfTrailingZeros 20 = .ok (.ldc_w 264, 3) := dk_19 1 8 (dk_at dksJ26_numberOfTrailingZeros_0 20 rfl rfl)
theorem dJ26_numberOfTrailingZeros_23 : decode cJ26_numberOfTrailingZeros 23 = .ok (.if_icmp .le 11, 3) := dk_164 0 11 (dk_at dksJ26_numberOfTrailingZeros_1 0 rfl rfl)
theorem dJ26_numberOfTrailingZeros_26 : decode cJ26_numberOfTrailingZeros 26 = .ok (.iinc 1 16, 3) := dk_132 1 16 (dk_at dksJ26_numberOfTrailingZeros_1 3 rfl rfl)
theorem dJ26_numberOfTrailingZeros_29 : decode cJ26_numberOfTrailingZeros 29 = .ok (.iload_n 0, 1) := dk_26 (dk_at dksJ26_numberOfTrailingZeros_1 6 rfl rfl)
theorem dJ26_numberOfTrailingZeros_30 : decode cJ26_numberOfTrailingZeros 30 = .ok (.bipush 16, 2) := dk_16 16 (dk_at dksJ26_numberOfTrailingZeros_1 7 rfl rfl)
theorem dJ26_numberOfTrailingZeros_32 : decode cJ26_numberOfTrailingZeros 32 = .ok (.iushr, 1) := dk_124 (dk_at dksJ26_numberOfTrailingZeros_1 9 rfl rfl)
theorem dJ26_numberOfTrailingZeros_33 : decode cJ26_numberOfTrailingZeros 33 = .ok (.istore_n 0, 1) := dk_59 (dk_at dksJ26_numberOfTrailingZeros_1 10 rfl rfl)
theorem dJ26_numberOfTrailingZeros_34 : decode cJ26_numberOfTrailingZeros 34 = .ok (.iload_n 0, 1) := dk_26 (dk_at dksJ26_numberOfTrailingZeros_1 11 rfl rfl)
theorem dJ26_numberOfTrailingZeros_35 : decode cJ26_numberOfTrailingZeros 35 = .ok (.sipush 256, 3) := dk_17 1 0 (dk_at dksJ26_numberOfTrailingZeros_1 12 rfl rfl)
theorem dJ26_numberOfTrailingZeros_38 : decode cJ26_numberOfTrailingZeros 38 = .ok (.if_icmp .le 11, 3) := dk_164 0 11 (dk_at dksJ26_numberOfTrailingZeros_1 15 rfl rfl)
theorem dJ26_numberOfTrailingZeros_41 : decode cJ26_numberOfTrailingZeros 41 = .ok (.iinc 1 8, 3) := dk_132 1 8 (dk_at dksJ26_numberOfTrailingZeros_1 18 rfl rfl)
theorem dJ26_numberOfTrailingZeros_44 : decode cJ26_numberOfTrailingZeros 44 = .ok (.iload_n 0, 1) := dk_26 (dk_at dksJ26_numberOfTrailingZeros_1 21 rfl rfl)
theorem dJ26_numberOfTrailingZeros_45 : decode cJ26_numberOfTrailingZeros 45 = .ok (.bipush 8, 2) := dk_16 8 (dk_at dksJ26_numberOfTrailingZeros_1 22 rfl rfl)
theorem dJ26_numberOfTrailingZeros_47 : decode cJ26_numberOfTrailingZeros 47 = .ok (.iushr, 1) := dk_124 (dk_at dksJ26_numberOfTrailingZeros_2 0 rfl rfl)
theorem dJ26_numberOfTrailingZeros_48 : decode cJ26_numberOfTrailingZeros 48 = .ok (.istore_n 0, 1) := dk_59 (dk_at dksJ26_numberOfTrailingZeros_2 1 rfl rfl)
theorem dJ26_numberOfTrailingZeros_49 : decode cJ26_numberOfTrailingZeros 49 = .ok (.iload_n 0, 1) := dk_26 (dk_at dksJ26_numberOfTrailingZeros_2 2 rfl rfl)
theorem dJ26_numberOfTrailingZeros_50 : decode cJ26_numberOfTrailingZeros 50 = .ok (.bipush 16, 2) := dk_16 16 (dk_at dksJ26_numberOfTrailingZeros_2 3 rfl rfl)
theorem dJ26_numberOfTrailingZeros_52 : decode cJ26_numberOfTrailingZeros 52 = .ok (.if_icmp .le 10, 3) := dk_164 0 10 (dk_at dksJ26_numberOfTrailingZeros_2 5 rfl rfl)
theorem dJ26_numberOfTrailingZeros_55 : decode cJ26_numberOfTrailingZeros 55 = .ok (.iinc 1 4, 3) := dk_132 1 4 (dk_at dksJ26_numberOfTrailingZeros_2 8 rfl rfl)
theorem dJ26_numberOfTrailingZeros_58 : decode cJ26_numberOfTrailingZeros 58 = .ok (.iload_n 0, 1) := dk_26 (dk_at dksJ26_numberOfTrailingZeros_2 11 rfl rfl)
theorem dJ26_numberOfTrailingZeros_59 : decode cJ26_numberOfTrailingZeros 59 = .ok (.iconst 4, 1) := dk_7 (dk_at dksJ26_numberOfTrailingZeros_2 12 rfl rfl)
theorem dJ26_numberOfTrailingZeros_60 : decode cJ26_numberOfTrailingZeros 60 = .ok (.iushr, 1) := dk_124 (dk_at dksJ26_numberOfTrailingZeros_2 13 rfl rfl)
theorem dJ26_numberOfTrailingZeros_61 : decode cJ26_numberOfTrailingZeros 61 = .ok (.istore_n 0, 1) := dk_59 (dk_at dksJ26_numberOfTrailingZeros_2 14 rfl rfl)
theorem dJ26_numberOfTrailingZeros_62 : decode cJ26_numberOfTrailingZeros 62 = .ok (.iload_n 0, 1) := dk_26 (dk_at dksJ26_numberOfTrailingZeros_2 15 rfl rfl)
theorem dJ26_numberOfTrailingZeros_63 : decode cJ26_numberOfTrailingZeros 63 = .ok (.iconst 4, 1) := dk_7 (dk_at dksJ26_numberOfTrailingZeros_2 16 rfl rfl)
theorem dJ26_numberOfTrailingZeros_64 : decode cJ26_numberOfTrailingZeros 64 = .ok (.if_icmp .le 10, 3) := dk_164 0 10 (dk_at dksJ26_numberOfTrailingZeros_2 17 rfl rfl)
theorem dJ26_numberOfTrailingZeros_67 : decode cJ26_numberOfTrailingZeros 67 = .ok (.iinc 1 2, 3) := dk_132 1 2 (dk_at dksJ26_numberOfTrailingZeros_2 20 rfl rfl)
theorem dJ26_numberOfTrailingZeros_70 : decode cJ26_numberOfTrailingZeros 70 = .ok (.iload_n 0, 1) := dk_26 (dk_at dksJ26_numberOfTrailingZeros_2 23 rfl rfl)
theorem dJ26_numberOfTrailingZeros_71 : decode cJ26_numberOfTrailingZeros 71 = .ok (.iconst 2, 1) := dk_5 (dk_at dksJ26_numberOfTrailingZeros_3 0 rfl rfl)
theorem dJ26_numberOfTrailingZeros_72 : decode cJ26_numberOfTrailingZeros 72 = .ok (.iushr, 1) := dk_124 (dk_at dksJ26_numberOfTrailingZeros_3 1 rfl rfl)
theorem dJ26_numberOfTrailingZeros_73 : decode cJ26_numberOfTrailingZeros 73 = .ok (.istore_n 0, 1) := dk_59 (dk_at dksJ26_numberOfTrailingZeros_3 2 rfl rfl)
theorem dJ26_numberOfTrailingZeros_74 : decode cJ26_numberOfTrailingZeros 74 = .ok (.iload_n 1, 1) := dk_27 (dk_at dksJ26_numberOfTrailingZeros_3 3 rfl rfl)
theorem dJ26_numberOfTrailingZeros_75 : decode cJ26_numberOfTrailingZeros 75 = .ok (.iload_n 0, 1) := dk_26 (dk_at dksJ26_numberOfTrailingZeros_3 4 rfl rfl)
theorem dJ26_numberOfTrailingZeros_76 : decode cJ26_numberOfTrailingZeros 76 = .ok (.iconst 1, 1) := dk_4 (dk_at dksJ26_numberOfTrailingZeros_3 5 rfl rfl)
theorem dJ26_numberOfTrailingZeros_77 : decode cJ26_numberOfTrailingZeros 77 = .ok (.iushr, 1) := dk_124 (dk_at dksJ26_numberOfTrailingZeros_3 6 rfl rfl)
theorem dJ26_numberOfTrailingZeros_78 : decode cJ26_numberOfTrailingZeros 78 = .ok (.iadd, 1) := dk_96 (dk_at dksJ26_numberOfTrailingZeros_3 7 rfl rfl)
theorem dJ26_numberOfTrailingZeros_79 : decode cJ26_numberOfTrailingZeros 79 = .ok (.ireturn, 1) := dk_172 (dk_at dksJ26_numberOfTrailingZeros_3 8 rfl rfl)
abbrev cJ26_numberOfLeadingZeros : ByteArray := prog_66_method_47_code
def yJ26_numberOfLeadingZeros : MethodName := ⟨RJ26, "numberOfLeadingZeros", "(I)I"⟩
def dkwJ26_numberOfLeadingZeros_3 : List UInt8 := [5, 124, 59, 27, 26, 4, 124, 100, 172]
abbrev dktJ26_numberOfLeadingZeros_3 : List UInt8 := dkwJ26_numberOfLeadingZeros_3 ++ []
def dkwJ26_numberOfLeadingZeros_2 : List UInt8 := [124, 59, 26, 16, 16, 161, 0, 10, 132, 1, 252, 26, 7, 124, 59, 26, 7, 161, 0, 10, 132, 1, 254, 26]
abbrev dktJ26_numberOfLeadingZeros_2 : List UInt8 := dkwJ26_numberOfLeadingZeros_2 ++ dktJ26_numberOfLeadingZeros_3
def dkwJ26_numberOfLeadingZeros_1 : List UInt8 := [161, 0, 11, 132, 1, 240, 26, 16, 16, 124, 59, 26, 17, 1, 0, 161, 0, 11, 132, 1, 248, 26, 16, 8]
abbrev dktJ26_numberOfLeadingZeros_1 : List UInt8 := dkwJ26_numberOfLeadingZeros_1 ++ dktJ26_numberOfLeadingZeros_2
def dkwJ26_numberOfLeadingZeros_0 : List UInt8 := [26, 157, 0, 14, 26, 154, 0, 8, 16, 32, 167, 0, 4, 3, 172, 16, 31, 60, 26, 19, 1, 8]
abbrev dktJ26_numberOfLeadingZeros_0 : List UInt8 := dkwJ26_numberOfLeadingZeros_0 ++ dktJ26_numberOfLeadingZeros_1
theorem dksJ26_numberOfLeadingZeros_0 : cJ26_numberOfLeadingZeros.data.toList.drop 0 = dktJ26_numberOfLeadingZeros_0 := by decide +kernel
theorem dksJ26_numberOfLeadingZeros_1 : cJ26_numberOfLeadingZeros.data.toList.drop 22 = dktJ26_numberOfLeadingZeros_1 := dk_seg dksJ26_numberOfLeadingZeros_0 22 rfl rfl
theorem dksJ26_numberOfLeadingZeros_2 : cJ26_numberOfLeadingZeros.data.toList.drop 46 = dktJ26_numberOfLeadingZeros_2 := dk_seg dksJ26_numberOfLeadingZeros_1 24 rfl rfl
theorem dksJ26_numberOfLeadingZeros_3 : cJ26_numberOfLeadingZeros.data.toList.drop 70 = dktJ26_numberOfLeadingZeros_3 := dk_seg dksJ26_numberOfLeadingZeros_2 24 rfl rfl
theorem dJ26_numberOfLeadingZeros_0 : decode cJ26_numberOfLeadingZeros 0 = .ok (.iload_n 0, 1) := dk_26 (dk_at dksJ26_numberOfLeadingZeros_0 0 rfl rfl)
theorem dJ26_numberOfLeadingZeros_1 : decode cJ26_numberOfLeadingZeros 1 = .ok (.ifCond .gt 14, 3) := dk_157 0 14 (dk_at dksJ26_numberOfLeadingZeros_0 1 rfl rfl)
theorem dJ26_numberOfLeadingZeros_4 : decode cJ26_numberOfLeadingZeros 4 = .ok (.iload_n 0, 1) := dk_26 (dk_at dksJ26_numberOfLeadingZeros_0 4 rfl rfl)
theorem dJ26_numberOfLeadingZeros_5 : decode cJ26_numberOfLeadingZeros 5 = .ok (.ifCond .ne 8, 3) := dk_154 0 8 (dk_at dksJ26_numberOfLeadingZeros_0 5 rfl rfl)
theorem dJ26_numberOfLeadingZeros_8 : decode cJ26_numberOfLeadingZeros 8 = .ok (.bipush 32, 2) := dk_16 32 (dk_at dksJ26_numberOfLeadingZeros_0 8 rfl rfl)
theorem dJ26_numberOfLeadingZeros_10 : decode cJ26_numberOfLeadingZeros 10 = .ok (.goto 4, 3) := dk_167 0 4 (dk_at dksJ26_numberOfLeadingZeros_0 10 rfl rfl)
theorem dJ26_numberOfLeadingZeros_13 : decode cJ26_numberOfLeadingZeros 13 = .ok (.iconst 0, 1) := dk_3 (dk_at dksJ26_numberOfLeadingZeros_0 13 rfl rfl)
theorem dJ26_numberOfLeadingZeros_14 : decode cJ26_numberOfLeadingZeros 14 = .ok (.ireturn, 1) := dk_172 (dk_at dksJ26_numberOfLeadingZeros_0 14 rfl rfl)
theorem dJ26_numberOfLeadingZeros_15 : decode cJ26_numberOfLeadingZeros 15 = .ok (.bipush 31, 2) := dk_16 31 (dk_at dksJ26_numberOfLeadingZeros_0 15 rfl rfl)
theorem dJ26_numberOfLeadingZeros_17 : decode cJ26_numberOfLeadingZeros 17 = .ok (.istore_n 1, 1) := dk_60 (dk_at dksJ26_numberOfLeadingZeros_0 17 rfl rfl)
theorem dJ26_numberOfLeadingZeros_18 : decode cJ26_numberOfLeadingZeros 18 = .ok (.iload_n 0, 1) := dk_26 (dk_at dksJ26_numberOfLeadingZeros_0 18 rfl rfl)
theorem dJ26_numberOfLeadingZeros_19 : decode cJ26_numberOfLeadingZeros 19 = .ok (.ldc_w 264, 3) := dk_19 1 8 (dk_at dksJ26_numberOfLeadingZeros_0 19 rfl rfl)
theorem dJ26_numberOfLeadingZeros_22 : decode cJ26_numberOfLeadingZeros 22 = .ok (.if_icmp .lt 11, 3) := dk_161 0 11 (dk_at dksJ26_numberOfLeadingZeros_1 0 rfl rfl)
theorem dJ26_numberOfLeadingZeros_25 : decode cJ26_numberOfLeadingZeros 25 = .ok (.iinc 1 (-16), 3) := dk_132 1 240 (dk_at dksJ26_numberOfLeadingZeros_1 3 rfl rfl)
theorem dJ26_numberOfLeadingZeros_28 : decode cJ26_numberOfLeadingZeros 28 = .ok (.iload_n 0, 1) := dk_26 (dk_at dksJ26_numberOfLeadingZeros_1 6 rfl rfl)
theorem dJ26_numberOfLeadingZeros_29 : decode cJ26_numberOfLeadingZeros 29 = .ok (.bipush 16, 2) := dk_16 16 (dk_at dksJ26_numberOfLeadingZeros_1 7 rfl rfl)
theorem dJ26_numberOfLeadingZeros_31 : decode cJ26_numberOfLeadingZeros 31 = .ok (.iushr, 1) := dk_124 (dk_at dksJ26_numberOfLeadingZeros_1 9 rfl rfl)
theorem dJ26_numberOfLeadingZeros_32 : decode cJ26_numberOfLeadingZeros 32 = .ok (.istore_n 0, 1) := dk_59 (dk_at dksJ26_numberOfLeadingZeros_1 10 rfl rfl)
theorem dJ26_numberOfLeadingZeros_33 : decode cJ26_numberOfLeadingZeros 33 = .ok (.iload_n 0, 1) := dk_26 (dk_at dksJ26_numberOfLeadingZeros_1 11 rfl rfl)
theorem dJ26_numberOfLeadingZeros_34 : decode cJ26_numberOfLeadingZeros 34 = .ok (.sipush 256, 3) := dk_17 1 0 (dk_at dksJ26_numberOfLeadingZeros_1 12 rfl rfl)
theorem dJ26_numberOfLeadingZeros_37 : decode cJ26_numberOfLeadingZeros 37 = .ok (.if_icmp .lt 11, 3) := dk_161 0 11 (dk_at dksJ26_numberOfLeadingZeros_1 15 rfl rfl)
theorem dJ26_numberOfLeadingZeros_40 : decode cJ26_numberOfLeadingZeros 40 = .ok (.iinc 1 (-8), 3) := dk_132 1 248 (dk_at dksJ26_numberOfLeadingZeros_1 18 rfl rfl)
theorem dJ26_numberOfLeadingZeros_43 : decode cJ26_numberOfLeadingZeros 43 = .ok (.iload_n 0, 1) := dk_26 (dk_at dksJ26_numberOfLeadingZeros_1 21 rfl rfl)
theorem dJ26_numberOfLeadingZeros_44 : decode cJ26_numberOfLeadingZeros 44 = .ok (.bipush 8, 2) := dk_16 8 (dk_at dksJ26_numberOfLeadingZeros_1 22 rfl rfl)
theorem dJ26_numberOfLeadingZeros_46 : decode cJ26_numberOfLeadingZeros 46 = .ok (.iushr, 1) := dk_124 (dk_at dksJ26_numberOfLeadingZeros_2 0 rfl rfl)
theorem dJ26_numberOfLeadingZeros_47 : decode cJ26_numberOfLeadingZeros 47 = .ok (.istore_n 0, 1) := dk_59 (dk_at dksJ26_numberOfLeadingZeros_2 1 rfl rfl)
theorem dJ26_numberOfLeadingZeros_48 : decode cJ26_numberOfLeadingZeros 48 = .ok (.iload_n 0, 1) := dk_26 (dk_at dksJ26_numberOfLeadingZeros_2 2 rfl rfl)
theorem dJ26_numberOfLeadingZeros_49 : decode cJ26_numberOfLeadingZeros 49 = .ok (.bipush 16, 2) := dk_16 16 (dk_at dksJ26_numberOfLeadingZeros_2 3 rfl rfl)
theorem dJ26_numberOfLeadingZeros_51 : decode cJ26_numberOfLeadingZeros 51 = .ok (.if_icmp .lt 10, 3) := dk_161 0 10 (dk_at dksJ26_numberOfLeadingZeros_2 5 rfl rfl)
theorem dJ26_numberOfLeadingZeros_54 : decode cJ26_numberOfLeadingZeros 54 = .ok (.iinc 1 (-4), 3) := dk_132 1 252 (dk_at dksJ26_numberOfLeadingZeros_2 8 rfl rfl)
theorem dJ26_numberOfLeadingZeros_57 : decode cJ26_numberOfLeadingZeros 57 = .ok (.iload_n 0, 1) := dk_26 (dk_at dksJ26_numberOfLeadingZeros_2 11 rfl rfl)
theorem dJ26_numberOfLeadingZeros_58 : decode cJ26_numberOfLeadingZeros 58 = .ok (.iconst 4, 1) := dk_7 (dk_at dksJ26_numberOfLeadingZeros_2 12 rfl rfl)
theorem dJ26_numberOfLeadingZeros_59 : decode cJ26_numberOfLeadingZeros 59 = .ok (.iushr, 1) := dk_124 (dk_at dksJ26_numberOfLeadingZeros_2 13 rfl rfl)
theorem dJ26_numberOfLeadingZeros_60 : decode cJ26_numberOfLeadingZeros 60 = .ok (.istore_n 0, 1) := dk_59 (dk_at dksJ26_numberOfLeadingZeros_2 14 rfl rfl)
theorem dJ26_numberOfLeadingZeros_61 : decode cJ26_numberOfLeadingZeros 61 = .ok (.iload_n 0, 1) := dk_26 (dk_at dksJ26_numberOfLeadingZeros_2 15 rfl rfl)
theorem dJ26_numberOfLeadingZeros_62 : decode cJ26_numberOfLeadingZeros 62 = .ok (.iconst 4, 1) := dk_7 (dk_at dksJ26_numberOfLeadingZeros_2 16 rfl rfl)
theorem dJ26_numberOfLeadingZeros_63 : decode cJ26_numberOfLeadingZeros 63 = .ok (.if_icmp .lt 10, 3) := dk_161 0 10 (dk_at dksJ26_numberOfLeadingZeros_2 17 rfl rfl)
theorem dJ26_numberOfLeadingZeros_66 : decode cJ26_numberOfLeadingZeros 66 = .ok (.iinc 1 (-2), 3) := dk_132 1 254 (dk_at dksJ26_numberOfLeadingZeros_2 20 rfl rfl)
theorem dJ26_numberOfLeadingZeros_69 : decode cJ26_numberOfLeadingZeros 69 = .ok (.iload_n 0, 1) := dk_26 (dk_at dksJ26_numberOfLeadingZeros_2 23 rfl rfl)
theorem dJ26_numberOfLeadingZeros_70 : decode cJ26_numberOfLeadingZeros 70 = .ok (.iconst 2, 1) := dk_5 (dk_at dksJ26_numberOfLeadingZeros_3 0 rfl rfl)
theorem dJ26_numberOfLeadingZeros_71 : decode cJ26_numberOfLeadingZeros 71 = .ok (.iushr, 1) := dk_124 (dk_at dksJ26_numberOfLeadingZeros_3 1 rfl rfl)
theorem dJ26_numberOfLeadingZeros_72 : decode cJ26_numberOfLeadingZeros 72 = .ok (.istore_n 0, 1) := dk_59 (dk_at dksJ26_numberOfLeadingZeros_3 2 rfl rfl)
theorem dJ26_numberOfLeadingZeros_73 : decode cJ26_numberOfLeadingZeros 73 = .ok (.iload_n 1, 1) := dk_27 (dk_at dksJ26_numberOfLeadingZeros_3 3 rfl rfl)
theorem dJ26_numberOfLeadingZeros_74 : decode cJ26_numberOfLeadingZeros 74 = .ok (.iload_n 0, 1) := dk_26 (dk_at dksJ26_numberOfLeadingZeros_3 4 rfl rfl)
theorem dJ26_numberOfLeadingZeros_75 : decode cJ26_numberOfLeadingZeros 75 = .ok (.iconst 1, 1) := dk_4 (dk_at dksJ26_numberOfLeadingZeros_3 5 rfl rfl)
theorem dJ26_numberOfLeadingZeros_76 : decode cJ26_numberOfLeadingZeros 76 = .ok (.iushr, 1) := dk_124 (dk_at dksJ26_numberOfLeadingZeros_3 6 rfl rfl)
theorem dJ26_numberOfLeadingZeros_77 : decode cJ26_numberOfLeadingZeros 77 = .ok (.isub, 1) := dk_100 (dk_at dksJ26_numberOfLeadingZeros_3 7 rfl rfl)
theorem dJ26_numberOfLeadingZeros_78 : decode cJ26_numberOfLeadingZeros 78 = .ok (.ireturn, 1) := dk_172 (dk_at dksJ26_numberOfLeadingZeros_3 8 rfl rfl)
theorem q328 : (Jvm.Cond.initialized "java/lang/Integer") ∈ lw_all := lw_g (lw_at lw_m1 68 rfl) rfl
theorem q2604 : (Jvm.Cond.static ({ cls := "java/lang/Integer", name := "compareUnsigned", desc := "(II)I" } : Jvm.MethodName)) ∈ lw_all := lw_g (lw_at lw_m10 184 rfl) rfl
theorem q2605 : (Jvm.Cond.code ({ cls := "java/lang/Integer", name := "compareUnsigned", desc := "(II)I" } : Jvm.MethodName) prog_66_method_41_code (2 : Nat) (Option.some Jvm.ClassFile.FieldType.int)) ∈ lw_all := lw_g (lw_at lw_m10 185 rfl) rfl
theorem q2606 : (Jvm.Cond.constant "java/lang/Integer" (127 : Nat) (-2147483648 : Int32)) ∈ lw_all := lw_g (lw_at lw_m10 186 rfl) rfl
theorem q2607 : (Jvm.Cond.methodLink "java/lang/Integer" (259 : Nat) ({ cls := "java/lang/Integer", name := "compare", desc := "(II)I" } : Jvm.MethodName)) ∈ lw_all := lw_g (lw_at lw_m10 187 rfl) rfl
theorem q2608 : (Jvm.Cond.static ({ cls := "java/lang/Integer", name := "compare", desc := "(II)I" } : Jvm.MethodName)) ∈ lw_all := lw_g (lw_at lw_m10 188 rfl) rfl
theorem q2609 : (Jvm.Cond.code ({ cls := "java/lang/Integer", name := "compare", desc := "(II)I" } : Jvm.MethodName) prog_66_method_40_code (2 : Nat) (Option.some Jvm.ClassFile.FieldType.int)) ∈ lw_all := lw_g (lw_at lw_m10 189 rfl) rfl
theorem q2842 : (Jvm.Cond.static ({ cls := "java/lang/Integer", name := "bitCount", desc := "(I)I" } : Jvm.MethodName)) ∈ lw_all := lw_g (lw_at lw_m11 182 rfl) rfl
theorem q2843 : (Jvm.Cond.code ({ cls := "java/lang/Integer", name := "bitCount", desc := "(I)I" } : Jvm.MethodName) prog_66_method_49_code (1 : Nat) (Option.some Jvm.ClassFile.FieldType.int)) ∈ lw_all := lw_g (lw_at lw_m11 183 rfl) rfl
theorem q2844 : (Jvm.Cond.constant "java/lang/Integer" (265 : Nat) (1431655765 : Int32)) ∈ lw_all := lw_g (lw_at lw_m11 184 rfl) rfl
theorem q2845 : (Jvm.Cond.constant "java/lang/Integer" (266 : Nat) (858993459 : Int32)) ∈ lw_all := lw_g (lw_at lw_m11 185 rfl) rfl
theorem q2846 : (Jvm.Cond.constant "java/lang/Integer" (267 : Nat) (252645135 : Int32)) ∈ lw_all := lw_g (lw_at lw_m11 186 rfl) rfl
theorem q3456 : (Jvm.Cond.static ({ cls := "java/lang/Integer", name := "numberOfTrailingZeros", desc := "(I)I" } : Jvm.MethodName)) ∈ lw_all := lw_g (lw_at lw_m14 76 rfl) rfl
theorem q3457 : (Jvm.Cond.code ({ cls := "java/lang/Integer", name := "numberOfTrailingZeros", desc := "(I)I" } : Jvm.MethodName) prog_66_method_48_code (2 : Nat) (Option.some Jvm.ClassFile.FieldType.int)) ∈ lw_all := lw_g (lw_at lw_m14 77 rfl) rfl
theorem q3458 : (Jvm.Cond.constant "java/lang/Integer" (264 : Nat) (65536 : Int32)) ∈ lw_all := lw_g (lw_at lw_m14 78 rfl) rfl
theorem q4479 : (Jvm.Cond.static ({ cls := "java/lang/Integer", name := "numberOfLeadingZeros", desc := "(I)I" } : Jvm.MethodName)) ∈ lw_all := lw_g (lw_at lw_m18 139 rfl) rfl
theorem q4480 : (Jvm.Cond.code ({ cls := "java/lang/Integer", name := "numberOfLeadingZeros", desc := "(I)I" } : Jvm.MethodName) prog_66_method_47_code (2 : Nat) (Option.some Jvm.ClassFile.FieldType.int)) ∈ lw_all := lw_g (lw_at lw_m18 140 rfl) rfl
/-! java/lang/IllegalStateException -/
set_option maxRecDepth 100000
def RJ27 : String := "java/lang/IllegalStateException"
def TJ27 : u_T := fun k => match k with
  | 0 => ("java/lang/Throwable", "cause", "Ljava/lang/Throwable;", false)
  | 1 => ("java/lang/Throwable", "stackTrace", "[Ljava/lang/StackTraceElement;", false)
  | 2 => ("java/lang/Throwable", "suppressedExceptions", "Ljava/util/List;", false)
  | 3 => ("java/lang/Throwable", "detailMessage", "Ljava/lang/String;", false)
  | 4 => ("java/lang/Throwable", "backtrace", "Ljava/lang/Object;", false)
  | _ => ("java/lang/Throwable", "depth", "I", false)
def tyJ27 : Nat → FieldType := fun k => match k with
  | 0 => .object "java/lang/Throwable"
  | 1 => .array (.object "java/lang/StackTraceElement")
  | 2 => .object "java/util/List"
  | 3 => .object "java/lang/String"
  | 4 => .object "java/lang/Object"
  | _ => .int
abbrev wsJ270 : List Cond := u_ws RJ27 TJ27 6
theorem nmJ27 : ∀ a, a < 6 → ∀ b, b < 6 → a ≠ b → (TJ27 a).2.1 ≠ (TJ27 b).2.1 := by decide +kernel
theorem tyJ27_ok : ∀ k, k < 6 → parseFieldDescriptor (TJ27 k).2.2.1 = some (tyJ27 k) := by decide +kernel
abbrev cJ27_init : ByteArray := prog_64_method_1_code
def yJ27_init : MethodName := ⟨RJ27, "<init>", "()V"⟩
theorem dJ27_init_0 : decode cJ27_init 0 = .ok (.aload_n 0, 1) := by decide +kernel
theorem dJ27_init_1 : decode cJ27_init 1 = .ok (.invokespecial 1, 3) := by decide +kernel
theorem dJ27_init_4 : decode cJ27_init 4 = .ok (.return_, 1) := by decide +kernel
theorem q329 : (Jvm.Cond.initialized "java/lang/IllegalStateException") ∈ lw_all := lw_g (lw_at lw_m1 69 rfl) rfl
theorem q626 : (Jvm.Cond.selects "java/lang/IllegalStateException" ({ cls := "java/lang/Throwable", name := "fillInStackTrace", desc := "()Ljava/lang/Throwable;" } : Jvm.MethodName) ({ cls := "java/lang/Throwable", name := "fillInStackTrace", desc := "()Ljava/lang/Throwable;" } : Jvm.MethodName)) ∈ lw_all := lw_g (lw_at lw_m2 126 rfl) rfl
theorem q3309 : (Jvm.Cond.instantiable "java/lang/IllegalStateException" (6 : Nat)) ∈ lw_all := lw_g (lw_at lw_m13 169 rfl) rfl
theorem q3310 : (Jvm.Cond.castable "java/lang/IllegalStateException" "java/lang/IllegalStateException") ∈ lw_tbl := lw_at lw_m13 170 rfl
theorem q3311 : (Jvm.Cond.selects "java/lang/IllegalStateException" ({ cls := "java/lang/Throwable", name := "fillInStackTrace", desc := "(I)Ljava/lang/Throwable;" } : Jvm.MethodName) ({ cls := "java/lang/Throwable", name := "fillInStackTrace", desc := "(I)Ljava/lang/Throwable;" } : Jvm.MethodName)) ∈ lw_all := lw_g (lw_at lw_m13 171 rfl) rfl
theorem q3312 : (Jvm.Cond.lays "java/lang/IllegalStateException" "java/lang/Throwable" "cause" "Ljava/lang/Throwable;") ∈ lw_all := lw_g (lw_at lw_m13 172 rfl) rfl
theorem q3313 : (Jvm.Cond.lays "java/lang/IllegalStateException" "java/lang/Throwable" "stackTrace" "[Ljava/lang/StackTraceElement;") ∈ lw_all := lw_g (lw_at lw_m13 173 rfl) rfl
theorem q3314 : (Jvm.Cond.lays "java/lang/IllegalStateException" "java/lang/Throwable" "suppressedExceptions" "Ljava/util/List;") ∈ lw_all := lw_g (lw_at lw_m13 174 rfl) rfl
theorem q3315 : (Jvm.Cond.lays "java/lang/IllegalStateException" "java/lang/Throwable" "detailMessage" "Ljava/lang/String;") ∈ lw_all := lw_g (lw_at lw_m13 175 rfl) rfl
theorem q3316 : (Jvm.Cond.lays "java/lang/IllegalStateException" "java/lang/Throwable" "backtrace" "Ljava/lang/Object;") ∈ lw_all := lw_g (lw_at lw_m13 176 rfl) rfl
theorem q3318 : (Jvm.Cond.instanceMethod ({ cls := "java/lang/IllegalStateException", name := "<init>", desc := "()V" } : Jvm.MethodName)) ∈ lw_all := lw_g (lw_at lw_m13 178 rfl) rfl
theorem q3319 : (Jvm.Cond.code ({ cls := "java/lang/IllegalStateException", name := "<init>", desc := "()V" } : Jvm.MethodName) prog_64_method_1_code (1 : Nat) (Option.none : Option Jvm.ClassFile.FieldType)) ∈ lw_all := lw_g (lw_at lw_m13 179 rfl) rfl
theorem q3320 : (Jvm.Cond.methodLink "java/lang/IllegalStateException" (1 : Nat) ({ cls := "java/lang/RuntimeException", name := "<init>", desc := "()V" } : Jvm.MethodName)) ∈ lw_all := lw_g (lw_at lw_m13 180 rfl) rfl
theorem q3321 : (Jvm.Cond.lays "java/lang/IllegalStateException" "java/lang/Throwable" "depth" "I") ∈ lw_all := lw_g (lw_at lw_m13 181 rfl) rfl
theorem q3322 : (Jvm.Cond.superclass "java/lang/IllegalStateException" "java/lang/RuntimeException") ∈ lw_all := lw_g (lw_at lw_m13 182 rfl) rfl
theorem q4851 : (Jvm.Cond.castable "java/lang/IllegalStateException" "java/lang/Object") ∈ lw_tbl := lw_at lw_m20 31 rfl
theorem in_J27 : ∀ w ∈ wsJ270, w ∈ lw_all := lw_in wsJ270 [3312, 3313, 3314, 3315, 3316, 3321] (by decide +kernel) (by decide +kernel)
/-! java/util/NoSuchElementException -/
set_option maxRecDepth 100000
def RJ28 : String := "java/util/NoSuchElementException"
def TJ28 : u_T := fun k => match k with
  | 0 => ("java/lang/Throwable", "cause", "Ljava/lang/Throwable;", false)
  | 1 => ("java/lang/Throwable", "stackTrace", "[Ljava/lang/StackTraceElement;", false)
  | 2 => ("java/lang/Throwable", "suppressedExceptions", "Ljava/util/List;", false)
  | 3 => ("java/lang/Throwable", "detailMessage", "Ljava/lang/String;", false)
  | 4 => ("java/lang/Throwable", "backtrace", "Ljava/lang/Object;", false)
  | _ => ("java/lang/Throwable", "depth", "I", false)
def tyJ28 : Nat → FieldType := fun k => match k with
  | 0 => .object "java/lang/Throwable"
  | 1 => .array (.object "java/lang/StackTraceElement")
  | 2 => .object "java/util/List"
  | 3 => .object "java/lang/String"
  | 4 => .object "java/lang/Object"
  | _ => .int
abbrev wsJ280 : List Cond := u_ws RJ28 TJ28 6
theorem nmJ28 : ∀ a, a < 6 → ∀ b, b < 6 → a ≠ b → (TJ28 a).2.1 ≠ (TJ28 b).2.1 := by decide +kernel
theorem tyJ28_ok : ∀ k, k < 6 → parseFieldDescriptor (TJ28 k).2.2.1 = some (tyJ28 k) := by decide +kernel
abbrev cJ28_init : ByteArray := prog_83_method_1_code
def yJ28_init : MethodName := ⟨RJ28, "<init>", "()V"⟩
theorem dJ28_init_0 : decode cJ28_init 0 = .ok (.aload_n 0, 1) := by decide +kernel
theorem dJ28_init_1 : decode cJ28_init 1 = .ok (.invokespecial 1, 3) := by decide +kernel
theorem dJ28_init_4 : decode cJ28_init 4 = .ok (.return_, 1) := by decide +kernel
theorem q330 : (Jvm.Cond.initialized "java/util/NoSuchElementException") ∈ lw_all := lw_g (lw_at lw_m1 70 rfl) rfl
theorem q649 : (Jvm.Cond.selects "java/util/NoSuchElementException" ({ cls := "java/lang/Throwable", name := "fillInStackTrace", desc := "()Ljava/lang/Throwable;" } : Jvm.MethodName) ({ cls := "java/lang/Throwable", name := "fillInStackTrace", desc := "()Ljava/lang/Throwable;" } : Jvm.MethodName)) ∈ lw_all := lw_g (lw_at lw_m2 149 rfl) rfl
theorem q3496 : (Jvm.Cond.instantiable "java/util/NoSuchElementException" (6 : Nat)) ∈ lw_all := lw_g (lw_at lw_m14 116 rfl) rfl
theorem q3497 : (Jvm.Cond.castable "java/util/NoSuchElementException" "java/util/NoSuchElementException") ∈ lw_tbl := lw_at lw_m14 117 rfl
theorem q3498 : (Jvm.Cond.selects "java/util/NoSuchElementException" ({ cls := "java/lang/Throwable", name := "fillInStackTrace", desc := "(I)Ljava/lang/Throwable;" } : Jvm.MethodName) ({ cls := "java/lang/Throwable", name := "fillInStackTrace", desc := "(I)Ljava/lang/Throwable;" } : Jvm.MethodName)) ∈ lw_all := lw_g (lw_at lw_m14 118 rfl) rfl
theorem q3499 : (Jvm.Cond.lays "java/util/NoSuchElementException" "java/lang/Throwable" "cause" "Ljava/lang/Throwable;") ∈ lw_all := lw_g (lw_at lw_m14 119 rfl) rfl
theorem q3500 : (Jvm.Cond.lays "java/util/NoSuchElementException" "java/lang/Throwable" "stackTrace" "[Ljava/lang/StackTraceElement;") ∈ lw_all := lw_g (lw_at lw_m14 120 rfl) rfl
theorem q3501 : (Jvm.Cond.lays "java/util/NoSuchElementException" "java/lang/Throwable" "suppressedExceptions" "Ljava/util/List;") ∈ lw_all := lw_g (lw_at lw_m14 121 rfl) rfl
theorem q3502 : (Jvm.Cond.lays "java/util/NoSuchElementException" "java/lang/Throwable" "detailMessage" "Ljava/lang/String;") ∈ lw_all := lw_g (lw_at lw_m14 122 rfl) rfl
theorem q3503 : (Jvm.Cond.lays "java/util/NoSuchElementException" "java/lang/Throwable" "backtrace" "Ljava/lang/Object;") ∈ lw_all := lw_g (lw_at lw_m14 123 rfl) rfl
theorem q3505 : (Jvm.Cond.instanceMethod ({ cls := "java/util/NoSuchElementException", name := "<init>", desc := "()V" } : Jvm.MethodName)) ∈ lw_all := lw_g (lw_at lw_m14 125 rfl) rfl
theorem q3506 : (Jvm.Cond.code ({ cls := "java/util/NoSuchElementException", name := "<init>", desc := "()V" } : Jvm.MethodName) prog_83_method_1_code (1 : Nat) (Option.none : Option Jvm.ClassFile.FieldType)) ∈ lw_all := lw_g (lw_at lw_m14 126 rfl) rfl
theorem q3507 : (Jvm.Cond.methodLink "java/util/NoSuchElementException" (1 : Nat) ({ cls := "java/lang/RuntimeException", name := "<init>", desc := "()V" } : Jvm.MethodName)) ∈ lw_all := lw_g (lw_at lw_m14 127 rfl) rfl
theorem q3508 : (Jvm.Cond.lays "java/util/NoSuchElementException" "java/lang/Throwable" "depth" "I") ∈ lw_all := lw_g (lw_at lw_m14 128 rfl) rfl
theorem q3509 : (Jvm.Cond.superclass "java/util/NoSuchElementException" "java/lang/RuntimeException") ∈ lw_all := lw_g (lw_at lw_m14 129 rfl) rfl
theorem q4853 : (Jvm.Cond.castable "java/util/NoSuchElementException" "java/lang/Object") ∈ lw_tbl := lw_at lw_m20 33 rfl
theorem in_J28 : ∀ w ∈ wsJ280, w ∈ lw_all := lw_in wsJ280 [3499, 3500, 3501, 3502, 3503, 3508] (by decide +kernel) (by decide +kernel)
/-! java/lang/Object -/
set_option maxRecDepth 100000
def RJ29 : String := "java/lang/Object"
abbrev cJ29_init : ByteArray := object_method_1_code
def yJ29_init : MethodName := ⟨RJ29, "<init>", "()V"⟩
theorem dJ29_init_0 : decode cJ29_init 0 = .ok (.return_, 1) := by decide +kernel
theorem q337 : (Jvm.Cond.instanceMethod ({ cls := "java/lang/Object", name := "<init>", desc := "()V" } : Jvm.MethodName)) ∈ lw_all := lw_g (lw_at lw_m1 77 rfl) rfl
theorem q338 : (Jvm.Cond.code ({ cls := "java/lang/Object", name := "<init>", desc := "()V" } : Jvm.MethodName) object_method_1_code (1 : Nat) (Option.none : Option Jvm.ClassFile.FieldType)) ∈ lw_all := lw_g (lw_at lw_m1 78 rfl) rfl
theorem q2034 : (Jvm.Cond.native ({ cls := "java/lang/Object", name := "clone", desc := "()Ljava/lang/Object;" } : Jvm.MethodName)) ∈ lw_all := lw_g (lw_at lw_m8 94 rfl) rfl
theorem q2035 : (Jvm.Cond.instanceMethod ({ cls := "java/lang/Object", name := "clone", desc := "()Ljava/lang/Object;" } : Jvm.MethodName)) ∈ lw_all := lw_g (lw_at lw_m8 95 rfl) rfl
theorem q4800 : (Jvm.Cond.initialized "java/lang/Object") ∈ lw_all := lw_g (lw_at lw_m19 220 rfl) rfl
theorem q346 : (Jvm.Cond.arrayOver (Jvm.ClassFile.FieldType.object "java/lang/String")) ∈ lw_tbl := lw_at lw_m1 86 rfl
set_option maxRecDepth 100000
theorem q439 : (Jvm.Cond.arrayClass Jvm.ClassFile.FieldType.byte) ∈ lw_all := lw_g (lw_at lw_m1 179 rfl) rfl
theorem q440 : (Jvm.Cond.arrayClass Jvm.ClassFile.FieldType.int) ∈ lw_all := lw_g (lw_at lw_m1 180 rfl) rfl
theorem q441 : (Jvm.Cond.arrayClass Jvm.ClassFile.FieldType.double) ∈ lw_all := lw_g (lw_at lw_m1 181 rfl) rfl
theorem q449 : (Jvm.Cond.arrayOver (Jvm.ClassFile.FieldType.object "ConstraintHouse$Variable")) ∈ lw_tbl := lw_at lw_m1 189 rfl
theorem q451 : (Jvm.Cond.arrayOver (Jvm.ClassFile.FieldType.object "ConstraintHouse$Part")) ∈ lw_tbl := lw_at lw_m1 191 rfl
theorem q577 : (Jvm.Cond.arrayClass Jvm.ClassFile.FieldType.short) ∈ lw_all := lw_g (lw_at lw_m2 77 rfl) rfl
theorem q578 : (Jvm.Cond.arrayClass Jvm.ClassFile.FieldType.char) ∈ lw_all := lw_g (lw_at lw_m2 78 rfl) rfl
theorem q579 : (Jvm.Cond.arrayClass Jvm.ClassFile.FieldType.boolean) ∈ lw_all := lw_g (lw_at lw_m2 79 rfl) rfl
theorem q681 : (Jvm.Cond.arrayOver (Jvm.ClassFile.FieldType.object "ConstraintHouse$Row")) ∈ lw_tbl := lw_at lw_m2 181 rfl
theorem q1490 : (Jvm.Cond.arrayClass Jvm.ClassFile.FieldType.float) ∈ lw_all := lw_g (lw_at lw_m6 30 rfl) rfl
theorem q2275 : (Jvm.Cond.arrayOver (Jvm.ClassFile.FieldType.object "ConstraintHouse$Real")) ∈ lw_tbl := lw_at lw_m9 95 rfl
theorem q2280 : (Jvm.Cond.arrayOver (Jvm.ClassFile.FieldType.object "ConstraintHouse$Small")) ∈ lw_tbl := lw_at lw_m9 100 rfl
theorem q2285 : (Jvm.Cond.arrayOver (Jvm.ClassFile.FieldType.object "ConstraintHouse$Whole")) ∈ lw_tbl := lw_at lw_m9 105 rfl
theorem q2290 : (Jvm.Cond.arrayOver (Jvm.ClassFile.FieldType.object "ConstraintHouse$Truth")) ∈ lw_tbl := lw_at lw_m9 110 rfl
theorem q2295 : (Jvm.Cond.arrayOver (Jvm.ClassFile.FieldType.object "ConstraintHouse$Letter")) ∈ lw_tbl := lw_at lw_m9 115 rfl
theorem q3929 : (Jvm.Cond.arrayClass Jvm.ClassFile.FieldType.long) ∈ lw_all := lw_g (lw_at lw_m16 69 rfl) rfl
theorem q619 : (Jvm.Cond.selects "ConstraintHouse$Absent" ({ cls := "java/lang/Throwable", name := "fillInStackTrace", desc := "()Ljava/lang/Throwable;" } : Jvm.MethodName) ({ cls := "java/lang/Throwable", name := "fillInStackTrace", desc := "()Ljava/lang/Throwable;" } : Jvm.MethodName)) ∈ lw_all := lw_g (lw_at lw_m2 119 rfl) rfl
set_option maxRecDepth 100000
theorem q4805 : (Jvm.Cond.castable "ConstraintHouse$Absent" "ConstraintHouse$Absent") ∈ lw_tbl := lw_at lw_m19 225 rfl
theorem q4849 : (Jvm.Cond.castable "ConstraintHouse$Absent" "java/lang/Object") ∈ lw_tbl := lw_at lw_m20 29 rfl
theorem q2474 : (Jvm.Cond.declares ({ cls := "ConstraintHouse$Narrows", name := "forwards", desc := "(LConstraintHouse$Solver;)V" } : Jvm.MethodName)) ∈ lw_tbl := lw_at lw_m10 54 rfl
set_option maxRecDepth 100000
theorem q620 : (Jvm.Cond.selects "ConstraintHouse$Nothing" ({ cls := "java/lang/Throwable", name := "fillInStackTrace", desc := "()Ljava/lang/Throwable;" } : Jvm.MethodName) ({ cls := "java/lang/Throwable", name := "fillInStackTrace", desc := "()Ljava/lang/Throwable;" } : Jvm.MethodName)) ∈ lw_all := lw_g (lw_at lw_m2 120 rfl) rfl
set_option maxRecDepth 100000
theorem q4804 : (Jvm.Cond.castable "ConstraintHouse$Nothing" "ConstraintHouse$Nothing") ∈ lw_tbl := lw_at lw_m19 224 rfl
theorem q4850 : (Jvm.Cond.castable "ConstraintHouse$Nothing" "java/lang/Object") ∈ lw_tbl := lw_at lw_m20 30 rfl
theorem q621 : (Jvm.Cond.selects "ConstraintHouse$Wrong" ({ cls := "java/lang/Throwable", name := "fillInStackTrace", desc := "()Ljava/lang/Throwable;" } : Jvm.MethodName) ({ cls := "java/lang/Throwable", name := "fillInStackTrace", desc := "()Ljava/lang/Throwable;" } : Jvm.MethodName)) ∈ lw_all := lw_g (lw_at lw_m2 121 rfl) rfl
set_option maxRecDepth 100000
theorem q4803 : (Jvm.Cond.castable "ConstraintHouse$Wrong" "ConstraintHouse$Wrong") ∈ lw_tbl := lw_at lw_m19 223 rfl
theorem q4821 : (Jvm.Cond.castable "ConstraintHouse$Wrong" "java/lang/Object") ∈ lw_tbl := lw_at lw_m20 1 rfl
theorem q318 : (Jvm.Cond.initialized "java/lang/Number") ∈ lw_all := lw_g (lw_at lw_m1 58 rfl) rfl
set_option maxRecDepth 100000
theorem q316 : (Jvm.Cond.initialized "java/lang/System") ∈ lw_all := lw_g (lw_at lw_m1 56 rfl) rfl
set_option maxRecDepth 100000
theorem q2043 : (Jvm.Cond.static ({ cls := "java/lang/System", name := "arraycopy", desc := "(Ljava/lang/Object;ILjava/lang/Object;II)V" } : Jvm.MethodName)) ∈ lw_all := lw_g (lw_at lw_m8 103 rfl) rfl
theorem q2044 : (Jvm.Cond.native ({ cls := "java/lang/System", name := "arraycopy", desc := "(Ljava/lang/Object;ILjava/lang/Object;II)V" } : Jvm.MethodName)) ∈ lw_all := lw_g (lw_at lw_m8 104 rfl) rfl
theorem q2033 : (Jvm.Cond.sameMethod "[B" "java/lang/Object" "clone" "()Ljava/lang/Object;") ∈ lw_all := lw_g (lw_at lw_m8 93 rfl) rfl
set_option maxRecDepth 100000
theorem q2036 : (Jvm.Cond.selects "[B" ({ cls := "[B", name := "clone", desc := "()Ljava/lang/Object;" } : Jvm.MethodName) ({ cls := "java/lang/Object", name := "clone", desc := "()Ljava/lang/Object;" } : Jvm.MethodName)) ∈ lw_all := lw_g (lw_at lw_m8 96 rfl) rfl
theorem q2037 : (Jvm.Cond.castable "[B" "java/lang/Cloneable") ∈ lw_tbl := lw_at lw_m8 97 rfl
