/-! ConstraintHouse$Numeric -/
set_option maxRecDepth 100000
def RX7 : String := "ConstraintHouse$Numeric"
abbrev cX7_init : ByteArray := prog_22_method_1_code
def yX7_init : MethodName := ⟨RX7, "<init>", "()V"⟩
theorem dX7_init_0 : decode cX7_init 0 = .ok (.aload_n 0, 1) := by decide +kernel
theorem dX7_init_1 : decode cX7_init 1 = .ok (.invokespecial 1, 3) := by decide +kernel
theorem dX7_init_4 : decode cX7_init 4 = .ok (.return_, 1) := by decide +kernel
theorem q270 : (Jvm.Cond.initialized "ConstraintHouse$Numeric") ∈ lw_all := lw_g (lw_at lw_m1 10 rfl) rfl
theorem q693 : (Jvm.Cond.instanceMethod ({ cls := "ConstraintHouse$Numeric", name := "<init>", desc := "()V" } : Jvm.MethodName)) ∈ lw_all := lw_g (lw_at lw_m2 193 rfl) rfl
theorem q694 : (Jvm.Cond.code ({ cls := "ConstraintHouse$Numeric", name := "<init>", desc := "()V" } : Jvm.MethodName) prog_22_method_1_code (1 : Nat) (Option.none : Option Jvm.ClassFile.FieldType)) ∈ lw_all := lw_g (lw_at lw_m2 194 rfl) rfl
theorem q695 : (Jvm.Cond.methodLinkNest "ConstraintHouse$Numeric" (1 : Nat) ({ cls := "ConstraintHouse$Variable", name := "<init>", desc := "()V" } : Jvm.MethodName) "ConstraintHouse") ∈ lw_tbl := lw_at lw_m2 195 rfl
theorem q2436 : (Jvm.Cond.declares ({ cls := "ConstraintHouse$Numeric", name := "low", desc := "()D" } : Jvm.MethodName)) ∈ lw_tbl := lw_at lw_m10 16 rfl
theorem q2437 : (Jvm.Cond.sameMethod "ConstraintHouse$Numeric" "ConstraintHouse$Numeric" "low" "()D") ∈ lw_all := lw_g (lw_at lw_m10 17 rfl) rfl
theorem q2457 : (Jvm.Cond.declares ({ cls := "ConstraintHouse$Numeric", name := "high", desc := "()D" } : Jvm.MethodName)) ∈ lw_tbl := lw_at lw_m10 37 rfl
theorem q2458 : (Jvm.Cond.sameMethod "ConstraintHouse$Numeric" "ConstraintHouse$Numeric" "high" "()D") ∈ lw_all := lw_g (lw_at lw_m10 38 rfl) rfl
theorem q3174 : (Jvm.Cond.declares ({ cls := "ConstraintHouse$Numeric", name := "keep", desc := "(DD)V" } : Jvm.MethodName)) ∈ lw_tbl := lw_at lw_m13 34 rfl
theorem q3175 : (Jvm.Cond.sameMethod "ConstraintHouse$Numeric" "ConstraintHouse$Numeric" "keep" "(DD)V") ∈ lw_all := lw_g (lw_at lw_m13 35 rfl) rfl
/-! ConstraintHouse$Real -/
set_option maxRecDepth 100000
def RX8 : String := "ConstraintHouse$Real"
def TX8 : u_T := fun k => match k with
  | 0 => ("ConstraintHouse$Variable", "domain", "Ljava/lang/Object;", false)
  | 1 => ("ConstraintHouse$Variable", "number", "I", false)
  | _ => ("ConstraintHouse$Real", "mine", "[D", false)
def tyX8 : Nat → FieldType := fun k => match k with
  | 0 => .object "java/lang/Object"
  | 1 => .int
  | _ => .array .double
abbrev wsX80 : List Cond := u_ws RX8 TX8 3
theorem nmX8 : ∀ a, a < 3 → ∀ b, b < 3 → a ≠ b → (TX8 a).2.1 ≠ (TX8 b).2.1 := by decide +kernel
theorem tyX8_ok : ∀ k, k < 3 → parseFieldDescriptor (TX8 k).2.2.1 = some (tyX8 k) := by decide +kernel
abbrev cX8_init : ByteArray := prog_29_method_1_code
def yX8_init : MethodName := ⟨RX8, "<init>", "()V"⟩
theorem dX8_init_0 : decode cX8_init 0 = .ok (.aload_n 0, 1) := by decide +kernel
theorem dX8_init_1 : decode cX8_init 1 = .ok (.invokespecial 3, 3) := by decide +kernel
theorem dX8_init_4 : decode cX8_init 4 = .ok (.return_, 1) := by decide +kernel
abbrev cX8_set : ByteArray := prog_29_method_5_code
def yX8_set : MethodName := ⟨RX8, "set", "(DD)V"⟩
def dkwX8_set_1 : List UInt8 := [180, 0, 25, 4, 41, 82, 42, 42, 180, 0, 25, 181, 0, 28, 177]
abbrev dktX8_set_1 : List UInt8 := dkwX8_set_1 ++ []
def dkwX8_set_0 : List UInt8 := [42, 180, 0, 25, 199, 0, 10, 42, 5, 188, 7, 181, 0, 25, 42, 180, 0, 25, 3, 39, 82, 42]
abbrev dktX8_set_0 : List UInt8 := dkwX8_set_0 ++ dktX8_set_1
theorem dksX8_set_0 : cX8_set.data.toList.drop 0 = dktX8_set_0 := by decide +kernel
theorem dksX8_set_1 : cX8_set.data.toList.drop 22 = dktX8_set_1 := dk_seg dksX8_set_0 22 rfl rfl
theorem dX8_set_0 : decode cX8_set 0 = .ok (.aload_n 0, 1) := dk_42 (dk_at dksX8_set_0 0 rfl rfl)
theorem dX8_set_1 : decode cX8_set 1 = .ok (.getfield 25, 3) := dk_180 0 25 (dk_at dksX8_set_0 1 rfl rfl)
theorem dX8_set_4 : decode cX8_set 4 = .ok (.ifnonnull 10, 3) := dk_199 0 10 (dk_at dksX8_set_0 4 rfl rfl)
theorem dX8_set_7 : decode cX8_set 7 = .ok (.aload_n 0, 1) := dk_42 (dk_at dksX8_set_0 7 rfl rfl)
theorem dX8_set_8 : decode cX8_set 8 = .ok (.iconst 2, 1) := dk_5 (dk_at dksX8_set_0 8 rfl rfl)
theorem dX8_set_9 : decode cX8_set 9 = .ok (.newarray .double, 2) := dk_188_7 (dk_at dksX8_set_0 9 rfl rfl)
theorem dX8_set_11 : decode cX8_set 11 = .ok (.putfield 25, 3) := dk_181 0 25 (dk_at dksX8_set_0 11 rfl rfl)
theorem dX8_set_14 : decode cX8_set 14 = .ok (.aload_n 0, 1) := dk_42 (dk_at dksX8_set_0 14 rfl rfl)
theorem dX8_set_15 : decode cX8_set 15 = .ok (.getfield 25, 3) := dk_180 0 25 (dk_at dksX8_set_0 15 rfl rfl)
theorem dX8_set_18 : decode cX8_set 18 = .ok (.iconst 0, 1) := dk_3 (dk_at dksX8_set_0 18 rfl rfl)
theorem dX8_set_19 : decode cX8_set 19 = .ok (.dload_n 1, 1) := dk_39 (dk_at dksX8_set_0 19 rfl rfl)
theorem dX8_set_20 : decode cX8_set 20 = .ok (.dastore, 1) := dk_82 (dk_at dksX8_set_0 20 rfl rfl)
theorem dX8_set_21 : decode cX8_set 21 = .ok (.aload_n 0, 1) := dk_42 (dk_at dksX8_set_0 21 rfl rfl)
theorem dX8_set_22 : decode cX8_set 22 = .ok (.getfield 25, 3) := dk_180 0 25 (dk_at dksX8_set_1 0 rfl rfl)
theorem dX8_set_25 : decode cX8_set 25 = .ok (.iconst 1, 1) := dk_4 (dk_at dksX8_set_1 3 rfl rfl)
theorem dX8_set_26 : decode cX8_set 26 = .ok (.dload_n 3, 1) := dk_41 (dk_at dksX8_set_1 4 rfl rfl)
theorem dX8_set_27 : decode cX8_set 27 = .ok (.dastore, 1) := dk_82 (dk_at dksX8_set_1 5 rfl rfl)
theorem dX8_set_28 : decode cX8_set 28 = .ok (.aload_n 0, 1) := dk_42 (dk_at dksX8_set_1 6 rfl rfl)
theorem dX8_set_29 : decode cX8_set 29 = .ok (.aload_n 0, 1) := dk_42 (dk_at dksX8_set_1 7 rfl rfl)
theorem dX8_set_30 : decode cX8_set 30 = .ok (.getfield 25, 3) := dk_180 0 25 (dk_at dksX8_set_1 8 rfl rfl)
theorem dX8_set_33 : decode cX8_set 33 = .ok (.putfield 28, 3) := dk_181 0 28 (dk_at dksX8_set_1 11 rfl rfl)
theorem dX8_set_36 : decode cX8_set 36 = .ok (.return_, 1) := dk_177 (dk_at dksX8_set_1 14 rfl rfl)
abbrev cX8_sort : ByteArray := prog_29_method_2_code
def yX8_sort : MethodName := ⟨RX8, "sort", "()I"⟩
theorem dX8_sort_0 : decode cX8_sort 0 = .ok (.iconst 0, 1) := by decide +kernel
theorem dX8_sort_1 : decode cX8_sort 1 = .ok (.ireturn, 1) := by decide +kernel
abbrev cX8_give : ByteArray := prog_29_method_4_code
def yX8_give : MethodName := ⟨RX8, "give", "(Ljava/lang/Object;LConstraintHouse$Fault;)V"⟩
def dkwX8_give_1 : List UInt8 := [158, 0, 10, 44, 16, 7, 182, 0, 13, 191, 42, 45, 3, 49, 45, 4, 49, 182, 0, 19, 177]
abbrev dktX8_give_1 : List UInt8 := dkwX8_give_1 ++ []
def dkwX8_give_0 : List UInt8 := [43, 192, 0, 9, 78, 167, 0, 11, 58, 4, 44, 6, 182, 0, 13, 191, 45, 3, 49, 45, 4, 49, 151]
abbrev dktX8_give_0 : List UInt8 := dkwX8_give_0 ++ dktX8_give_1
theorem dksX8_give_0 : cX8_give.data.toList.drop 0 = dktX8_give_0 := by decide +kernel
theorem dksX8_give_1 : cX8_give.data.toList.drop 23 = dktX8_give_1 := dk_seg dksX8_give_0 23 rfl rfl
theorem dX8_give_0 : decode cX8_give 0 = .ok (.aload_n 1, 1) := dk_43 (dk_at dksX8_give_0 0 rfl rfl)
theorem dX8_give_1 : decode cX8_give 1 = .ok (.checkcast 9, 3) := dk_192 0 9 (dk_at dksX8_give_0 1 rfl rfl)
theorem dX8_give_4 : decode cX8_give 4 = .ok (.astore_n 3, 1) := dk_78 (dk_at dksX8_give_0 4 rfl rfl)
theorem dX8_give_5 : decode cX8_give 5 = .ok (.goto 11, 3) := dk_167 0 11 (dk_at dksX8_give_0 5 rfl rfl)
theorem dX8_give_8 : decode cX8_give 8 = .ok (.astore 4, 2) := dk_58 4 (dk_at dksX8_give_0 8 rfl rfl)
theorem dX8_give_10 : decode cX8_give 10 = .ok (.aload_n 2, 1) := dk_44 (dk_at dksX8_give_0 10 rfl rfl)
theorem dX8_give_11 : decode cX8_give 11 = .ok (.iconst 3, 1) := dk_6 (dk_at dksX8_give_0 11 rfl rfl)
theorem dX8_give_12 : decode cX8_give 12 = .ok (.invokevirtual 13, 3) := dk_182 0 13 (dk_at dksX8_give_0 12 rfl rfl)
theorem dX8_give_15 : decode cX8_give 15 = .ok (.athrow, 1) := dk_191 (dk_at dksX8_give_0 15 rfl rfl)
theorem dX8_give_16 : decode cX8_give 16 = .ok (.aload_n 3, 1) := dk_45 (dk_at dksX8_give_0 16 rfl rfl)
theorem dX8_give_17 : decode cX8_give 17 = .ok (.iconst 0, 1) := dk_3 (dk_at dksX8_give_0 17 rfl rfl)
theorem dX8_give_18 : decode cX8_give 18 = .ok (.daload, 1) := dk_49 (dk_at dksX8_give_0 18 rfl rfl)
theorem dX8_give_19 : decode cX8_give 19 = .ok (.aload_n 3, 1) := dk_45 (dk_at dksX8_give_0 19 rfl rfl)
theorem dX8_give_20 : decode cX8_give 20 = .ok (.iconst 1, 1) := dk_4 (dk_at dksX8_give_0 20 rfl rfl)
theorem dX8_give_21 : decode cX8_give 21 = .ok (.daload, 1) := dk_49 (dk_at dksX8_give_0 21 rfl rfl)
theorem dX8_give_22 : decode cX8_give 22 = .ok (.dcmp .l, 1) := dk_151 (dk_at dksX8_give_0 22 rfl rfl)
theorem dX8_give_23 : decode cX8_give 23 = .ok (.ifCond .le 10, 3) := dk_158 0 10 (dk_at dksX8_give_1 0 rfl rfl)
theorem dX8_give_26 : decode cX8_give 26 = .ok (.aload_n 2, 1) := dk_44 (dk_at dksX8_give_1 3 rfl rfl)
theorem dX8_give_27 : decode cX8_give 27 = .ok (.bipush 7, 2) := dk_16 7 (dk_at dksX8_give_1 4 rfl rfl)
theorem dX8_give_29 : decode cX8_give 29 = .ok (.invokevirtual 13, 3) := dk_182 0 13 (dk_at dksX8_give_1 6 rfl rfl)
theorem dX8_give_32 : decode cX8_give 32 = .ok (.athrow, 1) := dk_191 (dk_at dksX8_give_1 9 rfl rfl)
theorem dX8_give_33 : decode cX8_give 33 = .ok (.aload_n 0, 1) := dk_42 (dk_at dksX8_give_1 10 rfl rfl)
theorem dX8_give_34 : decode cX8_give 34 = .ok (.aload_n 3, 1) := dk_45 (dk_at dksX8_give_1 11 rfl rfl)
theorem dX8_give_35 : decode cX8_give 35 = .ok (.iconst 0, 1) := dk_3 (dk_at dksX8_give_1 12 rfl rfl)
theorem dX8_give_36 : decode cX8_give 36 = .ok (.daload, 1) := dk_49 (dk_at dksX8_give_1 13 rfl rfl)
theorem dX8_give_37 : decode cX8_give 37 = .ok (.aload_n 3, 1) := dk_45 (dk_at dksX8_give_1 14 rfl rfl)
theorem dX8_give_38 : decode cX8_give 38 = .ok (.iconst 1, 1) := dk_4 (dk_at dksX8_give_1 15 rfl rfl)
theorem dX8_give_39 : decode cX8_give 39 = .ok (.daload, 1) := dk_49 (dk_at dksX8_give_1 16 rfl rfl)
theorem dX8_give_40 : decode cX8_give 40 = .ok (.invokevirtual 19, 3) := dk_182 0 19 (dk_at dksX8_give_1 17 rfl rfl)
theorem dX8_give_43 : decode cX8_give 43 = .ok (.return_, 1) := dk_177 (dk_at dksX8_give_1 20 rfl rfl)
abbrev cX8_things : ByteArray := prog_29_method_9_code
def yX8_things : MethodName := ⟨RX8, "things", "()I"⟩
theorem dX8_things_0 : decode cX8_things 0 = .ok (.iconst 2, 1) := by decide +kernel
theorem dX8_things_1 : decode cX8_things 1 = .ok (.ireturn, 1) := by decide +kernel
abbrev cX8_hasBounds : ByteArray := prog_29_method_3_code
def yX8_hasBounds : MethodName := ⟨RX8, "hasBounds", "()Z"⟩
theorem dX8_hasBounds_0 : decode cX8_hasBounds 0 = .ok (.iconst 1, 1) := by decide +kernel
theorem dX8_hasBounds_1 : decode cX8_hasBounds 1 = .ok (.ireturn, 1) := by decide +kernel
abbrev cX8_low : ByteArray := prog_29_method_6_code
def yX8_low : MethodName := ⟨RX8, "low", "()D"⟩
def dkwX8_low_0 : List UInt8 := [42, 180, 0, 28, 192, 0, 9, 76, 43, 3, 49, 175, 77, 178, 0, 34, 191]
abbrev dktX8_low_0 : List UInt8 := dkwX8_low_0 ++ []
theorem dksX8_low_0 : cX8_low.data.toList.drop 0 = dktX8_low_0 := by decide +kernel
theorem dX8_low_0 : decode cX8_low 0 = .ok (.aload_n 0, 1) := dk_42 (dk_at dksX8_low_0 0 rfl rfl)
theorem dX8_low_1 : decode cX8_low 1 = .ok (.getfield 28, 3) := dk_180 0 28 (dk_at dksX8_low_0 1 rfl rfl)
theorem dX8_low_4 : decode cX8_low 4 = .ok (.checkcast 9, 3) := dk_192 0 9 (dk_at dksX8_low_0 4 rfl rfl)
theorem dX8_low_7 : decode cX8_low 7 = .ok (.astore_n 1, 1) := dk_76 (dk_at dksX8_low_0 7 rfl rfl)
theorem dX8_low_8 : decode cX8_low 8 = .ok (.aload_n 1, 1) := dk_43 (dk_at dksX8_low_0 8 rfl rfl)
theorem dX8_low_9 : decode cX8_low 9 = .ok (.iconst 0, 1) := dk_3 (dk_at dksX8_low_0 9 rfl rfl)
theorem dX8_low_10 : decode cX8_low 10 = .ok (.daload, 1) := dk_49 (dk_at dksX8_low_0 10 rfl rfl)
theorem dX8_low_11 : decode cX8_low 11 = .ok (.dreturn, 1) := dk_175 (dk_at dksX8_low_0 11 rfl rfl)
theorem dX8_low_12 : decode cX8_low 12 = .ok (.astore_n 2, 1) := dk_77 (dk_at dksX8_low_0 12 rfl rfl)
theorem dX8_low_13 : decode cX8_low 13 = .ok (.getstatic 34, 3) := dk_178 0 34 (dk_at dksX8_low_0 13 rfl rfl)
theorem dX8_low_16 : decode cX8_low 16 = .ok (.athrow, 1) := dk_191 (dk_at dksX8_low_0 16 rfl rfl)
abbrev cX8_high : ByteArray := prog_29_method_7_code
def yX8_high : MethodName := ⟨RX8, "high", "()D"⟩
def dkwX8_high_0 : List UInt8 := [42, 180, 0, 25, 4, 49, 175]
abbrev dktX8_high_0 : List UInt8 := dkwX8_high_0 ++ []
theorem dksX8_high_0 : cX8_high.data.toList.drop 0 = dktX8_high_0 := by decide +kernel
theorem dX8_high_0 : decode cX8_high 0 = .ok (.aload_n 0, 1) := dk_42 (dk_at dksX8_high_0 0 rfl rfl)
theorem dX8_high_1 : decode cX8_high 1 = .ok (.getfield 25, 3) := dk_180 0 25 (dk_at dksX8_high_0 1 rfl rfl)
theorem dX8_high_4 : decode cX8_high 4 = .ok (.iconst 1, 1) := dk_4 (dk_at dksX8_high_0 4 rfl rfl)
theorem dX8_high_5 : decode cX8_high 5 = .ok (.daload, 1) := dk_49 (dk_at dksX8_high_0 5 rfl rfl)
theorem dX8_high_6 : decode cX8_high 6 = .ok (.dreturn, 1) := dk_175 (dk_at dksX8_high_0 6 rfl rfl)
abbrev cX8_keep : ByteArray := prog_29_method_8_code
def yX8_keep : MethodName := ⟨RX8, "keep", "(DD)V"⟩
def dkwX8_keep_2 : List UInt8 := [4, 24, 7, 82, 177]
abbrev dktX8_keep_2 : List UInt8 := dkwX8_keep_2 ++ []
def dkwX8_keep_1 : List UInt8 := [24, 5, 24, 7, 152, 158, 0, 7, 178, 0, 47, 191, 42, 180, 0, 25, 3, 24, 5, 82, 42, 180, 0, 25]
abbrev dktX8_keep_1 : List UInt8 := dkwX8_keep_1 ++ dktX8_keep_2
def dkwX8_keep_0 : List UInt8 := [42, 180, 0, 25, 3, 49, 39, 184, 0, 38, 57, 5, 42, 180, 0, 25, 4, 49, 41, 184, 0, 44, 57, 7]
abbrev dktX8_keep_0 : List UInt8 := dkwX8_keep_0 ++ dktX8_keep_1
theorem dksX8_keep_0 : cX8_keep.data.toList.drop 0 = dktX8_keep_0 := by decide +kernel
theorem dksX8_keep_1 : cX8_keep.data.toList.drop 24 = dktX8_keep_1 := dk_seg dksX8_keep_0 24 rfl rfl
theorem dksX8_keep_2 : cX8_keep.data.toList.drop 48 = dktX8_keep_2 := dk_seg dksX8_keep_1 24 rfl rfl
theorem dX8_keep_0 : decode cX8_keep 0 = .ok (.aload_n 0, 1) := dk_42 (dk_at dksX8_keep_0 0 rfl rfl)
theorem dX8_keep_1 : decode cX8_keep 1 = .ok (.getfield 25, 3) := dk_180 0 25 (dk_at dksX8_keep_0 1 rfl rfl)
theorem dX8_keep_4 : decode cX8_keep 4 = .ok (.iconst 0, 1) := dk_3 (dk_at dksX8_keep_0 4 rfl rfl)
theorem dX8_keep_5 : decode cX8_keep 5 = .ok (.daload, 1) := dk_49 (dk_at dksX8_keep_0 5 rfl rfl)
theorem dX8_keep_6 : decode cX8_keep 6 = .ok (.dload_n 1, 1) := dk_39 (dk_at dksX8_keep_0 6 rfl rfl)
theorem dX8_keep_7 : decode cX8_keep 7 = .ok (.invokestatic 38, 3) := dk_184 0 38 (dk_at dksX8_keep_0 7 rfl rfl)
theorem dX8_keep_10 : decode cX8_keep 10 = .ok (.dstore 5, 2) := dk_57 5 (dk_at dksX8_keep_0 10 rfl rfl)
theorem dX8_keep_12 : decode cX8_keep 12 = .ok (.aload_n 0, 1) := dk_42 (dk_at dksX8_keep_0 12 rfl rfl)
theorem dX8_keep_13 : decode cX8_keep 13 = .ok (.getfield 25, 3) := dk_180 0 25 (dk_at dksX8_keep_0 13 rfl rfl)
theorem dX8_keep_16 : decode cX8_keep 16 = .ok (.iconst 1, 1) := dk_4 (dk_at dksX8_keep_0 16 rfl rfl)
theorem dX8_keep_17 : decode cX8_keep 17 = .ok (.daload, 1) := dk_49 (dk_at dksX8_keep_0 17 rfl rfl)
theorem dX8_keep_18 : decode cX8_keep 18 = .ok (.dload_n 3, 1) := dk_41 (dk_at dksX8_keep_0 18 rfl rfl)
theorem dX8_keep_19 : decode cX8_keep 19 = .ok (.invokestatic 44, 3) := dk_184 0 44 (dk_at dksX8_keep_0 19 rfl rfl)
theorem dX8_keep_22 : decode cX8_keep 22 = .ok (.dstore 7, 2) := dk_57 7 (dk_at dksX8_keep_0 22 rfl rfl)
theorem dX8_keep_24 : decode cX8_keep 24 = .ok (.dload 5, 2) := dk_24 5 (dk_at dksX8_keep_1 0 rfl rfl)
theorem dX8_keep_26 : decode cX8_keep 26 = .ok (.dload 7, 2) := dk_24 7 (dk_at dksX8_keep_1 2 rfl rfl)
theorem dX8_keep_28 : decode cX8_keep 28 = .ok (.dcmp .g, 1) := dk_152 (dk_at dksX8_keep_1 4 rfl rfl)
theorem dX8_keep_29 : decode cX8_keep 29 = .ok (.ifCond .le 7, 3) := dk_158 0 7 (dk_at dksX8_keep_1 5 rfl rfl)
theorem dX8_keep_32 : decode cX8_keep 32 = .ok (.getstatic 47, 3) := dk_178 0 47 (dk_at dksX8_keep_1 8 rfl rfl)
theorem dX8_keep_35 : decode cX8_keep 35 = .ok (.athrow, 1) := dk_191 (dk_at dksX8_keep_1 11 rfl rfl)
theorem dX8_keep_36 : decode cX8_keep 36 = .ok (.aload_n 0, 1) := dk_42 (dk_at dksX8_keep_1 12 rfl rfl)
theorem dX8_keep_37 : decode cX8_keep 37 = .ok (.getfield 25, 3) := dk_180 0 25 (dk_at dksX8_keep_1 13 rfl rfl)
theorem dX8_keep_40 : decode cX8_keep 40 = .ok (.iconst 0, 1) := dk_3 (dk_at dksX8_keep_1 16 rfl rfl)
theorem dX8_keep_41 : decode cX8_keep 41 = .ok (.dload 5, 2) := dk_24 5 (dk_at dksX8_keep_1 17 rfl rfl)
theorem dX8_keep_43 : decode cX8_keep 43 = .ok (.dastore, 1) := dk_82 (dk_at dksX8_keep_1 19 rfl rfl)
theorem dX8_keep_44 : decode cX8_keep 44 = .ok (.aload_n 0, 1) := dk_42 (dk_at dksX8_keep_1 20 rfl rfl)
theorem dX8_keep_45 : decode cX8_keep 45 = .ok (.getfield 25, 3) := dk_180 0 25 (dk_at dksX8_keep_1 21 rfl rfl)
theorem dX8_keep_48 : decode cX8_keep 48 = .ok (.iconst 1, 1) := dk_4 (dk_at dksX8_keep_2 0 rfl rfl)
theorem dX8_keep_49 : decode cX8_keep 49 = .ok (.dload 7, 2) := dk_24 7 (dk_at dksX8_keep_2 1 rfl rfl)
theorem dX8_keep_51 : decode cX8_keep 51 = .ok (.dastore, 1) := dk_82 (dk_at dksX8_keep_2 3 rfl rfl)
theorem dX8_keep_52 : decode cX8_keep 52 = .ok (.return_, 1) := dk_177 (dk_at dksX8_keep_2 4 rfl rfl)
abbrev cX8_thing : ByteArray := prog_29_method_11_code
def yX8_thing : MethodName := ⟨RX8, "thing", "(I)J"⟩
def dkwX8_thing_1 : List UInt8 := [187, 0, 61, 89, 183, 0, 63, 191, 41, 184, 0, 64, 173]
abbrev dktX8_thing_1 : List UInt8 := dkwX8_thing_1 ++ []
def dkwX8_thing_0 : List UInt8 := [42, 180, 0, 28, 192, 0, 9, 77, 44, 27, 49, 74, 167, 0, 19, 58, 5, 184, 0, 55, 191, 58, 5]
abbrev dktX8_thing_0 : List UInt8 := dkwX8_thing_0 ++ dktX8_thing_1
theorem dksX8_thing_0 : cX8_thing.data.toList.drop 0 = dktX8_thing_0 := by decide +kernel
theorem dksX8_thing_1 : cX8_thing.data.toList.drop 23 = dktX8_thing_1 := dk_seg dksX8_thing_0 23 rfl rfl
theorem dX8_thing_0 : decode cX8_thing 0 = .ok (.aload_n 0, 1) := dk_42 (dk_at dksX8_thing_0 0 rfl rfl)
theorem dX8_thing_1 : decode cX8_thing 1 = .ok (.getfield 28, 3) := dk_180 0 28 (dk_at dksX8_thing_0 1 rfl rfl)
theorem dX8_thing_4 : decode cX8_thing 4 = .ok (.checkcast 9, 3) := dk_192 0 9 (dk_at dksX8_thing_0 4 rfl rfl)
theorem dX8_thing_7 : decode cX8_thing 7 = .ok (.astore_n 2, 1) := dk_77 (dk_at dksX8_thing_0 7 rfl rfl)
theorem dX8_thing_8 : decode cX8_thing 8 = .ok (.aload_n 2, 1) := dk_44 (dk_at dksX8_thing_0 8 rfl rfl)
theorem dX8_thing_9 : decode cX8_thing 9 = .ok (.iload_n 1, 1) := dk_27 (dk_at dksX8_thing_0 9 rfl rfl)
theorem dX8_thing_10 : decode cX8_thing 10 = .ok (.daload, 1) := dk_49 (dk_at dksX8_thing_0 10 rfl rfl)
theorem dX8_thing_11 : decode cX8_thing 11 = .ok (.dstore_n 3, 1) := dk_74 (dk_at dksX8_thing_0 11 rfl rfl)
theorem dX8_thing_12 : decode cX8_thing 12 = .ok (.goto 19, 3) := dk_167 0 19 (dk_at dksX8_thing_0 12 rfl rfl)
theorem dX8_thing_15 : decode cX8_thing 15 = .ok (.astore 5, 2) := dk_58 5 (dk_at dksX8_thing_0 15 rfl rfl)
theorem dX8_thing_17 : decode cX8_thing 17 = .ok (.invokestatic 55, 3) := dk_184 0 55 (dk_at dksX8_thing_0 17 rfl rfl)
theorem dX8_thing_20 : decode cX8_thing 20 = .ok (.athrow, 1) := dk_191 (dk_at dksX8_thing_0 20 rfl rfl)
theorem dX8_thing_21 : decode cX8_thing 21 = .ok (.astore 5, 2) := dk_58 5 (dk_at dksX8_thing_0 21 rfl rfl)
theorem dX8_thing_23 : decode cX8_thing 23 = .ok (.new 61, 3) := dk_187 0 61 (dk_at dksX8_thing_1 0 rfl rfl)
theorem dX8_thing_26 : decode cX8_thing 26 = .ok (.dup, 1) := dk_89 (dk_at dksX8_thing_1 3 rfl rfl)
theorem dX8_thing_27 : decode cX8_thing 27 = .ok (.invokespecial 63, 3) := dk_183 0 63 (dk_at dksX8_thing_1 4 rfl rfl)
theorem dX8_thing_30 : decode cX8_thing 30 = .ok (.athrow, 1) := dk_191 (dk_at dksX8_thing_1 7 rfl rfl)
theorem dX8_thing_31 : decode cX8_thing 31 = .ok (.dload_n 3, 1) := dk_41 (dk_at dksX8_thing_1 8 rfl rfl)
theorem dX8_thing_32 : decode cX8_thing 32 = .ok (.invokestatic 64, 3) := dk_184 0 64 (dk_at dksX8_thing_1 9 rfl rfl)
theorem dX8_thing_35 : decode cX8_thing 35 = .ok (.lreturn, 1) := dk_173 (dk_at dksX8_thing_1 12 rfl rfl)
abbrev cX8_isFixed : ByteArray := prog_29_method_10_code
def yX8_isFixed : MethodName := ⟨RX8, "isFixed", "(D)Z"⟩
def dkwX8_isFixed_1 : List UInt8 := [184, 0, 51, 42, 180, 0, 25, 4, 49, 152, 155, 0, 7, 4, 167, 0, 4, 3, 172]
abbrev dktX8_isFixed_1 : List UInt8 := dkwX8_isFixed_1 ++ []
def dkwX8_isFixed_0 : List UInt8 := [42, 180, 0, 25, 4, 49, 42, 180, 0, 25, 3, 49, 103, 39, 151, 158, 0, 22, 42, 180, 0, 25, 3, 49]
abbrev dktX8_isFixed_0 : List UInt8 := dkwX8_isFixed_0 ++ dktX8_isFixed_1
theorem dksX8_isFixed_0 : cX8_isFixed.data.toList.drop 0 = dktX8_isFixed_0 := by decide +kernel
theorem dksX8_isFixed_1 : cX8_isFixed.data.toList.drop 24 = dktX8_isFixed_1 := dk_seg dksX8_isFixed_0 24 rfl rfl
theorem dX8_isFixed_0 : decode cX8_isFixed 0 = .ok (.aload_n 0, 1) := dk_42 (dk_at dksX8_isFixed_0 0 rfl rfl)
theorem dX8_isFixed_1 : decode cX8_isFixed 1 = .ok (.getfield 25, 3) := dk_180 0 25 (dk_at dksX8_isFixed_0 1 rfl rfl)
theorem dX8_isFixed_4 : decode cX8_isFixed 4 = .ok (.iconst 1, 1) := dk_4 (dk_at dksX8_isFixed_0 4 rfl rfl)
theorem dX8_isFixed_5 : decode cX8_isFixed 5 = .ok (.daload, 1) := dk_49 (dk_at dksX8_isFixed_0 5 rfl rfl)
theorem dX8_isFixed_6 : decode cX8_isFixed 6 = .ok (.aload_n 0, 1) := dk_42 (dk_at dksX8_isFixed_0 6 rfl rfl)
theorem dX8_isFixed_7 : decode cX8_isFixed 7 = .ok (.getfield 25, 3) := dk_180 0 25 (dk_at dksX8_isFixed_0 7 rfl rfl)
theorem dX8_isFixed_10 : decode cX8_isFixed 10 = .ok (.iconst 0, 1) := dk_3 (dk_at dksX8_isFixed_0 10 rfl rfl)
theorem dX8_isFixed_11 : decode cX8_isFixed 11 = .ok (.daload, 1) := dk_49 (dk_at dksX8_isFixed_0 11 rfl rfl)
theorem dX8_isFixed_12 : decode cX8_isFixed 12 = .ok (.dsub, 1) := dk_103 (dk_at dksX8_isFixed_0 12 rfl rfl)
theorem dX8_isFixed_13 : decode cX8_isFixed 13 = .ok (.dload_n 1, 1) := dk_39 (dk_at dksX8_isFixed_0 13 rfl rfl)
theorem dX8_isFixed_14 : decode cX8_isFixed 14 = .ok (.dcmp .l, 1) := dk_151 (dk_at dksX8_isFixed_0 14 rfl rfl)
theorem dX8_isFixed_15 : decode cX8_isFixed 15 = .ok (.ifCond .le 22, 3) := dk_158 0 22 (dk_at dksX8_isFixed_0 15 rfl rfl)
theorem dX8_isFixed_18 : decode cX8_isFixed 18 = .ok (.aload_n 0, 1) := dk_42 (dk_at dksX8_isFixed_0 18 rfl rfl)
theorem dX8_isFixed_19 : decode cX8_isFixed 19 = .ok (.getfield 25, 3) := dk_180 0 25 (dk_at dksX8_isFixed_0 19 rfl rfl)
theorem dX8_isFixed_22 : decode cX8_isFixed 22 = .ok (.iconst 0, 1) := dk_3 (dk_at dksX8_isFixed_0 22 rfl rfl)
theorem dX8_isFixed_23 : decode cX8_isFixed 23 = .ok (.daload, 1) := dk_49 (dk_at dksX8_isFixed_0 23 rfl rfl)
theorem dX8_isFixed_24 : decode cX8_isFixed 24 = .ok (.invokestatic 51, 3) := dk_184 0 51 (dk_at dksX8_isFixed_1 0 rfl rfl)
theorem dX8_isFixed_27 : decode cX8_isFixed 27 = .ok (.aload_n 0, 1) := dk_42 (dk_at dksX8_isFixed_1 3 rfl rfl)
theorem dX8_isFixed_28 : decode cX8_isFixed 28 = .ok (.getfield 25, 3) := dk_180 0 25 (dk_at dksX8_isFixed_1 4 rfl rfl)
theorem dX8_isFixed_31 : decode cX8_isFixed 31 = .ok (.iconst 1, 1) := dk_4 (dk_at dksX8_isFixed_1 7 rfl rfl)
theorem dX8_isFixed_32 : decode cX8_isFixed 32 = .ok (.daload, 1) := dk_49 (dk_at dksX8_isFixed_1 8 rfl rfl)
theorem dX8_isFixed_33 : decode cX8_isFixed 33 = .ok (.dcmp .g, 1) := dk_152 (dk_at dksX8_isFixed_1 9 rfl rfl)
theorem dX8_isFixed_34 : decode cX8_isFixed 34 = .ok (.ifCond .lt 7, 3) := dk_155 0 7 (dk_at dksX8_isFixed_1 10 rfl rfl)
theorem dX8_isFixed_37 : decode cX8_isFixed 37 = .ok (.iconst 1, 1) := dk_4 (dk_at dksX8_isFixed_1 13 rfl rfl)
theorem dX8_isFixed_38 : decode cX8_isFixed 38 = .ok (.goto 4, 3) := dk_167 0 4 (dk_at dksX8_isFixed_1 14 rfl rfl)
theorem dX8_isFixed_41 : decode cX8_isFixed 41 = .ok (.iconst 0, 1) := dk_3 (dk_at dksX8_isFixed_1 17 rfl rfl)
theorem dX8_isFixed_42 : decode cX8_isFixed 42 = .ok (.ireturn, 1) := dk_172 (dk_at dksX8_isFixed_1 18 rfl rfl)
theorem q271 : (Jvm.Cond.initialized "ConstraintHouse$Real") ∈ lw_all := lw_g (lw_at lw_m1 11 rfl) rfl
theorem q688 : (Jvm.Cond.instantiable "ConstraintHouse$Real" (3 : Nat)) ∈ lw_all := lw_g (lw_at lw_m2 188 rfl) rfl
theorem q690 : (Jvm.Cond.instanceMethod ({ cls := "ConstraintHouse$Real", name := "<init>", desc := "()V" } : Jvm.MethodName)) ∈ lw_all := lw_g (lw_at lw_m2 190 rfl) rfl
theorem q691 : (Jvm.Cond.code ({ cls := "ConstraintHouse$Real", name := "<init>", desc := "()V" } : Jvm.MethodName) prog_29_method_1_code (1 : Nat) (Option.none : Option Jvm.ClassFile.FieldType)) ∈ lw_all := lw_g (lw_at lw_m2 191 rfl) rfl
theorem q692 : (Jvm.Cond.methodLinkNest "ConstraintHouse$Real" (3 : Nat) ({ cls := "ConstraintHouse$Numeric", name := "<init>", desc := "()V" } : Jvm.MethodName) "ConstraintHouse") ∈ lw_tbl := lw_at lw_m2 192 rfl
theorem q699 : (Jvm.Cond.fieldLink "ConstraintHouse$Real" (25 : Nat) "ConstraintHouse$Real" "mine" "[D") ∈ lw_all := lw_g (lw_at lw_m2 199 rfl) rfl
theorem q707 : (Jvm.Cond.fieldLink "ConstraintHouse$Real" (28 : Nat) "ConstraintHouse$Real" "domain" "Ljava/lang/Object;") ∈ lw_all := lw_g (lw_at lw_m2 207 rfl) rfl
theorem q708 : (Jvm.Cond.sameField "ConstraintHouse$Real" "ConstraintHouse$Variable" "domain" "Ljava/lang/Object;") ∈ lw_all := lw_g (lw_at lw_m2 208 rfl) rfl
theorem q715 : (Jvm.Cond.lays "ConstraintHouse$Real" "ConstraintHouse$Real" "mine" "[D") ∈ lw_all := lw_g (lw_at lw_m2 215 rfl) rfl
theorem q716 : (Jvm.Cond.soleField "ConstraintHouse$Real" "mine") ∈ lw_all := lw_g (lw_at lw_m2 216 rfl) rfl
theorem q717 : (Jvm.Cond.lays "ConstraintHouse$Real" "ConstraintHouse$Variable" "domain" "Ljava/lang/Object;") ∈ lw_all := lw_g (lw_at lw_m2 217 rfl) rfl
theorem q719 : (Jvm.Cond.lays "ConstraintHouse$Real" "ConstraintHouse$Variable" "number" "I") ∈ lw_all := lw_g (lw_at lw_m2 219 rfl) rfl
theorem q721 : (Jvm.Cond.superclass "ConstraintHouse$Real" "ConstraintHouse$Numeric") ∈ lw_all := lw_g (lw_at lw_m2 221 rfl) rfl
theorem q905 : (Jvm.Cond.instanceMethod ({ cls := "ConstraintHouse$Real", name := "set", desc := "(DD)V" } : Jvm.MethodName)) ∈ lw_all := lw_g (lw_at lw_m3 165 rfl) rfl
theorem q906 : (Jvm.Cond.selects "ConstraintHouse$Real" ({ cls := "ConstraintHouse$Real", name := "set", desc := "(DD)V" } : Jvm.MethodName) ({ cls := "ConstraintHouse$Real", name := "set", desc := "(DD)V" } : Jvm.MethodName)) ∈ lw_all := lw_g (lw_at lw_m3 166 rfl) rfl
theorem q907 : (Jvm.Cond.code ({ cls := "ConstraintHouse$Real", name := "set", desc := "(DD)V" } : Jvm.MethodName) prog_29_method_5_code (5 : Nat) (Option.none : Option Jvm.ClassFile.FieldType)) ∈ lw_all := lw_g (lw_at lw_m3 167 rfl) rfl
theorem q1553 : (Jvm.Cond.selects "ConstraintHouse$Real" ({ cls := "ConstraintHouse$Variable", name := "sort", desc := "()I" } : Jvm.MethodName) ({ cls := "ConstraintHouse$Real", name := "sort", desc := "()I" } : Jvm.MethodName)) ∈ lw_all := lw_g (lw_at lw_m6 93 rfl) rfl
theorem q1554 : (Jvm.Cond.instanceMethod ({ cls := "ConstraintHouse$Real", name := "sort", desc := "()I" } : Jvm.MethodName)) ∈ lw_all := lw_g (lw_at lw_m6 94 rfl) rfl
theorem q1555 : (Jvm.Cond.code ({ cls := "ConstraintHouse$Real", name := "sort", desc := "()I" } : Jvm.MethodName) prog_29_method_2_code (1 : Nat) (Option.some Jvm.ClassFile.FieldType.int)) ∈ lw_all := lw_g (lw_at lw_m6 95 rfl) rfl
theorem q2165 : (Jvm.Cond.selects "ConstraintHouse$Real" ({ cls := "ConstraintHouse$Variable", name := "give", desc := "(Ljava/lang/Object;LConstraintHouse$Fault;)V" } : Jvm.MethodName) ({ cls := "ConstraintHouse$Real", name := "give", desc := "(Ljava/lang/Object;LConstraintHouse$Fault;)V" } : Jvm.MethodName)) ∈ lw_all := lw_g (lw_at lw_m8 225 rfl) rfl
theorem q2166 : (Jvm.Cond.instanceMethod ({ cls := "ConstraintHouse$Real", name := "give", desc := "(Ljava/lang/Object;LConstraintHouse$Fault;)V" } : Jvm.MethodName)) ∈ lw_all := lw_g (lw_at lw_m8 226 rfl) rfl
theorem q2167 : (Jvm.Cond.codeWith ({ cls := "ConstraintHouse$Real", name := "give", desc := "(Ljava/lang/Object;LConstraintHouse$Fault;)V" } : Jvm.MethodName) prog_29_method_4_code (5 : Nat) (Option.none : Option Jvm.ClassFile.FieldType) [((0 : Nat), (5 : Nat), (8 : Nat), (11 : Nat))]) ∈ lw_all := lw_g (lw_at lw_m8 227 rfl) rfl
theorem q2168 : (Jvm.Cond.classLink "ConstraintHouse$Real" (11 : Nat) "java/lang/ClassCastException") ∈ lw_all := lw_g (lw_at lw_m8 228 rfl) rfl
theorem q2169 : (Jvm.Cond.classLink "ConstraintHouse$Real" (9 : Nat) "[D") ∈ lw_all := lw_g (lw_at lw_m8 229 rfl) rfl
theorem q2170 : (Jvm.Cond.methodLink "ConstraintHouse$Real" (13 : Nat) ({ cls := "ConstraintHouse$Fault", name := "of", desc := "(I)LConstraintHouse$Fault;" } : Jvm.MethodName)) ∈ lw_all := lw_g (lw_at lw_m8 230 rfl) rfl
theorem q2171 : (Jvm.Cond.methodLink "ConstraintHouse$Real" (19 : Nat) ({ cls := "ConstraintHouse$Real", name := "set", desc := "(DD)V" } : Jvm.MethodName)) ∈ lw_all := lw_g (lw_at lw_m8 231 rfl) rfl
theorem q2394 : (Jvm.Cond.selects "ConstraintHouse$Real" ({ cls := "ConstraintHouse$Splits", name := "things", desc := "()I" } : Jvm.MethodName) ({ cls := "ConstraintHouse$Real", name := "things", desc := "()I" } : Jvm.MethodName)) ∈ lw_all := lw_g (lw_at lw_m9 214 rfl) rfl
theorem q2395 : (Jvm.Cond.instanceMethod ({ cls := "ConstraintHouse$Real", name := "things", desc := "()I" } : Jvm.MethodName)) ∈ lw_all := lw_g (lw_at lw_m9 215 rfl) rfl
theorem q2396 : (Jvm.Cond.code ({ cls := "ConstraintHouse$Real", name := "things", desc := "()I" } : Jvm.MethodName) prog_29_method_9_code (1 : Nat) (Option.some Jvm.ClassFile.FieldType.int)) ∈ lw_all := lw_g (lw_at lw_m9 216 rfl) rfl
theorem q2418 : (Jvm.Cond.castable "ConstraintHouse$Real" "ConstraintHouse$Splits") ∈ lw_tbl := lw_at lw_m9 238 rfl
theorem q2419 : (Jvm.Cond.selects "ConstraintHouse$Real" ({ cls := "ConstraintHouse$Splits", name := "hasBounds", desc := "()Z" } : Jvm.MethodName) ({ cls := "ConstraintHouse$Real", name := "hasBounds", desc := "()Z" } : Jvm.MethodName)) ∈ lw_all := lw_g (lw_at lw_m9 239 rfl) rfl
theorem q2420 : (Jvm.Cond.unhidden "ConstraintHouse$Real" "hasBounds" "()Z") ∈ lw_tbl := lw_at lw_m10 0 rfl
theorem q2421 : (Jvm.Cond.instanceMethod ({ cls := "ConstraintHouse$Real", name := "hasBounds", desc := "()Z" } : Jvm.MethodName)) ∈ lw_all := lw_g (lw_at lw_m10 1 rfl) rfl
theorem q2422 : (Jvm.Cond.publicMethod ({ cls := "ConstraintHouse$Real", name := "hasBounds", desc := "()Z" } : Jvm.MethodName)) ∈ lw_tbl := lw_at lw_m10 2 rfl
theorem q2423 : (Jvm.Cond.code ({ cls := "ConstraintHouse$Real", name := "hasBounds", desc := "()Z" } : Jvm.MethodName) prog_29_method_3_code (1 : Nat) (Option.some Jvm.ClassFile.FieldType.boolean)) ∈ lw_all := lw_g (lw_at lw_m10 3 rfl) rfl
theorem q2438 : (Jvm.Cond.selects "ConstraintHouse$Real" ({ cls := "ConstraintHouse$Numeric", name := "low", desc := "()D" } : Jvm.MethodName) ({ cls := "ConstraintHouse$Real", name := "low", desc := "()D" } : Jvm.MethodName)) ∈ lw_all := lw_g (lw_at lw_m10 18 rfl) rfl
theorem q2439 : (Jvm.Cond.instanceMethod ({ cls := "ConstraintHouse$Real", name := "low", desc := "()D" } : Jvm.MethodName)) ∈ lw_all := lw_g (lw_at lw_m10 19 rfl) rfl
theorem q2440 : (Jvm.Cond.codeWith ({ cls := "ConstraintHouse$Real", name := "low", desc := "()D" } : Jvm.MethodName) prog_29_method_6_code (3 : Nat) (Option.some Jvm.ClassFile.FieldType.double) [((8 : Nat), (11 : Nat), (12 : Nat), (32 : Nat))]) ∈ lw_all := lw_g (lw_at lw_m10 20 rfl) rfl
theorem q2441 : (Jvm.Cond.classLink "ConstraintHouse$Real" (32 : Nat) "java/lang/NullPointerException") ∈ lw_all := lw_g (lw_at lw_m10 21 rfl) rfl
theorem q2442 : (Jvm.Cond.fieldLinkNest "ConstraintHouse$Real" (34 : Nat) "ConstraintHouse" "ABSENT" "LConstraintHouse$Absent;" "ConstraintHouse") ∈ lw_tbl := lw_at lw_m10 22 rfl
theorem q2459 : (Jvm.Cond.selects "ConstraintHouse$Real" ({ cls := "ConstraintHouse$Numeric", name := "high", desc := "()D" } : Jvm.MethodName) ({ cls := "ConstraintHouse$Real", name := "high", desc := "()D" } : Jvm.MethodName)) ∈ lw_all := lw_g (lw_at lw_m10 39 rfl) rfl
theorem q2460 : (Jvm.Cond.instanceMethod ({ cls := "ConstraintHouse$Real", name := "high", desc := "()D" } : Jvm.MethodName)) ∈ lw_all := lw_g (lw_at lw_m10 40 rfl) rfl
theorem q2461 : (Jvm.Cond.code ({ cls := "ConstraintHouse$Real", name := "high", desc := "()D" } : Jvm.MethodName) prog_29_method_7_code (1 : Nat) (Option.some Jvm.ClassFile.FieldType.double)) ∈ lw_all := lw_g (lw_at lw_m10 41 rfl) rfl
theorem q3176 : (Jvm.Cond.selects "ConstraintHouse$Real" ({ cls := "ConstraintHouse$Numeric", name := "keep", desc := "(DD)V" } : Jvm.MethodName) ({ cls := "ConstraintHouse$Real", name := "keep", desc := "(DD)V" } : Jvm.MethodName)) ∈ lw_all := lw_g (lw_at lw_m13 36 rfl) rfl
theorem q3177 : (Jvm.Cond.instanceMethod ({ cls := "ConstraintHouse$Real", name := "keep", desc := "(DD)V" } : Jvm.MethodName)) ∈ lw_all := lw_g (lw_at lw_m13 37 rfl) rfl
theorem q3178 : (Jvm.Cond.code ({ cls := "ConstraintHouse$Real", name := "keep", desc := "(DD)V" } : Jvm.MethodName) prog_29_method_8_code (9 : Nat) (Option.none : Option Jvm.ClassFile.FieldType)) ∈ lw_all := lw_g (lw_at lw_m13 38 rfl) rfl
theorem q3179 : (Jvm.Cond.methodLink "ConstraintHouse$Real" (38 : Nat) ({ cls := "java/lang/Math", name := "max", desc := "(DD)D" } : Jvm.MethodName)) ∈ lw_all := lw_g (lw_at lw_m13 39 rfl) rfl
theorem q3180 : (Jvm.Cond.methodLink "ConstraintHouse$Real" (44 : Nat) ({ cls := "java/lang/Math", name := "min", desc := "(DD)D" } : Jvm.MethodName)) ∈ lw_all := lw_g (lw_at lw_m13 40 rfl) rfl
theorem q3181 : (Jvm.Cond.fieldLinkNest "ConstraintHouse$Real" (47 : Nat) "ConstraintHouse" "NOTHING" "LConstraintHouse$Nothing;" "ConstraintHouse") ∈ lw_tbl := lw_at lw_m13 41 rfl
theorem q3338 : (Jvm.Cond.selects "ConstraintHouse$Real" ({ cls := "ConstraintHouse$Variable", name := "thing", desc := "(I)J" } : Jvm.MethodName) ({ cls := "ConstraintHouse$Real", name := "thing", desc := "(I)J" } : Jvm.MethodName)) ∈ lw_all := lw_g (lw_at lw_m13 198 rfl) rfl
theorem q3339 : (Jvm.Cond.instanceMethod ({ cls := "ConstraintHouse$Real", name := "thing", desc := "(I)J" } : Jvm.MethodName)) ∈ lw_all := lw_g (lw_at lw_m13 199 rfl) rfl
theorem q3340 : (Jvm.Cond.codeWith ({ cls := "ConstraintHouse$Real", name := "thing", desc := "(I)J" } : Jvm.MethodName) prog_29_method_11_code (6 : Nat) (Option.some Jvm.ClassFile.FieldType.long) [((8 : Nat), (12 : Nat), (15 : Nat), (32 : Nat)), ((8 : Nat), (12 : Nat), (21 : Nat), (59 : Nat))]) ∈ lw_all := lw_g (lw_at lw_m13 200 rfl) rfl
theorem q3341 : (Jvm.Cond.classLink "ConstraintHouse$Real" (59 : Nat) "java/lang/ArrayIndexOutOfBoundsException") ∈ lw_all := lw_g (lw_at lw_m13 201 rfl) rfl
theorem q3342 : (Jvm.Cond.methodLink "ConstraintHouse$Real" (55 : Nat) ({ cls := "ConstraintHouse$Real", name := "without", desc := "()Ljava/lang/IllegalStateException;" } : Jvm.MethodName)) ∈ lw_all := lw_g (lw_at lw_m13 202 rfl) rfl
theorem q3343 : (Jvm.Cond.sameMethod "ConstraintHouse$Real" "ConstraintHouse$Variable" "without" "()Ljava/lang/IllegalStateException;") ∈ lw_all := lw_g (lw_at lw_m13 203 rfl) rfl
theorem q3344 : (Jvm.Cond.classLink "ConstraintHouse$Real" (61 : Nat) "java/lang/IndexOutOfBoundsException") ∈ lw_all := lw_g (lw_at lw_m13 204 rfl) rfl
theorem q3345 : (Jvm.Cond.methodLink "ConstraintHouse$Real" (63 : Nat) ({ cls := "java/lang/IndexOutOfBoundsException", name := "<init>", desc := "()V" } : Jvm.MethodName)) ∈ lw_all := lw_g (lw_at lw_m13 205 rfl) rfl
theorem q3346 : (Jvm.Cond.methodLink "ConstraintHouse$Real" (64 : Nat) ({ cls := "java/lang/Double", name := "doubleToLongBits", desc := "(D)J" } : Jvm.MethodName)) ∈ lw_all := lw_g (lw_at lw_m13 206 rfl) rfl
theorem q3404 : (Jvm.Cond.selects "ConstraintHouse$Real" ({ cls := "ConstraintHouse$Splits", name := "isFixed", desc := "(D)Z" } : Jvm.MethodName) ({ cls := "ConstraintHouse$Real", name := "isFixed", desc := "(D)Z" } : Jvm.MethodName)) ∈ lw_all := lw_g (lw_at lw_m14 24 rfl) rfl
theorem q3405 : (Jvm.Cond.instanceMethod ({ cls := "ConstraintHouse$Real", name := "isFixed", desc := "(D)Z" } : Jvm.MethodName)) ∈ lw_all := lw_g (lw_at lw_m14 25 rfl) rfl
theorem q3406 : (Jvm.Cond.code ({ cls := "ConstraintHouse$Real", name := "isFixed", desc := "(D)Z" } : Jvm.MethodName) prog_29_method_10_code (3 : Nat) (Option.some Jvm.ClassFile.FieldType.boolean)) ∈ lw_all := lw_g (lw_at lw_m14 26 rfl) rfl
theorem q3407 : (Jvm.Cond.methodLink "ConstraintHouse$Real" (51 : Nat) ({ cls := "java/lang/Math", name := "nextUp", desc := "(D)D" } : Jvm.MethodName)) ∈ lw_all := lw_g (lw_at lw_m14 27 rfl) rfl
theorem q3536 : (Jvm.Cond.unhidden "ConstraintHouse$Real" "things" "()I") ∈ lw_tbl := lw_at lw_m14 156 rfl
theorem q3537 : (Jvm.Cond.publicMethod ({ cls := "ConstraintHouse$Real", name := "things", desc := "()I" } : Jvm.MethodName)) ∈ lw_tbl := lw_at lw_m14 157 rfl
theorem q3544 : (Jvm.Cond.unhidden "ConstraintHouse$Real" "told" "()I") ∈ lw_tbl := lw_at lw_m14 164 rfl
theorem q4795 : (Jvm.Cond.selects "ConstraintHouse$Real" ({ cls := "ConstraintHouse$Real", name := "low", desc := "()D" } : Jvm.MethodName) ({ cls := "ConstraintHouse$Real", name := "low", desc := "()D" } : Jvm.MethodName)) ∈ lw_all := lw_g (lw_at lw_m19 215 rfl) rfl
theorem q4796 : (Jvm.Cond.selects "ConstraintHouse$Real" ({ cls := "ConstraintHouse$Real", name := "high", desc := "()D" } : Jvm.MethodName) ({ cls := "ConstraintHouse$Real", name := "high", desc := "()D" } : Jvm.MethodName)) ∈ lw_all := lw_g (lw_at lw_m19 216 rfl) rfl
theorem q4807 : (Jvm.Cond.castable "ConstraintHouse$Real" "ConstraintHouse$Numeric") ∈ lw_tbl := lw_at lw_m19 227 rfl
theorem q4815 : (Jvm.Cond.castable "ConstraintHouse$Real" "java/lang/Object") ∈ lw_tbl := lw_at lw_m19 235 rfl
theorem q4855 : (Jvm.Cond.castable "ConstraintHouse$Real" "ConstraintHouse$Variable") ∈ lw_tbl := lw_at lw_m20 35 rfl
theorem in_X8 : ∀ w ∈ wsX80, w ∈ lw_all := lw_in wsX80 [717, 719, 715] (by decide +kernel) (by decide +kernel)
/-! ConstraintHouse$Small -/
set_option maxRecDepth 100000
def RX9 : String := "ConstraintHouse$Small"
def TX9 : u_T := fun k => match k with
  | 0 => ("ConstraintHouse$Variable", "domain", "Ljava/lang/Object;", false)
  | 1 => ("ConstraintHouse$Variable", "number", "I", false)
  | _ => ("ConstraintHouse$Small", "mine", "[F", false)
def tyX9 : Nat → FieldType := fun k => match k with
  | 0 => .object "java/lang/Object"
  | 1 => .int
  | _ => .array .float
abbrev wsX90 : List Cond := u_ws RX9 TX9 3
theorem nmX9 : ∀ a, a < 3 → ∀ b, b < 3 → a ≠ b → (TX9 a).2.1 ≠ (TX9 b).2.1 := by decide +kernel
theorem tyX9_ok : ∀ k, k < 3 → parseFieldDescriptor (TX9 k).2.2.1 = some (tyX9 k) := by decide +kernel
abbrev cX9_init : ByteArray := prog_35_method_1_code
def yX9_init : MethodName := ⟨RX9, "<init>", "()V"⟩
theorem dX9_init_0 : decode cX9_init 0 = .ok (.aload_n 0, 1) := by decide +kernel
theorem dX9_init_1 : decode cX9_init 1 = .ok (.invokespecial 3, 3) := by decide +kernel
theorem dX9_init_4 : decode cX9_init 4 = .ok (.return_, 1) := by decide +kernel
abbrev cX9_set : ByteArray := prog_35_method_8_code
def yX9_set : MethodName := ⟨RX9, "set", "(FF)V"⟩
def dkwX9_set_1 : List UInt8 := [180, 0, 44, 4, 36, 81, 42, 42, 180, 0, 44, 181, 0, 48, 177]
abbrev dktX9_set_1 : List UInt8 := dkwX9_set_1 ++ []
def dkwX9_set_0 : List UInt8 := [42, 180, 0, 44, 199, 0, 10, 42, 5, 188, 6, 181, 0, 44, 42, 180, 0, 44, 3, 35, 81, 42]
abbrev dktX9_set_0 : List UInt8 := dkwX9_set_0 ++ dktX9_set_1
theorem dksX9_set_0 : cX9_set.data.toList.drop 0 = dktX9_set_0 := by decide +kernel
theorem dksX9_set_1 : cX9_set.data.toList.drop 22 = dktX9_set_1 := dk_seg dksX9_set_0 22 rfl rfl
theorem dX9_set_0 : decode cX9_set 0 = .ok (.aload_n 0, 1) := dk_42 (dk_at dksX9_set_0 0 rfl rfl)
theorem dX9_set_1 : decode cX9_set 1 = .ok (.getfield 44, 3) := dk_180 0 44 (dk_at dksX9_set_0 1 rfl rfl)
theorem dX9_set_4 : decode cX9_set 4 = .ok (.ifnonnull 10, 3) := dk_199 0 10 (dk_at dksX9_set_0 4 rfl rfl)
theorem dX9_set_7 : decode cX9_set 7 = .ok (.aload_n 0, 1) := dk_42 (dk_at dksX9_set_0 7 rfl rfl)
theorem dX9_set_8 : decode cX9_set 8 = .ok (.iconst 2, 1) := dk_5 (dk_at dksX9_set_0 8 rfl rfl)
theorem dX9_set_9 : decode cX9_set 9 = .ok (.newarray .float, 2) := dk_188_6 (dk_at dksX9_set_0 9 rfl rfl)
theorem dX9_set_11 : decode cX9_set 11 = .ok (.putfield 44, 3) := dk_181 0 44 (dk_at dksX9_set_0 11 rfl rfl)
theorem dX9_set_14 : decode cX9_set 14 = .ok (.aload_n 0, 1) := dk_42 (dk_at dksX9_set_0 14 rfl rfl)
theorem dX9_set_15 : decode cX9_set 15 = .ok (.getfield 44, 3) := dk_180 0 44 (dk_at dksX9_set_0 15 rfl rfl)
theorem dX9_set_18 : decode cX9_set 18 = .ok (.iconst 0, 1) := dk_3 (dk_at dksX9_set_0 18 rfl rfl)
theorem dX9_set_19 : decode cX9_set 19 = .ok (.fload_n 1, 1) := dk_35 (dk_at dksX9_set_0 19 rfl rfl)
theorem dX9_set_20 : decode cX9_set 20 = .ok (.fastore, 1) := dk_81 (dk_at dksX9_set_0 20 rfl rfl)
theorem dX9_set_21 : decode cX9_set 21 = .ok (.aload_n 0, 1) := dk_42 (dk_at dksX9_set_0 21 rfl rfl)
theorem dX9_set_22 : decode cX9_set 22 = .ok (.getfield 44, 3) := dk_180 0 44 (dk_at dksX9_set_1 0 rfl rfl)
theorem dX9_set_25 : decode cX9_set 25 = .ok (.iconst 1, 1) := dk_4 (dk_at dksX9_set_1 3 rfl rfl)
theorem dX9_set_26 : decode cX9_set 26 = .ok (.fload_n 2, 1) := dk_36 (dk_at dksX9_set_1 4 rfl rfl)
theorem dX9_set_27 : decode cX9_set 27 = .ok (.fastore, 1) := dk_81 (dk_at dksX9_set_1 5 rfl rfl)
theorem dX9_set_28 : decode cX9_set 28 = .ok (.aload_n 0, 1) := dk_42 (dk_at dksX9_set_1 6 rfl rfl)
theorem dX9_set_29 : decode cX9_set 29 = .ok (.aload_n 0, 1) := dk_42 (dk_at dksX9_set_1 7 rfl rfl)
theorem dX9_set_30 : decode cX9_set 30 = .ok (.getfield 44, 3) := dk_180 0 44 (dk_at dksX9_set_1 8 rfl rfl)
theorem dX9_set_33 : decode cX9_set 33 = .ok (.putfield 48, 3) := dk_181 0 48 (dk_at dksX9_set_1 11 rfl rfl)
theorem dX9_set_36 : decode cX9_set 36 = .ok (.return_, 1) := dk_177 (dk_at dksX9_set_1 14 rfl rfl)
abbrev cX9_sort : ByteArray := prog_35_method_2_code
def yX9_sort : MethodName := ⟨RX9, "sort", "()I"⟩
theorem dX9_sort_0 : decode cX9_sort 0 = .ok (.iconst 1, 1) := by decide +kernel
theorem dX9_sort_1 : decode cX9_sort 1 = .ok (.ireturn, 1) := by decide +kernel
abbrev cX9_give : ByteArray := prog_35_method_7_code
def yX9_give : MethodName := ⟨RX9, "give", "(Ljava/lang/Object;LConstraintHouse$Fault;)V"⟩
def dkwX9_give_2 : List UInt8 := [182, 0, 40, 177]
abbrev dktX9_give_2 : List UInt8 := dkwX9_give_2 ++ []
def dkwX9_give_1 : List UInt8 := [158, 0, 10, 44, 16, 7, 182, 0, 27, 191, 42, 45, 3, 49, 184, 0, 33, 45, 4, 49, 184, 0, 37]
abbrev dktX9_give_1 : List UInt8 := dkwX9_give_1 ++ dktX9_give_2
def dkwX9_give_0 : List UInt8 := [43, 192, 0, 23, 78, 167, 0, 11, 58, 4, 44, 6, 182, 0, 27, 191, 45, 3, 49, 45, 4, 49, 151]
abbrev dktX9_give_0 : List UInt8 := dkwX9_give_0 ++ dktX9_give_1
theorem dksX9_give_0 : cX9_give.data.toList.drop 0 = dktX9_give_0 := by decide +kernel
theorem dksX9_give_1 : cX9_give.data.toList.drop 23 = dktX9_give_1 := dk_seg dksX9_give_0 23 rfl rfl
theorem dksX9_give_2 : cX9_give.data.toList.drop 46 = dktX9_give_2 := dk_seg dksX9_give_1 23 rfl rfl
theorem dX9_give_0 : decode cX9_give 0 = .ok (.aload_n 1, 1) := dk_43 (dk_at dksX9_give_0 0 rfl rfl)
theorem dX9_give_1 : decode cX9_give 1 = .ok (.checkcast 23, 3) := dk_192 0 23 (dk_at dksX9_give_0 1 rfl rfl)
theorem dX9_give_4 : decode cX9_give 4 = .ok (.astore_n 3, 1) := dk_78 (dk_at dksX9_give_0 4 rfl rfl)
theorem dX9_give_5 : decode cX9_give 5 = .ok (.goto 11, 3) := dk_167 0 11 (dk_at dksX9_give_0 5 rfl rfl)
theorem dX9_give_8 : decode cX9_give 8 = .ok (.astore 4, 2) := dk_58 4 (dk_at dksX9_give_0 8 rfl rfl)
theorem dX9_give_10 : decode cX9_give 10 = .ok (.aload_n 2, 1) := dk_44 (dk_at dksX9_give_0 10 rfl rfl)
theorem dX9_give_11 : decode cX9_give 11 = .ok (.iconst 3, 1) := dk_6 (dk_at dksX9_give_0 11 rfl rfl)
theorem dX9_give_12 : decode cX9_give 12 = .ok (.invokevirtual 27, 3) := dk_182 0 27 (dk_at dksX9_give_0 12 rfl rfl)
theorem dX9_give_15 : decode cX9_give 15 = .ok (.athrow, 1) := dk_191 (dk_at dksX9_give_0 15 rfl rfl)
theorem dX9_give_16 : decode cX9_give 16 = .ok (.aload_n 3, 1) := dk_45 (dk_at dksX9_give_0 16 rfl rfl)
theorem dX9_give_17 : decode cX9_give 17 = .ok (.iconst 0, 1) := dk_3 (dk_at dksX9_give_0 17 rfl rfl)
theorem dX9_give_18 : decode cX9_give 18 = .ok (.daload, 1) := dk_49 (dk_at dksX9_give_0 18 rfl rfl)
theorem dX9_give_19 : decode cX9_give 19 = .ok (.aload_n 3, 1) := dk_45 (dk_at dksX9_give_0 19 rfl rfl)
theorem dX9_give_20 : decode cX9_give 20 = .ok (.iconst 1, 1) := dk_4 (dk_at dksX9_give_0 20 rfl rfl)
theorem dX9_give_21 : decode cX9_give 21 = .ok (.daload, 1) := dk_49 (dk_at dksX9_give_0 21 rfl rfl)
theorem dX9_give_22 : decode cX9_give 22 = .ok (.dcmp .l, 1) := dk_151 (dk_at dksX9_give_0 22 rfl rfl)
theorem dX9_give_23 : decode cX9_give 23 = .ok (.ifCond .le 10, 3) := dk_158 0 10 (dk_at dksX9_give_1 0 rfl rfl)
theorem dX9_give_26 : decode cX9_give 26 = .ok (.aload_n 2, 1) := dk_44 (dk_at dksX9_give_1 3 rfl rfl)
theorem dX9_give_27 : decode cX9_give 27 = .ok (.bipush 7, 2) := dk_16 7 (dk_at dksX9_give_1 4 rfl rfl)
theorem dX9_give_29 : decode cX9_give 29 = .ok (.invokevirtual 27, 3) := dk_182 0 27 (dk_at dksX9_give_1 6 rfl rfl)
theorem dX9_give_32 : decode cX9_give 32 = .ok (.athrow, 1) := dk_191 (dk_at dksX9_give_1 9 rfl rfl)
theorem dX9_give_33 : decode cX9_give 33 = .ok (.aload_n 0, 1) := dk_42 (dk_at dksX9_give_1 10 rfl rfl)
theorem dX9_give_34 : decode cX9_give 34 = .ok (.aload_n 3, 1) := dk_45 (dk_at dksX9_give_1 11 rfl rfl)
theorem dX9_give_35 : decode cX9_give 35 = .ok (.iconst 0, 1) := dk_3 (dk_at dksX9_give_1 12 rfl rfl)
theorem dX9_give_36 : decode cX9_give 36 = .ok (.daload, 1) := dk_49 (dk_at dksX9_give_1 13 rfl rfl)
theorem dX9_give_37 : decode cX9_give 37 = .ok (.invokestatic 33, 3) := dk_184 0 33 (dk_at dksX9_give_1 14 rfl rfl)
theorem dX9_give_40 : decode cX9_give 40 = .ok (.aload_n 3, 1) := dk_45 (dk_at dksX9_give_1 17 rfl rfl)
theorem dX9_give_41 : decode cX9_give 41 = .ok (.iconst 1, 1) := dk_4 (dk_at dksX9_give_1 18 rfl rfl)
theorem dX9_give_42 : decode cX9_give 42 = .ok (.daload, 1) := dk_49 (dk_at dksX9_give_1 19 rfl rfl)
theorem dX9_give_43 : decode cX9_give 43 = .ok (.invokestatic 37, 3) := dk_184 0 37 (dk_at dksX9_give_1 20 rfl rfl)
theorem dX9_give_46 : decode cX9_give 46 = .ok (.invokevirtual 40, 3) := dk_182 0 40 (dk_at dksX9_give_2 0 rfl rfl)
theorem dX9_give_49 : decode cX9_give 49 = .ok (.return_, 1) := dk_177 (dk_at dksX9_give_2 3 rfl rfl)
abbrev cX9_under : ByteArray := prog_35_method_4_code
def yX9_under : MethodName := ⟨RX9, "under", "(D)F"⟩
def dkwX9_under_0 : List UInt8 := [38, 144, 69, 36, 141, 38, 151, 158, 0, 10, 36, 184, 0, 9, 167, 0, 4, 36, 184, 0, 15, 174]
abbrev dktX9_under_0 : List UInt8 := dkwX9_under_0 ++ []
theorem dksX9_under_0 : cX9_under.data.toList.drop 0 = dktX9_under_0 := by decide +kernel
theorem dX9_under_0 : decode cX9_under 0 = .ok (.dload_n 0, 1) := dk_38 (dk_at dksX9_under_0 0 rfl rfl)
theorem dX9_under_1 : decode cX9_under 1 = .ok (.d2f, 1) := dk_144 (dk_at dksX9_under_0 1 rfl rfl)
theorem dX9_under_2 : decode cX9_under 2 = .ok (.fstore_n 2, 1) := dk_69 (dk_at dksX9_under_0 2 rfl rfl)
theorem dX9_under_3 : decode cX9_under 3 = .ok (.fload_n 2, 1) := dk_36 (dk_at dksX9_under_0 3 rfl rfl)
theorem dX9_under_4 : decode cX9_under 4 = .ok (.f2d, 1) := dk_141 (dk_at dksX9_under_0 4 rfl rfl)
theorem dX9_under_5 : decode cX9_under 5 = .ok (.dload_n 0, 1) := dk_38 (dk_at dksX9_under_0 5 rfl rfl)
theorem dX9_under_6 : decode cX9_under 6 = .ok (.dcmp .l, 1) := dk_151 (dk_at dksX9_under_0 6 rfl rfl)
theorem dX9_under_7 : decode cX9_under 7 = .ok (.ifCond .le 10, 3) := dk_158 0 10 (dk_at dksX9_under_0 7 rfl rfl)
theorem dX9_under_10 : decode cX9_under 10 = .ok (.fload_n 2, 1) := dk_36 (dk_at dksX9_under_0 10 rfl rfl)
theorem dX9_under_11 : decode cX9_under 11 = .ok (.invokestatic 9, 3) := dk_184 0 9 (dk_at dksX9_under_0 11 rfl rfl)
theorem dX9_under_14 : decode cX9_under 14 = .ok (.goto 4, 3) := dk_167 0 4 (dk_at dksX9_under_0 14 rfl rfl)
theorem dX9_under_17 : decode cX9_under 17 = .ok (.fload_n 2, 1) := dk_36 (dk_at dksX9_under_0 17 rfl rfl)
theorem dX9_under_18 : decode cX9_under 18 = .ok (.invokestatic 15, 3) := dk_184 0 15 (dk_at dksX9_under_0 18 rfl rfl)
theorem dX9_under_21 : decode cX9_under 21 = .ok (.freturn, 1) := dk_174 (dk_at dksX9_under_0 21 rfl rfl)
abbrev cX9_plain : ByteArray := prog_35_method_6_code
def yX9_plain : MethodName := ⟨RX9, "plain", "(F)F"⟩
def dkwX9_plain_0 : List UInt8 := [34, 11, 149, 154, 0, 7, 11, 167, 0, 4, 34, 174]
abbrev dktX9_plain_0 : List UInt8 := dkwX9_plain_0 ++ []
theorem dksX9_plain_0 : cX9_plain.data.toList.drop 0 = dktX9_plain_0 := by decide +kernel
theorem dX9_plain_0 : decode cX9_plain 0 = .ok (.fload_n 0, 1) := dk_34 (dk_at dksX9_plain_0 0 rfl rfl)
theorem dX9_plain_1 : decode cX9_plain 1 = .ok (.fconst 0, 1) := dk_11 (dk_at dksX9_plain_0 1 rfl rfl)
theorem dX9_plain_2 : decode cX9_plain 2 = .ok (.fcmp .l, 1) := dk_149 (dk_at dksX9_plain_0 2 rfl rfl)
theorem dX9_plain_3 : decode cX9_plain 3 = .ok (.ifCond .ne 7, 3) := dk_154 0 7 (dk_at dksX9_plain_0 3 rfl rfl)
theorem dX9_plain_6 : decode cX9_plain 6 = .ok (.fconst 0, 1) := dk_11 (dk_at dksX9_plain_0 6 rfl rfl)
theorem dX9_plain_7 : decode cX9_plain 7 = .ok (.goto 4, 3) := dk_167 0 4 (dk_at dksX9_plain_0 7 rfl rfl)
theorem dX9_plain_10 : decode cX9_plain 10 = .ok (.fload_n 0, 1) := dk_34 (dk_at dksX9_plain_0 10 rfl rfl)
theorem dX9_plain_11 : decode cX9_plain 11 = .ok (.freturn, 1) := dk_174 (dk_at dksX9_plain_0 11 rfl rfl)
abbrev cX9_over : ByteArray := prog_35_method_5_code
def yX9_over : MethodName := ⟨RX9, "over", "(D)F"⟩
def dkwX9_over_0 : List UInt8 := [38, 144, 69, 36, 141, 38, 152, 156, 0, 10, 36, 184, 0, 20, 167, 0, 4, 36, 184, 0, 15, 174]
abbrev dktX9_over_0 : List UInt8 := dkwX9_over_0 ++ []
theorem dksX9_over_0 : cX9_over.data.toList.drop 0 = dktX9_over_0 := by decide +kernel
theorem dX9_over_0 : decode cX9_over 0 = .ok (.dload_n 0, 1) := dk_38 (dk_at dksX9_over_0 0 rfl rfl)
theorem dX9_over_1 : decode cX9_over 1 = .ok (.d2f, 1) := dk_144 (dk_at dksX9_over_0 1 rfl rfl)
theorem dX9_over_2 : decode cX9_over 2 = .ok (.fstore_n 2, 1) := dk_69 (dk_at dksX9_over_0 2 rfl rfl)
theorem dX9_over_3 : decode cX9_over 3 = .ok (.fload_n 2, 1) := dk_36 (dk_at dksX9_over_0 3 rfl rfl)
theorem dX9_over_4 : decode cX9_over 4 = .ok (.f2d, 1) := dk_141 (dk_at dksX9_over_0 4 rfl rfl)
theorem dX9_over_5 : decode cX9_over 5 = .ok (.dload_n 0, 1) := dk_38 (dk_at dksX9_over_0 5 rfl rfl)
theorem dX9_over_6 : decode cX9_over 6 = .ok (.dcmp .g, 1) := dk_152 (dk_at dksX9_over_0 6 rfl rfl)
theorem dX9_over_7 : decode cX9_over 7 = .ok (.ifCond .ge 10, 3) := dk_156 0 10 (dk_at dksX9_over_0 7 rfl rfl)
theorem dX9_over_10 : decode cX9_over 10 = .ok (.fload_n 2, 1) := dk_36 (dk_at dksX9_over_0 10 rfl rfl)
theorem dX9_over_11 : decode cX9_over 11 = .ok (.invokestatic 20, 3) := dk_184 0 20 (dk_at dksX9_over_0 11 rfl rfl)
theorem dX9_over_14 : decode cX9_over 14 = .ok (.goto 4, 3) := dk_167 0 4 (dk_at dksX9_over_0 14 rfl rfl)
theorem dX9_over_17 : decode cX9_over 17 = .ok (.fload_n 2, 1) := dk_36 (dk_at dksX9_over_0 17 rfl rfl)
theorem dX9_over_18 : decode cX9_over 18 = .ok (.invokestatic 15, 3) := dk_184 0 15 (dk_at dksX9_over_0 18 rfl rfl)
theorem dX9_over_21 : decode cX9_over 21 = .ok (.freturn, 1) := dk_174 (dk_at dksX9_over_0 21 rfl rfl)
abbrev cX9_things : ByteArray := prog_35_method_12_code
def yX9_things : MethodName := ⟨RX9, "things", "()I"⟩
theorem dX9_things_0 : decode cX9_things 0 = .ok (.iconst 2, 1) := by decide +kernel
theorem dX9_things_1 : decode cX9_things 1 = .ok (.ireturn, 1) := by decide +kernel
abbrev cX9_hasBounds : ByteArray := prog_35_method_3_code
def yX9_hasBounds : MethodName := ⟨RX9, "hasBounds", "()Z"⟩
theorem dX9_hasBounds_0 : decode cX9_hasBounds 0 = .ok (.iconst 1, 1) := by decide +kernel
theorem dX9_hasBounds_1 : decode cX9_hasBounds 1 = .ok (.ireturn, 1) := by decide +kernel
abbrev cX9_low : ByteArray := prog_35_method_9_code
def yX9_low : MethodName := ⟨RX9, "low", "()D"⟩
def dkwX9_low_0 : List UInt8 := [42, 180, 0, 48, 192, 0, 52, 76, 43, 3, 48, 141, 175, 77, 178, 0, 55, 191]
abbrev dktX9_low_0 : List UInt8 := dkwX9_low_0 ++ []
theorem dksX9_low_0 : cX9_low.data.toList.drop 0 = dktX9_low_0 := by decide +kernel
theorem dX9_low_0 : decode cX9_low 0 = .ok (.aload_n 0, 1) := dk_42 (dk_at dksX9_low_0 0 rfl rfl)
theorem dX9_low_1 : decode cX9_low 1 = .ok (.getfield 48, 3) := dk_180 0 48 (dk_at dksX9_low_0 1 rfl rfl)
theorem dX9_low_4 : decode cX9_low 4 = .ok (.checkcast 52, 3) := dk_192 0 52 (dk_at dksX9_low_0 4 rfl rfl)
theorem dX9_low_7 : decode cX9_low 7 = .ok (.astore_n 1, 1) := dk_76 (dk_at dksX9_low_0 7 rfl rfl)
theorem dX9_low_8 : decode cX9_low 8 = .ok (.aload_n 1, 1) := dk_43 (dk_at dksX9_low_0 8 rfl rfl)
theorem dX9_low_9 : decode cX9_low 9 = .ok (.iconst 0, 1) := dk_3 (dk_at dksX9_low_0 9 rfl rfl)
theorem dX9_low_10 : decode cX9_low 10 = .ok (.faload, 1) := dk_48 (dk_at dksX9_low_0 10 rfl rfl)
theorem dX9_low_11 : decode cX9_low 11 = .ok (.f2d, 1) := dk_141 (dk_at dksX9_low_0 11 rfl rfl)
theorem dX9_low_12 : decode cX9_low 12 = .ok (.dreturn, 1) := dk_175 (dk_at dksX9_low_0 12 rfl rfl)
theorem dX9_low_13 : decode cX9_low 13 = .ok (.astore_n 2, 1) := dk_77 (dk_at dksX9_low_0 13 rfl rfl)
theorem dX9_low_14 : decode cX9_low 14 = .ok (.getstatic 55, 3) := dk_178 0 55 (dk_at dksX9_low_0 14 rfl rfl)
theorem dX9_low_17 : decode cX9_low 17 = .ok (.athrow, 1) := dk_191 (dk_at dksX9_low_0 17 rfl rfl)
abbrev cX9_high : ByteArray := prog_35_method_10_code
def yX9_high : MethodName := ⟨RX9, "high", "()D"⟩
def dkwX9_high_0 : List UInt8 := [42, 180, 0, 44, 4, 48, 141, 175]
abbrev dktX9_high_0 : List UInt8 := dkwX9_high_0 ++ []
theorem dksX9_high_0 : cX9_high.data.toList.drop 0 = dktX9_high_0 := by decide +kernel
theorem dX9_high_0 : decode cX9_high 0 = .ok (.aload_n 0, 1) := dk_42 (dk_at dksX9_high_0 0 rfl rfl)
theorem dX9_high_1 : decode cX9_high 1 = .ok (.getfield 44, 3) := dk_180 0 44 (dk_at dksX9_high_0 1 rfl rfl)
theorem dX9_high_4 : decode cX9_high 4 = .ok (.iconst 1, 1) := dk_4 (dk_at dksX9_high_0 4 rfl rfl)
theorem dX9_high_5 : decode cX9_high 5 = .ok (.faload, 1) := dk_48 (dk_at dksX9_high_0 5 rfl rfl)
theorem dX9_high_6 : decode cX9_high 6 = .ok (.f2d, 1) := dk_141 (dk_at dksX9_high_0 6 rfl rfl)
theorem dX9_high_7 : decode cX9_high 7 = .ok (.dreturn, 1) := dk_175 (dk_at dksX9_high_0 7 rfl rfl)
abbrev cX9_keep : ByteArray := prog_35_method_11_code
def yX9_keep : MethodName := ⟨RX9, "keep", "(DD)V"⟩
def dkwX9_keep_3 : List UInt8 := [23, 5, 81, 42, 180, 0, 44, 4, 23, 6, 81, 177]
abbrev dktX9_keep_3 : List UInt8 := dkwX9_keep_3 ++ []
def dkwX9_keep_2 : List UInt8 := [180, 0, 44, 4, 48, 56, 6, 23, 5, 23, 6, 150, 158, 0, 7, 178, 0, 59, 191, 42, 180, 0, 44, 3]
abbrev dktX9_keep_2 : List UInt8 := dkwX9_keep_2 ++ dktX9_keep_3
def dkwX9_keep_1 : List UInt8 := [48, 56, 5, 41, 42, 180, 0, 44, 4, 48, 141, 152, 156, 0, 10, 41, 184, 0, 33, 167, 0, 9, 42]
abbrev dktX9_keep_1 : List UInt8 := dkwX9_keep_1 ++ dktX9_keep_2
def dkwX9_keep_0 : List UInt8 := [39, 42, 180, 0, 44, 3, 48, 141, 151, 158, 0, 10, 39, 184, 0, 37, 167, 0, 9, 42, 180, 0, 44, 3]
abbrev dktX9_keep_0 : List UInt8 := dkwX9_keep_0 ++ dktX9_keep_1
theorem dksX9_keep_0 : cX9_keep.data.toList.drop 0 = dktX9_keep_0 := by decide +kernel
theorem dksX9_keep_1 : cX9_keep.data.toList.drop 24 = dktX9_keep_1 := dk_seg dksX9_keep_0 24 rfl rfl
theorem dksX9_keep_2 : cX9_keep.data.toList.drop 47 = dktX9_keep_2 := dk_seg dksX9_keep_1 23 rfl rfl
theorem dksX9_keep_3 : cX9_keep.data.toList.drop 71 = dktX9_keep_3 := dk_seg dksX9_keep_2 24 rfl rfl
theorem dX9_keep_0 : decode cX9_keep 0 = .ok (.dload_n 1, 1) := dk_39 (dk_at dksX9_keep_0 0 rfl rfl)
theorem dX9_keep_1 : decode cX9_keep 1 = .ok (.aload_n 0, 1) := dk_42 (dk_at dksX9_keep_0 1 rfl rfl)
theorem dX9_keep_2 : decode cX9_keep 2 = .ok (.getfield 44, 3) := dk_180 0 44 (dk_at dksX9_keep_0 2 rfl rfl)
theorem dX9_keep_5 : decode cX9_keep 5 = .ok (.iconst 0, 1) := dk_3 (dk_at dksX9_keep_0 5 rfl rfl)
theorem dX9_keep_6 : decode cX9_keep 6 = .ok (.faload, 1) := dk_48 (dk_at dksX9_keep_0 6 rfl rfl)
theorem dX9_keep_7 : decode cX9_keep 7 = .ok (.f2d, 1) := dk_141 (dk_at dksX9_keep_0 7 rfl rfl)
theorem dX9_keep_8 : decode cX9_keep 8 = .ok (.dcmp .l, 1) := dk_151 (dk_at dksX9_keep_0 8 rfl rfl)
theorem dX9_keep_9 : decode cX9_keep 9 = .ok (.ifCond .le 10, 3) := dk_158 0 10 (dk_at dksX9_keep_0 9 rfl rfl)
theorem dX9_keep_12 : decode cX9_keep 12 = .ok (.dload_n 1, 1) := dk_39 (dk_at dksX9_keep_0 12 rfl rfl)
theorem dX9_keep_13 : decode cX9_keep 13 = .ok (.invokestatic 37, 3) := dk_184 0 37 (dk_at dksX9_keep_0 13 rfl rfl)
theorem dX9_keep_16 : decode cX9_keep 16 = .ok (.goto 9, 3) := dk_167 0 9 (dk_at dksX9_keep_0 16 rfl rfl)
theorem dX9_keep_19 : decode cX9_keep 19 = .ok (.aload_n 0, 1) := dk_42 (dk_at dksX9_keep_0 19 rfl rfl)
theorem dX9_keep_20 : decode cX9_keep 20 = .ok (.getfield 44, 3) := dk_180 0 44 (dk_at dksX9_keep_0 20 rfl rfl)
theorem dX9_keep_23 : decode cX9_keep 23 = .ok (.iconst 0, 1) := dk_3 (dk_at dksX9_keep_0 23 rfl rfl)
theorem dX9_keep_24 : decode cX9_keep 24 = .ok (.faload, 1) := dk_48 (dk_at dksX9_keep_1 0 rfl rfl)
theorem dX9_keep_25 : decode cX9_keep 25 = .ok (.fstore 5, 2) := dk_56 5 (dk_at dksX9_keep_1 1 rfl rfl)
theorem dX9_keep_27 : decode cX9_keep 27 = .ok (.dload_n 3, 1) := dk_41 (dk_at dksX9_keep_1 3 rfl rfl)
theorem dX9_keep_28 : decode cX9_keep 28 = .ok (.aload_n 0, 1) := dk_42 (dk_at dksX9_keep_1 4 rfl rfl)
theorem dX9_keep_29 : decode cX9_keep 29 = .ok (.getfield 44, 3) := dk_180 0 44 (dk_at dksX9_keep_1 5 rfl rfl)
theorem dX9_keep_32 : decode cX9_keep 32 = .ok (.iconst 1, 1) := dk_4 (dk_at dksX9_keep_1 8 rfl rfl)
theorem dX9_keep_33 : decode cX9_keep 33 = .ok (.faload, 1) := dk_48 (dk_at dksX9_keep_1 9 rfl rfl)
theorem dX9_keep_34 : decode cX9_keep 34 = .ok (.f2d, 1) := dk_141 (dk_at dksX9_keep_1 10 rfl rfl)
theorem dX9_keep_35 : decode cX9_keep 35 = .ok (.dcmp .g, 1) := dk_152 (dk_at dksX9_keep_1 11 rfl rfl)
theorem dX9_keep_36 : decode cX9_keep 36 = .ok (.ifCond .ge 10, 3) := dk_156 0 10 (dk_at dksX9_keep_1 12 rfl rfl)
theorem dX9_keep_39 : decode cX9_keep 39 = .ok (.dload_n 3, 1) := dk_41 (dk_at dksX9_keep_1 15 rfl rfl)
theorem dX9_keep_40 : decode cX9_keep 40 = .ok (.invokestatic 33, 3) := dk_184 0 33 (dk_at dksX9_keep_1 16 rfl rfl)
theorem dX9_keep_43 : decode cX9_keep 43 = .ok (.goto 9, 3) := dk_167 0 9 (dk_at dksX9_keep_1 19 rfl rfl)
theorem dX9_keep_46 : decode cX9_keep 46 = .ok (.aload_n 0, 1) := dk_42 (dk_at dksX9_keep_1 22 rfl rfl)
theorem dX9_keep_47 : decode cX9_keep 47 = .ok (.getfield 44, 3) := dk_180 0 44 (dk_at dksX9_keep_2 0 rfl rfl)
theorem dX9_keep_50 : decode cX9_keep 50 = .ok (.iconst 1, 1) := dk_4 (dk_at dksX9_keep_2 3 rfl rfl)
theorem dX9_keep_51 : decode cX9_keep 51 = .ok (.faload, 1) := dk_48 (dk_at dksX9_keep_2 4 rfl rfl)
theorem dX9_keep_52 : decode cX9_keep 52 = .ok (.fstore 6, 2) := dk_56 6 (dk_at dksX9_keep_2 5 rfl rfl)
theorem dX9_keep_54 : decode cX9_keep 54 = .ok (.fload 5, 2) := dk_23 5 (dk_at dksX9_keep_2 7 rfl rfl)
theorem dX9_keep_56 : decode cX9_keep 56 = .ok (.fload 6, 2) := dk_23 6 (dk_at dksX9_keep_2 9 rfl rfl)
theorem dX9_keep_58 : decode cX9_keep 58 = .ok (.fcmp .g, 1) := dk_150 (dk_at dksX9_keep_2 11 rfl rfl)
theorem dX9_keep_59 : decode cX9_keep 59 = .ok (.ifCond .le 7, 3) := dk_158 0 7 (dk_at dksX9_keep_2 12 rfl rfl)
theorem dX9_keep_62 : decode cX9_keep 62 = .ok (.getstatic 59, 3) := dk_178 0 59 (dk_at dksX9_keep_2 15 rfl rfl)
theorem dX9_keep_65 : decode cX9_keep 65 = .ok (.athrow, 1) := dk_191 (dk_at dksX9_keep_2 18 rfl rfl)
theorem dX9_keep_66 : decode cX9_keep 66 = .ok (.aload_n 0, 1) := dk_42 (dk_at dksX9_keep_2 19 rfl rfl)
theorem dX9_keep_67 : decode cX9_keep 67 = .ok (.getfield 44, 3) := dk_180 0 44 (dk_at dksX9_keep_2 20 rfl rfl)
theorem dX9_keep_70 : decode cX9_keep 70 = .ok (.iconst 0, 1) := dk_3 (dk_at dksX9_keep_2 23 rfl rfl)
theorem dX9_keep_71 : decode cX9_keep 71 = .ok (.fload 5, 2) := dk_23 5 (dk_at dksX9_keep_3 0 rfl rfl)
theorem dX9_keep_73 : decode cX9_keep 73 = .ok (.fastore, 1) := dk_81 (dk_at dksX9_keep_3 2 rfl rfl)
theorem dX9_keep_74 : decode cX9_keep 74 = .ok (.aload_n 0, 1) := dk_42 (dk_at dksX9_keep_3 3 rfl rfl)
theorem dX9_keep_75 : decode cX9_keep 75 = .ok (.getfield 44, 3) := dk_180 0 44 (dk_at dksX9_keep_3 4 rfl rfl)
theorem dX9_keep_78 : decode cX9_keep 78 = .ok (.iconst 1, 1) := dk_4 (dk_at dksX9_keep_3 7 rfl rfl)
theorem dX9_keep_79 : decode cX9_keep 79 = .ok (.fload 6, 2) := dk_23 6 (dk_at dksX9_keep_3 8 rfl rfl)
theorem dX9_keep_81 : decode cX9_keep 81 = .ok (.fastore, 1) := dk_81 (dk_at dksX9_keep_3 10 rfl rfl)
theorem dX9_keep_82 : decode cX9_keep 82 = .ok (.return_, 1) := dk_177 (dk_at dksX9_keep_3 11 rfl rfl)
abbrev cX9_thing : ByteArray := prog_35_method_14_code
def yX9_thing : MethodName := ⟨RX9, "thing", "(I)J"⟩
def dkwX9_thing_1 : List UInt8 := [187, 0, 69, 89, 183, 0, 71, 191, 37, 184, 0, 72, 133, 20, 0, 78, 127, 173]
abbrev dktX9_thing_1 : List UInt8 := dkwX9_thing_1 ++ []
def dkwX9_thing_0 : List UInt8 := [42, 180, 0, 48, 192, 0, 52, 77, 44, 27, 48, 70, 167, 0, 19, 58, 4, 184, 0, 63, 191, 58, 4]
abbrev dktX9_thing_0 : List UInt8 := dkwX9_thing_0 ++ dktX9_thing_1
theorem dksX9_thing_0 : cX9_thing.data.toList.drop 0 = dktX9_thing_0 := by decide +kernel
theorem dksX9_thing_1 : cX9_thing.data.toList.drop 23 = dktX9_thing_1 := dk_seg dksX9_thing_0 23 rfl rfl
theorem dX9_thing_0 : decode cX9_thing 0 = .ok (.aload_n 0, 1) := dk_42 (dk_at dksX9_thing_0 0 rfl rfl)
theorem dX9_thing_1 : decode cX9_thing 1 = .ok (.getfield 48, 3) := dk_180 0 48 (dk_at dksX9_thing_0 1 rfl rfl)
theorem dX9_thing_4 : decode cX9_thing 4 = .ok (.checkcast 52, 3) := dk_192 0 52 (dk_at dksX9_thing_0 4 rfl rfl)
theorem dX9_thing_7 : decode cX9_thing 7 = .ok (.astore_n 2, 1) := dk_77 (dk_at dksX9_thing_0 7 rfl rfl)
theorem dX9_thing_8 : decode cX9_thing 8 = .ok (.aload_n 2, 1) := dk_44 (dk_at dksX9_thing_0 8 rfl rfl)
theorem dX9_thing_9 : decode cX9_thing 9 = .ok (.iload_n 1, 1) := dk_27 (dk_at dksX9_thing_0 9 rfl rfl)
theorem dX9_thing_10 : decode cX9_thing 10 = .ok (.faload, 1) := dk_48 (dk_at dksX9_thing_0 10 rfl rfl)
theorem dX9_thing_11 : decode cX9_thing 11 = .ok (.fstore_n 3, 1) := dk_70 (dk_at dksX9_thing_0 11 rfl rfl)
theorem dX9_thing_12 : decode cX9_thing 12 = .ok (.goto 19, 3) := dk_167 0 19 (dk_at dksX9_thing_0 12 rfl rfl)
theorem dX9_thing_15 : decode cX9_thing 15 = .ok (.astore 4, 2) := dk_58 4 (dk_at dksX9_thing_0 15 rfl rfl)
theorem dX9_thing_17 : decode cX9_thing 17 = .ok (.invokestatic 63, 3) := dk_184 0 63 (dk_at dksX9_thing_0 17 rfl rfl)
theorem dX9_thing_20 : decode cX9_thing 20 = .ok (.athrow, 1) := dk_191 (dk_at dksX9_thing_0 20 rfl rfl)
theorem dX9_thing_21 : decode cX9_thing 21 = .ok (.astore 4, 2) := dk_58 4 (dk_at dksX9_thing_0 21 rfl rfl)
theorem dX9_thing_23 : decode cX9_thing 23 = .ok (.new 69, 3) := dk_187 0 69 (dk_at dksX9_thing_1 0 rfl rfl)
theorem dX9_thing_26 : decode cX9_thing 26 = .ok (.dup, 1) := dk_89 (dk_at dksX9_thing_1 3 rfl rfl)
theorem dX9_thing_27 : decode cX9_thing 27 = .ok (.invokespecial 71, 3) := dk_183 0 71 (dk_at dksX9_thing_1 4 rfl rfl)
theorem dX9_thing_30 : decode cX9_thing 30 = .ok (.athrow, 1) := dk_191 (dk_at dksX9_thing_1 7 rfl rfl)
theorem dX9_thing_31 : decode cX9_thing 31 = .ok (.fload_n 3, 1) := dk_37 (dk_at dksX9_thing_1 8 rfl rfl)
theorem dX9_thing_32 : decode cX9_thing 32 = .ok (.invokestatic 72, 3) := dk_184 0 72 (dk_at dksX9_thing_1 9 rfl rfl)
theorem dX9_thing_35 : decode cX9_thing 35 = .ok (.i2l, 1) := dk_133 (dk_at dksX9_thing_1 12 rfl rfl)
theorem dX9_thing_36 : decode cX9_thing 36 = .ok (.ldc2_w 78, 3) := dk_20 0 78 (dk_at dksX9_thing_1 13 rfl rfl)
theorem dX9_thing_39 : decode cX9_thing 39 = .ok (.land, 1) := dk_127 (dk_at dksX9_thing_1 16 rfl rfl)
theorem dX9_thing_40 : decode cX9_thing 40 = .ok (.lreturn, 1) := dk_173 (dk_at dksX9_thing_1 17 rfl rfl)
abbrev cX9_isFixed : ByteArray := prog_35_method_13_code
def yX9_isFixed : MethodName := ⟨RX9, "isFixed", "(D)Z"⟩
def dkwX9_isFixed_1 : List UInt8 := [3, 48, 184, 0, 20, 42, 180, 0, 44, 4, 48, 150, 155, 0, 7, 4, 167, 0, 4, 3, 172]
abbrev dktX9_isFixed_1 : List UInt8 := dkwX9_isFixed_1 ++ []
def dkwX9_isFixed_0 : List UInt8 := [42, 180, 0, 44, 4, 48, 141, 42, 180, 0, 44, 3, 48, 141, 103, 39, 151, 158, 0, 22, 42, 180, 0, 44]
abbrev dktX9_isFixed_0 : List UInt8 := dkwX9_isFixed_0 ++ dktX9_isFixed_1
theorem dksX9_isFixed_0 : cX9_isFixed.data.toList.drop 0 = dktX9_isFixed_0 := by decide +kernel
theorem dksX9_isFixed_1 : cX9_isFixed.data.toList.drop 24 = dktX9_isFixed_1 := dk_seg dksX9_isFixed_0 24 rfl rfl
theorem dX9_isFixed_0 : decode cX9_isFixed 0 = .ok (.aload_n 0, 1) := dk_42 (dk_at dksX9_isFixed_0 0 rfl rfl)
theorem dX9_isFixed_1 : decode cX9_isFixed 1 = .ok (.getfield 44, 3) := dk_180 0 44 (dk_at dksX9_isFixed_0 1 rfl rfl)
theorem dX9_isFixed_4 : decode cX9_isFixed 4 = .ok (.iconst 1, 1) := dk_4 (dk_at dksX9_isFixed_0 4 rfl rfl)
theorem dX9_isFixed_5 : decode cX9_isFixed 5 = .ok (.faload, 1) := dk_48 (dk_at dksX9_isFixed_0 5 rfl rfl)
theorem dX9_isFixed_6 : decode cX9_isFixed 6 = .ok (.f2d, 1) := dk_141 (dk_at dksX9_isFixed_0 6 rfl rfl)
theorem dX9_isFixed_7 : decode cX9_isFixed 7 = .ok (.aload_n 0, 1) := dk_42 (dk_at dksX9_isFixed_0 7 rfl rfl)
theorem dX9_isFixed_8 : decode cX9_isFixed 8 = .ok (.getfield 44, 3) := dk_180 0 44 (dk_at dksX9_isFixed_0 8 rfl rfl)
theorem dX9_isFixed_11 : decode cX9_isFixed 11 = .ok (.iconst 0, 1) := dk_3 (dk_at dksX9_isFixed_0 11 rfl rfl)
theorem dX9_isFixed_12 : decode cX9_isFixed 12 = .ok (.faload, 1) := dk_48 (dk_at dksX9_isFixed_0 12 rfl rfl)
theorem dX9_isFixed_13 : decode cX9_isFixed 13 = .ok (.f2d, 1) := dk_141 (dk_at dksX9_isFixed_0 13 rfl rfl)
theorem dX9_isFixed_14 : decode cX9_isFixed 14 = .ok (.dsub, 1) := dk_103 (dk_at dksX9_isFixed_0 14 rfl rfl)
theorem dX9_isFixed_15 : decode cX9_isFixed 15 = .ok (.dload_n 1, 1) := dk_39 (dk_at dksX9_isFixed_0 15 rfl rfl)
theorem dX9_isFixed_16 : decode cX9_isFixed 16 = .ok (.dcmp .l, 1) := dk_151 (dk_at dksX9_isFixed_0 16 rfl rfl)
theorem dX9_isFixed_17 : decode cX9_isFixed 17 = .ok (.ifCond .le 22, 3) := dk_158 0 22 (dk_at dksX9_isFixed_0 17 rfl rfl)
theorem dX9_isFixed_20 : decode cX9_isFixed 20 = .ok (.aload_n 0, 1) := dk_42 (dk_at dksX9_isFixed_0 20 rfl rfl)
theorem dX9_isFixed_21 : decode cX9_isFixed 21 = .ok (.getfield 44, 3) := dk_180 0 44 (dk_at dksX9_isFixed_0 21 rfl rfl)
theorem dX9_isFixed_24 : decode cX9_isFixed 24 = .ok (.iconst 0, 1) := dk_3 (dk_at dksX9_isFixed_1 0 rfl rfl)
theorem dX9_isFixed_25 : decode cX9_isFixed 25 = .ok (.faload, 1) := dk_48 (dk_at dksX9_isFixed_1 1 rfl rfl)
theorem dX9_isFixed_26 : decode cX9_isFixed 26 = .ok (.invokestatic 20, 3) := dk_184 0 20 (dk_at dksX9_isFixed_1 2 rfl rfl)
theorem dX9_isFixed_29 : decode cX9_isFixed 29 = .ok (.aload_n 0, 1) := dk_42 (dk_at dksX9_isFixed_1 5 rfl rfl)
theorem dX9_isFixed_30 : decode cX9_isFixed 30 = .ok (.getfield 44, 3) := dk_180 0 44 (dk_at dksX9_isFixed_1 6 rfl rfl)
theorem dX9_isFixed_33 : decode cX9_isFixed 33 = .ok (.iconst 1, 1) := dk_4 (dk_at dksX9_isFixed_1 9 rfl rfl)
theorem dX9_isFixed_34 : decode cX9_isFixed 34 = .ok (.faload, 1) := dk_48 (dk_at dksX9_isFixed_1 10 rfl rfl)
theorem dX9_isFixed_35 : decode cX9_isFixed 35 = .ok (.fcmp .g, 1) := dk_150 (dk_at dksX9_isFixed_1 11 rfl rfl)
theorem dX9_isFixed_36 : decode cX9_isFixed 36 = .ok (.ifCond .lt 7, 3) := dk_155 0 7 (dk_at dksX9_isFixed_1 12 rfl rfl)
theorem dX9_isFixed_39 : decode cX9_isFixed 39 = .ok (.iconst 1, 1) := dk_4 (dk_at dksX9_isFixed_1 15 rfl rfl)
theorem dX9_isFixed_40 : decode cX9_isFixed 40 = .ok (.goto 4, 3) := dk_167 0 4 (dk_at dksX9_isFixed_1 16 rfl rfl)
theorem dX9_isFixed_43 : decode cX9_isFixed 43 = .ok (.iconst 0, 1) := dk_3 (dk_at dksX9_isFixed_1 19 rfl rfl)
theorem dX9_isFixed_44 : decode cX9_isFixed 44 = .ok (.ireturn, 1) := dk_172 (dk_at dksX9_isFixed_1 20 rfl rfl)
theorem q272 : (Jvm.Cond.initialized "ConstraintHouse$Small") ∈ lw_all := lw_g (lw_at lw_m1 12 rfl) rfl
theorem q709 : (Jvm.Cond.fieldLink "ConstraintHouse$Small" (48 : Nat) "ConstraintHouse$Small" "domain" "Ljava/lang/Object;") ∈ lw_all := lw_g (lw_at lw_m2 209 rfl) rfl
theorem q710 : (Jvm.Cond.sameField "ConstraintHouse$Small" "ConstraintHouse$Variable" "domain" "Ljava/lang/Object;") ∈ lw_all := lw_g (lw_at lw_m2 210 rfl) rfl
theorem q723 : (Jvm.Cond.instantiable "ConstraintHouse$Small" (3 : Nat)) ∈ lw_all := lw_g (lw_at lw_m2 223 rfl) rfl
theorem q725 : (Jvm.Cond.instanceMethod ({ cls := "ConstraintHouse$Small", name := "<init>", desc := "()V" } : Jvm.MethodName)) ∈ lw_all := lw_g (lw_at lw_m2 225 rfl) rfl
theorem q726 : (Jvm.Cond.code ({ cls := "ConstraintHouse$Small", name := "<init>", desc := "()V" } : Jvm.MethodName) prog_35_method_1_code (1 : Nat) (Option.none : Option Jvm.ClassFile.FieldType)) ∈ lw_all := lw_g (lw_at lw_m2 226 rfl) rfl
theorem q727 : (Jvm.Cond.methodLinkNest "ConstraintHouse$Small" (3 : Nat) ({ cls := "ConstraintHouse$Numeric", name := "<init>", desc := "()V" } : Jvm.MethodName) "ConstraintHouse") ∈ lw_tbl := lw_at lw_m2 227 rfl
theorem q728 : (Jvm.Cond.fieldLink "ConstraintHouse$Small" (44 : Nat) "ConstraintHouse$Small" "mine" "[F") ∈ lw_all := lw_g (lw_at lw_m2 228 rfl) rfl
theorem q729 : (Jvm.Cond.lays "ConstraintHouse$Small" "ConstraintHouse$Small" "mine" "[F") ∈ lw_all := lw_g (lw_at lw_m2 229 rfl) rfl
theorem q730 : (Jvm.Cond.soleField "ConstraintHouse$Small" "mine") ∈ lw_all := lw_g (lw_at lw_m2 230 rfl) rfl
theorem q731 : (Jvm.Cond.lays "ConstraintHouse$Small" "ConstraintHouse$Variable" "domain" "Ljava/lang/Object;") ∈ lw_all := lw_g (lw_at lw_m2 231 rfl) rfl
theorem q732 : (Jvm.Cond.lays "ConstraintHouse$Small" "ConstraintHouse$Variable" "number" "I") ∈ lw_all := lw_g (lw_at lw_m2 232 rfl) rfl
theorem q733 : (Jvm.Cond.superclass "ConstraintHouse$Small" "ConstraintHouse$Numeric") ∈ lw_all := lw_g (lw_at lw_m2 233 rfl) rfl
theorem q910 : (Jvm.Cond.instanceMethod ({ cls := "ConstraintHouse$Small", name := "set", desc := "(FF)V" } : Jvm.MethodName)) ∈ lw_all := lw_g (lw_at lw_m3 170 rfl) rfl
theorem q911 : (Jvm.Cond.selects "ConstraintHouse$Small" ({ cls := "ConstraintHouse$Small", name := "set", desc := "(FF)V" } : Jvm.MethodName) ({ cls := "ConstraintHouse$Small", name := "set", desc := "(FF)V" } : Jvm.MethodName)) ∈ lw_all := lw_g (lw_at lw_m3 171 rfl) rfl
theorem q912 : (Jvm.Cond.code ({ cls := "ConstraintHouse$Small", name := "set", desc := "(FF)V" } : Jvm.MethodName) prog_35_method_8_code (3 : Nat) (Option.none : Option Jvm.ClassFile.FieldType)) ∈ lw_all := lw_g (lw_at lw_m3 172 rfl) rfl
theorem q1556 : (Jvm.Cond.selects "ConstraintHouse$Small" ({ cls := "ConstraintHouse$Variable", name := "sort", desc := "()I" } : Jvm.MethodName) ({ cls := "ConstraintHouse$Small", name := "sort", desc := "()I" } : Jvm.MethodName)) ∈ lw_all := lw_g (lw_at lw_m6 96 rfl) rfl
theorem q1557 : (Jvm.Cond.instanceMethod ({ cls := "ConstraintHouse$Small", name := "sort", desc := "()I" } : Jvm.MethodName)) ∈ lw_all := lw_g (lw_at lw_m6 97 rfl) rfl
theorem q1558 : (Jvm.Cond.code ({ cls := "ConstraintHouse$Small", name := "sort", desc := "()I" } : Jvm.MethodName) prog_35_method_2_code (1 : Nat) (Option.some Jvm.ClassFile.FieldType.int)) ∈ lw_all := lw_g (lw_at lw_m6 98 rfl) rfl
theorem q2172 : (Jvm.Cond.selects "ConstraintHouse$Small" ({ cls := "ConstraintHouse$Variable", name := "give", desc := "(Ljava/lang/Object;LConstraintHouse$Fault;)V" } : Jvm.MethodName) ({ cls := "ConstraintHouse$Small", name := "give", desc := "(Ljava/lang/Object;LConstraintHouse$Fault;)V" } : Jvm.MethodName)) ∈ lw_all := lw_g (lw_at lw_m8 232 rfl) rfl
theorem q2173 : (Jvm.Cond.instanceMethod ({ cls := "ConstraintHouse$Small", name := "give", desc := "(Ljava/lang/Object;LConstraintHouse$Fault;)V" } : Jvm.MethodName)) ∈ lw_all := lw_g (lw_at lw_m8 233 rfl) rfl
theorem q2174 : (Jvm.Cond.codeWith ({ cls := "ConstraintHouse$Small", name := "give", desc := "(Ljava/lang/Object;LConstraintHouse$Fault;)V" } : Jvm.MethodName) prog_35_method_7_code (5 : Nat) (Option.none : Option Jvm.ClassFile.FieldType) [((0 : Nat), (5 : Nat), (8 : Nat), (25 : Nat))]) ∈ lw_all := lw_g (lw_at lw_m8 234 rfl) rfl
theorem q2175 : (Jvm.Cond.classLink "ConstraintHouse$Small" (25 : Nat) "java/lang/ClassCastException") ∈ lw_all := lw_g (lw_at lw_m8 235 rfl) rfl
theorem q2176 : (Jvm.Cond.classLink "ConstraintHouse$Small" (23 : Nat) "[D") ∈ lw_all := lw_g (lw_at lw_m8 236 rfl) rfl
theorem q2177 : (Jvm.Cond.methodLink "ConstraintHouse$Small" (27 : Nat) ({ cls := "ConstraintHouse$Fault", name := "of", desc := "(I)LConstraintHouse$Fault;" } : Jvm.MethodName)) ∈ lw_all := lw_g (lw_at lw_m8 237 rfl) rfl
theorem q2178 : (Jvm.Cond.methodLink "ConstraintHouse$Small" (33 : Nat) ({ cls := "ConstraintHouse$Small", name := "under", desc := "(D)F" } : Jvm.MethodName)) ∈ lw_all := lw_g (lw_at lw_m8 238 rfl) rfl
theorem q2179 : (Jvm.Cond.static ({ cls := "ConstraintHouse$Small", name := "under", desc := "(D)F" } : Jvm.MethodName)) ∈ lw_all := lw_g (lw_at lw_m8 239 rfl) rfl
theorem q2180 : (Jvm.Cond.code ({ cls := "ConstraintHouse$Small", name := "under", desc := "(D)F" } : Jvm.MethodName) prog_35_method_4_code (3 : Nat) (Option.some Jvm.ClassFile.FieldType.float)) ∈ lw_all := lw_g (lw_at lw_m9 0 rfl) rfl
theorem q2181 : (Jvm.Cond.methodLink "ConstraintHouse$Small" (9 : Nat) ({ cls := "java/lang/Math", name := "nextDown", desc := "(F)F" } : Jvm.MethodName)) ∈ lw_all := lw_g (lw_at lw_m9 1 rfl) rfl
theorem q2195 : (Jvm.Cond.methodLink "ConstraintHouse$Small" (15 : Nat) ({ cls := "ConstraintHouse$Small", name := "plain", desc := "(F)F" } : Jvm.MethodName)) ∈ lw_all := lw_g (lw_at lw_m9 15 rfl) rfl
theorem q2196 : (Jvm.Cond.static ({ cls := "ConstraintHouse$Small", name := "plain", desc := "(F)F" } : Jvm.MethodName)) ∈ lw_all := lw_g (lw_at lw_m9 16 rfl) rfl
theorem q2197 : (Jvm.Cond.code ({ cls := "ConstraintHouse$Small", name := "plain", desc := "(F)F" } : Jvm.MethodName) prog_35_method_6_code (1 : Nat) (Option.some Jvm.ClassFile.FieldType.float)) ∈ lw_all := lw_g (lw_at lw_m9 17 rfl) rfl
theorem q2198 : (Jvm.Cond.methodLink "ConstraintHouse$Small" (37 : Nat) ({ cls := "ConstraintHouse$Small", name := "over", desc := "(D)F" } : Jvm.MethodName)) ∈ lw_all := lw_g (lw_at lw_m9 18 rfl) rfl
theorem q2199 : (Jvm.Cond.static ({ cls := "ConstraintHouse$Small", name := "over", desc := "(D)F" } : Jvm.MethodName)) ∈ lw_all := lw_g (lw_at lw_m9 19 rfl) rfl
theorem q2200 : (Jvm.Cond.code ({ cls := "ConstraintHouse$Small", name := "over", desc := "(D)F" } : Jvm.MethodName) prog_35_method_5_code (3 : Nat) (Option.some Jvm.ClassFile.FieldType.float)) ∈ lw_all := lw_g (lw_at lw_m9 20 rfl) rfl
theorem q2201 : (Jvm.Cond.methodLink "ConstraintHouse$Small" (20 : Nat) ({ cls := "java/lang/Math", name := "nextUp", desc := "(F)F" } : Jvm.MethodName)) ∈ lw_all := lw_g (lw_at lw_m9 21 rfl) rfl
theorem q2205 : (Jvm.Cond.methodLink "ConstraintHouse$Small" (40 : Nat) ({ cls := "ConstraintHouse$Small", name := "set", desc := "(FF)V" } : Jvm.MethodName)) ∈ lw_all := lw_g (lw_at lw_m9 25 rfl) rfl
theorem q2397 : (Jvm.Cond.selects "ConstraintHouse$Small" ({ cls := "ConstraintHouse$Splits", name := "things", desc := "()I" } : Jvm.MethodName) ({ cls := "ConstraintHouse$Small", name := "things", desc := "()I" } : Jvm.MethodName)) ∈ lw_all := lw_g (lw_at lw_m9 217 rfl) rfl
theorem q2398 : (Jvm.Cond.instanceMethod ({ cls := "ConstraintHouse$Small", name := "things", desc := "()I" } : Jvm.MethodName)) ∈ lw_all := lw_g (lw_at lw_m9 218 rfl) rfl
theorem q2399 : (Jvm.Cond.code ({ cls := "ConstraintHouse$Small", name := "things", desc := "()I" } : Jvm.MethodName) prog_35_method_12_code (1 : Nat) (Option.some Jvm.ClassFile.FieldType.int)) ∈ lw_all := lw_g (lw_at lw_m9 219 rfl) rfl
theorem q2424 : (Jvm.Cond.castable "ConstraintHouse$Small" "ConstraintHouse$Splits") ∈ lw_tbl := lw_at lw_m10 4 rfl
theorem q2425 : (Jvm.Cond.selects "ConstraintHouse$Small" ({ cls := "ConstraintHouse$Splits", name := "hasBounds", desc := "()Z" } : Jvm.MethodName) ({ cls := "ConstraintHouse$Small", name := "hasBounds", desc := "()Z" } : Jvm.MethodName)) ∈ lw_all := lw_g (lw_at lw_m10 5 rfl) rfl
theorem q2426 : (Jvm.Cond.unhidden "ConstraintHouse$Small" "hasBounds" "()Z") ∈ lw_tbl := lw_at lw_m10 6 rfl
theorem q2427 : (Jvm.Cond.instanceMethod ({ cls := "ConstraintHouse$Small", name := "hasBounds", desc := "()Z" } : Jvm.MethodName)) ∈ lw_all := lw_g (lw_at lw_m10 7 rfl) rfl
theorem q2428 : (Jvm.Cond.publicMethod ({ cls := "ConstraintHouse$Small", name := "hasBounds", desc := "()Z" } : Jvm.MethodName)) ∈ lw_tbl := lw_at lw_m10 8 rfl
theorem q2429 : (Jvm.Cond.code ({ cls := "ConstraintHouse$Small", name := "hasBounds", desc := "()Z" } : Jvm.MethodName) prog_35_method_3_code (1 : Nat) (Option.some Jvm.ClassFile.FieldType.boolean)) ∈ lw_all := lw_g (lw_at lw_m10 9 rfl) rfl
theorem q2444 : (Jvm.Cond.selects "ConstraintHouse$Small" ({ cls := "ConstraintHouse$Numeric", name := "low", desc := "()D" } : Jvm.MethodName) ({ cls := "ConstraintHouse$Small", name := "low", desc := "()D" } : Jvm.MethodName)) ∈ lw_all := lw_g (lw_at lw_m10 24 rfl) rfl
theorem q2445 : (Jvm.Cond.instanceMethod ({ cls := "ConstraintHouse$Small", name := "low", desc := "()D" } : Jvm.MethodName)) ∈ lw_all := lw_g (lw_at lw_m10 25 rfl) rfl
theorem q2446 : (Jvm.Cond.codeWith ({ cls := "ConstraintHouse$Small", name := "low", desc := "()D" } : Jvm.MethodName) prog_35_method_9_code (3 : Nat) (Option.some Jvm.ClassFile.FieldType.double) [((8 : Nat), (12 : Nat), (13 : Nat), (53 : Nat))]) ∈ lw_all := lw_g (lw_at lw_m10 26 rfl) rfl
theorem q2447 : (Jvm.Cond.classLink "ConstraintHouse$Small" (53 : Nat) "java/lang/NullPointerException") ∈ lw_all := lw_g (lw_at lw_m10 27 rfl) rfl
theorem q2448 : (Jvm.Cond.classLink "ConstraintHouse$Small" (52 : Nat) "[F") ∈ lw_all := lw_g (lw_at lw_m10 28 rfl) rfl
theorem q2449 : (Jvm.Cond.fieldLinkNest "ConstraintHouse$Small" (55 : Nat) "ConstraintHouse" "ABSENT" "LConstraintHouse$Absent;" "ConstraintHouse") ∈ lw_tbl := lw_at lw_m10 29 rfl
theorem q2462 : (Jvm.Cond.selects "ConstraintHouse$Small" ({ cls := "ConstraintHouse$Numeric", name := "high", desc := "()D" } : Jvm.MethodName) ({ cls := "ConstraintHouse$Small", name := "high", desc := "()D" } : Jvm.MethodName)) ∈ lw_all := lw_g (lw_at lw_m10 42 rfl) rfl
theorem q2463 : (Jvm.Cond.instanceMethod ({ cls := "ConstraintHouse$Small", name := "high", desc := "()D" } : Jvm.MethodName)) ∈ lw_all := lw_g (lw_at lw_m10 43 rfl) rfl
theorem q2464 : (Jvm.Cond.code ({ cls := "ConstraintHouse$Small", name := "high", desc := "()D" } : Jvm.MethodName) prog_35_method_10_code (1 : Nat) (Option.some Jvm.ClassFile.FieldType.double)) ∈ lw_all := lw_g (lw_at lw_m10 44 rfl) rfl
theorem q3182 : (Jvm.Cond.selects "ConstraintHouse$Small" ({ cls := "ConstraintHouse$Numeric", name := "keep", desc := "(DD)V" } : Jvm.MethodName) ({ cls := "ConstraintHouse$Small", name := "keep", desc := "(DD)V" } : Jvm.MethodName)) ∈ lw_all := lw_g (lw_at lw_m13 42 rfl) rfl
theorem q3183 : (Jvm.Cond.instanceMethod ({ cls := "ConstraintHouse$Small", name := "keep", desc := "(DD)V" } : Jvm.MethodName)) ∈ lw_all := lw_g (lw_at lw_m13 43 rfl) rfl
theorem q3184 : (Jvm.Cond.code ({ cls := "ConstraintHouse$Small", name := "keep", desc := "(DD)V" } : Jvm.MethodName) prog_35_method_11_code (7 : Nat) (Option.none : Option Jvm.ClassFile.FieldType)) ∈ lw_all := lw_g (lw_at lw_m13 44 rfl) rfl
theorem q3185 : (Jvm.Cond.fieldLinkNest "ConstraintHouse$Small" (59 : Nat) "ConstraintHouse" "NOTHING" "LConstraintHouse$Nothing;" "ConstraintHouse") ∈ lw_tbl := lw_at lw_m13 45 rfl
theorem q3352 : (Jvm.Cond.selects "ConstraintHouse$Small" ({ cls := "ConstraintHouse$Variable", name := "thing", desc := "(I)J" } : Jvm.MethodName) ({ cls := "ConstraintHouse$Small", name := "thing", desc := "(I)J" } : Jvm.MethodName)) ∈ lw_all := lw_g (lw_at lw_m13 212 rfl) rfl
theorem q3353 : (Jvm.Cond.instanceMethod ({ cls := "ConstraintHouse$Small", name := "thing", desc := "(I)J" } : Jvm.MethodName)) ∈ lw_all := lw_g (lw_at lw_m13 213 rfl) rfl
theorem q3354 : (Jvm.Cond.codeWith ({ cls := "ConstraintHouse$Small", name := "thing", desc := "(I)J" } : Jvm.MethodName) prog_35_method_14_code (5 : Nat) (Option.some Jvm.ClassFile.FieldType.long) [((8 : Nat), (12 : Nat), (15 : Nat), (53 : Nat)), ((8 : Nat), (12 : Nat), (21 : Nat), (67 : Nat))]) ∈ lw_all := lw_g (lw_at lw_m13 214 rfl) rfl
theorem q3355 : (Jvm.Cond.classLink "ConstraintHouse$Small" (67 : Nat) "java/lang/ArrayIndexOutOfBoundsException") ∈ lw_all := lw_g (lw_at lw_m13 215 rfl) rfl
theorem q3356 : (Jvm.Cond.methodLink "ConstraintHouse$Small" (63 : Nat) ({ cls := "ConstraintHouse$Small", name := "without", desc := "()Ljava/lang/IllegalStateException;" } : Jvm.MethodName)) ∈ lw_all := lw_g (lw_at lw_m13 216 rfl) rfl
theorem q3357 : (Jvm.Cond.sameMethod "ConstraintHouse$Small" "ConstraintHouse$Variable" "without" "()Ljava/lang/IllegalStateException;") ∈ lw_all := lw_g (lw_at lw_m13 217 rfl) rfl
theorem q3358 : (Jvm.Cond.classLink "ConstraintHouse$Small" (69 : Nat) "java/lang/IndexOutOfBoundsException") ∈ lw_all := lw_g (lw_at lw_m13 218 rfl) rfl
theorem q3359 : (Jvm.Cond.methodLink "ConstraintHouse$Small" (71 : Nat) ({ cls := "java/lang/IndexOutOfBoundsException", name := "<init>", desc := "()V" } : Jvm.MethodName)) ∈ lw_all := lw_g (lw_at lw_m13 219 rfl) rfl
theorem q3360 : (Jvm.Cond.methodLink "ConstraintHouse$Small" (72 : Nat) ({ cls := "java/lang/Float", name := "floatToIntBits", desc := "(F)I" } : Jvm.MethodName)) ∈ lw_all := lw_g (lw_at lw_m13 220 rfl) rfl
theorem q3366 : (Jvm.Cond.constantLong "ConstraintHouse$Small" (78 : Nat) (4294967295 : Int64)) ∈ lw_all := lw_g (lw_at lw_m13 226 rfl) rfl
theorem q3408 : (Jvm.Cond.selects "ConstraintHouse$Small" ({ cls := "ConstraintHouse$Splits", name := "isFixed", desc := "(D)Z" } : Jvm.MethodName) ({ cls := "ConstraintHouse$Small", name := "isFixed", desc := "(D)Z" } : Jvm.MethodName)) ∈ lw_all := lw_g (lw_at lw_m14 28 rfl) rfl
theorem q3409 : (Jvm.Cond.instanceMethod ({ cls := "ConstraintHouse$Small", name := "isFixed", desc := "(D)Z" } : Jvm.MethodName)) ∈ lw_all := lw_g (lw_at lw_m14 29 rfl) rfl
theorem q3410 : (Jvm.Cond.code ({ cls := "ConstraintHouse$Small", name := "isFixed", desc := "(D)Z" } : Jvm.MethodName) prog_35_method_13_code (3 : Nat) (Option.some Jvm.ClassFile.FieldType.boolean)) ∈ lw_all := lw_g (lw_at lw_m14 30 rfl) rfl
theorem q3538 : (Jvm.Cond.unhidden "ConstraintHouse$Small" "things" "()I") ∈ lw_tbl := lw_at lw_m14 158 rfl
theorem q3539 : (Jvm.Cond.publicMethod ({ cls := "ConstraintHouse$Small", name := "things", desc := "()I" } : Jvm.MethodName)) ∈ lw_tbl := lw_at lw_m14 159 rfl
theorem q3545 : (Jvm.Cond.unhidden "ConstraintHouse$Small" "told" "()I") ∈ lw_tbl := lw_at lw_m14 165 rfl
theorem q4797 : (Jvm.Cond.selects "ConstraintHouse$Small" ({ cls := "ConstraintHouse$Small", name := "low", desc := "()D" } : Jvm.MethodName) ({ cls := "ConstraintHouse$Small", name := "low", desc := "()D" } : Jvm.MethodName)) ∈ lw_all := lw_g (lw_at lw_m19 217 rfl) rfl
theorem q4798 : (Jvm.Cond.selects "ConstraintHouse$Small" ({ cls := "ConstraintHouse$Small", name := "high", desc := "()D" } : Jvm.MethodName) ({ cls := "ConstraintHouse$Small", name := "high", desc := "()D" } : Jvm.MethodName)) ∈ lw_all := lw_g (lw_at lw_m19 218 rfl) rfl
theorem q4808 : (Jvm.Cond.castable "ConstraintHouse$Small" "ConstraintHouse$Numeric") ∈ lw_tbl := lw_at lw_m19 228 rfl
theorem q4816 : (Jvm.Cond.castable "ConstraintHouse$Small" "java/lang/Object") ∈ lw_tbl := lw_at lw_m19 236 rfl
theorem q4856 : (Jvm.Cond.castable "ConstraintHouse$Small" "ConstraintHouse$Variable") ∈ lw_tbl := lw_at lw_m20 36 rfl
theorem in_X9 : ∀ w ∈ wsX90, w ∈ lw_all := lw_in wsX90 [731, 732, 729] (by decide +kernel) (by decide +kernel)
/-! ConstraintHouse$Whole -/
set_option maxRecDepth 100000
def RX10 : String := "ConstraintHouse$Whole"
def TX10 : u_T := fun k => match k with
  | 0 => ("ConstraintHouse$Variable", "domain", "Ljava/lang/Object;", false)
  | 1 => ("ConstraintHouse$Variable", "number", "I", false)
  | 2 => ("ConstraintHouse$Whole", "mine", "[S", false)
  | _ => ("ConstraintHouse$Whole", "many", "I", false)
def tyX10 : Nat → FieldType := fun k => match k with
  | 0 => .object "java/lang/Object"
  | 1 => .int
  | 2 => .array .short
  | _ => .int
abbrev wsX100 : List Cond := u_ws RX10 TX10 4
theorem nmX10 : ∀ a, a < 4 → ∀ b, b < 4 → a ≠ b → (TX10 a).2.1 ≠ (TX10 b).2.1 := by decide +kernel
theorem tyX10_ok : ∀ k, k < 4 → parseFieldDescriptor (TX10 k).2.2.1 = some (tyX10 k) := by decide +kernel
abbrev cX10_init : ByteArray := prog_44_method_1_code
def yX10_init : MethodName := ⟨RX10, "<init>", "()V"⟩
theorem dX10_init_0 : decode cX10_init 0 = .ok (.aload_n 0, 1) := by decide +kernel
theorem dX10_init_1 : decode cX10_init 1 = .ok (.invokespecial 3, 3) := by decide +kernel
theorem dX10_init_4 : decode cX10_init 4 = .ok (.return_, 1) := by decide +kernel
abbrev cX10_set : ByteArray := prog_44_method_13_code
def yX10_set : MethodName := ⟨RX10, "set", "([SII)V"⟩
def dkwX10_set_1 : List UInt8 := [53, 86, 132, 4, 1, 167, 255, 234, 42, 29, 181, 0, 38, 177]
abbrev dktX10_set_1 : List UInt8 := dkwX10_set_1 ++ []
def dkwX10_set_0 : List UInt8 := [42, 182, 0, 27, 3, 54, 4, 21, 4, 29, 162, 0, 22, 42, 180, 0, 34, 21, 4, 43, 28, 21, 4, 96]
abbrev dktX10_set_0 : List UInt8 := dkwX10_set_0 ++ dktX10_set_1
theorem dksX10_set_0 : cX10_set.data.toList.drop 0 = dktX10_set_0 := by decide +kernel
theorem dksX10_set_1 : cX10_set.data.toList.drop 24 = dktX10_set_1 := dk_seg dksX10_set_0 24 rfl rfl
theorem dX10_set_0 : decode cX10_set 0 = .ok (.aload_n 0, 1) := dk_42 (dk_at dksX10_set_0 0 rfl rfl)
theorem dX10_set_1 : decode cX10_set 1 = .ok (.invokevirtual 27, 3) := dk_182 0 27 (dk_at dksX10_set_0 1 rfl rfl)
theorem dX10_set_4 : decode cX10_set 4 = .ok (.iconst 0, 1) := dk_3 (dk_at dksX10_set_0 4 rfl rfl)
theorem dX10_set_5 : decode cX10_set 5 = .ok (.istore 4, 2) := dk_54 4 (dk_at dksX10_set_0 5 rfl rfl)
theorem dX10_set_7 : decode cX10_set 7 = .ok (.iload 4, 2) := dk_21 4 (dk_at dksX10_set_0 7 rfl rfl)
theorem dX10_set_9 : decode cX10_set 9 = .ok (.iload_n 3, 1) := dk_29 (dk_at dksX10_set_0 9 rfl rfl)
theorem dX10_set_10 : decode cX10_set 10 = .ok (.if_icmp .ge 22, 3) := dk_162 0 22 (dk_at dksX10_set_0 10 rfl rfl)
theorem dX10_set_13 : decode cX10_set 13 = .ok (.aload_n 0, 1) := dk_42 (dk_at dksX10_set_0 13 rfl rfl)
theorem dX10_set_14 : decode cX10_set 14 = .ok (.getfield 34, 3) := dk_180 0 34 (dk_at dksX10_set_0 14 rfl rfl)
theorem dX10_set_17 : decode cX10_set 17 = .ok (.iload 4, 2) := dk_21 4 (dk_at dksX10_set_0 17 rfl rfl)
theorem dX10_set_19 : decode cX10_set 19 = .ok (.aload_n 1, 1) := dk_43 (dk_at dksX10_set_0 19 rfl rfl)
theorem dX10_set_20 : decode cX10_set 20 = .ok (.iload_n 2, 1) := dk_28 (dk_at dksX10_set_0 20 rfl rfl)
theorem dX10_set_21 : decode cX10_set 21 = .ok (.iload 4, 2) := dk_21 4 (dk_at dksX10_set_0 21 rfl rfl)
theorem dX10_set_23 : decode cX10_set 23 = .ok (.iadd, 1) := dk_96 (dk_at dksX10_set_0 23 rfl rfl)
theorem dX10_set_24 : decode cX10_set 24 = .ok (.saload, 1) := dk_53 (dk_at dksX10_set_1 0 rfl rfl)
theorem dX10_set_25 : decode cX10_set 25 = .ok (.sastore, 1) := dk_86 (dk_at dksX10_set_1 1 rfl rfl)
theorem dX10_set_26 : decode cX10_set 26 = .ok (.iinc 4 1, 3) := dk_132 4 1 (dk_at dksX10_set_1 2 rfl rfl)
theorem dX10_set_29 : decode cX10_set 29 = .ok (.goto (-22), 3) := dk_167 255 234 (dk_at dksX10_set_1 5 rfl rfl)
theorem dX10_set_32 : decode cX10_set 32 = .ok (.aload_n 0, 1) := dk_42 (dk_at dksX10_set_1 8 rfl rfl)
theorem dX10_set_33 : decode cX10_set 33 = .ok (.iload_n 3, 1) := dk_29 (dk_at dksX10_set_1 9 rfl rfl)
theorem dX10_set_34 : decode cX10_set 34 = .ok (.putfield 38, 3) := dk_181 0 38 (dk_at dksX10_set_1 10 rfl rfl)
theorem dX10_set_37 : decode cX10_set 37 = .ok (.return_, 1) := dk_177 (dk_at dksX10_set_1 13 rfl rfl)
abbrev cX10_begin : ByteArray := prog_44_method_4_code
def yX10_begin : MethodName := ⟨RX10, "begin", "()V"⟩
def dkwX10_begin_1 : List UInt8 := [180, 0, 34, 181, 0, 42, 177]
abbrev dktX10_begin_1 : List UInt8 := dkwX10_begin_1 ++ []
def dkwX10_begin_0 : List UInt8 := [42, 180, 0, 34, 199, 0, 11, 42, 16, 64, 188, 9, 181, 0, 34, 42, 3, 181, 0, 38, 42, 42]
abbrev dktX10_begin_0 : List UInt8 := dkwX10_begin_0 ++ dktX10_begin_1
theorem dksX10_begin_0 : cX10_begin.data.toList.drop 0 = dktX10_begin_0 := by decide +kernel
theorem dksX10_begin_1 : cX10_begin.data.toList.drop 22 = dktX10_begin_1 := dk_seg dksX10_begin_0 22 rfl rfl
theorem dX10_begin_0 : decode cX10_begin 0 = .ok (.aload_n 0, 1) := dk_42 (dk_at dksX10_begin_0 0 rfl rfl)
theorem dX10_begin_1 : decode cX10_begin 1 = .ok (.getfield 34, 3) := dk_180 0 34 (dk_at dksX10_begin_0 1 rfl rfl)
theorem dX10_begin_4 : decode cX10_begin 4 = .ok (.ifnonnull 11, 3) := dk_199 0 11 (dk_at dksX10_begin_0 4 rfl rfl)
theorem dX10_begin_7 : decode cX10_begin 7 = .ok (.aload_n 0, 1) := dk_42 (dk_at dksX10_begin_0 7 rfl rfl)
theorem dX10_begin_8 : decode cX10_begin 8 = .ok (.bipush 64, 2) := dk_16 64 (dk_at dksX10_begin_0 8 rfl rfl)
theorem dX10_begin_10 : decode cX10_begin 10 = .ok (.newarray .short, 2) := dk_188_9 (dk_at dksX10_begin_0 10 rfl rfl)
theorem dX10_begin_12 : decode cX10_begin 12 = .ok (.putfield 34, 3) := dk_181 0 34 (dk_at dksX10_begin_0 12 rfl rfl)
theorem dX10_begin_15 : decode cX10_begin 15 = .ok (.aload_n 0, 1) := dk_42 (dk_at dksX10_begin_0 15 rfl rfl)
theorem dX10_begin_16 : decode cX10_begin 16 = .ok (.iconst 0, 1) := dk_3 (dk_at dksX10_begin_0 16 rfl rfl)
theorem dX10_begin_17 : decode cX10_begin 17 = .ok (.putfield 38, 3) := dk_181 0 38 (dk_at dksX10_begin_0 17 rfl rfl)
theorem dX10_begin_20 : decode cX10_begin 20 = .ok (.aload_n 0, 1) := dk_42 (dk_at dksX10_begin_0 20 rfl rfl)
theorem dX10_begin_21 : decode cX10_begin 21 = .ok (.aload_n 0, 1) := dk_42 (dk_at dksX10_begin_0 21 rfl rfl)
theorem dX10_begin_22 : decode cX10_begin 22 = .ok (.getfield 34, 3) := dk_180 0 34 (dk_at dksX10_begin_1 0 rfl rfl)
theorem dX10_begin_25 : decode cX10_begin 25 = .ok (.putfield 42, 3) := dk_181 0 42 (dk_at dksX10_begin_1 3 rfl rfl)
theorem dX10_begin_28 : decode cX10_begin 28 = .ok (.return_, 1) := dk_177 (dk_at dksX10_begin_1 6 rfl rfl)
abbrev cX10_sort : ByteArray := prog_44_method_2_code
def yX10_sort : MethodName := ⟨RX10, "sort", "()I"⟩
theorem dX10_sort_0 : decode cX10_sort 0 = .ok (.iconst 2, 1) := by decide +kernel
theorem dX10_sort_1 : decode cX10_sort 1 = .ok (.ireturn, 1) := by decide +kernel
abbrev cX10_give : ByteArray := prog_44_method_3_code
def yX10_give : MethodName := ⟨RX10, "give", "(Ljava/lang/Object;LConstraintHouse$Fault;)V"⟩
def dkwX10_give_5 : List UInt8 := [132, 4, 1, 167, 255, 236, 177]
abbrev dktX10_give_5 : List UInt8 := dkwX10_give_5 ++ []
def dkwX10_give_4 : List UInt8 := [182, 0, 27, 4, 54, 4, 21, 4, 45, 3, 46, 163, 0, 18, 42, 45, 21, 4, 46, 147, 182, 0, 30]
abbrev dktX10_give_4 : List UInt8 := dkwX10_give_4 ++ dktX10_give_5
def dkwX10_give_3 : List UInt8 := [21, 4, 46, 17, 78, 32, 164, 0, 9, 44, 5, 182, 0, 21, 191, 132, 4, 1, 167, 255, 219, 42]
abbrev dktX10_give_3 : List UInt8 := dkwX10_give_3 ++ dktX10_give_4
def dkwX10_give_2 : List UInt8 := [191, 4, 54, 4, 21, 4, 45, 3, 46, 163, 0, 35, 45, 21, 4, 46, 17, 177, 224, 161, 0, 13, 45]
abbrev dktX10_give_2 : List UInt8 := dkwX10_give_2 ++ dktX10_give_3
def dkwX10_give_1 : List UInt8 := [167, 0, 11, 58, 4, 44, 6, 182, 0, 21, 191, 45, 3, 46, 16, 64, 164, 0, 9, 44, 8, 182, 0, 21]
abbrev dktX10_give_1 : List UInt8 := dkwX10_give_1 ++ dktX10_give_2
def dkwX10_give_0 : List UInt8 := [43, 193, 0, 9, 153, 0, 13, 42, 43, 192, 0, 9, 44, 182, 0, 11, 177, 43, 192, 0, 17, 78]
abbrev dktX10_give_0 : List UInt8 := dkwX10_give_0 ++ dktX10_give_1
theorem dksX10_give_0 : cX10_give.data.toList.drop 0 = dktX10_give_0 := by decide +kernel
theorem dksX10_give_1 : cX10_give.data.toList.drop 22 = dktX10_give_1 := dk_seg dksX10_give_0 22 rfl rfl
theorem dksX10_give_2 : cX10_give.data.toList.drop 46 = dktX10_give_2 := dk_seg dksX10_give_1 24 rfl rfl
theorem dksX10_give_3 : cX10_give.data.toList.drop 69 = dktX10_give_3 := dk_seg dksX10_give_2 23 rfl rfl
theorem dksX10_give_4 : cX10_give.data.toList.drop 91 = dktX10_give_4 := dk_seg dksX10_give_3 22 rfl rfl
theorem dksX10_give_5 : cX10_give.data.toList.drop 114 = dktX10_give_5 := dk_seg dksX10_give_4 23 rfl rfl
theorem dX10_give_0 : decode cX10_give 0 = .ok (.aload_n 1, 1) := dk_43 (dk_at dksX10_give_0 0 rfl rfl)
theorem dX10_give_1 : decode cX10_give 1 = .ok (.instanceof 9, 3) := dk_193 0 9 (dk_at dksX10_give_0 1 rfl rfl)
theorem dX10_give_4 : decode cX10_give 4 = .ok (.ifCond .eq 13, 3) := dk_153 0 13 (dk_at dksX10_give_0 4 rfl rfl)
theorem dX10_give_7 : decode cX10_give 7 = .ok (.aload_n 0, 1) := dk_42 (dk_at dksX10_give_0 7 rfl rfl)
theorem dX10_give_8 : decode cX10_give 8 = .ok (.aload_n 1, 1) := dk_43 (dk_at dksX10_give_0 8 rfl rfl)
theorem dX10_give_9 : decode cX10_give 9 = .ok (.checkcast 9, 3) := dk_192 0 9 (dk_at dksX10_give_0 9 rfl rfl)
theorem dX10_give_12 : decode cX10_give 12 = .ok (.aload_n 2, 1) := dk_44 (dk_at dksX10_give_0 12 rfl rfl)
theorem dX10_give_13 : decode cX10_give 13 = .ok (.invokevirtual 11, 3) := dk_182 0 11 (dk_at dksX10_give_0 13 rfl rfl)
theorem dX10_give_16 : decode cX10_give 16 = .ok (.return_, 1) := dk_177 (dk_at dksX10_give_0 16 rfl rfl)
theorem dX10_give_17 : decode cX10_give 17 = .ok (.aload_n 1, 1) := dk_43 (dk_at dksX10_give_0 17 rfl rfl)
theorem dX10_give_18 : decode cX10_give 18 = .ok (.checkcast 17, 3) := dk_192 0 17 (dk_at dksX10_give_0 18 rfl rfl)
theorem dX10_give_21 : decode cX10_give 21 = .ok (.astore_n 3, 1) := dk_78 (dk_at dksX10_give_0 21 rfl rfl)
theorem dX10_give_22 : decode cX10_give 22 = .ok (.goto 11, 3) := dk_167 0 11 (dk_at dksX10_give_1 0 rfl rfl)
theorem dX10_give_25 : decode cX10_give 25 = .ok (.astore 4, 2) := dk_58 4 (dk_at dksX10_give_1 3 rfl rfl)
theorem dX10_give_27 : decode cX10_give 27 = .ok (.aload_n 2, 1) := dk_44 (dk_at dksX10_give_1 5 rfl rfl)
theorem dX10_give_28 : decode cX10_give 28 = .ok (.iconst 3, 1) := dk_6 (dk_at dksX10_give_1 6 rfl rfl)
theorem dX10_give_29 : decode cX10_give 29 = .ok (.invokevirtual 21, 3) := dk_182 0 21 (dk_at dksX10_give_1 7 rfl rfl)
theorem dX10_give_32 : decode cX10_give 32 = .ok (.athrow, 1) := dk_191 (dk_at dksX10_give_1 10 rfl rfl)
theorem dX10_give_33 : decode cX10_give 33 = .ok (.aload_n 3, 1) := dk_45 (dk_at dksX10_give_1 11 rfl rfl)
theorem dX10_give_34 : decode cX10_give 34 = .ok (.iconst 0, 1) := dk_3 (dk_at dksX10_give_1 12 rfl rfl)
theorem dX10_give_35 : decode cX10_give 35 = .ok (.iaload, 1) := dk_46 (dk_at dksX10_give_1 13 rfl rfl)
theorem dX10_give_36 : decode cX10_give 36 = .ok (.bipush 64, 2) := dk_16 64 (dk_at dksX10_give_1 14 rfl rfl)
theorem dX10_give_38 : decode cX10_give 38 = .ok (.if_icmp .le 9, 3) := dk_164 0 9 (dk_at dksX10_give_1 16 rfl rfl)
theorem dX10_give_41 : decode cX10_give 41 = .ok (.aload_n 2, 1) := dk_44 (dk_at dksX10_give_1 19 rfl rfl)
theorem dX10_give_42 : decode cX10_give 42 = .ok (.iconst 5, 1) := dk_8 (dk_at dksX10_give_1 20 rfl rfl)
theorem dX10_give_43 : decode cX10_give 43 = .ok (.invokevirtual 21, 3) := dk_182 0 21 (dk_at dksX10_give_1 21 rfl rfl)
theorem dX10_give_46 : decode cX10_give 46 = .ok (.athrow, 1) := dk_191 (dk_at dksX10_give_2 0 rfl rfl)
theorem dX10_give_47 : decode cX10_give 47 = .ok (.iconst 1, 1) := dk_4 (dk_at dksX10_give_2 1 rfl rfl)
theorem dX10_give_48 : decode cX10_give 48 = .ok (.istore 4, 2) := dk_54 4 (dk_at dksX10_give_2 2 rfl rfl)
theorem dX10_give_50 : decode cX10_give 50 = .ok (.iload 4, 2) := dk_21 4 (dk_at dksX10_give_2 4 rfl rfl)
theorem dX10_give_52 : decode cX10_give 52 = .ok (.aload_n 3, 1) := dk_45 (dk_at dksX10_give_2 6 rfl rfl)
theorem dX10_give_53 : decode cX10_give 53 = .ok (.iconst 0, 1) := dk_3 (dk_at dksX10_give_2 7 rfl rfl)
theorem dX10_give_54 : decode cX10_give 54 = .ok (.iaload, 1) := dk_46 (dk_at dksX10_give_2 8 rfl rfl)
theorem dX10_give_55 : decode cX10_give 55 = .ok (.if_icmp .gt 35, 3) := dk_163 0 35 (dk_at dksX10_give_2 9 rfl rfl)
theorem dX10_give_58 : decode cX10_give 58 = .ok (.aload_n 3, 1) := dk_45 (dk_at dksX10_give_2 12 rfl rfl)
theorem dX10_give_59 : decode cX10_give 59 = .ok (.iload 4, 2) := dk_21 4 (dk_at dksX10_give_2 13 rfl rfl)
theorem dX10_give_61 : decode cX10_give 61 = .ok (.iaload, 1) := dk_46 (dk_at dksX10_give_2 15 rfl rfl)
theorem dX10_give_62 : decode cX10_give 62 = .ok (.sipush (-20000), 3) := dk_17 177 224 (dk_at dksX10_give_2 16 rfl rfl)
theorem dX10_give_65 : decode cX10_give 65 = .ok (.if_icmp .lt 13, 3) := dk_161 0 13 (dk_at dksX10_give_2 19 rfl rfl)
theorem dX10_give_68 : decode cX10_give 68 = .ok (.aload_n 3, 1) := dk_45 (dk_at dksX10_give_2 22 rfl rfl)
theorem dX10_give_69 : decode cX10_give 69 = .ok (.iload 4, 2) := dk_21 4 (dk_at dksX10_give_3 0 rfl rfl)
theorem dX10_give_71 : decode cX10_give 71 = .ok (.iaload, 1) := dk_46 (dk_at dksX10_give_3 2 rfl rfl)
theorem dX10_give_72 : decode cX10_give 72 = .ok (.sipush 20000, 3) := dk_17 78 32 (dk_at dksX10_give_3 3 rfl rfl)
theorem dX10_give_75 : decode cX10_give 75 = .ok (.if_icmp .le 9, 3) := dk_164 0 9 (dk_at dksX10_give_3 6 rfl rfl)
theorem dX10_give_78 : decode cX10_give 78 = .ok (.aload_n 2, 1) := dk_44 (dk_at dksX10_give_3 9 rfl rfl)
theorem dX10_give_79 : decode cX10_give 79 = .ok (.iconst 2, 1) := dk_5 (dk_at dksX10_give_3 10 rfl rfl)
theorem dX10_give_80 : decode cX10_give 80 = .ok (.invokevirtual 21, 3) := dk_182 0 21 (dk_at dksX10_give_3 11 rfl rfl)
theorem dX10_give_83 : decode cX10_give 83 = .ok (.athrow, 1) := dk_191 (dk_at dksX10_give_3 14 rfl rfl)
theorem dX10_give_84 : decode cX10_give 84 = .ok (.iinc 4 1, 3) := dk_132 4 1 (dk_at dksX10_give_3 15 rfl rfl)
theorem dX10_give_87 : decode cX10_give 87 = .ok (.goto (-37), 3) := dk_167 255 219 (dk_at dksX10_give_3 18 rfl rfl)
theorem dX10_give_90 : decode cX10_give 90 = .ok (.aload_n 0, 1) := dk_42 (dk_at dksX10_give_3 21 rfl rfl)
theorem dX10_give_91 : decode cX10_give 91 = .ok (.invokevirtual 27, 3) := dk_182 0 27 (dk_at dksX10_give_4 0 rfl rfl)
theorem dX10_give_94 : decode cX10_give 94 = .ok (.iconst 1, 1) := dk_4 (dk_at dksX10_give_4 3 rfl rfl)
theorem dX10_give_95 : decode cX10_give 95 = .ok (.istore 4, 2) := dk_54 4 (dk_at dksX10_give_4 4 rfl rfl)
theorem dX10_give_97 : decode cX10_give 97 = .ok (.iload 4, 2) := dk_21 4 (dk_at dksX10_give_4 6 rfl rfl)
theorem dX10_give_99 : decode cX10_give 99 = .ok (.aload_n 3, 1) := dk_45 (dk_at dksX10_give_4 8 rfl rfl)
theorem dX10_give_100 : decode cX10_give 100 = .ok (.iconst 0, 1) := dk_3 (dk_at dksX10_give_4 9 rfl rfl)
theorem dX10_give_101 : decode cX10_give 101 = .ok (.iaload, 1) := dk_46 (dk_at dksX10_give_4 10 rfl rfl)
theorem dX10_give_102 : decode cX10_give 102 = .ok (.if_icmp .gt 18, 3) := dk_163 0 18 (dk_at dksX10_give_4 11 rfl rfl)
theorem dX10_give_105 : decode cX10_give 105 = .ok (.aload_n 0, 1) := dk_42 (dk_at dksX10_give_4 14 rfl rfl)
theorem dX10_give_106 : decode cX10_give 106 = .ok (.aload_n 3, 1) := dk_45 (dk_at dksX10_give_4 15 rfl rfl)
theorem dX10_give_107 : decode cX10_give 107 = .ok (.iload 4, 2) := dk_21 4 (dk_at dksX10_give_4 16 rfl rfl)
theorem dX10_give_109 : decode cX10_give 109 = .ok (.iaload, 1) := dk_46 (dk_at dksX10_give_4 18 rfl rfl)
theorem dX10_give_110 : decode cX10_give 110 = .ok (.i2s, 1) := dk_147 (dk_at dksX10_give_4 19 rfl rfl)
theorem dX10_give_111 : decode cX10_give 111 = .ok (.invokevirtual 30, 3) := dk_182 0 30 (dk_at dksX10_give_4 20 rfl rfl)
theorem dX10_give_114 : decode cX10_give 114 = .ok (.iinc 4 1, 3) := dk_132 4 1 (dk_at dksX10_give_5 0 rfl rfl)
theorem dX10_give_117 : decode cX10_give 117 = .ok (.goto (-20), 3) := dk_167 255 236 (dk_at dksX10_give_5 3 rfl rfl)
theorem dX10_give_120 : decode cX10_give 120 = .ok (.return_, 1) := dk_177 (dk_at dksX10_give_5 6 rfl rfl)
abbrev cX10_range : ByteArray := prog_44_method_6_code
def yX10_range : MethodName := ⟨RX10, "range", "([DLConstraintHouse$Fault;)V"⟩
def dkwX10_range_5 : List UInt8 := [96, 181, 0, 38, 21, 5, 147, 86, 132, 5, 1, 167, 255, 227, 177]
abbrev dktX10_range_5 : List UInt8 := dkwX10_range_5 ++ []
def dkwX10_range_4 : List UInt8 := [182, 0, 27, 29, 54, 5, 21, 5, 21, 4, 163, 0, 28, 42, 180, 0, 34, 42, 89, 180, 0, 38, 90, 4]
abbrev dktX10_range_4 : List UInt8 := dkwX10_range_4 ++ dktX10_range_5
def dkwX10_range_3 : List UInt8 := [16, 7, 182, 0, 21, 191, 21, 4, 29, 100, 16, 64, 161, 0, 9, 44, 8, 182, 0, 21, 191, 42]
abbrev dktX10_range_3 : List UInt8 := dkwX10_range_3 ++ dktX10_range_4
def dkwX10_range_2 : List UInt8 := [3, 49, 184, 0, 50, 142, 62, 43, 4, 49, 184, 0, 56, 142, 54, 4, 29, 21, 4, 164, 0, 10, 44]
abbrev dktX10_range_2 : List UInt8 := dkwX10_range_2 ++ dktX10_range_3
def dkwX10_range_1 : List UInt8 := [20, 0, 46, 152, 155, 0, 13, 43, 4, 49, 20, 0, 48, 151, 158, 0, 9, 44, 5, 182, 0, 21, 191, 43]
abbrev dktX10_range_1 : List UInt8 := dkwX10_range_1 ++ dktX10_range_2
def dkwX10_range_0 : List UInt8 := [43, 3, 49, 20, 0, 46, 152, 155, 0, 33, 43, 3, 49, 20, 0, 48, 151, 157, 0, 23, 43, 4, 49]
abbrev dktX10_range_0 : List UInt8 := dkwX10_range_0 ++ dktX10_range_1
theorem dksX10_range_0 : cX10_range.data.toList.drop 0 = dktX10_range_0 := by decide +kernel
theorem dksX10_range_1 : cX10_range.data.toList.drop 23 = dktX10_range_1 := dk_seg dksX10_range_0 23 rfl rfl
theorem dksX10_range_2 : cX10_range.data.toList.drop 47 = dktX10_range_2 := dk_seg dksX10_range_1 24 rfl rfl
theorem dksX10_range_3 : cX10_range.data.toList.drop 70 = dktX10_range_3 := dk_seg dksX10_range_2 23 rfl rfl
theorem dksX10_range_4 : cX10_range.data.toList.drop 92 = dktX10_range_4 := dk_seg dksX10_range_3 22 rfl rfl
theorem dksX10_range_5 : cX10_range.data.toList.drop 116 = dktX10_range_5 := dk_seg dksX10_range_4 24 rfl rfl
theorem dX10_range_0 : decode cX10_range 0 = .ok (.aload_n 1, 1) := dk_43 (dk_at dksX10_range_0 0 rfl rfl)
theorem dX10_range_1 : decode cX10_range 1 = .ok (.iconst 0, 1) := dk_3 (dk_at dksX10_range_0 1 rfl rfl)
theorem dX10_range_2 : decode cX10_range 2 = .ok (.daload, 1) := dk_49 (dk_at dksX10_range_0 2 rfl rfl)
theorem dX10_range_3 : decode cX10_range 3 = .ok (.ldc2_w 46, 3) := dk_20 0 46 (dk_at dksX10_range_0 3 rfl rfl)
theorem dX10_range_6 : decode cX10_range 6 = .ok (.dcmp .g, 1) := dk_152 (dk_at dksX10_range_0 6 rfl rfl)
theorem dX10_range_7 : decode cX10_range 7 = .ok (.ifCond .lt 33, 3) := dk_155 0 33 (dk_at dksX10_range_0 7 rfl rfl)
theorem dX10_range_10 : decode cX10_range 10 = .ok (.aload_n 1, 1) := dk_43 (dk_at dksX10_range_0 10 rfl rfl)
theorem dX10_range_11 : decode cX10_range 11 = .ok (.iconst 0, 1) := dk_3 (dk_at dksX10_range_0 11 rfl rfl)
theorem dX10_range_12 : decode cX10_range 12 = .ok (.daload, 1) := dk_49 (dk_at dksX10_range_0 12 rfl rfl)
theorem dX10_range_13 : decode cX10_range 13 = .ok (.ldc2_w 48, 3) := dk_20 0 48 (dk_at dksX10_range_0 13 rfl rfl)
theorem dX10_range_16 : decode cX10_range 16 = .ok (.dcmp .l, 1) := dk_151 (dk_at dksX10_range_0 16 rfl rfl)
theorem dX10_range_17 : decode cX10_range 17 = .ok (.ifCond .gt 23, 3) := dk_157 0 23 (dk_at dksX10_range_0 17 rfl rfl)
theorem dX10_range_20 : decode cX10_range 20 = .ok (.aload_n 1, 1) := dk_43 (dk_at dksX10_range_0 20 rfl rfl)
theorem dX10_range_21 : decode cX10_range 21 = .ok (.iconst 1, 1) := dk_4 (dk_at dksX10_range_0 21 rfl rfl)
theorem dX10_range_22 : decode cX10_range 22 = .ok (.daload, 1) := dk_49 (dk_at dksX10_range_0 22 rfl rfl)
theorem dX10_range_23 : decode cX10_range 23 = .ok (.ldc2_w 46, 3) := dk_20 0 46 (dk_at dksX10_range_1 0 rfl rfl)
theorem dX10_range_26 : decode cX10_range 26 = .ok (.dcmp .g, 1) := dk_152 (dk_at dksX10_range_1 3 rfl rfl)
theorem dX10_range_27 : decode cX10_range 27 = .ok (.ifCond .lt 13, 3) := dk_155 0 13 (dk_at dksX10_range_1 4 rfl rfl)
theorem dX10_range_30 : decode cX10_range 30 = .ok (.aload_n 1, 1) := dk_43 (dk_at dksX10_range_1 7 rfl rfl)
theorem dX10_range_31 : decode cX10_range 31 = .ok (.iconst 1, 1) := dk_4 (dk_at dksX10_range_1 8 rfl rfl)
theorem dX10_range_32 : decode cX10_range 32 = .ok (.daload, 1) := dk_49 (dk_at dksX10_range_1 9 rfl rfl)
theorem dX10_range_33 : decode cX10_range 33 = .ok (.ldc2_w 48, 3) := dk_20 0 48 (dk_at dksX10_range_1 10 rfl rfl)
theorem dX10_range_36 : decode cX10_range 36 = .ok (.dcmp .l, 1) := dk_151 (dk_at dksX10_range_1 13 rfl rfl)
theorem dX10_range_37 : decode cX10_range 37 = .ok (.ifCond .le 9, 3) := dk_158 0 9 (dk_at dksX10_range_1 14 rfl rfl)
theorem dX10_range_40 : decode cX10_range 40 = .ok (.aload_n 2, 1) := dk_44 (dk_at dksX10_range_1 17 rfl rfl)
theorem dX10_range_41 : decode cX10_range 41 = .ok (.iconst 2, 1) := dk_5 (dk_at dksX10_range_1 18 rfl rfl)
theorem dX10_range_42 : decode cX10_range 42 = .ok (.invokevirtual 21, 3) := dk_182 0 21 (dk_at dksX10_range_1 19 rfl rfl)
theorem dX10_range_45 : decode cX10_range 45 = .ok (.athrow, 1) := dk_191 (dk_at dksX10_range_1 22 rfl rfl)
theorem dX10_range_46 : decode cX10_range 46 = .ok (.aload_n 1, 1) := dk_43 (dk_at dksX10_range_1 23 rfl rfl)
theorem dX10_range_47 : decode cX10_range 47 = .ok (.iconst 0, 1) := dk_3 (dk_at dksX10_range_2 0 rfl rfl)
theorem dX10_range_48 : decode cX10_range 48 = .ok (.daload, 1) := dk_49 (dk_at dksX10_range_2 1 rfl rfl)
theorem dX10_range_49 : decode cX10_range 49 = .ok (.invokestatic 50, 3) := dk_184 0 50 (dk_at dksX10_range_2 2 rfl rfl)
theorem dX10_range_52 : decode cX10_range 52 = .ok (.d2i, 1) := dk_142 (dk_at dksX10_range_2 5 rfl rfl)
theorem dX10_range_53 : decode cX10_range 53 = .ok (.istore_n 3, 1) := dk_62 (dk_at dksX10_range_2 6 rfl rfl)
theorem dX10_range_54 : decode cX10_range 54 = .ok (.aload_n 1, 1) := dk_43 (dk_at dksX10_range_2 7 rfl rfl)
theorem dX10_range_55 : decode cX10_range 55 = .ok (.iconst 1, 1) := dk_4 (dk_at dksX10_range_2 8 rfl rfl)
theorem dX10_range_56 : decode cX10_range 56 = .ok (.daload, 1) := dk_49 (dk_at dksX10_range_2 9 rfl rfl)
theorem dX10_range_57 : decode cX10_range 57 = .ok (.invokestatic 56, 3) := dk_184 0 56 (dk_at dksX10_range_2 10 rfl rfl)
theorem dX10_range_60 : decode cX10_range 60 = .ok (.d2i, 1) := dk_142 (dk_at dksX10_range_2 13 rfl rfl)
theorem dX10_range_61 : decode cX10_range 61 = .ok (.istore 4, 2) := dk_54 4 (dk_at dksX10_range_2 14 rfl rfl)
theorem dX10_range_63 : decode cX10_range 63 = .ok (.iload_n 3, 1) := dk_29 (dk_at dksX10_range_2 16 rfl rfl)
theorem dX10_range_64 : decode cX10_range 64 = .ok (.iload 4, 2) := dk_21 4 (dk_at dksX10_range_2 17 rfl rfl)
theorem dX10_range_66 : decode cX10_range 66 = .ok (.if_icmp .le 10, 3) := dk_164 0 10 (dk_at dksX10_range_2 19 rfl rfl)
theorem dX10_range_69 : decode cX10_range 69 = .ok (.aload_n 2, 1) := dk_44 (dk_at dksX10_range_2 22 rfl rfl)
theorem dX10_range_70 : decode cX10_range 70 = .ok (.bipush 7, 2) := dk_16 7 (dk_at dksX10_range_3 0 rfl rfl)
theorem dX10_range_72 : decode cX10_range 72 = .ok (.invokevirtual 21, 3) := dk_182 0 21 (dk_at dksX10_range_3 2 rfl rfl)
theorem dX10_range_75 : decode cX10_range 75 = .ok (.athrow, 1) := dk_191 (dk_at dksX10_range_3 5 rfl rfl)
theorem dX10_range_76 : decode cX10_range 76 = .ok (.iload 4, 2) := dk_21 4 (dk_at dksX10_range_3 6 rfl rfl)
theorem dX10_range_78 : decode cX10_range 78 = .ok (.iload_n 3, 1) := dk_29 (dk_at dksX10_range_3 8 rfl rfl)
theorem dX10_range_79 : decode cX10_range 79 = .ok (.isub, 1) := dk_100 (dk_at dksX10_range_3 9 rfl rfl)
theorem dX10_range_80 : decode cX10_range 80 = .ok (.bipush 64, 2) := dk_16 64 (dk_at dksX10_range_3 10 rfl rfl)
theorem dX10_range_82 : decode cX10_range 82 = .ok (.if_icmp .lt 9, 3) := dk_161 0 9 (dk_at dksX10_range_3 12 rfl rfl)
theorem dX10_range_85 : decode cX10_range 85 = .ok (.aload_n 2, 1) := dk_44 (dk_at dksX10_range_3 15 rfl rfl)
theorem dX10_range_86 : decode cX10_range 86 = .ok (.iconst 5, 1) := dk_8 (dk_at dksX10_range_3 16 rfl rfl)
theorem dX10_range_87 : decode cX10_range 87 = .ok (.invokevirtual 21, 3) := dk_182 0 21 (dk_at dksX10_range_3 17 rfl rfl)
theorem dX10_range_90 : decode cX10_range 90 = .ok (.athrow, 1) := dk_191 (dk_at dksX10_range_3 20 rfl rfl)
theorem dX10_range_91 : decode cX10_range 91 = .ok (.aload_n 0, 1) := dk_42 (dk_at dksX10_range_3 21 rfl rfl)
theorem dX10_range_92 : decode cX10_range 92 = .ok (.invokevirtual 27, 3) := dk_182 0 27 (dk_at dksX10_range_4 0 rfl rfl)
theorem dX10_range_95 : decode cX10_range 95 = .ok (.iload_n 3, 1) := dk_29 (dk_at dksX10_range_4 3 rfl rfl)
theorem dX10_range_96 : decode cX10_range 96 = .ok (.istore 5, 2) := dk_54 5 (dk_at dksX10_range_4 4 rfl rfl)
theorem dX10_range_98 : decode cX10_range 98 = .ok (.iload 5, 2) := dk_21 5 (dk_at dksX10_range_4 6 rfl rfl)
theorem dX10_range_100 : decode cX10_range 100 = .ok (.iload 4, 2) := dk_21 4 (dk_at dksX10_range_4 8 rfl rfl)
theorem dX10_range_102 : decode cX10_range 102 = .ok (.if_icmp .gt 28, 3) := dk_163 0 28 (dk_at dksX10_range_4 10 rfl rfl)
theorem dX10_range_105 : decode cX10_range 105 = .ok (.aload_n 0, 1) := dk_42 (dk_at dksX10_range_4 13 rfl rfl)
theorem dX10_range_106 : decode cX10_range 106 = .ok (.getfield 34, 3) := dk_180 0 34 (dk_at dksX10_range_4 14 rfl rfl)
theorem dX10_range_109 : decode cX10_range 109 = .ok (.aload_n 0, 1) := dk_42 (dk_at dksX10_range_4 17 rfl rfl)
theorem dX10_range_110 : decode cX10_range 110 = .ok (.dup, 1) := dk_89 (dk_at dksX10_range_4 18 rfl rfl)
theorem dX10_range_111 : decode cX10_range 111 = .ok (.getfield 38, 3) := dk_180 0 38 (dk_at dksX10_range_4 19 rfl rfl)
theorem dX10_range_114 : decode cX10_range 114 = .ok (.dup_x1, 1) := dk_90 (dk_at dksX10_range_4 22 rfl rfl)
theorem dX10_range_115 : decode cX10_range 115 = .ok (.iconst 1, 1) := dk_4 (dk_at dksX10_range_4 23 rfl rfl)
theorem dX10_range_116 : decode cX10_range 116 = .ok (.iadd, 1) := dk_96 (dk_at dksX10_range_5 0 rfl rfl)
theorem dX10_range_117 : decode cX10_range 117 = .ok (.putfield 38, 3) := dk_181 0 38 (dk_at dksX10_range_5 1 rfl rfl)
theorem dX10_range_120 : decode cX10_range 120 = .ok (.iload 5, 2) := dk_21 5 (dk_at dksX10_range_5 4 rfl rfl)
theorem dX10_range_122 : decode cX10_range 122 = .ok (.i2s, 1) := dk_147 (dk_at dksX10_range_5 6 rfl rfl)
theorem dX10_range_123 : decode cX10_range 123 = .ok (.sastore, 1) := dk_86 (dk_at dksX10_range_5 7 rfl rfl)
theorem dX10_range_124 : decode cX10_range 124 = .ok (.iinc 5 1, 3) := dk_132 5 1 (dk_at dksX10_range_5 8 rfl rfl)
theorem dX10_range_127 : decode cX10_range 127 = .ok (.goto (-29), 3) := dk_167 255 227 (dk_at dksX10_range_5 11 rfl rfl)
theorem dX10_range_130 : decode cX10_range 130 = .ok (.return_, 1) := dk_177 (dk_at dksX10_range_5 14 rfl rfl)
abbrev cX10_add : ByteArray := prog_44_method_5_code
def yX10_add : MethodName := ⟨RX10, "add", "(S)V"⟩
def dkwX10_add_3 : List UInt8 := [132, 3, 255, 167, 255, 234, 42, 180, 0, 34, 28, 27, 86, 42, 89, 180, 0, 38, 4, 96, 181, 0, 38, 177]
abbrev dktX10_add_3 : List UInt8 := dkwX10_add_3 ++ []
def dkwX10_add_2 : List UInt8 := [180, 0, 38, 62, 29, 28, 164, 0, 23, 42, 180, 0, 34, 29, 42, 180, 0, 34, 29, 4, 100, 53, 86]
abbrev dktX10_add_2 : List UInt8 := dkwX10_add_2 ++ dktX10_add_3
def dkwX10_add_1 : List UInt8 := [167, 255, 235, 28, 42, 180, 0, 38, 162, 0, 14, 42, 180, 0, 34, 28, 53, 27, 160, 0, 4, 177, 42]
abbrev dktX10_add_1 : List UInt8 := dkwX10_add_1 ++ dktX10_add_2
def dkwX10_add_0 : List UInt8 := [3, 61, 28, 42, 180, 0, 38, 162, 0, 19, 42, 180, 0, 34, 28, 53, 27, 162, 0, 9, 132, 2, 1]
abbrev dktX10_add_0 : List UInt8 := dkwX10_add_0 ++ dktX10_add_1
theorem dksX10_add_0 : cX10_add.data.toList.drop 0 = dktX10_add_0 := by decide +kernel
theorem dksX10_add_1 : cX10_add.data.toList.drop 23 = dktX10_add_1 := dk_seg dksX10_add_0 23 rfl rfl
theorem dksX10_add_2 : cX10_add.data.toList.drop 46 = dktX10_add_2 := dk_seg dksX10_add_1 23 rfl rfl
theorem dksX10_add_3 : cX10_add.data.toList.drop 69 = dktX10_add_3 := dk_seg dksX10_add_2 23 rfl rfl
theorem dX10_add_0 : decode cX10_add 0 = .ok (.iconst 0, 1) := dk_3 (dk_at dksX10_add_0 0 rfl rfl)
theorem dX10_add_1 : decode cX10_add 1 = .ok (.istore_n 2, 1) := dk_61 (dk_at dksX10_add_0 1 rfl rfl)
theorem dX10_add_2 : decode cX10_add 2 = .ok (.iload_n 2, 1) := dk_28 (dk_at dksX10_add_0 2 rfl rfl)
theorem dX10_add_3 : decode cX10_add 3 = .ok (.aload_n 0, 1) := dk_42 (dk_at dksX10_add_0 3 rfl rfl)
theorem dX10_add_4 : decode cX10_add 4 = .ok (.getfield 38, 3) := dk_180 0 38 (dk_at dksX10_add_0 4 rfl rfl)
theorem dX10_add_7 : decode cX10_add 7 = .ok (.if_icmp .ge 19, 3) := dk_162 0 19 (dk_at dksX10_add_0 7 rfl rfl)
theorem dX10_add_10 : decode cX10_add 10 = .ok (.aload_n 0, 1) := dk_42 (dk_at dksX10_add_0 10 rfl rfl)
theorem dX10_add_11 : decode cX10_add 11 = .ok (.getfield 34, 3) := dk_180 0 34 (dk_at dksX10_add_0 11 rfl rfl)
theorem dX10_add_14 : decode cX10_add 14 = .ok (.iload_n 2, 1) := dk_28 (dk_at dksX10_add_0 14 rfl rfl)
theorem dX10_add_15 : decode cX10_add 15 = .ok (.saload, 1) := dk_53 (dk_at dksX10_add_0 15 rfl rfl)
theorem dX10_add_16 : decode cX10_add 16 = .ok (.iload_n 1, 1) := dk_27 (dk_at dksX10_add_0 16 rfl rfl)
theorem dX10_add_17 : decode cX10_add 17 = .ok (.if_icmp .ge 9, 3) := dk_162 0 9 (dk_at dksX10_add_0 17 rfl rfl)
theorem dX10_add_20 : decode cX10_add 20 = .ok (.iinc 2 1, 3) := dk_132 2 1 (dk_at dksX10_add_0 20 rfl rfl)
theorem dX10_add_23 : decode cX10_add 23 = .ok (.goto (-21), 3) := dk_167 255 235 (dk_at dksX10_add_1 0 rfl rfl)
theorem dX10_add_26 : decode cX10_add 26 = .ok (.iload_n 2, 1) := dk_28 (dk_at dksX10_add_1 3 rfl rfl)
theorem dX10_add_27 : decode cX10_add 27 = .ok (.aload_n 0, 1) := dk_42 (dk_at dksX10_add_1 4 rfl rfl)
theorem dX10_add_28 : decode cX10_add 28 = .ok (.getfield 38, 3) := dk_180 0 38 (dk_at dksX10_add_1 5 rfl rfl)
theorem dX10_add_31 : decode cX10_add 31 = .ok (.if_icmp .ge 14, 3) := dk_162 0 14 (dk_at dksX10_add_1 8 rfl rfl)
theorem dX10_add_34 : decode cX10_add 34 = .ok (.aload_n 0, 1) := dk_42 (dk_at dksX10_add_1 11 rfl rfl)
theorem dX10_add_35 : decode cX10_add 35 = .ok (.getfield 34, 3) := dk_180 0 34 (dk_at dksX10_add_1 12 rfl rfl)
theorem dX10_add_38 : decode cX10_add 38 = .ok (.iload_n 2, 1) := dk_28 (dk_at dksX10_add_1 15 rfl rfl)
theorem dX10_add_39 : decode cX10_add 39 = .ok (.saload, 1) := dk_53 (dk_at dksX10_add_1 16 rfl rfl)
theorem dX10_add_40 : decode cX10_add 40 = .ok (.iload_n 1, 1) := dk_27 (dk_at dksX10_add_1 17 rfl rfl)
theorem dX10_add_41 : decode cX10_add 41 = .ok (.if_icmp .ne 4, 3) := dk_160 0 4 (dk_at dksX10_add_1 18 rfl rfl)
theorem dX10_add_44 : decode cX10_add 44 = .ok (.return_, 1) := dk_177 (dk_at dksX10_add_1 21 rfl rfl)
theorem dX10_add_45 : decode cX10_add 45 = .ok (.aload_n 0, 1) := dk_42 (dk_at dksX10_add_1 22 rfl rfl)
theorem dX10_add_46 : decode cX10_add 46 = .ok (.getfield 38, 3) := dk_180 0 38 (dk_at dksX10_add_2 0 rfl rfl)
theorem dX10_add_49 : decode cX10_add 49 = .ok (.istore_n 3, 1) := dk_62 (dk_at dksX10_add_2 3 rfl rfl)
theorem dX10_add_50 : decode cX10_add 50 = .ok (.iload_n 3, 1) := dk_29 (dk_at dksX10_add_2 4 rfl rfl)
theorem dX10_add_51 : decode cX10_add 51 = .ok (.iload_n 2, 1) := dk_28 (dk_at dksX10_add_2 5 rfl rfl)
theorem dX10_add_52 : decode cX10_add 52 = .ok (.if_icmp .le 23, 3) := dk_164 0 23 (dk_at dksX10_add_2 6 rfl rfl)
theorem dX10_add_55 : decode cX10_add 55 = .ok (.aload_n 0, 1) := dk_42 (dk_at dksX10_add_2 9 rfl rfl)
theorem dX10_add_56 : decode cX10_add 56 = .ok (.getfield 34, 3) := dk_180 0 34 (dk_at dksX10_add_2 10 rfl rfl)
theorem dX10_add_59 : decode cX10_add 59 = .ok (.iload_n 3, 1) := dk_29 (dk_at dksX10_add_2 13 rfl rfl)
theorem dX10_add_60 : decode cX10_add 60 = .ok (.aload_n 0, 1) := dk_42 (dk_at dksX10_add_2 14 rfl rfl)
theorem dX10_add_61 : decode cX10_add 61 = .ok (.getfield 34, 3) := dk_180 0 34 (dk_at dksX10_add_2 15 rfl rfl)
theorem dX10_add_64 : decode cX10_add 64 = .ok (.iload_n 3, 1) := dk_29 (dk_at dksX10_add_2 18 rfl rfl)
theorem dX10_add_65 : decode cX10_add 65 = .ok (.iconst 1, 1) := dk_4 (dk_at dksX10_add_2 19 rfl rfl)
theorem dX10_add_66 : decode cX10_add 66 = .ok (.isub, 1) := dk_100 (dk_at dksX10_add_2 20 rfl rfl)
theorem dX10_add_67 : decode cX10_add 67 = .ok (.saload, 1) := dk_53 (dk_at dksX10_add_2 21 rfl rfl)
theorem dX10_add_68 : decode cX10_add 68 = .ok (.sastore, 1) := dk_86 (dk_at dksX10_add_2 22 rfl rfl)
theorem dX10_add_69 : decode cX10_add 69 = .ok (.iinc 3 (-1), 3) := dk_132 3 255 (dk_at dksX10_add_3 0 rfl rfl)
theorem dX10_add_72 : decode cX10_add 72 = .ok (.goto (-22), 3) := dk_167 255 234 (dk_at dksX10_add_3 3 rfl rfl)
theorem dX10_add_75 : decode cX10_add 75 = .ok (.aload_n 0, 1) := dk_42 (dk_at dksX10_add_3 6 rfl rfl)
theorem dX10_add_76 : decode cX10_add 76 = .ok (.getfield 34, 3) := dk_180 0 34 (dk_at dksX10_add_3 7 rfl rfl)
theorem dX10_add_79 : decode cX10_add 79 = .ok (.iload_n 2, 1) := dk_28 (dk_at dksX10_add_3 10 rfl rfl)
theorem dX10_add_80 : decode cX10_add 80 = .ok (.iload_n 1, 1) := dk_27 (dk_at dksX10_add_3 11 rfl rfl)
theorem dX10_add_81 : decode cX10_add 81 = .ok (.sastore, 1) := dk_86 (dk_at dksX10_add_3 12 rfl rfl)
theorem dX10_add_82 : decode cX10_add 82 = .ok (.aload_n 0, 1) := dk_42 (dk_at dksX10_add_3 13 rfl rfl)
theorem dX10_add_83 : decode cX10_add 83 = .ok (.dup, 1) := dk_89 (dk_at dksX10_add_3 14 rfl rfl)
theorem dX10_add_84 : decode cX10_add 84 = .ok (.getfield 38, 3) := dk_180 0 38 (dk_at dksX10_add_3 15 rfl rfl)
theorem dX10_add_87 : decode cX10_add 87 = .ok (.iconst 1, 1) := dk_4 (dk_at dksX10_add_3 18 rfl rfl)
theorem dX10_add_88 : decode cX10_add 88 = .ok (.iadd, 1) := dk_96 (dk_at dksX10_add_3 19 rfl rfl)
theorem dX10_add_89 : decode cX10_add 89 = .ok (.putfield 38, 3) := dk_181 0 38 (dk_at dksX10_add_3 20 rfl rfl)
theorem dX10_add_92 : decode cX10_add 92 = .ok (.return_, 1) := dk_177 (dk_at dksX10_add_3 23 rfl rfl)
abbrev cX10_things : ByteArray := prog_44_method_15_code
def yX10_things : MethodName := ⟨RX10, "things", "()I"⟩
theorem dX10_things_0 : decode cX10_things 0 = .ok (.aload_n 0, 1) := by decide +kernel
theorem dX10_things_1 : decode cX10_things 1 = .ok (.getfield 38, 3) := by decide +kernel
theorem dX10_things_4 : decode cX10_things 4 = .ok (.ireturn, 1) := by decide +kernel
abbrev cX10_low : ByteArray := prog_44_method_7_code
def yX10_low : MethodName := ⟨RX10, "low", "()D"⟩
def dkwX10_low_0 : List UInt8 := [42, 180, 0, 42, 192, 0, 59, 76, 43, 3, 53, 135, 175, 77, 178, 0, 62, 191]
abbrev dktX10_low_0 : List UInt8 := dkwX10_low_0 ++ []
theorem dksX10_low_0 : cX10_low.data.toList.drop 0 = dktX10_low_0 := by decide +kernel
theorem dX10_low_0 : decode cX10_low 0 = .ok (.aload_n 0, 1) := dk_42 (dk_at dksX10_low_0 0 rfl rfl)
theorem dX10_low_1 : decode cX10_low 1 = .ok (.getfield 42, 3) := dk_180 0 42 (dk_at dksX10_low_0 1 rfl rfl)
theorem dX10_low_4 : decode cX10_low 4 = .ok (.checkcast 59, 3) := dk_192 0 59 (dk_at dksX10_low_0 4 rfl rfl)
theorem dX10_low_7 : decode cX10_low 7 = .ok (.astore_n 1, 1) := dk_76 (dk_at dksX10_low_0 7 rfl rfl)
theorem dX10_low_8 : decode cX10_low 8 = .ok (.aload_n 1, 1) := dk_43 (dk_at dksX10_low_0 8 rfl rfl)
theorem dX10_low_9 : decode cX10_low 9 = .ok (.iconst 0, 1) := dk_3 (dk_at dksX10_low_0 9 rfl rfl)
theorem dX10_low_10 : decode cX10_low 10 = .ok (.saload, 1) := dk_53 (dk_at dksX10_low_0 10 rfl rfl)
theorem dX10_low_11 : decode cX10_low 11 = .ok (.i2d, 1) := dk_135 (dk_at dksX10_low_0 11 rfl rfl)
theorem dX10_low_12 : decode cX10_low 12 = .ok (.dreturn, 1) := dk_175 (dk_at dksX10_low_0 12 rfl rfl)
theorem dX10_low_13 : decode cX10_low 13 = .ok (.astore_n 2, 1) := dk_77 (dk_at dksX10_low_0 13 rfl rfl)
theorem dX10_low_14 : decode cX10_low 14 = .ok (.getstatic 62, 3) := dk_178 0 62 (dk_at dksX10_low_0 14 rfl rfl)
theorem dX10_low_17 : decode cX10_low 17 = .ok (.athrow, 1) := dk_191 (dk_at dksX10_low_0 17 rfl rfl)
abbrev cX10_high : ByteArray := prog_44_method_8_code
def yX10_high : MethodName := ⟨RX10, "high", "()D"⟩
def dkwX10_high_0 : List UInt8 := [42, 180, 0, 34, 42, 180, 0, 38, 4, 100, 53, 135, 175]
abbrev dktX10_high_0 : List UInt8 := dkwX10_high_0 ++ []
theorem dksX10_high_0 : cX10_high.data.toList.drop 0 = dktX10_high_0 := by decide +kernel
theorem dX10_high_0 : decode cX10_high 0 = .ok (.aload_n 0, 1) := dk_42 (dk_at dksX10_high_0 0 rfl rfl)
theorem dX10_high_1 : decode cX10_high 1 = .ok (.getfield 34, 3) := dk_180 0 34 (dk_at dksX10_high_0 1 rfl rfl)
theorem dX10_high_4 : decode cX10_high 4 = .ok (.aload_n 0, 1) := dk_42 (dk_at dksX10_high_0 4 rfl rfl)
theorem dX10_high_5 : decode cX10_high 5 = .ok (.getfield 38, 3) := dk_180 0 38 (dk_at dksX10_high_0 5 rfl rfl)
theorem dX10_high_8 : decode cX10_high 8 = .ok (.iconst 1, 1) := dk_4 (dk_at dksX10_high_0 8 rfl rfl)
theorem dX10_high_9 : decode cX10_high 9 = .ok (.isub, 1) := dk_100 (dk_at dksX10_high_0 9 rfl rfl)
theorem dX10_high_10 : decode cX10_high 10 = .ok (.saload, 1) := dk_53 (dk_at dksX10_high_0 10 rfl rfl)
theorem dX10_high_11 : decode cX10_high 11 = .ok (.i2d, 1) := dk_135 (dk_at dksX10_high_0 11 rfl rfl)
theorem dX10_high_12 : decode cX10_high 12 = .ok (.dreturn, 1) := dk_175 (dk_at dksX10_high_0 12 rfl rfl)
abbrev cX10_lose : ByteArray := prog_44_method_12_code
def yX10_lose : MethodName := ⟨RX10, "lose", "(D)V"⟩
def dkwX10_lose_4 : List UInt8 := [167, 255, 228, 177]
abbrev dktX10_lose_4 : List UInt8 := dkwX10_lose_4 ++ []
def dkwX10_lose_3 : List UInt8 := [162, 0, 25, 42, 180, 0, 34, 21, 4, 42, 180, 0, 34, 21, 4, 4, 96, 53, 86, 132, 4, 1]
abbrev dktX10_lose_3 : List UInt8 := dkwX10_lose_3 ++ dktX10_lose_4
def dkwX10_lose_2 : List UInt8 := [178, 0, 66, 191, 42, 89, 180, 0, 38, 4, 100, 181, 0, 38, 29, 54, 4, 21, 4, 42, 180, 0, 38]
abbrev dktX10_lose_2 : List UInt8 := dkwX10_lose_2 ++ dktX10_lose_3
def dkwX10_lose_1 : List UInt8 := [132, 3, 1, 167, 255, 233, 29, 42, 180, 0, 38, 160, 0, 4, 177, 42, 180, 0, 38, 4, 160, 0, 7]
abbrev dktX10_lose_1 : List UInt8 := dkwX10_lose_1 ++ dktX10_lose_2
def dkwX10_lose_0 : List UInt8 := [3, 62, 29, 42, 180, 0, 38, 162, 0, 21, 42, 180, 0, 34, 29, 53, 135, 39, 151, 153, 0, 9]
abbrev dktX10_lose_0 : List UInt8 := dkwX10_lose_0 ++ dktX10_lose_1
theorem dksX10_lose_0 : cX10_lose.data.toList.drop 0 = dktX10_lose_0 := by decide +kernel
theorem dksX10_lose_1 : cX10_lose.data.toList.drop 22 = dktX10_lose_1 := dk_seg dksX10_lose_0 22 rfl rfl
theorem dksX10_lose_2 : cX10_lose.data.toList.drop 45 = dktX10_lose_2 := dk_seg dksX10_lose_1 23 rfl rfl
theorem dksX10_lose_3 : cX10_lose.data.toList.drop 68 = dktX10_lose_3 := dk_seg dksX10_lose_2 23 rfl rfl
theorem dksX10_lose_4 : cX10_lose.data.toList.drop 90 = dktX10_lose_4 := dk_seg dksX10_lose_3 22 rfl rfl
theorem dX10_lose_0 : decode cX10_lose 0 = .ok (.iconst 0, 1) := dk_3 (dk_at dksX10_lose_0 0 rfl rfl)
theorem dX10_lose_1 : decode cX10_lose 1 = .ok (.istore_n 3, 1) := dk_62 (dk_at dksX10_lose_0 1 rfl rfl)
theorem dX10_lose_2 : decode cX10_lose 2 = .ok (.iload_n 3, 1) := dk_29 (dk_at dksX10_lose_0 2 rfl rfl)
theorem dX10_lose_3 : decode cX10_lose 3 = .ok (.aload_n 0, 1) := dk_42 (dk_at dksX10_lose_0 3 rfl rfl)
theorem dX10_lose_4 : decode cX10_lose 4 = .ok (.getfield 38, 3) := dk_180 0 38 (dk_at dksX10_lose_0 4 rfl rfl)
theorem dX10_lose_7 : decode cX10_lose 7 = .ok (.if_icmp .ge 21, 3) := dk_162 0 21 (dk_at dksX10_lose_0 7 rfl rfl)
theorem dX10_lose_10 : decode cX10_lose 10 = .ok (.aload_n 0, 1) := dk_42 (dk_at dksX10_lose_0 10 rfl rfl)
theorem dX10_lose_11 : decode cX10_lose 11 = .ok (.getfield 34, 3) := dk_180 0 34 (dk_at dksX10_lose_0 11 rfl rfl)
theorem dX10_lose_14 : decode cX10_lose 14 = .ok (.iload_n 3, 1) := dk_29 (dk_at dksX10_lose_0 14 rfl rfl)
theorem dX10_lose_15 : decode cX10_lose 15 = .ok (.saload, 1) := dk_53 (dk_at dksX10_lose_0 15 rfl rfl)
theorem dX10_lose_16 : decode cX10_lose 16 = .ok (.i2d, 1) := dk_135 (dk_at dksX10_lose_0 16 rfl rfl)
theorem dX10_lose_17 : decode cX10_lose 17 = .ok (.dload_n 1, 1) := dk_39 (dk_at dksX10_lose_0 17 rfl rfl)
theorem dX10_lose_18 : decode cX10_lose 18 = .ok (.dcmp .l, 1) := dk_151 (dk_at dksX10_lose_0 18 rfl rfl)
theorem dX10_lose_19 : decode cX10_lose 19 = .ok (.ifCond .eq 9, 3) := dk_153 0 9 (dk_at dksX10_lose_0 19 rfl rfl)
theorem dX10_lose_22 : decode cX10_lose 22 = .ok (.iinc 3 1, 3) := dk_132 3 1 (dk_at dksX10_lose_1 0 rfl rfl)
theorem dX10_lose_25 : decode cX10_lose 25 = .ok (.goto (-23), 3) := dk_167 255 233 (dk_at dksX10_lose_1 3 rfl rfl)
theorem dX10_lose_28 : decode cX10_lose 28 = .ok (.iload_n 3, 1) := dk_29 (dk_at dksX10_lose_1 6 rfl rfl)
theorem dX10_lose_29 : decode cX10_lose 29 = .ok (.aload_n 0, 1) := dk_42 (dk_at dksX10_lose_1 7 rfl rfl)
theorem dX10_lose_30 : decode cX10_lose 30 = .ok (.getfield 38, 3) := dk_180 0 38 (dk_at dksX10_lose_1 8 rfl rfl)
theorem dX10_lose_33 : decode cX10_lose 33 = .ok (.if_icmp .ne 4, 3) := dk_160 0 4 (dk_at dksX10_lose_1 11 rfl rfl)
theorem dX10_lose_36 : decode cX10_lose 36 = .ok (.return_, 1) := dk_177 (dk_at dksX10_lose_1 14 rfl rfl)
theorem dX10_lose_37 : decode cX10_lose 37 = .ok (.aload_n 0, 1) := dk_42 (dk_at dksX10_lose_1 15 rfl rfl)
theorem dX10_lose_38 : decode cX10_lose 38 = .ok (.getfield 38, 3) := dk_180 0 38 (dk_at dksX10_lose_1 16 rfl rfl)
theorem dX10_lose_41 : decode cX10_lose 41 = .ok (.iconst 1, 1) := dk_4 (dk_at dksX10_lose_1 19 rfl rfl)
theorem dX10_lose_42 : decode cX10_lose 42 = .ok (.if_icmp .ne 7, 3) := dk_160 0 7 (dk_at dksX10_lose_1 20 rfl rfl)
theorem dX10_lose_45 : decode cX10_lose 45 = .ok (.getstatic 66, 3) := dk_178 0 66 (dk_at dksX10_lose_2 0 rfl rfl)
theorem dX10_lose_48 : decode cX10_lose 48 = .ok (.athrow, 1) := dk_191 (dk_at dksX10_lose_2 3 rfl rfl)
theorem dX10_lose_49 : decode cX10_lose 49 = .ok (.aload_n 0, 1) := dk_42 (dk_at dksX10_lose_2 4 rfl rfl)
theorem dX10_lose_50 : decode cX10_lose 50 = .ok (.dup, 1) := dk_89 (dk_at dksX10_lose_2 5 rfl rfl)
theorem dX10_lose_51 : decode cX10_lose 51 = .ok (.getfield 38, 3) := dk_180 0 38 (dk_at dksX10_lose_2 6 rfl rfl)
theorem dX10_lose_54 : decode cX10_lose 54 = .ok (.iconst 1, 1) := dk_4 (dk_at dksX10_lose_2 9 rfl rfl)
theorem dX10_lose_55 : decode cX10_lose 55 = .ok (.isub, 1) := dk_100 (dk_at dksX10_lose_2 10 rfl rfl)
theorem dX10_lose_56 : decode cX10_lose 56 = .ok (.putfield 38, 3) := dk_181 0 38 (dk_at dksX10_lose_2 11 rfl rfl)
theorem dX10_lose_59 : decode cX10_lose 59 = .ok (.iload_n 3, 1) := dk_29 (dk_at dksX10_lose_2 14 rfl rfl)
theorem dX10_lose_60 : decode cX10_lose 60 = .ok (.istore 4, 2) := dk_54 4 (dk_at dksX10_lose_2 15 rfl rfl)
theorem dX10_lose_62 : decode cX10_lose 62 = .ok (.iload 4, 2) := dk_21 4 (dk_at dksX10_lose_2 17 rfl rfl)
theorem dX10_lose_64 : decode cX10_lose 64 = .ok (.aload_n 0, 1) := dk_42 (dk_at dksX10_lose_2 19 rfl rfl)
theorem dX10_lose_65 : decode cX10_lose 65 = .ok (.getfield 38, 3) := dk_180 0 38 (dk_at dksX10_lose_2 20 rfl rfl)
theorem dX10_lose_68 : decode cX10_lose 68 = .ok (.if_icmp .ge 25, 3) := dk_162 0 25 (dk_at dksX10_lose_3 0 rfl rfl)
theorem dX10_lose_71 : decode cX10_lose 71 = .ok (.aload_n 0, 1) := dk_42 (dk_at dksX10_lose_3 3 rfl rfl)
theorem dX10_lose_72 : decode cX10_lose 72 = .ok (.getfield 34, 3) := dk_180 0 34 (dk_at dksX10_lose_3 4 rfl rfl)
theorem dX10_lose_75 : decode cX10_lose 75 = .ok (.iload 4, 2) := dk_21 4 (dk_at dksX10_lose_3 7 rfl rfl)
theorem dX10_lose_77 : decode cX10_lose 77 = .ok (.aload_n 0, 1) := dk_42 (dk_at dksX10_lose_3 9 rfl rfl)
theorem dX10_lose_78 : decode cX10_lose 78 = .ok (.getfield 34, 3) := dk_180 0 34 (dk_at dksX10_lose_3 10 rfl rfl)
theorem dX10_lose_81 : decode cX10_lose 81 = .ok (.iload 4, 2) := dk_21 4 (dk_at dksX10_lose_3 13 rfl rfl)
theorem dX10_lose_83 : decode cX10_lose 83 = .ok (.iconst 1, 1) := dk_4 (dk_at dksX10_lose_3 15 rfl rfl)
theorem dX10_lose_84 : decode cX10_lose 84 = .ok (.iadd, 1) := dk_96 (dk_at dksX10_lose_3 16 rfl rfl)
theorem dX10_lose_85 : decode cX10_lose 85 = .ok (.saload, 1) := dk_53 (dk_at dksX10_lose_3 17 rfl rfl)
theorem dX10_lose_86 : decode cX10_lose 86 = .ok (.sastore, 1) := dk_86 (dk_at dksX10_lose_3 18 rfl rfl)
theorem dX10_lose_87 : decode cX10_lose 87 = .ok (.iinc 4 1, 3) := dk_132 4 1 (dk_at dksX10_lose_3 19 rfl rfl)
theorem dX10_lose_90 : decode cX10_lose 90 = .ok (.goto (-28), 3) := dk_167 255 228 (dk_at dksX10_lose_4 0 rfl rfl)
theorem dX10_lose_93 : decode cX10_lose 93 = .ok (.return_, 1) := dk_177 (dk_at dksX10_lose_4 3 rfl rfl)
abbrev cX10_lose_2 : ByteArray := prog_44_method_10_code
def yX10_lose_2 : MethodName := ⟨RX10, "lose", "([I)V"⟩
def dkwX10_lose_2_4 : List UInt8 := [132, 3, 1, 132, 4, 1, 167, 255, 211, 42, 28, 181, 0, 38, 177]
abbrev dktX10_lose_2_4 : List UInt8 := dkwX10_lose_2_4 ++ []
def dkwX10_lose_2_3 : List UInt8 := [184, 0, 70, 153, 0, 6, 167, 0, 19, 42, 180, 0, 34, 29, 42, 180, 0, 34, 21, 4, 53, 86]
abbrev dktX10_lose_2_3 : List UInt8 := dkwX10_lose_2_3 ++ dktX10_lose_2_4
def dkwX10_lose_2_2 : List UInt8 := [3, 62, 3, 54, 4, 21, 4, 42, 180, 0, 38, 162, 0, 42, 43, 42, 180, 0, 34, 21, 4, 53]
abbrev dktX10_lose_2_2 : List UInt8 := dkwX10_lose_2_2 ++ dktX10_lose_2_3
def dkwX10_lose_2_1 : List UInt8 := [153, 0, 7, 3, 167, 0, 4, 4, 96, 61, 132, 3, 1, 167, 255, 224, 28, 154, 0, 7, 178, 0, 66, 191]
abbrev dktX10_lose_2_1 : List UInt8 := dkwX10_lose_2_1 ++ dktX10_lose_2_2
def dkwX10_lose_2_0 : List UInt8 := [3, 61, 3, 62, 29, 42, 180, 0, 38, 162, 0, 30, 28, 43, 42, 180, 0, 34, 29, 53, 184, 0, 70]
abbrev dktX10_lose_2_0 : List UInt8 := dkwX10_lose_2_0 ++ dktX10_lose_2_1
theorem dksX10_lose_2_0 : cX10_lose_2.data.toList.drop 0 = dktX10_lose_2_0 := by decide +kernel
theorem dksX10_lose_2_1 : cX10_lose_2.data.toList.drop 23 = dktX10_lose_2_1 := dk_seg dksX10_lose_2_0 23 rfl rfl
theorem dksX10_lose_2_2 : cX10_lose_2.data.toList.drop 47 = dktX10_lose_2_2 := dk_seg dksX10_lose_2_1 24 rfl rfl
theorem dksX10_lose_2_3 : cX10_lose_2.data.toList.drop 69 = dktX10_lose_2_3 := dk_seg dksX10_lose_2_2 22 rfl rfl
theorem dksX10_lose_2_4 : cX10_lose_2.data.toList.drop 91 = dktX10_lose_2_4 := dk_seg dksX10_lose_2_3 22 rfl rfl
theorem dX10_lose_2_0 : decode cX10_lose_2 0 = .ok (.iconst 0, 1) := dk_3 (dk_at dksX10_lose_2_0 0 rfl rfl)
theorem dX10_lose_2_1 : decode cX10_lose_2 1 = .ok (.istore_n 2, 1) := dk_61 (dk_at dksX10_lose_2_0 1 rfl rfl)
theorem dX10_lose_2_2 : decode cX10_lose_2 2 = .ok (.iconst 0, 1) := dk_3 (dk_at dksX10_lose_2_0 2 rfl rfl)
theorem dX10_lose_2_3 : decode cX10_lose_2 3 = .ok (.istore_n 3, 1) := dk_62 (dk_at dksX10_lose_2_0 3 rfl rfl)
theorem dX10_lose_2_4 : decode cX10_lose_2 4 = .ok (.iload_n 3, 1) := dk_29 (dk_at dksX10_lose_2_0 4 rfl rfl)
theorem dX10_lose_2_5 : decode cX10_lose_2 5 = .ok (.aload_n 0, 1) := dk_42 (dk_at dksX10_lose_2_0 5 rfl rfl)
theorem dX10_lose_2_6 : decode cX10_lose_2 6 = .ok (.getfield 38, 3) := dk_180 0 38 (dk_at dksX10_lose_2_0 6 rfl rfl)
theorem dX10_lose_2_9 : decode cX10_lose_2 9 = .ok (.if_icmp .ge 30, 3) := dk_162 0 30 (dk_at dksX10_lose_2_0 9 rfl rfl)
theorem dX10_lose_2_12 : decode cX10_lose_2 12 = .ok (.iload_n 2, 1) := dk_28 (dk_at dksX10_lose_2_0 12 rfl rfl)
theorem dX10_lose_2_13 : decode cX10_lose_2 13 = .ok (.aload_n 1, 1) := dk_43 (dk_at dksX10_lose_2_0 13 rfl rfl)
theorem dX10_lose_2_14 : decode cX10_lose_2 14 = .ok (.aload_n 0, 1) := dk_42 (dk_at dksX10_lose_2_0 14 rfl rfl)
theorem dX10_lose_2_15 : decode cX10_lose_2 15 = .ok (.getfield 34, 3) := dk_180 0 34 (dk_at dksX10_lose_2_0 15 rfl rfl)
theorem dX10_lose_2_18 : decode cX10_lose_2 18 = .ok (.iload_n 3, 1) := dk_29 (dk_at dksX10_lose_2_0 18 rfl rfl)
theorem dX10_lose_2_19 : decode cX10_lose_2 19 = .ok (.saload, 1) := dk_53 (dk_at dksX10_lose_2_0 19 rfl rfl)
theorem dX10_lose_2_20 : decode cX10_lose_2 20 = .ok (.invokestatic 70, 3) := dk_184 0 70 (dk_at dksX10_lose_2_0 20 rfl rfl)
theorem dX10_lose_2_23 : decode cX10_lose_2 23 = .ok (.ifCond .eq 7, 3) := dk_153 0 7 (dk_at dksX10_lose_2_1 0 rfl rfl)
theorem dX10_lose_2_26 : decode cX10_lose_2 26 = .ok (.iconst 0, 1) := dk_3 (dk_at dksX10_lose_2_1 3 rfl rfl)
theorem dX10_lose_2_27 : decode cX10_lose_2 27 = .ok (.goto 4, 3) := dk_167 0 4 (dk_at dksX10_lose_2_1 4 rfl rfl)
theorem dX10_lose_2_30 : decode cX10_lose_2 30 = .ok (.iconst 1, 1) := dk_4 (dk_at dksX10_lose_2_1 7 rfl rfl)
theorem dX10_lose_2_31 : decode cX10_lose_2 31 = .ok (.iadd, 1) := dk_96 (dk_at dksX10_lose_2_1 8 rfl rfl)
theorem dX10_lose_2_32 : decode cX10_lose_2 32 = .ok (.istore_n 2, 1) := dk_61 (dk_at dksX10_lose_2_1 9 rfl rfl)
theorem dX10_lose_2_33 : decode cX10_lose_2 33 = .ok (.iinc 3 1, 3) := dk_132 3 1 (dk_at dksX10_lose_2_1 10 rfl rfl)
theorem dX10_lose_2_36 : decode cX10_lose_2 36 = .ok (.goto (-32), 3) := dk_167 255 224 (dk_at dksX10_lose_2_1 13 rfl rfl)
theorem dX10_lose_2_39 : decode cX10_lose_2 39 = .ok (.iload_n 2, 1) := dk_28 (dk_at dksX10_lose_2_1 16 rfl rfl)
theorem dX10_lose_2_40 : decode cX10_lose_2 40 = .ok (.ifCond .ne 7, 3) := dk_154 0 7 (dk_at dksX10_lose_2_1 17 rfl rfl)
theorem dX10_lose_2_43 : decode cX10_lose_2 43 = .ok (.getstatic 66, 3) := dk_178 0 66 (dk_at dksX10_lose_2_1 20 rfl rfl)
theorem dX10_lose_2_46 : decode cX10_lose_2 46 = .ok (.athrow, 1) := dk_191 (dk_at dksX10_lose_2_1 23 rfl rfl)
theorem dX10_lose_2_47 : decode cX10_lose_2 47 = .ok (.iconst 0, 1) := dk_3 (dk_at dksX10_lose_2_2 0 rfl rfl)
theorem dX10_lose_2_48 : decode cX10_lose_2 48 = .ok (.istore_n 3, 1) := dk_62 (dk_at dksX10_lose_2_2 1 rfl rfl)
theorem dX10_lose_2_49 : decode cX10_lose_2 49 = .ok (.iconst 0, 1) := dk_3 (dk_at dksX10_lose_2_2 2 rfl rfl)
theorem dX10_lose_2_50 : decode cX10_lose_2 50 = .ok (.istore 4, 2) := dk_54 4 (dk_at dksX10_lose_2_2 3 rfl rfl)
theorem dX10_lose_2_52 : decode cX10_lose_2 52 = .ok (.iload 4, 2) := dk_21 4 (dk_at dksX10_lose_2_2 5 rfl rfl)
theorem dX10_lose_2_54 : decode cX10_lose_2 54 = .ok (.aload_n 0, 1) := dk_42 (dk_at dksX10_lose_2_2 7 rfl rfl)
theorem dX10_lose_2_55 : decode cX10_lose_2 55 = .ok (.getfield 38, 3) := dk_180 0 38 (dk_at dksX10_lose_2_2 8 rfl rfl)
theorem dX10_lose_2_58 : decode cX10_lose_2 58 = .ok (.if_icmp .ge 42, 3) := dk_162 0 42 (dk_at dksX10_lose_2_2 11 rfl rfl)
theorem dX10_lose_2_61 : decode cX10_lose_2 61 = .ok (.aload_n 1, 1) := dk_43 (dk_at dksX10_lose_2_2 14 rfl rfl)
theorem dX10_lose_2_62 : decode cX10_lose_2 62 = .ok (.aload_n 0, 1) := dk_42 (dk_at dksX10_lose_2_2 15 rfl rfl)
theorem dX10_lose_2_63 : decode cX10_lose_2 63 = .ok (.getfield 34, 3) := dk_180 0 34 (dk_at dksX10_lose_2_2 16 rfl rfl)
theorem dX10_lose_2_66 : decode cX10_lose_2 66 = .ok (.iload 4, 2) := dk_21 4 (dk_at dksX10_lose_2_2 19 rfl rfl)
theorem dX10_lose_2_68 : decode cX10_lose_2 68 = .ok (.saload, 1) := dk_53 (dk_at dksX10_lose_2_2 21 rfl rfl)
theorem dX10_lose_2_69 : decode cX10_lose_2 69 = .ok (.invokestatic 70, 3) := dk_184 0 70 (dk_at dksX10_lose_2_3 0 rfl rfl)
theorem dX10_lose_2_72 : decode cX10_lose_2 72 = .ok (.ifCond .eq 6, 3) := dk_153 0 6 (dk_at dksX10_lose_2_3 3 rfl rfl)
theorem dX10_lose_2_75 : decode cX10_lose_2 75 = .ok (.goto 19, 3) := dk_167 0 19 (dk_at dksX10_lose_2_3 6 rfl rfl)
theorem dX10_lose_2_78 : decode cX10_lose_2 78 = .ok (.aload_n 0, 1) := dk_42 (dk_at dksX10_lose_2_3 9 rfl rfl)
theorem dX10_lose_2_79 : decode cX10_lose_2 79 = .ok (.getfield 34, 3) := dk_180 0 34 (dk_at dksX10_lose_2_3 10 rfl rfl)
theorem dX10_lose_2_82 : decode cX10_lose_2 82 = .ok (.iload_n 3, 1) := dk_29 (dk_at dksX10_lose_2_3 13 rfl rfl)
theorem dX10_lose_2_83 : decode cX10_lose_2 83 = .ok (.aload_n 0, 1) := dk_42 (dk_at dksX10_lose_2_3 14 rfl rfl)
theorem dX10_lose_2_84 : decode cX10_lose_2 84 = .ok (.getfield 34, 3) := dk_180 0 34 (dk_at dksX10_lose_2_3 15 rfl rfl)
theorem dX10_lose_2_87 : decode cX10_lose_2 87 = .ok (.iload 4, 2) := dk_21 4 (dk_at dksX10_lose_2_3 18 rfl rfl)
theorem dX10_lose_2_89 : decode cX10_lose_2 89 = .ok (.saload, 1) := dk_53 (dk_at dksX10_lose_2_3 20 rfl rfl)
theorem dX10_lose_2_90 : decode cX10_lose_2 90 = .ok (.sastore, 1) := dk_86 (dk_at dksX10_lose_2_3 21 rfl rfl)
theorem dX10_lose_2_91 : decode cX10_lose_2 91 = .ok (.iinc 3 1, 3) := dk_132 3 1 (dk_at dksX10_lose_2_4 0 rfl rfl)
theorem dX10_lose_2_94 : decode cX10_lose_2 94 = .ok (.iinc 4 1, 3) := dk_132 4 1 (dk_at dksX10_lose_2_4 3 rfl rfl)
theorem dX10_lose_2_97 : decode cX10_lose_2 97 = .ok (.goto (-45), 3) := dk_167 255 211 (dk_at dksX10_lose_2_4 6 rfl rfl)
theorem dX10_lose_2_100 : decode cX10_lose_2 100 = .ok (.aload_n 0, 1) := dk_42 (dk_at dksX10_lose_2_4 9 rfl rfl)
theorem dX10_lose_2_101 : decode cX10_lose_2 101 = .ok (.iload_n 2, 1) := dk_28 (dk_at dksX10_lose_2_4 10 rfl rfl)
theorem dX10_lose_2_102 : decode cX10_lose_2 102 = .ok (.putfield 38, 3) := dk_181 0 38 (dk_at dksX10_lose_2_4 11 rfl rfl)
theorem dX10_lose_2_105 : decode cX10_lose_2 105 = .ok (.return_, 1) := dk_177 (dk_at dksX10_lose_2_4 14 rfl rfl)
abbrev cX10_isIn : ByteArray := prog_44_method_11_code
def yX10_isIn : MethodName := ⟨RX10, "isIn", "([II)Z"⟩
def dkwX10_isIn_1 : List UInt8 := [167, 0, 4, 3, 61, 132, 3, 1, 167, 255, 229, 28, 172]
abbrev dktX10_isIn_1 : List UInt8 := dkwX10_isIn_1 ++ []
def dkwX10_isIn_0 : List UInt8 := [3, 61, 4, 62, 29, 42, 3, 46, 163, 0, 26, 28, 154, 0, 22, 42, 29, 46, 27, 160, 0, 7, 4]
abbrev dktX10_isIn_0 : List UInt8 := dkwX10_isIn_0 ++ dktX10_isIn_1
theorem dksX10_isIn_0 : cX10_isIn.data.toList.drop 0 = dktX10_isIn_0 := by decide +kernel
theorem dksX10_isIn_1 : cX10_isIn.data.toList.drop 23 = dktX10_isIn_1 := dk_seg dksX10_isIn_0 23 rfl rfl
theorem dX10_isIn_0 : decode cX10_isIn 0 = .ok (.iconst 0, 1) := dk_3 (dk_at dksX10_isIn_0 0 rfl rfl)
theorem dX10_isIn_1 : decode cX10_isIn 1 = .ok (.istore_n 2, 1) := dk_61 (dk_at dksX10_isIn_0 1 rfl rfl)
theorem dX10_isIn_2 : decode cX10_isIn 2 = .ok (.iconst 1, 1) := dk_4 (dk_at dksX10_isIn_0 2 rfl rfl)
theorem dX10_isIn_3 : decode cX10_isIn 3 = .ok (.istore_n 3, 1) := dk_62 (dk_at dksX10_isIn_0 3 rfl rfl)
theorem dX10_isIn_4 : decode cX10_isIn 4 = .ok (.iload_n 3, 1) := dk_29 (dk_at dksX10_isIn_0 4 rfl rfl)
theorem dX10_isIn_5 : decode cX10_isIn 5 = .ok (.aload_n 0, 1) := dk_42 (dk_at dksX10_isIn_0 5 rfl rfl)
theorem dX10_isIn_6 : decode cX10_isIn 6 = .ok (.iconst 0, 1) := dk_3 (dk_at dksX10_isIn_0 6 rfl rfl)
theorem dX10_isIn_7 : decode cX10_isIn 7 = .ok (.iaload, 1) := dk_46 (dk_at dksX10_isIn_0 7 rfl rfl)
theorem dX10_isIn_8 : decode cX10_isIn 8 = .ok (.if_icmp .gt 26, 3) := dk_163 0 26 (dk_at dksX10_isIn_0 8 rfl rfl)
theorem dX10_isIn_11 : decode cX10_isIn 11 = .ok (.iload_n 2, 1) := dk_28 (dk_at dksX10_isIn_0 11 rfl rfl)
theorem dX10_isIn_12 : decode cX10_isIn 12 = .ok (.ifCond .ne 22, 3) := dk_154 0 22 (dk_at dksX10_isIn_0 12 rfl rfl)
theorem dX10_isIn_15 : decode cX10_isIn 15 = .ok (.aload_n 0, 1) := dk_42 (dk_at dksX10_isIn_0 15 rfl rfl)
theorem dX10_isIn_16 : decode cX10_isIn 16 = .ok (.iload_n 3, 1) := dk_29 (dk_at dksX10_isIn_0 16 rfl rfl)
theorem dX10_isIn_17 : decode cX10_isIn 17 = .ok (.iaload, 1) := dk_46 (dk_at dksX10_isIn_0 17 rfl rfl)
theorem dX10_isIn_18 : decode cX10_isIn 18 = .ok (.iload_n 1, 1) := dk_27 (dk_at dksX10_isIn_0 18 rfl rfl)
theorem dX10_isIn_19 : decode cX10_isIn 19 = .ok (.if_icmp .ne 7, 3) := dk_160 0 7 (dk_at dksX10_isIn_0 19 rfl rfl)
theorem dX10_isIn_22 : decode cX10_isIn 22 = .ok (.iconst 1, 1) := dk_4 (dk_at dksX10_isIn_0 22 rfl rfl)
theorem dX10_isIn_23 : decode cX10_isIn 23 = .ok (.goto 4, 3) := dk_167 0 4 (dk_at dksX10_isIn_1 0 rfl rfl)
theorem dX10_isIn_26 : decode cX10_isIn 26 = .ok (.iconst 0, 1) := dk_3 (dk_at dksX10_isIn_1 3 rfl rfl)
theorem dX10_isIn_27 : decode cX10_isIn 27 = .ok (.istore_n 2, 1) := dk_61 (dk_at dksX10_isIn_1 4 rfl rfl)
theorem dX10_isIn_28 : decode cX10_isIn 28 = .ok (.iinc 3 1, 3) := dk_132 3 1 (dk_at dksX10_isIn_1 5 rfl rfl)
theorem dX10_isIn_31 : decode cX10_isIn 31 = .ok (.goto (-27), 3) := dk_167 255 229 (dk_at dksX10_isIn_1 8 rfl rfl)
theorem dX10_isIn_34 : decode cX10_isIn 34 = .ok (.iload_n 2, 1) := dk_28 (dk_at dksX10_isIn_1 11 rfl rfl)
theorem dX10_isIn_35 : decode cX10_isIn 35 = .ok (.ireturn, 1) := dk_172 (dk_at dksX10_isIn_1 12 rfl rfl)
abbrev cX10_keep : ByteArray := prog_44_method_9_code
def yX10_keep : MethodName := ⟨RX10, "keep", "(DD)V"⟩
def dkwX10_keep_3 : List UInt8 := [178, 0, 66, 191, 42, 21, 5, 181, 0, 38, 177]
abbrev dktX10_keep_3 : List UInt8 := dkwX10_keep_3 ++ []
def dkwX10_keep_2 : List UInt8 := [21, 5, 42, 180, 0, 34, 21, 6, 53, 86, 132, 5, 1, 132, 6, 1, 167, 255, 198, 21, 5, 154, 0, 7]
abbrev dktX10_keep_2 : List UInt8 := dkwX10_keep_2 ++ dktX10_keep_3
def dkwX10_keep_1 : List UInt8 := [152, 155, 0, 36, 42, 180, 0, 34, 21, 6, 53, 135, 41, 151, 158, 0, 6, 167, 0, 20, 42, 180, 0, 34]
abbrev dktX10_keep_1 : List UInt8 := dkwX10_keep_1 ++ dktX10_keep_2
def dkwX10_keep_0 : List UInt8 := [3, 54, 5, 3, 54, 6, 21, 6, 42, 180, 0, 38, 162, 0, 55, 42, 180, 0, 34, 21, 6, 53, 135, 39]
abbrev dktX10_keep_0 : List UInt8 := dkwX10_keep_0 ++ dktX10_keep_1
theorem dksX10_keep_0 : cX10_keep.data.toList.drop 0 = dktX10_keep_0 := by decide +kernel
theorem dksX10_keep_1 : cX10_keep.data.toList.drop 24 = dktX10_keep_1 := dk_seg dksX10_keep_0 24 rfl rfl
theorem dksX10_keep_2 : cX10_keep.data.toList.drop 48 = dktX10_keep_2 := dk_seg dksX10_keep_1 24 rfl rfl
theorem dksX10_keep_3 : cX10_keep.data.toList.drop 72 = dktX10_keep_3 := dk_seg dksX10_keep_2 24 rfl rfl
theorem dX10_keep_0 : decode cX10_keep 0 = .ok (.iconst 0, 1) := dk_3 (dk_at dksX10_keep_0 0 rfl rfl)
theorem dX10_keep_1 : decode cX10_keep 1 = .ok (.istore 5, 2) := dk_54 5 (dk_at dksX10_keep_0 1 rfl rfl)
theorem dX10_keep_3 : decode cX10_keep 3 = .ok (.iconst 0, 1) := dk_3 (dk_at dksX10_keep_0 3 rfl rfl)
theorem dX10_keep_4 : decode cX10_keep 4 = .ok (.istore 6, 2) := dk_54 6 (dk_at dksX10_keep_0 4 rfl rfl)
theorem dX10_keep_6 : decode cX10_keep 6 = .ok (.iload 6, 2) := dk_21 6 (dk_at dksX10_keep_0 6 rfl rfl)
theorem dX10_keep_8 : decode cX10_keep 8 = .ok (.aload_n 0, 1) := dk_42 (dk_at dksX10_keep_0 8 rfl rfl)
theorem dX10_keep_9 : decode cX10_keep 9 = .ok (.getfield 38, 3) := dk_180 0 38 (dk_at dksX10_keep_0 9 rfl rfl)
theorem dX10_keep_12 : decode cX10_keep 12 = .ok (.if_icmp .ge 55, 3) := dk_162 0 55 (dk_at dksX10_keep_0 12 rfl rfl)
theorem dX10_keep_15 : decode cX10_keep 15 = .ok (.aload_n 0, 1) := dk_42 (dk_at dksX10_keep_0 15 rfl rfl)
theorem dX10_keep_16 : decode cX10_keep 16 = .ok (.getfield 34, 3) := dk_180 0 34 (dk_at dksX10_keep_0 16 rfl rfl)
theorem dX10_keep_19 : decode cX10_keep 19 = .ok (.iload 6, 2) := dk_21 6 (dk_at dksX10_keep_0 19 rfl rfl)
theorem dX10_keep_21 : decode cX10_keep 21 = .ok (.saload, 1) := dk_53 (dk_at dksX10_keep_0 21 rfl rfl)
theorem dX10_keep_22 : decode cX10_keep 22 = .ok (.i2d, 1) := dk_135 (dk_at dksX10_keep_0 22 rfl rfl)
theorem dX10_keep_23 : decode cX10_keep 23 = .ok (.dload_n 1, 1) := dk_39 (dk_at dksX10_keep_0 23 rfl rfl)
theorem dX10_keep_24 : decode cX10_keep 24 = .ok (.dcmp .g, 1) := dk_152 (dk_at dksX10_keep_1 0 rfl rfl)
theorem dX10_keep_25 : decode cX10_keep 25 = .ok (.ifCond .lt 36, 3) := dk_155 0 36 (dk_at dksX10_keep_1 1 rfl rfl)
theorem dX10_keep_28 : decode cX10_keep 28 = .ok (.aload_n 0, 1) := dk_42 (dk_at dksX10_keep_1 4 rfl rfl)
theorem dX10_keep_29 : decode cX10_keep 29 = .ok (.getfield 34, 3) := dk_180 0 34 (dk_at dksX10_keep_1 5 rfl rfl)
theorem dX10_keep_32 : decode cX10_keep 32 = .ok (.iload 6, 2) := dk_21 6 (dk_at dksX10_keep_1 8 rfl rfl)
theorem dX10_keep_34 : decode cX10_keep 34 = .ok (.saload, 1) := dk_53 (dk_at dksX10_keep_1 10 rfl rfl)
theorem dX10_keep_35 : decode cX10_keep 35 = .ok (.i2d, 1) := dk_135 (dk_at dksX10_keep_1 11 rfl rfl)
theorem dX10_keep_36 : decode cX10_keep 36 = .ok (.dload_n 3, 1) := dk_41 (dk_at dksX10_keep_1 12 rfl rfl)
theorem dX10_keep_37 : decode cX10_keep 37 = .ok (.dcmp .l, 1) := dk_151 (dk_at dksX10_keep_1 13 rfl rfl)
theorem dX10_keep_38 : decode cX10_keep 38 = .ok (.ifCond .le 6, 3) := dk_158 0 6 (dk_at dksX10_keep_1 14 rfl rfl)
theorem dX10_keep_41 : decode cX10_keep 41 = .ok (.goto 20, 3) := dk_167 0 20 (dk_at dksX10_keep_1 17 rfl rfl)
theorem dX10_keep_44 : decode cX10_keep 44 = .ok (.aload_n 0, 1) := dk_42 (dk_at dksX10_keep_1 20 rfl rfl)
theorem dX10_keep_45 : decode cX10_keep 45 = .ok (.getfield 34, 3) := dk_180 0 34 (dk_at dksX10_keep_1 21 rfl rfl)
theorem dX10_keep_48 : decode cX10_keep 48 = .ok (.iload 5, 2) := dk_21 5 (dk_at dksX10_keep_2 0 rfl rfl)
theorem dX10_keep_50 : decode cX10_keep 50 = .ok (.aload_n 0, 1) := dk_42 (dk_at dksX10_keep_2 2 rfl rfl)
theorem dX10_keep_51 : decode cX10_keep 51 = .ok (.getfield 34, 3) := dk_180 0 34 (dk_at dksX10_keep_2 3 rfl rfl)
theorem dX10_keep_54 : decode cX10_keep 54 = .ok (.iload 6, 2) := dk_21 6 (dk_at dksX10_keep_2 6 rfl rfl)
theorem dX10_keep_56 : decode cX10_keep 56 = .ok (.saload, 1) := dk_53 (dk_at dksX10_keep_2 8 rfl rfl)
theorem dX10_keep_57 : decode cX10_keep 57 = .ok (.sastore, 1) := dk_86 (dk_at dksX10_keep_2 9 rfl rfl)
theorem dX10_keep_58 : decode cX10_keep 58 = .ok (.iinc 5 1, 3) := dk_132 5 1 (dk_at dksX10_keep_2 10 rfl rfl)
theorem dX10_keep_61 : decode cX10_keep 61 = .ok (.iinc 6 1, 3) := dk_132 6 1 (dk_at dksX10_keep_2 13 rfl rfl)
theorem dX10_keep_64 : decode cX10_keep 64 = .ok (.goto (-58), 3) := dk_167 255 198 (dk_at dksX10_keep_2 16 rfl rfl)
theorem dX10_keep_67 : decode cX10_keep 67 = .ok (.iload 5, 2) := dk_21 5 (dk_at dksX10_keep_2 19 rfl rfl)
theorem dX10_keep_69 : decode cX10_keep 69 = .ok (.ifCond .ne 7, 3) := dk_154 0 7 (dk_at dksX10_keep_2 21 rfl rfl)
theorem dX10_keep_72 : decode cX10_keep 72 = .ok (.getstatic 66, 3) := dk_178 0 66 (dk_at dksX10_keep_3 0 rfl rfl)
theorem dX10_keep_75 : decode cX10_keep 75 = .ok (.athrow, 1) := dk_191 (dk_at dksX10_keep_3 3 rfl rfl)
theorem dX10_keep_76 : decode cX10_keep 76 = .ok (.aload_n 0, 1) := dk_42 (dk_at dksX10_keep_3 4 rfl rfl)
theorem dX10_keep_77 : decode cX10_keep 77 = .ok (.iload 5, 2) := dk_21 5 (dk_at dksX10_keep_3 5 rfl rfl)
theorem dX10_keep_79 : decode cX10_keep 79 = .ok (.putfield 38, 3) := dk_181 0 38 (dk_at dksX10_keep_3 7 rfl rfl)
theorem dX10_keep_82 : decode cX10_keep 82 = .ok (.return_, 1) := dk_177 (dk_at dksX10_keep_3 10 rfl rfl)
abbrev cX10_thing : ByteArray := prog_44_method_17_code
def yX10_thing : MethodName := ⟨RX10, "thing", "(I)J"⟩
def dkwX10_thing_2 : List UInt8 := [29, 133, 173]
abbrev dktX10_thing_2 : List UInt8 := dkwX10_thing_2 ++ []
def dkwX10_thing_1 : List UInt8 := [187, 0, 80, 89, 183, 0, 82, 191, 27, 42, 180, 0, 38, 161, 0, 11, 187, 0, 80, 89, 183, 0, 82, 191]
abbrev dktX10_thing_1 : List UInt8 := dkwX10_thing_1 ++ dktX10_thing_2
def dkwX10_thing_0 : List UInt8 := [42, 180, 0, 42, 192, 0, 59, 77, 44, 27, 53, 62, 167, 0, 19, 58, 4, 184, 0, 74, 191, 58, 4]
abbrev dktX10_thing_0 : List UInt8 := dkwX10_thing_0 ++ dktX10_thing_1
theorem dksX10_thing_0 : cX10_thing.data.toList.drop 0 = dktX10_thing_0 := by decide +kernel
theorem dksX10_thing_1 : cX10_thing.data.toList.drop 23 = dktX10_thing_1 := dk_seg dksX10_thing_0 23 rfl rfl
theorem dksX10_thing_2 : cX10_thing.data.toList.drop 47 = dktX10_thing_2 := dk_seg dksX10_thing_1 24 rfl rfl
theorem dX10_thing_0 : decode cX10_thing 0 = .ok (.aload_n 0, 1) := dk_42 (dk_at dksX10_thing_0 0 rfl rfl)
theorem dX10_thing_1 : decode cX10_thing 1 = .ok (.getfield 42, 3) := dk_180 0 42 (dk_at dksX10_thing_0 1 rfl rfl)
theorem dX10_thing_4 : decode cX10_thing 4 = .ok (.checkcast 59, 3) := dk_192 0 59 (dk_at dksX10_thing_0 4 rfl rfl)
theorem dX10_thing_7 : decode cX10_thing 7 = .ok (.astore_n 2, 1) := dk_77 (dk_at dksX10_thing_0 7 rfl rfl)
theorem dX10_thing_8 : decode cX10_thing 8 = .ok (.aload_n 2, 1) := dk_44 (dk_at dksX10_thing_0 8 rfl rfl)
theorem dX10_thing_9 : decode cX10_thing 9 = .ok (.iload_n 1, 1) := dk_27 (dk_at dksX10_thing_0 9 rfl rfl)
theorem dX10_thing_10 : decode cX10_thing 10 = .ok (.saload, 1) := dk_53 (dk_at dksX10_thing_0 10 rfl rfl)
theorem dX10_thing_11 : decode cX10_thing 11 = .ok (.istore_n 3, 1) := dk_62 (dk_at dksX10_thing_0 11 rfl rfl)
theorem dX10_thing_12 : decode cX10_thing 12 = .ok (.goto 19, 3) := dk_167 0 19 (dk_at dksX10_thing_0 12 rfl rfl)
theorem dX10_thing_15 : decode cX10_thing 15 = .ok (.astore 4, 2) := dk_58 4 (dk_at dksX10_thing_0 15 rfl rfl)
theorem dX10_thing_17 : decode cX10_thing 17 = .ok (.invokestatic 74, 3) := dk_184 0 74 (dk_at dksX10_thing_0 17 rfl rfl)
theorem dX10_thing_20 : decode cX10_thing 20 = .ok (.athrow, 1) := dk_191 (dk_at dksX10_thing_0 20 rfl rfl)
theorem dX10_thing_21 : decode cX10_thing 21 = .ok (.astore 4, 2) := dk_58 4 (dk_at dksX10_thing_0 21 rfl rfl)
theorem dX10_thing_23 : decode cX10_thing 23 = .ok (.new 80, 3) := dk_187 0 80 (dk_at dksX10_thing_1 0 rfl rfl)
theorem dX10_thing_26 : decode cX10_thing 26 = .ok (.dup, 1) := dk_89 (dk_at dksX10_thing_1 3 rfl rfl)
theorem dX10_thing_27 : decode cX10_thing 27 = .ok (.invokespecial 82, 3) := dk_183 0 82 (dk_at dksX10_thing_1 4 rfl rfl)
theorem dX10_thing_30 : decode cX10_thing 30 = .ok (.athrow, 1) := dk_191 (dk_at dksX10_thing_1 7 rfl rfl)
theorem dX10_thing_31 : decode cX10_thing 31 = .ok (.iload_n 1, 1) := dk_27 (dk_at dksX10_thing_1 8 rfl rfl)
theorem dX10_thing_32 : decode cX10_thing 32 = .ok (.aload_n 0, 1) := dk_42 (dk_at dksX10_thing_1 9 rfl rfl)
theorem dX10_thing_33 : decode cX10_thing 33 = .ok (.getfield 38, 3) := dk_180 0 38 (dk_at dksX10_thing_1 10 rfl rfl)
theorem dX10_thing_36 : decode cX10_thing 36 = .ok (.if_icmp .lt 11, 3) := dk_161 0 11 (dk_at dksX10_thing_1 13 rfl rfl)
theorem dX10_thing_39 : decode cX10_thing 39 = .ok (.new 80, 3) := dk_187 0 80 (dk_at dksX10_thing_1 16 rfl rfl)
theorem dX10_thing_42 : decode cX10_thing 42 = .ok (.dup, 1) := dk_89 (dk_at dksX10_thing_1 19 rfl rfl)
theorem dX10_thing_43 : decode cX10_thing 43 = .ok (.invokespecial 82, 3) := dk_183 0 82 (dk_at dksX10_thing_1 20 rfl rfl)
theorem dX10_thing_46 : decode cX10_thing 46 = .ok (.athrow, 1) := dk_191 (dk_at dksX10_thing_1 23 rfl rfl)
theorem dX10_thing_47 : decode cX10_thing 47 = .ok (.iload_n 3, 1) := dk_29 (dk_at dksX10_thing_2 0 rfl rfl)
theorem dX10_thing_48 : decode cX10_thing 48 = .ok (.i2l, 1) := dk_133 (dk_at dksX10_thing_2 1 rfl rfl)
theorem dX10_thing_49 : decode cX10_thing 49 = .ok (.lreturn, 1) := dk_173 (dk_at dksX10_thing_2 2 rfl rfl)
abbrev cX10_isFixed : ByteArray := prog_44_method_16_code
def yX10_isFixed : MethodName := ⟨RX10, "isFixed", "(D)Z"⟩
def dkwX10_isFixed_0 : List UInt8 := [42, 180, 0, 38, 4, 160, 0, 7, 4, 167, 0, 4, 3, 172]
abbrev dktX10_isFixed_0 : List UInt8 := dkwX10_isFixed_0 ++ []
theorem dksX10_isFixed_0 : cX10_isFixed.data.toList.drop 0 = dktX10_isFixed_0 := by decide +kernel
theorem dX10_isFixed_0 : decode cX10_isFixed 0 = .ok (.aload_n 0, 1) := dk_42 (dk_at dksX10_isFixed_0 0 rfl rfl)
theorem dX10_isFixed_1 : decode cX10_isFixed 1 = .ok (.getfield 38, 3) := dk_180 0 38 (dk_at dksX10_isFixed_0 1 rfl rfl)
theorem dX10_isFixed_4 : decode cX10_isFixed 4 = .ok (.iconst 1, 1) := dk_4 (dk_at dksX10_isFixed_0 4 rfl rfl)
theorem dX10_isFixed_5 : decode cX10_isFixed 5 = .ok (.if_icmp .ne 7, 3) := dk_160 0 7 (dk_at dksX10_isFixed_0 5 rfl rfl)
theorem dX10_isFixed_8 : decode cX10_isFixed 8 = .ok (.iconst 1, 1) := dk_4 (dk_at dksX10_isFixed_0 8 rfl rfl)
theorem dX10_isFixed_9 : decode cX10_isFixed 9 = .ok (.goto 4, 3) := dk_167 0 4 (dk_at dksX10_isFixed_0 9 rfl rfl)
theorem dX10_isFixed_12 : decode cX10_isFixed 12 = .ok (.iconst 0, 1) := dk_3 (dk_at dksX10_isFixed_0 12 rfl rfl)
theorem dX10_isFixed_13 : decode cX10_isFixed 13 = .ok (.ireturn, 1) := dk_172 (dk_at dksX10_isFixed_0 13 rfl rfl)
abbrev cX10_only : ByteArray := prog_44_method_14_code
def yX10_only : MethodName := ⟨RX10, "only", "(S)V"⟩
def dkwX10_only_0 : List UInt8 := [42, 182, 0, 27, 42, 180, 0, 34, 3, 27, 86, 42, 4, 181, 0, 38, 177]
abbrev dktX10_only_0 : List UInt8 := dkwX10_only_0 ++ []
theorem dksX10_only_0 : cX10_only.data.toList.drop 0 = dktX10_only_0 := by decide +kernel
theorem dX10_only_0 : decode cX10_only 0 = .ok (.aload_n 0, 1) := dk_42 (dk_at dksX10_only_0 0 rfl rfl)
theorem dX10_only_1 : decode cX10_only 1 = .ok (.invokevirtual 27, 3) := dk_182 0 27 (dk_at dksX10_only_0 1 rfl rfl)
theorem dX10_only_4 : decode cX10_only 4 = .ok (.aload_n 0, 1) := dk_42 (dk_at dksX10_only_0 4 rfl rfl)
theorem dX10_only_5 : decode cX10_only 5 = .ok (.getfield 34, 3) := dk_180 0 34 (dk_at dksX10_only_0 5 rfl rfl)
theorem dX10_only_8 : decode cX10_only 8 = .ok (.iconst 0, 1) := dk_3 (dk_at dksX10_only_0 8 rfl rfl)
theorem dX10_only_9 : decode cX10_only 9 = .ok (.iload_n 1, 1) := dk_27 (dk_at dksX10_only_0 9 rfl rfl)
theorem dX10_only_10 : decode cX10_only 10 = .ok (.sastore, 1) := dk_86 (dk_at dksX10_only_0 10 rfl rfl)
theorem dX10_only_11 : decode cX10_only 11 = .ok (.aload_n 0, 1) := dk_42 (dk_at dksX10_only_0 11 rfl rfl)
theorem dX10_only_12 : decode cX10_only 12 = .ok (.iconst 1, 1) := dk_4 (dk_at dksX10_only_0 12 rfl rfl)
theorem dX10_only_13 : decode cX10_only 13 = .ok (.putfield 38, 3) := dk_181 0 38 (dk_at dksX10_only_0 13 rfl rfl)
theorem dX10_only_16 : decode cX10_only 16 = .ok (.return_, 1) := dk_177 (dk_at dksX10_only_0 16 rfl rfl)
theorem q273 : (Jvm.Cond.initialized "ConstraintHouse$Whole") ∈ lw_all := lw_g (lw_at lw_m1 13 rfl) rfl
theorem q700 : (Jvm.Cond.fieldLink "ConstraintHouse$Whole" (42 : Nat) "ConstraintHouse$Whole" "domain" "Ljava/lang/Object;") ∈ lw_all := lw_g (lw_at lw_m2 200 rfl) rfl
theorem q701 : (Jvm.Cond.sameField "ConstraintHouse$Whole" "ConstraintHouse$Variable" "domain" "Ljava/lang/Object;") ∈ lw_all := lw_g (lw_at lw_m2 201 rfl) rfl
theorem q735 : (Jvm.Cond.instantiable "ConstraintHouse$Whole" (4 : Nat)) ∈ lw_all := lw_g (lw_at lw_m2 235 rfl) rfl
theorem q737 : (Jvm.Cond.instanceMethod ({ cls := "ConstraintHouse$Whole", name := "<init>", desc := "()V" } : Jvm.MethodName)) ∈ lw_all := lw_g (lw_at lw_m2 237 rfl) rfl
theorem q738 : (Jvm.Cond.code ({ cls := "ConstraintHouse$Whole", name := "<init>", desc := "()V" } : Jvm.MethodName) prog_44_method_1_code (1 : Nat) (Option.none : Option Jvm.ClassFile.FieldType)) ∈ lw_all := lw_g (lw_at lw_m2 238 rfl) rfl
theorem q739 : (Jvm.Cond.methodLinkNest "ConstraintHouse$Whole" (3 : Nat) ({ cls := "ConstraintHouse$Numeric", name := "<init>", desc := "()V" } : Jvm.MethodName) "ConstraintHouse") ∈ lw_tbl := lw_at lw_m2 239 rfl
theorem q740 : (Jvm.Cond.fieldLink "ConstraintHouse$Whole" (34 : Nat) "ConstraintHouse$Whole" "mine" "[S") ∈ lw_all := lw_g (lw_at lw_m3 0 rfl) rfl
theorem q741 : (Jvm.Cond.fieldLink "ConstraintHouse$Whole" (38 : Nat) "ConstraintHouse$Whole" "many" "I") ∈ lw_all := lw_g (lw_at lw_m3 1 rfl) rfl
theorem q742 : (Jvm.Cond.lays "ConstraintHouse$Whole" "ConstraintHouse$Whole" "mine" "[S") ∈ lw_all := lw_g (lw_at lw_m3 2 rfl) rfl
theorem q743 : (Jvm.Cond.soleField "ConstraintHouse$Whole" "mine") ∈ lw_all := lw_g (lw_at lw_m3 3 rfl) rfl
theorem q744 : (Jvm.Cond.lays "ConstraintHouse$Whole" "ConstraintHouse$Whole" "many" "I") ∈ lw_all := lw_g (lw_at lw_m3 4 rfl) rfl
theorem q745 : (Jvm.Cond.soleField "ConstraintHouse$Whole" "many") ∈ lw_all := lw_g (lw_at lw_m3 5 rfl) rfl
theorem q746 : (Jvm.Cond.lays "ConstraintHouse$Whole" "ConstraintHouse$Variable" "domain" "Ljava/lang/Object;") ∈ lw_all := lw_g (lw_at lw_m3 6 rfl) rfl
theorem q747 : (Jvm.Cond.lays "ConstraintHouse$Whole" "ConstraintHouse$Variable" "number" "I") ∈ lw_all := lw_g (lw_at lw_m3 7 rfl) rfl
theorem q748 : (Jvm.Cond.superclass "ConstraintHouse$Whole" "ConstraintHouse$Numeric") ∈ lw_all := lw_g (lw_at lw_m3 8 rfl) rfl
theorem q915 : (Jvm.Cond.instanceMethod ({ cls := "ConstraintHouse$Whole", name := "set", desc := "([SII)V" } : Jvm.MethodName)) ∈ lw_all := lw_g (lw_at lw_m3 175 rfl) rfl
theorem q916 : (Jvm.Cond.selects "ConstraintHouse$Whole" ({ cls := "ConstraintHouse$Whole", name := "set", desc := "([SII)V" } : Jvm.MethodName) ({ cls := "ConstraintHouse$Whole", name := "set", desc := "([SII)V" } : Jvm.MethodName)) ∈ lw_all := lw_g (lw_at lw_m3 176 rfl) rfl
theorem q917 : (Jvm.Cond.code ({ cls := "ConstraintHouse$Whole", name := "set", desc := "([SII)V" } : Jvm.MethodName) prog_44_method_13_code (5 : Nat) (Option.none : Option Jvm.ClassFile.FieldType)) ∈ lw_all := lw_g (lw_at lw_m3 177 rfl) rfl
theorem q918 : (Jvm.Cond.methodLink "ConstraintHouse$Whole" (27 : Nat) ({ cls := "ConstraintHouse$Whole", name := "begin", desc := "()V" } : Jvm.MethodName)) ∈ lw_all := lw_g (lw_at lw_m3 178 rfl) rfl
theorem q919 : (Jvm.Cond.privateMethod ({ cls := "ConstraintHouse$Whole", name := "begin", desc := "()V" } : Jvm.MethodName)) ∈ lw_tbl := lw_at lw_m3 179 rfl
theorem q920 : (Jvm.Cond.instanceMethod ({ cls := "ConstraintHouse$Whole", name := "begin", desc := "()V" } : Jvm.MethodName)) ∈ lw_all := lw_g (lw_at lw_m3 180 rfl) rfl
theorem q921 : (Jvm.Cond.code ({ cls := "ConstraintHouse$Whole", name := "begin", desc := "()V" } : Jvm.MethodName) prog_44_method_4_code (1 : Nat) (Option.none : Option Jvm.ClassFile.FieldType)) ∈ lw_all := lw_g (lw_at lw_m3 181 rfl) rfl
theorem q1562 : (Jvm.Cond.selects "ConstraintHouse$Whole" ({ cls := "ConstraintHouse$Variable", name := "sort", desc := "()I" } : Jvm.MethodName) ({ cls := "ConstraintHouse$Whole", name := "sort", desc := "()I" } : Jvm.MethodName)) ∈ lw_all := lw_g (lw_at lw_m6 102 rfl) rfl
theorem q1563 : (Jvm.Cond.instanceMethod ({ cls := "ConstraintHouse$Whole", name := "sort", desc := "()I" } : Jvm.MethodName)) ∈ lw_all := lw_g (lw_at lw_m6 103 rfl) rfl
theorem q1564 : (Jvm.Cond.code ({ cls := "ConstraintHouse$Whole", name := "sort", desc := "()I" } : Jvm.MethodName) prog_44_method_2_code (1 : Nat) (Option.some Jvm.ClassFile.FieldType.int)) ∈ lw_all := lw_g (lw_at lw_m6 104 rfl) rfl
theorem q2213 : (Jvm.Cond.selects "ConstraintHouse$Whole" ({ cls := "ConstraintHouse$Variable", name := "give", desc := "(Ljava/lang/Object;LConstraintHouse$Fault;)V" } : Jvm.MethodName) ({ cls := "ConstraintHouse$Whole", name := "give", desc := "(Ljava/lang/Object;LConstraintHouse$Fault;)V" } : Jvm.MethodName)) ∈ lw_all := lw_g (lw_at lw_m9 33 rfl) rfl
theorem q2214 : (Jvm.Cond.instanceMethod ({ cls := "ConstraintHouse$Whole", name := "give", desc := "(Ljava/lang/Object;LConstraintHouse$Fault;)V" } : Jvm.MethodName)) ∈ lw_all := lw_g (lw_at lw_m9 34 rfl) rfl
theorem q2215 : (Jvm.Cond.codeWith ({ cls := "ConstraintHouse$Whole", name := "give", desc := "(Ljava/lang/Object;LConstraintHouse$Fault;)V" } : Jvm.MethodName) prog_44_method_3_code (5 : Nat) (Option.none : Option Jvm.ClassFile.FieldType) [((17 : Nat), (22 : Nat), (25 : Nat), (19 : Nat))]) ∈ lw_all := lw_g (lw_at lw_m9 35 rfl) rfl
theorem q2216 : (Jvm.Cond.classLink "ConstraintHouse$Whole" (19 : Nat) "java/lang/ClassCastException") ∈ lw_all := lw_g (lw_at lw_m9 36 rfl) rfl
theorem q2217 : (Jvm.Cond.classLink "ConstraintHouse$Whole" (9 : Nat) "[D") ∈ lw_all := lw_g (lw_at lw_m9 37 rfl) rfl
theorem q2218 : (Jvm.Cond.methodLink "ConstraintHouse$Whole" (11 : Nat) ({ cls := "ConstraintHouse$Whole", name := "range", desc := "([DLConstraintHouse$Fault;)V" } : Jvm.MethodName)) ∈ lw_all := lw_g (lw_at lw_m9 38 rfl) rfl
theorem q2219 : (Jvm.Cond.privateMethod ({ cls := "ConstraintHouse$Whole", name := "range", desc := "([DLConstraintHouse$Fault;)V" } : Jvm.MethodName)) ∈ lw_tbl := lw_at lw_m9 39 rfl
theorem q2220 : (Jvm.Cond.instanceMethod ({ cls := "ConstraintHouse$Whole", name := "range", desc := "([DLConstraintHouse$Fault;)V" } : Jvm.MethodName)) ∈ lw_all := lw_g (lw_at lw_m9 40 rfl) rfl
theorem q2221 : (Jvm.Cond.code ({ cls := "ConstraintHouse$Whole", name := "range", desc := "([DLConstraintHouse$Fault;)V" } : Jvm.MethodName) prog_44_method_6_code (6 : Nat) (Option.none : Option Jvm.ClassFile.FieldType)) ∈ lw_all := lw_g (lw_at lw_m9 41 rfl) rfl
theorem q2222 : (Jvm.Cond.constantDouble "ConstraintHouse$Whole" (46 : Nat) (13894598808949489664 : UInt64)) ∈ lw_all := lw_g (lw_at lw_m9 42 rfl) rfl
theorem q2223 : (Jvm.Cond.constantDouble "ConstraintHouse$Whole" (48 : Nat) (4671226772094713856 : UInt64)) ∈ lw_all := lw_g (lw_at lw_m9 43 rfl) rfl
theorem q2224 : (Jvm.Cond.methodLink "ConstraintHouse$Whole" (21 : Nat) ({ cls := "ConstraintHouse$Fault", name := "of", desc := "(I)LConstraintHouse$Fault;" } : Jvm.MethodName)) ∈ lw_all := lw_g (lw_at lw_m9 44 rfl) rfl
theorem q2225 : (Jvm.Cond.methodLink "ConstraintHouse$Whole" (50 : Nat) ({ cls := "java/lang/Math", name := "ceil", desc := "(D)D" } : Jvm.MethodName)) ∈ lw_all := lw_g (lw_at lw_m9 45 rfl) rfl
theorem q2251 : (Jvm.Cond.methodLink "ConstraintHouse$Whole" (56 : Nat) ({ cls := "java/lang/Math", name := "floor", desc := "(D)D" } : Jvm.MethodName)) ∈ lw_all := lw_g (lw_at lw_m9 71 rfl) rfl
theorem q2258 : (Jvm.Cond.classLink "ConstraintHouse$Whole" (17 : Nat) "[I") ∈ lw_all := lw_g (lw_at lw_m9 78 rfl) rfl
theorem q2259 : (Jvm.Cond.methodLink "ConstraintHouse$Whole" (30 : Nat) ({ cls := "ConstraintHouse$Whole", name := "add", desc := "(S)V" } : Jvm.MethodName)) ∈ lw_all := lw_g (lw_at lw_m9 79 rfl) rfl
theorem q2260 : (Jvm.Cond.privateMethod ({ cls := "ConstraintHouse$Whole", name := "add", desc := "(S)V" } : Jvm.MethodName)) ∈ lw_tbl := lw_at lw_m9 80 rfl
theorem q2261 : (Jvm.Cond.instanceMethod ({ cls := "ConstraintHouse$Whole", name := "add", desc := "(S)V" } : Jvm.MethodName)) ∈ lw_all := lw_g (lw_at lw_m9 81 rfl) rfl
theorem q2262 : (Jvm.Cond.code ({ cls := "ConstraintHouse$Whole", name := "add", desc := "(S)V" } : Jvm.MethodName) prog_44_method_5_code (4 : Nat) (Option.none : Option Jvm.ClassFile.FieldType)) ∈ lw_all := lw_g (lw_at lw_m9 82 rfl) rfl
theorem q2403 : (Jvm.Cond.selects "ConstraintHouse$Whole" ({ cls := "ConstraintHouse$Splits", name := "things", desc := "()I" } : Jvm.MethodName) ({ cls := "ConstraintHouse$Whole", name := "things", desc := "()I" } : Jvm.MethodName)) ∈ lw_all := lw_g (lw_at lw_m9 223 rfl) rfl
theorem q2404 : (Jvm.Cond.instanceMethod ({ cls := "ConstraintHouse$Whole", name := "things", desc := "()I" } : Jvm.MethodName)) ∈ lw_all := lw_g (lw_at lw_m9 224 rfl) rfl
theorem q2405 : (Jvm.Cond.code ({ cls := "ConstraintHouse$Whole", name := "things", desc := "()I" } : Jvm.MethodName) prog_44_method_15_code (1 : Nat) (Option.some Jvm.ClassFile.FieldType.int)) ∈ lw_all := lw_g (lw_at lw_m9 225 rfl) rfl
theorem q2432 : (Jvm.Cond.castable "ConstraintHouse$Whole" "ConstraintHouse$Splits") ∈ lw_tbl := lw_at lw_m10 12 rfl
theorem q2433 : (Jvm.Cond.unhidden "ConstraintHouse$Whole" "hasBounds" "()Z") ∈ lw_tbl := lw_at lw_m10 13 rfl
theorem q2450 : (Jvm.Cond.selects "ConstraintHouse$Whole" ({ cls := "ConstraintHouse$Numeric", name := "low", desc := "()D" } : Jvm.MethodName) ({ cls := "ConstraintHouse$Whole", name := "low", desc := "()D" } : Jvm.MethodName)) ∈ lw_all := lw_g (lw_at lw_m10 30 rfl) rfl
theorem q2451 : (Jvm.Cond.instanceMethod ({ cls := "ConstraintHouse$Whole", name := "low", desc := "()D" } : Jvm.MethodName)) ∈ lw_all := lw_g (lw_at lw_m10 31 rfl) rfl
theorem q2452 : (Jvm.Cond.codeWith ({ cls := "ConstraintHouse$Whole", name := "low", desc := "()D" } : Jvm.MethodName) prog_44_method_7_code (3 : Nat) (Option.some Jvm.ClassFile.FieldType.double) [((8 : Nat), (12 : Nat), (13 : Nat), (60 : Nat))]) ∈ lw_all := lw_g (lw_at lw_m10 32 rfl) rfl
theorem q2453 : (Jvm.Cond.classLink "ConstraintHouse$Whole" (60 : Nat) "java/lang/NullPointerException") ∈ lw_all := lw_g (lw_at lw_m10 33 rfl) rfl
theorem q2454 : (Jvm.Cond.classLink "ConstraintHouse$Whole" (59 : Nat) "[S") ∈ lw_all := lw_g (lw_at lw_m10 34 rfl) rfl
theorem q2455 : (Jvm.Cond.fieldLinkNest "ConstraintHouse$Whole" (62 : Nat) "ConstraintHouse" "ABSENT" "LConstraintHouse$Absent;" "ConstraintHouse") ∈ lw_tbl := lw_at lw_m10 35 rfl
theorem q2465 : (Jvm.Cond.selects "ConstraintHouse$Whole" ({ cls := "ConstraintHouse$Numeric", name := "high", desc := "()D" } : Jvm.MethodName) ({ cls := "ConstraintHouse$Whole", name := "high", desc := "()D" } : Jvm.MethodName)) ∈ lw_all := lw_g (lw_at lw_m10 45 rfl) rfl
theorem q2466 : (Jvm.Cond.instanceMethod ({ cls := "ConstraintHouse$Whole", name := "high", desc := "()D" } : Jvm.MethodName)) ∈ lw_all := lw_g (lw_at lw_m10 46 rfl) rfl
theorem q2467 : (Jvm.Cond.code ({ cls := "ConstraintHouse$Whole", name := "high", desc := "()D" } : Jvm.MethodName) prog_44_method_8_code (1 : Nat) (Option.some Jvm.ClassFile.FieldType.double)) ∈ lw_all := lw_g (lw_at lw_m10 47 rfl) rfl
theorem q2983 : (Jvm.Cond.instanceMethod ({ cls := "ConstraintHouse$Whole", name := "lose", desc := "(D)V" } : Jvm.MethodName)) ∈ lw_all := lw_g (lw_at lw_m12 83 rfl) rfl
theorem q2984 : (Jvm.Cond.selects "ConstraintHouse$Whole" ({ cls := "ConstraintHouse$Whole", name := "lose", desc := "(D)V" } : Jvm.MethodName) ({ cls := "ConstraintHouse$Whole", name := "lose", desc := "(D)V" } : Jvm.MethodName)) ∈ lw_all := lw_g (lw_at lw_m12 84 rfl) rfl
theorem q2985 : (Jvm.Cond.code ({ cls := "ConstraintHouse$Whole", name := "lose", desc := "(D)V" } : Jvm.MethodName) prog_44_method_12_code (5 : Nat) (Option.none : Option Jvm.ClassFile.FieldType)) ∈ lw_all := lw_g (lw_at lw_m12 85 rfl) rfl
theorem q2986 : (Jvm.Cond.fieldLinkNest "ConstraintHouse$Whole" (66 : Nat) "ConstraintHouse" "NOTHING" "LConstraintHouse$Nothing;" "ConstraintHouse") ∈ lw_tbl := lw_at lw_m12 86 rfl
theorem q3054 : (Jvm.Cond.instanceMethod ({ cls := "ConstraintHouse$Whole", name := "lose", desc := "([I)V" } : Jvm.MethodName)) ∈ lw_all := lw_g (lw_at lw_m12 154 rfl) rfl
theorem q3055 : (Jvm.Cond.selects "ConstraintHouse$Whole" ({ cls := "ConstraintHouse$Whole", name := "lose", desc := "([I)V" } : Jvm.MethodName) ({ cls := "ConstraintHouse$Whole", name := "lose", desc := "([I)V" } : Jvm.MethodName)) ∈ lw_all := lw_g (lw_at lw_m12 155 rfl) rfl
theorem q3056 : (Jvm.Cond.code ({ cls := "ConstraintHouse$Whole", name := "lose", desc := "([I)V" } : Jvm.MethodName) prog_44_method_10_code (5 : Nat) (Option.none : Option Jvm.ClassFile.FieldType)) ∈ lw_all := lw_g (lw_at lw_m12 156 rfl) rfl
theorem q3057 : (Jvm.Cond.methodLink "ConstraintHouse$Whole" (70 : Nat) ({ cls := "ConstraintHouse$Whole", name := "isIn", desc := "([II)Z" } : Jvm.MethodName)) ∈ lw_all := lw_g (lw_at lw_m12 157 rfl) rfl
theorem q3058 : (Jvm.Cond.static ({ cls := "ConstraintHouse$Whole", name := "isIn", desc := "([II)Z" } : Jvm.MethodName)) ∈ lw_all := lw_g (lw_at lw_m12 158 rfl) rfl
theorem q3059 : (Jvm.Cond.code ({ cls := "ConstraintHouse$Whole", name := "isIn", desc := "([II)Z" } : Jvm.MethodName) prog_44_method_11_code (4 : Nat) (Option.some Jvm.ClassFile.FieldType.boolean)) ∈ lw_all := lw_g (lw_at lw_m12 159 rfl) rfl
theorem q3186 : (Jvm.Cond.selects "ConstraintHouse$Whole" ({ cls := "ConstraintHouse$Numeric", name := "keep", desc := "(DD)V" } : Jvm.MethodName) ({ cls := "ConstraintHouse$Whole", name := "keep", desc := "(DD)V" } : Jvm.MethodName)) ∈ lw_all := lw_g (lw_at lw_m13 46 rfl) rfl
theorem q3187 : (Jvm.Cond.instanceMethod ({ cls := "ConstraintHouse$Whole", name := "keep", desc := "(DD)V" } : Jvm.MethodName)) ∈ lw_all := lw_g (lw_at lw_m13 47 rfl) rfl
theorem q3188 : (Jvm.Cond.code ({ cls := "ConstraintHouse$Whole", name := "keep", desc := "(DD)V" } : Jvm.MethodName) prog_44_method_9_code (7 : Nat) (Option.none : Option Jvm.ClassFile.FieldType)) ∈ lw_all := lw_g (lw_at lw_m13 48 rfl) rfl
theorem q3375 : (Jvm.Cond.selects "ConstraintHouse$Whole" ({ cls := "ConstraintHouse$Variable", name := "thing", desc := "(I)J" } : Jvm.MethodName) ({ cls := "ConstraintHouse$Whole", name := "thing", desc := "(I)J" } : Jvm.MethodName)) ∈ lw_all := lw_g (lw_at lw_m13 235 rfl) rfl
theorem q3376 : (Jvm.Cond.instanceMethod ({ cls := "ConstraintHouse$Whole", name := "thing", desc := "(I)J" } : Jvm.MethodName)) ∈ lw_all := lw_g (lw_at lw_m13 236 rfl) rfl
theorem q3377 : (Jvm.Cond.codeWith ({ cls := "ConstraintHouse$Whole", name := "thing", desc := "(I)J" } : Jvm.MethodName) prog_44_method_17_code (5 : Nat) (Option.some Jvm.ClassFile.FieldType.long) [((8 : Nat), (12 : Nat), (15 : Nat), (60 : Nat)), ((8 : Nat), (12 : Nat), (21 : Nat), (78 : Nat))]) ∈ lw_all := lw_g (lw_at lw_m13 237 rfl) rfl
theorem q3378 : (Jvm.Cond.classLink "ConstraintHouse$Whole" (78 : Nat) "java/lang/ArrayIndexOutOfBoundsException") ∈ lw_all := lw_g (lw_at lw_m13 238 rfl) rfl
theorem q3379 : (Jvm.Cond.methodLink "ConstraintHouse$Whole" (74 : Nat) ({ cls := "ConstraintHouse$Whole", name := "without", desc := "()Ljava/lang/IllegalStateException;" } : Jvm.MethodName)) ∈ lw_all := lw_g (lw_at lw_m13 239 rfl) rfl
theorem q3380 : (Jvm.Cond.sameMethod "ConstraintHouse$Whole" "ConstraintHouse$Variable" "without" "()Ljava/lang/IllegalStateException;") ∈ lw_all := lw_g (lw_at lw_m14 0 rfl) rfl
theorem q3381 : (Jvm.Cond.classLink "ConstraintHouse$Whole" (80 : Nat) "java/lang/IndexOutOfBoundsException") ∈ lw_all := lw_g (lw_at lw_m14 1 rfl) rfl
theorem q3382 : (Jvm.Cond.methodLink "ConstraintHouse$Whole" (82 : Nat) ({ cls := "java/lang/IndexOutOfBoundsException", name := "<init>", desc := "()V" } : Jvm.MethodName)) ∈ lw_all := lw_g (lw_at lw_m14 2 rfl) rfl
theorem q3414 : (Jvm.Cond.selects "ConstraintHouse$Whole" ({ cls := "ConstraintHouse$Splits", name := "isFixed", desc := "(D)Z" } : Jvm.MethodName) ({ cls := "ConstraintHouse$Whole", name := "isFixed", desc := "(D)Z" } : Jvm.MethodName)) ∈ lw_all := lw_g (lw_at lw_m14 34 rfl) rfl
theorem q3415 : (Jvm.Cond.instanceMethod ({ cls := "ConstraintHouse$Whole", name := "isFixed", desc := "(D)Z" } : Jvm.MethodName)) ∈ lw_all := lw_g (lw_at lw_m14 35 rfl) rfl
theorem q3416 : (Jvm.Cond.code ({ cls := "ConstraintHouse$Whole", name := "isFixed", desc := "(D)Z" } : Jvm.MethodName) prog_44_method_16_code (3 : Nat) (Option.some Jvm.ClassFile.FieldType.boolean)) ∈ lw_all := lw_g (lw_at lw_m14 36 rfl) rfl
theorem q3450 : (Jvm.Cond.instanceMethod ({ cls := "ConstraintHouse$Whole", name := "only", desc := "(S)V" } : Jvm.MethodName)) ∈ lw_all := lw_g (lw_at lw_m14 70 rfl) rfl
theorem q3451 : (Jvm.Cond.selects "ConstraintHouse$Whole" ({ cls := "ConstraintHouse$Whole", name := "only", desc := "(S)V" } : Jvm.MethodName) ({ cls := "ConstraintHouse$Whole", name := "only", desc := "(S)V" } : Jvm.MethodName)) ∈ lw_all := lw_g (lw_at lw_m14 71 rfl) rfl
theorem q3452 : (Jvm.Cond.code ({ cls := "ConstraintHouse$Whole", name := "only", desc := "(S)V" } : Jvm.MethodName) prog_44_method_14_code (2 : Nat) (Option.none : Option Jvm.ClassFile.FieldType)) ∈ lw_all := lw_g (lw_at lw_m14 72 rfl) rfl
theorem q3542 : (Jvm.Cond.unhidden "ConstraintHouse$Whole" "things" "()I") ∈ lw_tbl := lw_at lw_m14 162 rfl
theorem q3543 : (Jvm.Cond.publicMethod ({ cls := "ConstraintHouse$Whole", name := "things", desc := "()I" } : Jvm.MethodName)) ∈ lw_tbl := lw_at lw_m14 163 rfl
theorem q3547 : (Jvm.Cond.unhidden "ConstraintHouse$Whole" "told" "()I") ∈ lw_tbl := lw_at lw_m14 167 rfl
theorem q4799 : (Jvm.Cond.selects "ConstraintHouse$Whole" ({ cls := "ConstraintHouse$Whole", name := "low", desc := "()D" } : Jvm.MethodName) ({ cls := "ConstraintHouse$Whole", name := "low", desc := "()D" } : Jvm.MethodName)) ∈ lw_all := lw_g (lw_at lw_m19 219 rfl) rfl
theorem q4809 : (Jvm.Cond.castable "ConstraintHouse$Whole" "ConstraintHouse$Numeric") ∈ lw_tbl := lw_at lw_m19 229 rfl
theorem q4817 : (Jvm.Cond.castable "ConstraintHouse$Whole" "java/lang/Object") ∈ lw_tbl := lw_at lw_m19 237 rfl
theorem q4857 : (Jvm.Cond.castable "ConstraintHouse$Whole" "ConstraintHouse$Variable") ∈ lw_tbl := lw_at lw_m20 37 rfl
theorem in_X10 : ∀ w ∈ wsX100, w ∈ lw_all := lw_in wsX100 [746, 747, 742, 744] (by decide +kernel) (by decide +kernel)
/-! ConstraintHouse$Truth -/
set_option maxRecDepth 100000
def RX11 : String := "ConstraintHouse$Truth"
def TX11 : u_T := fun k => match k with
  | 0 => ("ConstraintHouse$Variable", "domain", "Ljava/lang/Object;", false)
  | 1 => ("ConstraintHouse$Variable", "number", "I", false)
  | _ => ("ConstraintHouse$Truth", "mine", "[Z", false)
def tyX11 : Nat → FieldType := fun k => match k with
  | 0 => .object "java/lang/Object"
  | 1 => .int
  | _ => .array .boolean
abbrev wsX110 : List Cond := u_ws RX11 TX11 3
theorem nmX11 : ∀ a, a < 3 → ∀ b, b < 3 → a ≠ b → (TX11 a).2.1 ≠ (TX11 b).2.1 := by decide +kernel
theorem tyX11_ok : ∀ k, k < 3 → parseFieldDescriptor (TX11 k).2.2.1 = some (tyX11 k) := by decide +kernel
abbrev cX11_init : ByteArray := prog_41_method_1_code
def yX11_init : MethodName := ⟨RX11, "<init>", "()V"⟩
theorem dX11_init_0 : decode cX11_init 0 = .ok (.aload_n 0, 1) := by decide +kernel
theorem dX11_init_1 : decode cX11_init 1 = .ok (.invokespecial 3, 3) := by decide +kernel
theorem dX11_init_4 : decode cX11_init 4 = .ok (.return_, 1) := by decide +kernel
abbrev cX11_set : ByteArray := prog_41_method_4_code
def yX11_set : MethodName := ⟨RX11, "set", "(ZZ)V"⟩
def dkwX11_set_1 : List UInt8 := [180, 0, 25, 4, 28, 84, 42, 42, 180, 0, 25, 181, 0, 28, 177]
abbrev dktX11_set_1 : List UInt8 := dkwX11_set_1 ++ []
def dkwX11_set_0 : List UInt8 := [42, 180, 0, 25, 199, 0, 10, 42, 5, 188, 4, 181, 0, 25, 42, 180, 0, 25, 3, 27, 84, 42]
abbrev dktX11_set_0 : List UInt8 := dkwX11_set_0 ++ dktX11_set_1
theorem dksX11_set_0 : cX11_set.data.toList.drop 0 = dktX11_set_0 := by decide +kernel
theorem dksX11_set_1 : cX11_set.data.toList.drop 22 = dktX11_set_1 := dk_seg dksX11_set_0 22 rfl rfl
theorem dX11_set_0 : decode cX11_set 0 = .ok (.aload_n 0, 1) := dk_42 (dk_at dksX11_set_0 0 rfl rfl)
theorem dX11_set_1 : decode cX11_set 1 = .ok (.getfield 25, 3) := dk_180 0 25 (dk_at dksX11_set_0 1 rfl rfl)
theorem dX11_set_4 : decode cX11_set 4 = .ok (.ifnonnull 10, 3) := dk_199 0 10 (dk_at dksX11_set_0 4 rfl rfl)
theorem dX11_set_7 : decode cX11_set 7 = .ok (.aload_n 0, 1) := dk_42 (dk_at dksX11_set_0 7 rfl rfl)
theorem dX11_set_8 : decode cX11_set 8 = .ok (.iconst 2, 1) := dk_5 (dk_at dksX11_set_0 8 rfl rfl)
theorem dX11_set_9 : decode cX11_set 9 = .ok (.newarray .boolean, 2) := dk_188_4 (dk_at dksX11_set_0 9 rfl rfl)
theorem dX11_set_11 : decode cX11_set 11 = .ok (.putfield 25, 3) := dk_181 0 25 (dk_at dksX11_set_0 11 rfl rfl)
theorem dX11_set_14 : decode cX11_set 14 = .ok (.aload_n 0, 1) := dk_42 (dk_at dksX11_set_0 14 rfl rfl)
theorem dX11_set_15 : decode cX11_set 15 = .ok (.getfield 25, 3) := dk_180 0 25 (dk_at dksX11_set_0 15 rfl rfl)
theorem dX11_set_18 : decode cX11_set 18 = .ok (.iconst 0, 1) := dk_3 (dk_at dksX11_set_0 18 rfl rfl)
theorem dX11_set_19 : decode cX11_set 19 = .ok (.iload_n 1, 1) := dk_27 (dk_at dksX11_set_0 19 rfl rfl)
theorem dX11_set_20 : decode cX11_set 20 = .ok (.bastore, 1) := dk_84 (dk_at dksX11_set_0 20 rfl rfl)
theorem dX11_set_21 : decode cX11_set 21 = .ok (.aload_n 0, 1) := dk_42 (dk_at dksX11_set_0 21 rfl rfl)
theorem dX11_set_22 : decode cX11_set 22 = .ok (.getfield 25, 3) := dk_180 0 25 (dk_at dksX11_set_1 0 rfl rfl)
theorem dX11_set_25 : decode cX11_set 25 = .ok (.iconst 1, 1) := dk_4 (dk_at dksX11_set_1 3 rfl rfl)
theorem dX11_set_26 : decode cX11_set 26 = .ok (.iload_n 2, 1) := dk_28 (dk_at dksX11_set_1 4 rfl rfl)
theorem dX11_set_27 : decode cX11_set 27 = .ok (.bastore, 1) := dk_84 (dk_at dksX11_set_1 5 rfl rfl)
theorem dX11_set_28 : decode cX11_set 28 = .ok (.aload_n 0, 1) := dk_42 (dk_at dksX11_set_1 6 rfl rfl)
theorem dX11_set_29 : decode cX11_set 29 = .ok (.aload_n 0, 1) := dk_42 (dk_at dksX11_set_1 7 rfl rfl)
theorem dX11_set_30 : decode cX11_set 30 = .ok (.getfield 25, 3) := dk_180 0 25 (dk_at dksX11_set_1 8 rfl rfl)
theorem dX11_set_33 : decode cX11_set 33 = .ok (.putfield 28, 3) := dk_181 0 28 (dk_at dksX11_set_1 11 rfl rfl)
theorem dX11_set_36 : decode cX11_set 36 = .ok (.return_, 1) := dk_177 (dk_at dksX11_set_1 14 rfl rfl)
abbrev cX11_sort : ByteArray := prog_41_method_2_code
def yX11_sort : MethodName := ⟨RX11, "sort", "()I"⟩
theorem dX11_sort_0 : decode cX11_sort 0 = .ok (.iconst 3, 1) := by decide +kernel
theorem dX11_sort_1 : decode cX11_sort 1 = .ok (.ireturn, 1) := by decide +kernel
abbrev cX11_give : ByteArray := prog_41_method_3_code
def yX11_give : MethodName := ⟨RX11, "give", "(Ljava/lang/Object;LConstraintHouse$Fault;)V"⟩
def dkwX11_give_1 : List UInt8 := [182, 0, 19, 177]
abbrev dktX11_give_1 : List UInt8 := dkwX11_give_1 ++ []
def dkwX11_give_0 : List UInt8 := [43, 192, 0, 9, 78, 167, 0, 11, 58, 4, 44, 6, 182, 0, 13, 191, 42, 45, 3, 51, 45, 4, 51]
abbrev dktX11_give_0 : List UInt8 := dkwX11_give_0 ++ dktX11_give_1
theorem dksX11_give_0 : cX11_give.data.toList.drop 0 = dktX11_give_0 := by decide +kernel
theorem dksX11_give_1 : cX11_give.data.toList.drop 23 = dktX11_give_1 := dk_seg dksX11_give_0 23 rfl rfl
theorem dX11_give_0 : decode cX11_give 0 = .ok (.aload_n 1, 1) := dk_43 (dk_at dksX11_give_0 0 rfl rfl)
theorem dX11_give_1 : decode cX11_give 1 = .ok (.checkcast 9, 3) := dk_192 0 9 (dk_at dksX11_give_0 1 rfl rfl)
theorem dX11_give_4 : decode cX11_give 4 = .ok (.astore_n 3, 1) := dk_78 (dk_at dksX11_give_0 4 rfl rfl)
theorem dX11_give_5 : decode cX11_give 5 = .ok (.goto 11, 3) := dk_167 0 11 (dk_at dksX11_give_0 5 rfl rfl)
theorem dX11_give_8 : decode cX11_give 8 = .ok (.astore 4, 2) := dk_58 4 (dk_at dksX11_give_0 8 rfl rfl)
theorem dX11_give_10 : decode cX11_give 10 = .ok (.aload_n 2, 1) := dk_44 (dk_at dksX11_give_0 10 rfl rfl)
theorem dX11_give_11 : decode cX11_give 11 = .ok (.iconst 3, 1) := dk_6 (dk_at dksX11_give_0 11 rfl rfl)
theorem dX11_give_12 : decode cX11_give 12 = .ok (.invokevirtual 13, 3) := dk_182 0 13 (dk_at dksX11_give_0 12 rfl rfl)
theorem dX11_give_15 : decode cX11_give 15 = .ok (.athrow, 1) := dk_191 (dk_at dksX11_give_0 15 rfl rfl)
theorem dX11_give_16 : decode cX11_give 16 = .ok (.aload_n 0, 1) := dk_42 (dk_at dksX11_give_0 16 rfl rfl)
theorem dX11_give_17 : decode cX11_give 17 = .ok (.aload_n 3, 1) := dk_45 (dk_at dksX11_give_0 17 rfl rfl)
theorem dX11_give_18 : decode cX11_give 18 = .ok (.iconst 0, 1) := dk_3 (dk_at dksX11_give_0 18 rfl rfl)
theorem dX11_give_19 : decode cX11_give 19 = .ok (.baload, 1) := dk_51 (dk_at dksX11_give_0 19 rfl rfl)
theorem dX11_give_20 : decode cX11_give 20 = .ok (.aload_n 3, 1) := dk_45 (dk_at dksX11_give_0 20 rfl rfl)
theorem dX11_give_21 : decode cX11_give 21 = .ok (.iconst 1, 1) := dk_4 (dk_at dksX11_give_0 21 rfl rfl)
theorem dX11_give_22 : decode cX11_give 22 = .ok (.baload, 1) := dk_51 (dk_at dksX11_give_0 22 rfl rfl)
theorem dX11_give_23 : decode cX11_give 23 = .ok (.invokevirtual 19, 3) := dk_182 0 19 (dk_at dksX11_give_1 0 rfl rfl)
theorem dX11_give_26 : decode cX11_give 26 = .ok (.return_, 1) := dk_177 (dk_at dksX11_give_1 3 rfl rfl)
abbrev cX11_things : ByteArray := prog_41_method_7_code
def yX11_things : MethodName := ⟨RX11, "things", "()I"⟩
def dkwX11_things_0 : List UInt8 := [42, 180, 0, 25, 3, 51, 153, 0, 16, 42, 180, 0, 25, 4, 51, 153, 0, 7, 5, 167, 0, 4, 4, 172]
abbrev dktX11_things_0 : List UInt8 := dkwX11_things_0 ++ []
theorem dksX11_things_0 : cX11_things.data.toList.drop 0 = dktX11_things_0 := by decide +kernel
theorem dX11_things_0 : decode cX11_things 0 = .ok (.aload_n 0, 1) := dk_42 (dk_at dksX11_things_0 0 rfl rfl)
theorem dX11_things_1 : decode cX11_things 1 = .ok (.getfield 25, 3) := dk_180 0 25 (dk_at dksX11_things_0 1 rfl rfl)
theorem dX11_things_4 : decode cX11_things 4 = .ok (.iconst 0, 1) := dk_3 (dk_at dksX11_things_0 4 rfl rfl)
theorem dX11_things_5 : decode cX11_things 5 = .ok (.baload, 1) := dk_51 (dk_at dksX11_things_0 5 rfl rfl)
theorem dX11_things_6 : decode cX11_things 6 = .ok (.ifCond .eq 16, 3) := dk_153 0 16 (dk_at dksX11_things_0 6 rfl rfl)
theorem dX11_things_9 : decode cX11_things 9 = .ok (.aload_n 0, 1) := dk_42 (dk_at dksX11_things_0 9 rfl rfl)
theorem dX11_things_10 : decode cX11_things 10 = .ok (.getfield 25, 3) := dk_180 0 25 (dk_at dksX11_things_0 10 rfl rfl)
theorem dX11_things_13 : decode cX11_things 13 = .ok (.iconst 1, 1) := dk_4 (dk_at dksX11_things_0 13 rfl rfl)
theorem dX11_things_14 : decode cX11_things 14 = .ok (.baload, 1) := dk_51 (dk_at dksX11_things_0 14 rfl rfl)
theorem dX11_things_15 : decode cX11_things 15 = .ok (.ifCond .eq 7, 3) := dk_153 0 7 (dk_at dksX11_things_0 15 rfl rfl)
theorem dX11_things_18 : decode cX11_things 18 = .ok (.iconst 2, 1) := dk_5 (dk_at dksX11_things_0 18 rfl rfl)
theorem dX11_things_19 : decode cX11_things 19 = .ok (.goto 4, 3) := dk_167 0 4 (dk_at dksX11_things_0 19 rfl rfl)
theorem dX11_things_22 : decode cX11_things 22 = .ok (.iconst 1, 1) := dk_4 (dk_at dksX11_things_0 22 rfl rfl)
theorem dX11_things_23 : decode cX11_things 23 = .ok (.ireturn, 1) := dk_172 (dk_at dksX11_things_0 23 rfl rfl)
abbrev cX11_may : ByteArray := prog_41_method_5_code
def yX11_may : MethodName := ⟨RX11, "may", "(Z)Z"⟩
def dkwX11_may_1 : List UInt8 := [191]
abbrev dktX11_may_1 : List UInt8 := dkwX11_may_1 ++ []
def dkwX11_may_0 : List UInt8 := [42, 180, 0, 28, 192, 0, 9, 77, 44, 27, 153, 0, 7, 4, 167, 0, 4, 3, 51, 172, 78, 178, 0, 34]
abbrev dktX11_may_0 : List UInt8 := dkwX11_may_0 ++ dktX11_may_1
theorem dksX11_may_0 : cX11_may.data.toList.drop 0 = dktX11_may_0 := by decide +kernel
theorem dksX11_may_1 : cX11_may.data.toList.drop 24 = dktX11_may_1 := dk_seg dksX11_may_0 24 rfl rfl
theorem dX11_may_0 : decode cX11_may 0 = .ok (.aload_n 0, 1) := dk_42 (dk_at dksX11_may_0 0 rfl rfl)
theorem dX11_may_1 : decode cX11_may 1 = .ok (.getfield 28, 3) := dk_180 0 28 (dk_at dksX11_may_0 1 rfl rfl)
theorem dX11_may_4 : decode cX11_may 4 = .ok (.checkcast 9, 3) := dk_192 0 9 (dk_at dksX11_may_0 4 rfl rfl)
theorem dX11_may_7 : decode cX11_may 7 = .ok (.astore_n 2, 1) := dk_77 (dk_at dksX11_may_0 7 rfl rfl)
theorem dX11_may_8 : decode cX11_may 8 = .ok (.aload_n 2, 1) := dk_44 (dk_at dksX11_may_0 8 rfl rfl)
theorem dX11_may_9 : decode cX11_may 9 = .ok (.iload_n 1, 1) := dk_27 (dk_at dksX11_may_0 9 rfl rfl)
theorem dX11_may_10 : decode cX11_may 10 = .ok (.ifCond .eq 7, 3) := dk_153 0 7 (dk_at dksX11_may_0 10 rfl rfl)
theorem dX11_may_13 : decode cX11_may 13 = .ok (.iconst 1, 1) := dk_4 (dk_at dksX11_may_0 13 rfl rfl)
theorem dX11_may_14 : decode cX11_may 14 = .ok (.goto 4, 3) := dk_167 0 4 (dk_at dksX11_may_0 14 rfl rfl)
theorem dX11_may_17 : decode cX11_may 17 = .ok (.iconst 0, 1) := dk_3 (dk_at dksX11_may_0 17 rfl rfl)
theorem dX11_may_18 : decode cX11_may 18 = .ok (.baload, 1) := dk_51 (dk_at dksX11_may_0 18 rfl rfl)
theorem dX11_may_19 : decode cX11_may 19 = .ok (.ireturn, 1) := dk_172 (dk_at dksX11_may_0 19 rfl rfl)
theorem dX11_may_20 : decode cX11_may 20 = .ok (.astore_n 3, 1) := dk_78 (dk_at dksX11_may_0 20 rfl rfl)
theorem dX11_may_21 : decode cX11_may 21 = .ok (.getstatic 34, 3) := dk_178 0 34 (dk_at dksX11_may_0 21 rfl rfl)
theorem dX11_may_24 : decode cX11_may 24 = .ok (.athrow, 1) := dk_191 (dk_at dksX11_may_1 0 rfl rfl)
abbrev cX11_keep : ByteArray := prog_41_method_6_code
def yX11_keep : MethodName := ⟨RX11, "keep", "(ZZ)V"⟩
def dkwX11_keep_2 : List UInt8 := [178, 0, 38, 191, 42, 180, 0, 25, 3, 29, 84, 42, 180, 0, 25, 4, 21, 4, 84, 177]
abbrev dktX11_keep_2 : List UInt8 := dkwX11_keep_2 ++ []
def dkwX11_keep_1 : List UInt8 := [51, 153, 0, 11, 28, 153, 0, 7, 4, 167, 0, 4, 3, 54, 4, 29, 154, 0, 12, 21, 4, 154, 0, 7]
abbrev dktX11_keep_1 : List UInt8 := dkwX11_keep_1 ++ dktX11_keep_2
def dkwX11_keep_0 : List UInt8 := [42, 180, 0, 25, 3, 51, 153, 0, 11, 27, 153, 0, 7, 4, 167, 0, 4, 3, 62, 42, 180, 0, 25, 4]
abbrev dktX11_keep_0 : List UInt8 := dkwX11_keep_0 ++ dktX11_keep_1
theorem dksX11_keep_0 : cX11_keep.data.toList.drop 0 = dktX11_keep_0 := by decide +kernel
theorem dksX11_keep_1 : cX11_keep.data.toList.drop 24 = dktX11_keep_1 := dk_seg dksX11_keep_0 24 rfl rfl
theorem dksX11_keep_2 : cX11_keep.data.toList.drop 48 = dktX11_keep_2 := dk_seg dksX11_keep_1 24 rfl rfl
theorem dX11_keep_0 : decode cX11_keep 0 = .ok (.aload_n 0, 1) := dk_42 (dk_at dksX11_keep_0 0 rfl rfl)
theorem dX11_keep_1 : decode cX11_keep 1 = .ok (.getfield 25, 3) := dk_180 0 25 (dk_at dksX11_keep_0 1 rfl rfl)
theorem dX11_keep_4 : decode cX11_keep 4 = .ok (.iconst 0, 1) := dk_3 (dk_at dksX11_keep_0 4 rfl rfl)
theorem dX11_keep_5 : decode cX11_keep 5 = .ok (.baload, 1) := dk_51 (dk_at dksX11_keep_0 5 rfl rfl)
theorem dX11_keep_6 : decode cX11_keep 6 = .ok (.ifCond .eq 11, 3) := dk_153 0 11 (dk_at dksX11_keep_0 6 rfl rfl)
theorem dX11_keep_9 : decode cX11_keep 9 = .ok (.iload_n 1, 1) := dk_27 (dk_at dksX11_keep_0 9 rfl rfl)
theorem dX11_keep_10 : decode cX11_keep 10 = .ok (.ifCond .eq 7, 3) := dk_153 0 7 (dk_at dksX11_keep_0 10 rfl rfl)
theorem dX11_keep_13 : decode cX11_keep 13 = .ok (.iconst 1, 1) := dk_4 (dk_at dksX11_keep_0 13 rfl rfl)
theorem dX11_keep_14 : decode cX11_keep 14 = .ok (.goto 4, 3) := dk_167 0 4 (dk_at dksX11_keep_0 14 rfl rfl)
theorem dX11_keep_17 : decode cX11_keep 17 = .ok (.iconst 0, 1) := dk_3 (dk_at dksX11_keep_0 17 rfl rfl)
theorem dX11_keep_18 : decode cX11_keep 18 = .ok (.istore_n 3, 1) := dk_62 (dk_at dksX11_keep_0 18 rfl rfl)
theorem dX11_keep_19 : decode cX11_keep 19 = .ok (.aload_n 0, 1) := dk_42 (dk_at dksX11_keep_0 19 rfl rfl)
theorem dX11_keep_20 : decode cX11_keep 20 = .ok (.getfield 25, 3) := dk_180 0 25 (dk_at dksX11_keep_0 20 rfl rfl)
theorem dX11_keep_23 : decode cX11_keep 23 = .ok (.iconst 1, 1) := dk_4 (dk_at dksX11_keep_0 23 rfl rfl)
theorem dX11_keep_24 : decode cX11_keep 24 = .ok (.baload, 1) := dk_51 (dk_at dksX11_keep_1 0 rfl rfl)
theorem dX11_keep_25 : decode cX11_keep 25 = .ok (.ifCond .eq 11, 3) := dk_153 0 11 (dk_at dksX11_keep_1 1 rfl rfl)
theorem dX11_keep_28 : decode cX11_keep 28 = .ok (.iload_n 2, 1) := dk_28 (dk_at dksX11_keep_1 4 rfl rfl)
theorem dX11_keep_29 : decode cX11_keep 29 = .ok (.ifCond .eq 7, 3) := dk_153 0 7 (dk_at dksX11_keep_1 5 rfl rfl)
theorem dX11_keep_32 : decode cX11_keep 32 = .ok (.iconst 1, 1) := dk_4 (dk_at dksX11_keep_1 8 rfl rfl)
theorem dX11_keep_33 : decode cX11_keep 33 = .ok (.goto 4, 3) := dk_167 0 4 (dk_at dksX11_keep_1 9 rfl rfl)
theorem dX11_keep_36 : decode cX11_keep 36 = .ok (.iconst 0, 1) := dk_3 (dk_at dksX11_keep_1 12 rfl rfl)
theorem dX11_keep_37 : decode cX11_keep 37 = .ok (.istore 4, 2) := dk_54 4 (dk_at dksX11_keep_1 13 rfl rfl)
theorem dX11_keep_39 : decode cX11_keep 39 = .ok (.iload_n 3, 1) := dk_29 (dk_at dksX11_keep_1 15 rfl rfl)
theorem dX11_keep_40 : decode cX11_keep 40 = .ok (.ifCond .ne 12, 3) := dk_154 0 12 (dk_at dksX11_keep_1 16 rfl rfl)
theorem dX11_keep_43 : decode cX11_keep 43 = .ok (.iload 4, 2) := dk_21 4 (dk_at dksX11_keep_1 19 rfl rfl)
theorem dX11_keep_45 : decode cX11_keep 45 = .ok (.ifCond .ne 7, 3) := dk_154 0 7 (dk_at dksX11_keep_1 21 rfl rfl)
theorem dX11_keep_48 : decode cX11_keep 48 = .ok (.getstatic 38, 3) := dk_178 0 38 (dk_at dksX11_keep_2 0 rfl rfl)
theorem dX11_keep_51 : decode cX11_keep 51 = .ok (.athrow, 1) := dk_191 (dk_at dksX11_keep_2 3 rfl rfl)
theorem dX11_keep_52 : decode cX11_keep 52 = .ok (.aload_n 0, 1) := dk_42 (dk_at dksX11_keep_2 4 rfl rfl)
theorem dX11_keep_53 : decode cX11_keep 53 = .ok (.getfield 25, 3) := dk_180 0 25 (dk_at dksX11_keep_2 5 rfl rfl)
theorem dX11_keep_56 : decode cX11_keep 56 = .ok (.iconst 0, 1) := dk_3 (dk_at dksX11_keep_2 8 rfl rfl)
theorem dX11_keep_57 : decode cX11_keep 57 = .ok (.iload_n 3, 1) := dk_29 (dk_at dksX11_keep_2 9 rfl rfl)
theorem dX11_keep_58 : decode cX11_keep 58 = .ok (.bastore, 1) := dk_84 (dk_at dksX11_keep_2 10 rfl rfl)
theorem dX11_keep_59 : decode cX11_keep 59 = .ok (.aload_n 0, 1) := dk_42 (dk_at dksX11_keep_2 11 rfl rfl)
theorem dX11_keep_60 : decode cX11_keep 60 = .ok (.getfield 25, 3) := dk_180 0 25 (dk_at dksX11_keep_2 12 rfl rfl)
theorem dX11_keep_63 : decode cX11_keep 63 = .ok (.iconst 1, 1) := dk_4 (dk_at dksX11_keep_2 15 rfl rfl)
theorem dX11_keep_64 : decode cX11_keep 64 = .ok (.iload 4, 2) := dk_21 4 (dk_at dksX11_keep_2 16 rfl rfl)
theorem dX11_keep_66 : decode cX11_keep 66 = .ok (.bastore, 1) := dk_84 (dk_at dksX11_keep_2 18 rfl rfl)
theorem dX11_keep_67 : decode cX11_keep 67 = .ok (.return_, 1) := dk_177 (dk_at dksX11_keep_2 19 rfl rfl)
abbrev cX11_thing : ByteArray := prog_41_method_9_code
def yX11_thing : MethodName := ⟨RX11, "thing", "(I)J"⟩
def dkwX11_thing_2 : List UInt8 := [154, 0, 7, 9, 167, 0, 4, 10, 173]
abbrev dktX11_thing_2 : List UInt8 := dkwX11_thing_2 ++ []
def dkwX11_thing_1 : List UInt8 := [155, 0, 11, 27, 42, 182, 0, 42, 161, 0, 11, 187, 0, 50, 89, 183, 0, 52, 191, 29, 153, 0, 11, 27]
abbrev dktX11_thing_1 : List UInt8 := dkwX11_thing_1 ++ dktX11_thing_2
def dkwX11_thing_0 : List UInt8 := [42, 180, 0, 28, 192, 0, 9, 77, 44, 3, 51, 62, 167, 0, 9, 58, 4, 184, 0, 46, 191, 27]
abbrev dktX11_thing_0 : List UInt8 := dkwX11_thing_0 ++ dktX11_thing_1
theorem dksX11_thing_0 : cX11_thing.data.toList.drop 0 = dktX11_thing_0 := by decide +kernel
theorem dksX11_thing_1 : cX11_thing.data.toList.drop 22 = dktX11_thing_1 := dk_seg dksX11_thing_0 22 rfl rfl
theorem dksX11_thing_2 : cX11_thing.data.toList.drop 46 = dktX11_thing_2 := dk_seg dksX11_thing_1 24 rfl rfl
theorem dX11_thing_0 : decode cX11_thing 0 = .ok (.aload_n 0, 1) := dk_42 (dk_at dksX11_thing_0 0 rfl rfl)
theorem dX11_thing_1 : decode cX11_thing 1 = .ok (.getfield 28, 3) := dk_180 0 28 (dk_at dksX11_thing_0 1 rfl rfl)
theorem dX11_thing_4 : decode cX11_thing 4 = .ok (.checkcast 9, 3) := dk_192 0 9 (dk_at dksX11_thing_0 4 rfl rfl)
theorem dX11_thing_7 : decode cX11_thing 7 = .ok (.astore_n 2, 1) := dk_77 (dk_at dksX11_thing_0 7 rfl rfl)
theorem dX11_thing_8 : decode cX11_thing 8 = .ok (.aload_n 2, 1) := dk_44 (dk_at dksX11_thing_0 8 rfl rfl)
theorem dX11_thing_9 : decode cX11_thing 9 = .ok (.iconst 0, 1) := dk_3 (dk_at dksX11_thing_0 9 rfl rfl)
theorem dX11_thing_10 : decode cX11_thing 10 = .ok (.baload, 1) := dk_51 (dk_at dksX11_thing_0 10 rfl rfl)
theorem dX11_thing_11 : decode cX11_thing 11 = .ok (.istore_n 3, 1) := dk_62 (dk_at dksX11_thing_0 11 rfl rfl)
theorem dX11_thing_12 : decode cX11_thing 12 = .ok (.goto 9, 3) := dk_167 0 9 (dk_at dksX11_thing_0 12 rfl rfl)
theorem dX11_thing_15 : decode cX11_thing 15 = .ok (.astore 4, 2) := dk_58 4 (dk_at dksX11_thing_0 15 rfl rfl)
theorem dX11_thing_17 : decode cX11_thing 17 = .ok (.invokestatic 46, 3) := dk_184 0 46 (dk_at dksX11_thing_0 17 rfl rfl)
theorem dX11_thing_20 : decode cX11_thing 20 = .ok (.athrow, 1) := dk_191 (dk_at dksX11_thing_0 20 rfl rfl)
theorem dX11_thing_21 : decode cX11_thing 21 = .ok (.iload_n 1, 1) := dk_27 (dk_at dksX11_thing_0 21 rfl rfl)
theorem dX11_thing_22 : decode cX11_thing 22 = .ok (.ifCond .lt 11, 3) := dk_155 0 11 (dk_at dksX11_thing_1 0 rfl rfl)
theorem dX11_thing_25 : decode cX11_thing 25 = .ok (.iload_n 1, 1) := dk_27 (dk_at dksX11_thing_1 3 rfl rfl)
theorem dX11_thing_26 : decode cX11_thing 26 = .ok (.aload_n 0, 1) := dk_42 (dk_at dksX11_thing_1 4 rfl rfl)
theorem dX11_thing_27 : decode cX11_thing 27 = .ok (.invokevirtual 42, 3) := dk_182 0 42 (dk_at dksX11_thing_1 5 rfl rfl)
theorem dX11_thing_30 : decode cX11_thing 30 = .ok (.if_icmp .lt 11, 3) := dk_161 0 11 (dk_at dksX11_thing_1 8 rfl rfl)
theorem dX11_thing_33 : decode cX11_thing 33 = .ok (.new 50, 3) := dk_187 0 50 (dk_at dksX11_thing_1 11 rfl rfl)
theorem dX11_thing_36 : decode cX11_thing 36 = .ok (.dup, 1) := dk_89 (dk_at dksX11_thing_1 14 rfl rfl)
theorem dX11_thing_37 : decode cX11_thing 37 = .ok (.invokespecial 52, 3) := dk_183 0 52 (dk_at dksX11_thing_1 15 rfl rfl)
theorem dX11_thing_40 : decode cX11_thing 40 = .ok (.athrow, 1) := dk_191 (dk_at dksX11_thing_1 18 rfl rfl)
theorem dX11_thing_41 : decode cX11_thing 41 = .ok (.iload_n 3, 1) := dk_29 (dk_at dksX11_thing_1 19 rfl rfl)
theorem dX11_thing_42 : decode cX11_thing 42 = .ok (.ifCond .eq 11, 3) := dk_153 0 11 (dk_at dksX11_thing_1 20 rfl rfl)
theorem dX11_thing_45 : decode cX11_thing 45 = .ok (.iload_n 1, 1) := dk_27 (dk_at dksX11_thing_1 23 rfl rfl)
theorem dX11_thing_46 : decode cX11_thing 46 = .ok (.ifCond .ne 7, 3) := dk_154 0 7 (dk_at dksX11_thing_2 0 rfl rfl)
theorem dX11_thing_49 : decode cX11_thing 49 = .ok (.lconst 0, 1) := dk_9 (dk_at dksX11_thing_2 3 rfl rfl)
theorem dX11_thing_50 : decode cX11_thing 50 = .ok (.goto 4, 3) := dk_167 0 4 (dk_at dksX11_thing_2 4 rfl rfl)
theorem dX11_thing_53 : decode cX11_thing 53 = .ok (.lconst 1, 1) := dk_10 (dk_at dksX11_thing_2 7 rfl rfl)
theorem dX11_thing_54 : decode cX11_thing 54 = .ok (.lreturn, 1) := dk_173 (dk_at dksX11_thing_2 8 rfl rfl)
abbrev cX11_isFixed : ByteArray := prog_41_method_8_code
def yX11_isFixed : MethodName := ⟨RX11, "isFixed", "(D)Z"⟩
def dkwX11_isFixed_0 : List UInt8 := [42, 182, 0, 42, 4, 160, 0, 7, 4, 167, 0, 4, 3, 172]
abbrev dktX11_isFixed_0 : List UInt8 := dkwX11_isFixed_0 ++ []
theorem dksX11_isFixed_0 : cX11_isFixed.data.toList.drop 0 = dktX11_isFixed_0 := by decide +kernel
theorem dX11_isFixed_0 : decode cX11_isFixed 0 = .ok (.aload_n 0, 1) := dk_42 (dk_at dksX11_isFixed_0 0 rfl rfl)
theorem dX11_isFixed_1 : decode cX11_isFixed 1 = .ok (.invokevirtual 42, 3) := dk_182 0 42 (dk_at dksX11_isFixed_0 1 rfl rfl)
theorem dX11_isFixed_4 : decode cX11_isFixed 4 = .ok (.iconst 1, 1) := dk_4 (dk_at dksX11_isFixed_0 4 rfl rfl)
theorem dX11_isFixed_5 : decode cX11_isFixed 5 = .ok (.if_icmp .ne 7, 3) := dk_160 0 7 (dk_at dksX11_isFixed_0 5 rfl rfl)
theorem dX11_isFixed_8 : decode cX11_isFixed 8 = .ok (.iconst 1, 1) := dk_4 (dk_at dksX11_isFixed_0 8 rfl rfl)
theorem dX11_isFixed_9 : decode cX11_isFixed 9 = .ok (.goto 4, 3) := dk_167 0 4 (dk_at dksX11_isFixed_0 9 rfl rfl)
theorem dX11_isFixed_12 : decode cX11_isFixed 12 = .ok (.iconst 0, 1) := dk_3 (dk_at dksX11_isFixed_0 12 rfl rfl)
theorem dX11_isFixed_13 : decode cX11_isFixed 13 = .ok (.ireturn, 1) := dk_172 (dk_at dksX11_isFixed_0 13 rfl rfl)
theorem q274 : (Jvm.Cond.initialized "ConstraintHouse$Truth") ∈ lw_all := lw_g (lw_at lw_m1 14 rfl) rfl
theorem q704 : (Jvm.Cond.fieldLink "ConstraintHouse$Truth" (28 : Nat) "ConstraintHouse$Truth" "domain" "Ljava/lang/Object;") ∈ lw_all := lw_g (lw_at lw_m2 204 rfl) rfl
theorem q705 : (Jvm.Cond.sameField "ConstraintHouse$Truth" "ConstraintHouse$Variable" "domain" "Ljava/lang/Object;") ∈ lw_all := lw_g (lw_at lw_m2 205 rfl) rfl
theorem q750 : (Jvm.Cond.instantiable "ConstraintHouse$Truth" (3 : Nat)) ∈ lw_all := lw_g (lw_at lw_m3 10 rfl) rfl
theorem q752 : (Jvm.Cond.instanceMethod ({ cls := "ConstraintHouse$Truth", name := "<init>", desc := "()V" } : Jvm.MethodName)) ∈ lw_all := lw_g (lw_at lw_m3 12 rfl) rfl
theorem q753 : (Jvm.Cond.code ({ cls := "ConstraintHouse$Truth", name := "<init>", desc := "()V" } : Jvm.MethodName) prog_41_method_1_code (1 : Nat) (Option.none : Option Jvm.ClassFile.FieldType)) ∈ lw_all := lw_g (lw_at lw_m3 13 rfl) rfl
theorem q754 : (Jvm.Cond.methodLinkNest "ConstraintHouse$Truth" (3 : Nat) ({ cls := "ConstraintHouse$Variable", name := "<init>", desc := "()V" } : Jvm.MethodName) "ConstraintHouse") ∈ lw_tbl := lw_at lw_m3 14 rfl
theorem q755 : (Jvm.Cond.fieldLink "ConstraintHouse$Truth" (25 : Nat) "ConstraintHouse$Truth" "mine" "[Z") ∈ lw_all := lw_g (lw_at lw_m3 15 rfl) rfl
theorem q756 : (Jvm.Cond.lays "ConstraintHouse$Truth" "ConstraintHouse$Truth" "mine" "[Z") ∈ lw_all := lw_g (lw_at lw_m3 16 rfl) rfl
theorem q757 : (Jvm.Cond.soleField "ConstraintHouse$Truth" "mine") ∈ lw_all := lw_g (lw_at lw_m3 17 rfl) rfl
theorem q758 : (Jvm.Cond.lays "ConstraintHouse$Truth" "ConstraintHouse$Variable" "domain" "Ljava/lang/Object;") ∈ lw_all := lw_g (lw_at lw_m3 18 rfl) rfl
theorem q759 : (Jvm.Cond.lays "ConstraintHouse$Truth" "ConstraintHouse$Variable" "number" "I") ∈ lw_all := lw_g (lw_at lw_m3 19 rfl) rfl
theorem q760 : (Jvm.Cond.superclass "ConstraintHouse$Truth" "ConstraintHouse$Variable") ∈ lw_all := lw_g (lw_at lw_m3 20 rfl) rfl
theorem q924 : (Jvm.Cond.instanceMethod ({ cls := "ConstraintHouse$Truth", name := "set", desc := "(ZZ)V" } : Jvm.MethodName)) ∈ lw_all := lw_g (lw_at lw_m3 184 rfl) rfl
theorem q925 : (Jvm.Cond.selects "ConstraintHouse$Truth" ({ cls := "ConstraintHouse$Truth", name := "set", desc := "(ZZ)V" } : Jvm.MethodName) ({ cls := "ConstraintHouse$Truth", name := "set", desc := "(ZZ)V" } : Jvm.MethodName)) ∈ lw_all := lw_g (lw_at lw_m3 185 rfl) rfl
theorem q926 : (Jvm.Cond.code ({ cls := "ConstraintHouse$Truth", name := "set", desc := "(ZZ)V" } : Jvm.MethodName) prog_41_method_4_code (3 : Nat) (Option.none : Option Jvm.ClassFile.FieldType)) ∈ lw_all := lw_g (lw_at lw_m3 186 rfl) rfl
theorem q1559 : (Jvm.Cond.selects "ConstraintHouse$Truth" ({ cls := "ConstraintHouse$Variable", name := "sort", desc := "()I" } : Jvm.MethodName) ({ cls := "ConstraintHouse$Truth", name := "sort", desc := "()I" } : Jvm.MethodName)) ∈ lw_all := lw_g (lw_at lw_m6 99 rfl) rfl
theorem q1560 : (Jvm.Cond.instanceMethod ({ cls := "ConstraintHouse$Truth", name := "sort", desc := "()I" } : Jvm.MethodName)) ∈ lw_all := lw_g (lw_at lw_m6 100 rfl) rfl
theorem q1561 : (Jvm.Cond.code ({ cls := "ConstraintHouse$Truth", name := "sort", desc := "()I" } : Jvm.MethodName) prog_41_method_2_code (1 : Nat) (Option.some Jvm.ClassFile.FieldType.int)) ∈ lw_all := lw_g (lw_at lw_m6 101 rfl) rfl
theorem q2206 : (Jvm.Cond.selects "ConstraintHouse$Truth" ({ cls := "ConstraintHouse$Variable", name := "give", desc := "(Ljava/lang/Object;LConstraintHouse$Fault;)V" } : Jvm.MethodName) ({ cls := "ConstraintHouse$Truth", name := "give", desc := "(Ljava/lang/Object;LConstraintHouse$Fault;)V" } : Jvm.MethodName)) ∈ lw_all := lw_g (lw_at lw_m9 26 rfl) rfl
theorem q2207 : (Jvm.Cond.instanceMethod ({ cls := "ConstraintHouse$Truth", name := "give", desc := "(Ljava/lang/Object;LConstraintHouse$Fault;)V" } : Jvm.MethodName)) ∈ lw_all := lw_g (lw_at lw_m9 27 rfl) rfl
theorem q2208 : (Jvm.Cond.codeWith ({ cls := "ConstraintHouse$Truth", name := "give", desc := "(Ljava/lang/Object;LConstraintHouse$Fault;)V" } : Jvm.MethodName) prog_41_method_3_code (5 : Nat) (Option.none : Option Jvm.ClassFile.FieldType) [((0 : Nat), (5 : Nat), (8 : Nat), (11 : Nat))]) ∈ lw_all := lw_g (lw_at lw_m9 28 rfl) rfl
theorem q2209 : (Jvm.Cond.classLink "ConstraintHouse$Truth" (11 : Nat) "java/lang/ClassCastException") ∈ lw_all := lw_g (lw_at lw_m9 29 rfl) rfl
theorem q2210 : (Jvm.Cond.classLink "ConstraintHouse$Truth" (9 : Nat) "[Z") ∈ lw_all := lw_g (lw_at lw_m9 30 rfl) rfl
theorem q2211 : (Jvm.Cond.methodLink "ConstraintHouse$Truth" (13 : Nat) ({ cls := "ConstraintHouse$Fault", name := "of", desc := "(I)LConstraintHouse$Fault;" } : Jvm.MethodName)) ∈ lw_all := lw_g (lw_at lw_m9 31 rfl) rfl
theorem q2212 : (Jvm.Cond.methodLink "ConstraintHouse$Truth" (19 : Nat) ({ cls := "ConstraintHouse$Truth", name := "set", desc := "(ZZ)V" } : Jvm.MethodName)) ∈ lw_all := lw_g (lw_at lw_m9 32 rfl) rfl
theorem q2400 : (Jvm.Cond.selects "ConstraintHouse$Truth" ({ cls := "ConstraintHouse$Splits", name := "things", desc := "()I" } : Jvm.MethodName) ({ cls := "ConstraintHouse$Truth", name := "things", desc := "()I" } : Jvm.MethodName)) ∈ lw_all := lw_g (lw_at lw_m9 220 rfl) rfl
theorem q2401 : (Jvm.Cond.instanceMethod ({ cls := "ConstraintHouse$Truth", name := "things", desc := "()I" } : Jvm.MethodName)) ∈ lw_all := lw_g (lw_at lw_m9 221 rfl) rfl
theorem q2402 : (Jvm.Cond.code ({ cls := "ConstraintHouse$Truth", name := "things", desc := "()I" } : Jvm.MethodName) prog_41_method_7_code (1 : Nat) (Option.some Jvm.ClassFile.FieldType.int)) ∈ lw_all := lw_g (lw_at lw_m9 222 rfl) rfl
theorem q2430 : (Jvm.Cond.castable "ConstraintHouse$Truth" "ConstraintHouse$Splits") ∈ lw_tbl := lw_at lw_m10 10 rfl
theorem q2431 : (Jvm.Cond.unhidden "ConstraintHouse$Truth" "hasBounds" "()Z") ∈ lw_tbl := lw_at lw_m10 11 rfl
theorem q2514 : (Jvm.Cond.instanceMethod ({ cls := "ConstraintHouse$Truth", name := "may", desc := "(Z)Z" } : Jvm.MethodName)) ∈ lw_all := lw_g (lw_at lw_m10 94 rfl) rfl
theorem q2515 : (Jvm.Cond.selects "ConstraintHouse$Truth" ({ cls := "ConstraintHouse$Truth", name := "may", desc := "(Z)Z" } : Jvm.MethodName) ({ cls := "ConstraintHouse$Truth", name := "may", desc := "(Z)Z" } : Jvm.MethodName)) ∈ lw_all := lw_g (lw_at lw_m10 95 rfl) rfl
theorem q2516 : (Jvm.Cond.codeWith ({ cls := "ConstraintHouse$Truth", name := "may", desc := "(Z)Z" } : Jvm.MethodName) prog_41_method_5_code (4 : Nat) (Option.some Jvm.ClassFile.FieldType.boolean) [((8 : Nat), (19 : Nat), (20 : Nat), (32 : Nat))]) ∈ lw_all := lw_g (lw_at lw_m10 96 rfl) rfl
theorem q2517 : (Jvm.Cond.classLink "ConstraintHouse$Truth" (32 : Nat) "java/lang/NullPointerException") ∈ lw_all := lw_g (lw_at lw_m10 97 rfl) rfl
theorem q2518 : (Jvm.Cond.fieldLinkNest "ConstraintHouse$Truth" (34 : Nat) "ConstraintHouse" "ABSENT" "LConstraintHouse$Absent;" "ConstraintHouse") ∈ lw_tbl := lw_at lw_m10 98 rfl
theorem q3190 : (Jvm.Cond.instanceMethod ({ cls := "ConstraintHouse$Truth", name := "keep", desc := "(ZZ)V" } : Jvm.MethodName)) ∈ lw_all := lw_g (lw_at lw_m13 50 rfl) rfl
theorem q3191 : (Jvm.Cond.selects "ConstraintHouse$Truth" ({ cls := "ConstraintHouse$Truth", name := "keep", desc := "(ZZ)V" } : Jvm.MethodName) ({ cls := "ConstraintHouse$Truth", name := "keep", desc := "(ZZ)V" } : Jvm.MethodName)) ∈ lw_all := lw_g (lw_at lw_m13 51 rfl) rfl
theorem q3192 : (Jvm.Cond.code ({ cls := "ConstraintHouse$Truth", name := "keep", desc := "(ZZ)V" } : Jvm.MethodName) prog_41_method_6_code (5 : Nat) (Option.none : Option Jvm.ClassFile.FieldType)) ∈ lw_all := lw_g (lw_at lw_m13 52 rfl) rfl
theorem q3193 : (Jvm.Cond.fieldLinkNest "ConstraintHouse$Truth" (38 : Nat) "ConstraintHouse" "NOTHING" "LConstraintHouse$Nothing;" "ConstraintHouse") ∈ lw_tbl := lw_at lw_m13 53 rfl
theorem q3367 : (Jvm.Cond.selects "ConstraintHouse$Truth" ({ cls := "ConstraintHouse$Variable", name := "thing", desc := "(I)J" } : Jvm.MethodName) ({ cls := "ConstraintHouse$Truth", name := "thing", desc := "(I)J" } : Jvm.MethodName)) ∈ lw_all := lw_g (lw_at lw_m13 227 rfl) rfl
theorem q3368 : (Jvm.Cond.instanceMethod ({ cls := "ConstraintHouse$Truth", name := "thing", desc := "(I)J" } : Jvm.MethodName)) ∈ lw_all := lw_g (lw_at lw_m13 228 rfl) rfl
theorem q3369 : (Jvm.Cond.codeWith ({ cls := "ConstraintHouse$Truth", name := "thing", desc := "(I)J" } : Jvm.MethodName) prog_41_method_9_code (5 : Nat) (Option.some Jvm.ClassFile.FieldType.long) [((8 : Nat), (12 : Nat), (15 : Nat), (32 : Nat))]) ∈ lw_all := lw_g (lw_at lw_m13 229 rfl) rfl
theorem q3370 : (Jvm.Cond.methodLink "ConstraintHouse$Truth" (46 : Nat) ({ cls := "ConstraintHouse$Truth", name := "without", desc := "()Ljava/lang/IllegalStateException;" } : Jvm.MethodName)) ∈ lw_all := lw_g (lw_at lw_m13 230 rfl) rfl
theorem q3371 : (Jvm.Cond.sameMethod "ConstraintHouse$Truth" "ConstraintHouse$Variable" "without" "()Ljava/lang/IllegalStateException;") ∈ lw_all := lw_g (lw_at lw_m13 231 rfl) rfl
theorem q3372 : (Jvm.Cond.methodLink "ConstraintHouse$Truth" (42 : Nat) ({ cls := "ConstraintHouse$Truth", name := "things", desc := "()I" } : Jvm.MethodName)) ∈ lw_all := lw_g (lw_at lw_m13 232 rfl) rfl
theorem q3373 : (Jvm.Cond.classLink "ConstraintHouse$Truth" (50 : Nat) "java/lang/IndexOutOfBoundsException") ∈ lw_all := lw_g (lw_at lw_m13 233 rfl) rfl
theorem q3374 : (Jvm.Cond.methodLink "ConstraintHouse$Truth" (52 : Nat) ({ cls := "java/lang/IndexOutOfBoundsException", name := "<init>", desc := "()V" } : Jvm.MethodName)) ∈ lw_all := lw_g (lw_at lw_m13 234 rfl) rfl
theorem q3411 : (Jvm.Cond.selects "ConstraintHouse$Truth" ({ cls := "ConstraintHouse$Splits", name := "isFixed", desc := "(D)Z" } : Jvm.MethodName) ({ cls := "ConstraintHouse$Truth", name := "isFixed", desc := "(D)Z" } : Jvm.MethodName)) ∈ lw_all := lw_g (lw_at lw_m14 31 rfl) rfl
theorem q3412 : (Jvm.Cond.instanceMethod ({ cls := "ConstraintHouse$Truth", name := "isFixed", desc := "(D)Z" } : Jvm.MethodName)) ∈ lw_all := lw_g (lw_at lw_m14 32 rfl) rfl
theorem q3413 : (Jvm.Cond.code ({ cls := "ConstraintHouse$Truth", name := "isFixed", desc := "(D)Z" } : Jvm.MethodName) prog_41_method_8_code (3 : Nat) (Option.some Jvm.ClassFile.FieldType.boolean)) ∈ lw_all := lw_g (lw_at lw_m14 33 rfl) rfl
theorem q3540 : (Jvm.Cond.unhidden "ConstraintHouse$Truth" "things" "()I") ∈ lw_tbl := lw_at lw_m14 160 rfl
theorem q3541 : (Jvm.Cond.publicMethod ({ cls := "ConstraintHouse$Truth", name := "things", desc := "()I" } : Jvm.MethodName)) ∈ lw_tbl := lw_at lw_m14 161 rfl
theorem q3546 : (Jvm.Cond.unhidden "ConstraintHouse$Truth" "told" "()I") ∈ lw_tbl := lw_at lw_m14 166 rfl
theorem q4794 : (Jvm.Cond.selects "ConstraintHouse$Truth" ({ cls := "ConstraintHouse$Truth", name := "things", desc := "()I" } : Jvm.MethodName) ({ cls := "ConstraintHouse$Truth", name := "things", desc := "()I" } : Jvm.MethodName)) ∈ lw_all := lw_g (lw_at lw_m19 214 rfl) rfl
theorem q4818 : (Jvm.Cond.castable "ConstraintHouse$Truth" "java/lang/Object") ∈ lw_tbl := lw_at lw_m19 238 rfl
theorem q4858 : (Jvm.Cond.castable "ConstraintHouse$Truth" "ConstraintHouse$Variable") ∈ lw_tbl := lw_at lw_m20 38 rfl
theorem in_X11 : ∀ w ∈ wsX110, w ∈ lw_all := lw_in wsX110 [758, 759, 756] (by decide +kernel) (by decide +kernel)
/-! ConstraintHouse$Letter -/
set_option maxRecDepth 100000
def RX12 : String := "ConstraintHouse$Letter"
def TX12 : u_T := fun k => match k with
  | 0 => ("ConstraintHouse$Variable", "domain", "Ljava/lang/Object;", false)
  | 1 => ("ConstraintHouse$Variable", "number", "I", false)
  | 2 => ("ConstraintHouse$Letter", "mine", "[C", false)
  | _ => ("ConstraintHouse$Letter", "many", "I", false)
def tyX12 : Nat → FieldType := fun k => match k with
  | 0 => .object "java/lang/Object"
  | 1 => .int
  | 2 => .array .char
  | _ => .int
abbrev wsX120 : List Cond := u_ws RX12 TX12 4
theorem nmX12 : ∀ a, a < 4 → ∀ b, b < 4 → a ≠ b → (TX12 a).2.1 ≠ (TX12 b).2.1 := by decide +kernel
theorem tyX12_ok : ∀ k, k < 4 → parseFieldDescriptor (TX12 k).2.2.1 = some (tyX12 k) := by decide +kernel
abbrev cX12_init : ByteArray := prog_15_method_1_code
def yX12_init : MethodName := ⟨RX12, "<init>", "()V"⟩
theorem dX12_init_0 : decode cX12_init 0 = .ok (.aload_n 0, 1) := by decide +kernel
theorem dX12_init_1 : decode cX12_init 1 = .ok (.invokespecial 3, 3) := by decide +kernel
theorem dX12_init_4 : decode cX12_init 4 = .ok (.return_, 1) := by decide +kernel
abbrev cX12_set : ByteArray := prog_15_method_5_code
def yX12_set : MethodName := ⟨RX12, "set", "([CII)V"⟩
def dkwX12_set_1 : List UInt8 := [52, 85, 132, 4, 1, 167, 255, 234, 42, 29, 181, 0, 27, 177]
abbrev dktX12_set_1 : List UInt8 := dkwX12_set_1 ++ []
def dkwX12_set_0 : List UInt8 := [42, 182, 0, 19, 3, 54, 4, 21, 4, 29, 162, 0, 22, 42, 180, 0, 24, 21, 4, 43, 28, 21, 4, 96]
abbrev dktX12_set_0 : List UInt8 := dkwX12_set_0 ++ dktX12_set_1
theorem dksX12_set_0 : cX12_set.data.toList.drop 0 = dktX12_set_0 := by decide +kernel
theorem dksX12_set_1 : cX12_set.data.toList.drop 24 = dktX12_set_1 := dk_seg dksX12_set_0 24 rfl rfl
theorem dX12_set_0 : decode cX12_set 0 = .ok (.aload_n 0, 1) := dk_42 (dk_at dksX12_set_0 0 rfl rfl)
theorem dX12_set_1 : decode cX12_set 1 = .ok (.invokevirtual 19, 3) := dk_182 0 19 (dk_at dksX12_set_0 1 rfl rfl)
theorem dX12_set_4 : decode cX12_set 4 = .ok (.iconst 0, 1) := dk_3 (dk_at dksX12_set_0 4 rfl rfl)
theorem dX12_set_5 : decode cX12_set 5 = .ok (.istore 4, 2) := dk_54 4 (dk_at dksX12_set_0 5 rfl rfl)
theorem dX12_set_7 : decode cX12_set 7 = .ok (.iload 4, 2) := dk_21 4 (dk_at dksX12_set_0 7 rfl rfl)
theorem dX12_set_9 : decode cX12_set 9 = .ok (.iload_n 3, 1) := dk_29 (dk_at dksX12_set_0 9 rfl rfl)
theorem dX12_set_10 : decode cX12_set 10 = .ok (.if_icmp .ge 22, 3) := dk_162 0 22 (dk_at dksX12_set_0 10 rfl rfl)
theorem dX12_set_13 : decode cX12_set 13 = .ok (.aload_n 0, 1) := dk_42 (dk_at dksX12_set_0 13 rfl rfl)
theorem dX12_set_14 : decode cX12_set 14 = .ok (.getfield 24, 3) := dk_180 0 24 (dk_at dksX12_set_0 14 rfl rfl)
theorem dX12_set_17 : decode cX12_set 17 = .ok (.iload 4, 2) := dk_21 4 (dk_at dksX12_set_0 17 rfl rfl)
theorem dX12_set_19 : decode cX12_set 19 = .ok (.aload_n 1, 1) := dk_43 (dk_at dksX12_set_0 19 rfl rfl)
theorem dX12_set_20 : decode cX12_set 20 = .ok (.iload_n 2, 1) := dk_28 (dk_at dksX12_set_0 20 rfl rfl)
theorem dX12_set_21 : decode cX12_set 21 = .ok (.iload 4, 2) := dk_21 4 (dk_at dksX12_set_0 21 rfl rfl)
theorem dX12_set_23 : decode cX12_set 23 = .ok (.iadd, 1) := dk_96 (dk_at dksX12_set_0 23 rfl rfl)
theorem dX12_set_24 : decode cX12_set 24 = .ok (.caload, 1) := dk_52 (dk_at dksX12_set_1 0 rfl rfl)
theorem dX12_set_25 : decode cX12_set 25 = .ok (.castore, 1) := dk_85 (dk_at dksX12_set_1 1 rfl rfl)
theorem dX12_set_26 : decode cX12_set 26 = .ok (.iinc 4 1, 3) := dk_132 4 1 (dk_at dksX12_set_1 2 rfl rfl)
theorem dX12_set_29 : decode cX12_set 29 = .ok (.goto (-22), 3) := dk_167 255 234 (dk_at dksX12_set_1 5 rfl rfl)
theorem dX12_set_32 : decode cX12_set 32 = .ok (.aload_n 0, 1) := dk_42 (dk_at dksX12_set_1 8 rfl rfl)
theorem dX12_set_33 : decode cX12_set 33 = .ok (.iload_n 3, 1) := dk_29 (dk_at dksX12_set_1 9 rfl rfl)
theorem dX12_set_34 : decode cX12_set 34 = .ok (.putfield 27, 3) := dk_181 0 27 (dk_at dksX12_set_1 10 rfl rfl)
theorem dX12_set_37 : decode cX12_set 37 = .ok (.return_, 1) := dk_177 (dk_at dksX12_set_1 13 rfl rfl)
abbrev cX12_begin : ByteArray := prog_15_method_4_code
def yX12_begin : MethodName := ⟨RX12, "begin", "()V"⟩
def dkwX12_begin_1 : List UInt8 := [180, 0, 24, 181, 0, 31, 177]
abbrev dktX12_begin_1 : List UInt8 := dkwX12_begin_1 ++ []
def dkwX12_begin_0 : List UInt8 := [42, 180, 0, 24, 199, 0, 11, 42, 16, 12, 188, 5, 181, 0, 24, 42, 3, 181, 0, 27, 42, 42]
abbrev dktX12_begin_0 : List UInt8 := dkwX12_begin_0 ++ dktX12_begin_1
theorem dksX12_begin_0 : cX12_begin.data.toList.drop 0 = dktX12_begin_0 := by decide +kernel
theorem dksX12_begin_1 : cX12_begin.data.toList.drop 22 = dktX12_begin_1 := dk_seg dksX12_begin_0 22 rfl rfl
theorem dX12_begin_0 : decode cX12_begin 0 = .ok (.aload_n 0, 1) := dk_42 (dk_at dksX12_begin_0 0 rfl rfl)
theorem dX12_begin_1 : decode cX12_begin 1 = .ok (.getfield 24, 3) := dk_180 0 24 (dk_at dksX12_begin_0 1 rfl rfl)
theorem dX12_begin_4 : decode cX12_begin 4 = .ok (.ifnonnull 11, 3) := dk_199 0 11 (dk_at dksX12_begin_0 4 rfl rfl)
theorem dX12_begin_7 : decode cX12_begin 7 = .ok (.aload_n 0, 1) := dk_42 (dk_at dksX12_begin_0 7 rfl rfl)
theorem dX12_begin_8 : decode cX12_begin 8 = .ok (.bipush 12, 2) := dk_16 12 (dk_at dksX12_begin_0 8 rfl rfl)
theorem dX12_begin_10 : decode cX12_begin 10 = .ok (.newarray .char, 2) := dk_188_5 (dk_at dksX12_begin_0 10 rfl rfl)
theorem dX12_begin_12 : decode cX12_begin 12 = .ok (.putfield 24, 3) := dk_181 0 24 (dk_at dksX12_begin_0 12 rfl rfl)
theorem dX12_begin_15 : decode cX12_begin 15 = .ok (.aload_n 0, 1) := dk_42 (dk_at dksX12_begin_0 15 rfl rfl)
theorem dX12_begin_16 : decode cX12_begin 16 = .ok (.iconst 0, 1) := dk_3 (dk_at dksX12_begin_0 16 rfl rfl)
theorem dX12_begin_17 : decode cX12_begin 17 = .ok (.putfield 27, 3) := dk_181 0 27 (dk_at dksX12_begin_0 17 rfl rfl)
theorem dX12_begin_20 : decode cX12_begin 20 = .ok (.aload_n 0, 1) := dk_42 (dk_at dksX12_begin_0 20 rfl rfl)
theorem dX12_begin_21 : decode cX12_begin 21 = .ok (.aload_n 0, 1) := dk_42 (dk_at dksX12_begin_0 21 rfl rfl)
theorem dX12_begin_22 : decode cX12_begin 22 = .ok (.getfield 24, 3) := dk_180 0 24 (dk_at dksX12_begin_1 0 rfl rfl)
theorem dX12_begin_25 : decode cX12_begin 25 = .ok (.putfield 31, 3) := dk_181 0 31 (dk_at dksX12_begin_1 3 rfl rfl)
theorem dX12_begin_28 : decode cX12_begin 28 = .ok (.return_, 1) := dk_177 (dk_at dksX12_begin_1 6 rfl rfl)
abbrev cX12_sort : ByteArray := prog_15_method_2_code
def yX12_sort : MethodName := ⟨RX12, "sort", "()I"⟩
theorem dX12_sort_0 : decode cX12_sort 0 = .ok (.iconst 4, 1) := by decide +kernel
theorem dX12_sort_1 : decode cX12_sort 1 = .ok (.ireturn, 1) := by decide +kernel
abbrev cX12_give : ByteArray := prog_15_method_3_code
def yX12_give : MethodName := ⟨RX12, "give", "(Ljava/lang/Object;LConstraintHouse$Fault;)V"⟩
def dkwX12_give_2 : List UInt8 := [180, 0, 27, 90, 4, 96, 181, 0, 27, 45, 21, 4, 52, 85, 132, 4, 1, 167, 255, 226, 177]
abbrev dktX12_give_2 : List UInt8 := dkwX12_give_2 ++ []
def dkwX12_give_1 : List UInt8 := [182, 0, 13, 191, 42, 182, 0, 19, 3, 54, 4, 21, 4, 45, 190, 162, 0, 29, 42, 180, 0, 24, 42, 89]
abbrev dktX12_give_1 : List UInt8 := dkwX12_give_1 ++ dktX12_give_2
def dkwX12_give_0 : List UInt8 := [43, 192, 0, 9, 78, 167, 0, 11, 58, 4, 44, 6, 182, 0, 13, 191, 45, 190, 154, 0, 10, 44, 16, 7]
abbrev dktX12_give_0 : List UInt8 := dkwX12_give_0 ++ dktX12_give_1
theorem dksX12_give_0 : cX12_give.data.toList.drop 0 = dktX12_give_0 := by decide +kernel
theorem dksX12_give_1 : cX12_give.data.toList.drop 24 = dktX12_give_1 := dk_seg dksX12_give_0 24 rfl rfl
theorem dksX12_give_2 : cX12_give.data.toList.drop 48 = dktX12_give_2 := dk_seg dksX12_give_1 24 rfl rfl
theorem dX12_give_0 : decode cX12_give 0 = .ok (.aload_n 1, 1) := dk_43 (dk_at dksX12_give_0 0 rfl rfl)
theorem dX12_give_1 : decode cX12_give 1 = .ok (.checkcast 9, 3) := dk_192 0 9 (dk_at dksX12_give_0 1 rfl rfl)
theorem dX12_give_4 : decode cX12_give 4 = .ok (.astore_n 3, 1) := dk_78 (dk_at dksX12_give_0 4 rfl rfl)
theorem dX12_give_5 : decode cX12_give 5 = .ok (.goto 11, 3) := dk_167 0 11 (dk_at dksX12_give_0 5 rfl rfl)
theorem dX12_give_8 : decode cX12_give 8 = .ok (.astore 4, 2) := dk_58 4 (dk_at dksX12_give_0 8 rfl rfl)
theorem dX12_give_10 : decode cX12_give 10 = .ok (.aload_n 2, 1) := dk_44 (dk_at dksX12_give_0 10 rfl rfl)
theorem dX12_give_11 : decode cX12_give 11 = .ok (.iconst 3, 1) := dk_6 (dk_at dksX12_give_0 11 rfl rfl)
theorem dX12_give_12 : decode cX12_give 12 = .ok (.invokevirtual 13, 3) := dk_182 0 13 (dk_at dksX12_give_0 12 rfl rfl)
theorem dX12_give_15 : decode cX12_give 15 = .ok (.athrow, 1) := dk_191 (dk_at dksX12_give_0 15 rfl rfl)
theorem dX12_give_16 : decode cX12_give 16 = .ok (.aload_n 3, 1) := dk_45 (dk_at dksX12_give_0 16 rfl rfl)
theorem dX12_give_17 : decode cX12_give 17 = .ok (.arraylength, 1) := dk_190 (dk_at dksX12_give_0 17 rfl rfl)
theorem dX12_give_18 : decode cX12_give 18 = .ok (.ifCond .ne 10, 3) := dk_154 0 10 (dk_at dksX12_give_0 18 rfl rfl)
theorem dX12_give_21 : decode cX12_give 21 = .ok (.aload_n 2, 1) := dk_44 (dk_at dksX12_give_0 21 rfl rfl)
theorem dX12_give_22 : decode cX12_give 22 = .ok (.bipush 7, 2) := dk_16 7 (dk_at dksX12_give_0 22 rfl rfl)
theorem dX12_give_24 : decode cX12_give 24 = .ok (.invokevirtual 13, 3) := dk_182 0 13 (dk_at dksX12_give_1 0 rfl rfl)
theorem dX12_give_27 : decode cX12_give 27 = .ok (.athrow, 1) := dk_191 (dk_at dksX12_give_1 3 rfl rfl)
theorem dX12_give_28 : decode cX12_give 28 = .ok (.aload_n 0, 1) := dk_42 (dk_at dksX12_give_1 4 rfl rfl)
theorem dX12_give_29 : decode cX12_give 29 = .ok (.invokevirtual 19, 3) := dk_182 0 19 (dk_at dksX12_give_1 5 rfl rfl)
theorem dX12_give_32 : decode cX12_give 32 = .ok (.iconst 0, 1) := dk_3 (dk_at dksX12_give_1 8 rfl rfl)
theorem dX12_give_33 : decode cX12_give 33 = .ok (.istore 4, 2) := dk_54 4 (dk_at dksX12_give_1 9 rfl rfl)
theorem dX12_give_35 : decode cX12_give 35 = .ok (.iload 4, 2) := dk_21 4 (dk_at dksX12_give_1 11 rfl rfl)
theorem dX12_give_37 : decode cX12_give 37 = .ok (.aload_n 3, 1) := dk_45 (dk_at dksX12_give_1 13 rfl rfl)
theorem dX12_give_38 : decode cX12_give 38 = .ok (.arraylength, 1) := dk_190 (dk_at dksX12_give_1 14 rfl rfl)
theorem dX12_give_39 : decode cX12_give 39 = .ok (.if_icmp .ge 29, 3) := dk_162 0 29 (dk_at dksX12_give_1 15 rfl rfl)
theorem dX12_give_42 : decode cX12_give 42 = .ok (.aload_n 0, 1) := dk_42 (dk_at dksX12_give_1 18 rfl rfl)
theorem dX12_give_43 : decode cX12_give 43 = .ok (.getfield 24, 3) := dk_180 0 24 (dk_at dksX12_give_1 19 rfl rfl)
theorem dX12_give_46 : decode cX12_give 46 = .ok (.aload_n 0, 1) := dk_42 (dk_at dksX12_give_1 22 rfl rfl)
theorem dX12_give_47 : decode cX12_give 47 = .ok (.dup, 1) := dk_89 (dk_at dksX12_give_1 23 rfl rfl)
theorem dX12_give_48 : decode cX12_give 48 = .ok (.getfield 27, 3) := dk_180 0 27 (dk_at dksX12_give_2 0 rfl rfl)
theorem dX12_give_51 : decode cX12_give 51 = .ok (.dup_x1, 1) := dk_90 (dk_at dksX12_give_2 3 rfl rfl)
theorem dX12_give_52 : decode cX12_give 52 = .ok (.iconst 1, 1) := dk_4 (dk_at dksX12_give_2 4 rfl rfl)
theorem dX12_give_53 : decode cX12_give 53 = .ok (.iadd, 1) := dk_96 (dk_at dksX12_give_2 5 rfl rfl)
theorem dX12_give_54 : decode cX12_give 54 = .ok (.putfield 27, 3) := dk_181 0 27 (dk_at dksX12_give_2 6 rfl rfl)
theorem dX12_give_57 : decode cX12_give 57 = .ok (.aload_n 3, 1) := dk_45 (dk_at dksX12_give_2 9 rfl rfl)
theorem dX12_give_58 : decode cX12_give 58 = .ok (.iload 4, 2) := dk_21 4 (dk_at dksX12_give_2 10 rfl rfl)
theorem dX12_give_60 : decode cX12_give 60 = .ok (.caload, 1) := dk_52 (dk_at dksX12_give_2 12 rfl rfl)
theorem dX12_give_61 : decode cX12_give 61 = .ok (.castore, 1) := dk_85 (dk_at dksX12_give_2 13 rfl rfl)
theorem dX12_give_62 : decode cX12_give 62 = .ok (.iinc 4 1, 3) := dk_132 4 1 (dk_at dksX12_give_2 14 rfl rfl)
theorem dX12_give_65 : decode cX12_give 65 = .ok (.goto (-30), 3) := dk_167 255 226 (dk_at dksX12_give_2 17 rfl rfl)
theorem dX12_give_68 : decode cX12_give 68 = .ok (.return_, 1) := dk_177 (dk_at dksX12_give_2 20 rfl rfl)
abbrev cX12_things : ByteArray := prog_15_method_9_code
def yX12_things : MethodName := ⟨RX12, "things", "()I"⟩
theorem dX12_things_0 : decode cX12_things 0 = .ok (.aload_n 0, 1) := by decide +kernel
theorem dX12_things_1 : decode cX12_things 1 = .ok (.getfield 27, 3) := by decide +kernel
theorem dX12_things_4 : decode cX12_things 4 = .ok (.ireturn, 1) := by decide +kernel
abbrev cX12_letters : ByteArray := prog_15_method_7_code
def yX12_letters : MethodName := ⟨RX12, "letters", "()I"⟩
def dkwX12_letters_2 : List UInt8 := [16, 97, 100, 120, 128, 62, 132, 4, 1, 167, 255, 229, 29, 172]
abbrev dktX12_letters_2 : List UInt8 := dkwX12_letters_2 ++ []
def dkwX12_letters_1 : List UInt8 := [100, 120, 62, 4, 54, 4, 21, 4, 42, 180, 0, 27, 162, 0, 24, 29, 4, 42, 180, 0, 24, 21, 4, 52]
abbrev dktX12_letters_1 : List UInt8 := dkwX12_letters_1 ++ dktX12_letters_2
def dkwX12_letters_0 : List UInt8 := [42, 180, 0, 31, 192, 0, 9, 76, 43, 3, 52, 61, 167, 0, 8, 78, 178, 0, 37, 191, 4, 28, 16, 97]
abbrev dktX12_letters_0 : List UInt8 := dkwX12_letters_0 ++ dktX12_letters_1
theorem dksX12_letters_0 : cX12_letters.data.toList.drop 0 = dktX12_letters_0 := by decide +kernel
theorem dksX12_letters_1 : cX12_letters.data.toList.drop 24 = dktX12_letters_1 := dk_seg dksX12_letters_0 24 rfl rfl
theorem dksX12_letters_2 : cX12_letters.data.toList.drop 48 = dktX12_letters_2 := dk_seg dksX12_letters_1 24 rfl rfl
theorem dX12_letters_0 : decode cX12_letters 0 = .ok (.aload_n 0, 1) := dk_42 (dk_at dksX12_letters_0 0 rfl rfl)
theorem dX12_letters_1 : decode cX12_letters 1 = .ok (.getfield 31, 3) := dk_180 0 31 (dk_at dksX12_letters_0 1 rfl rfl)
theorem dX12_letters_4 : decode cX12_letters 4 = .ok (.checkcast 9, 3) := dk_192 0 9 (dk_at dksX12_letters_0 4 rfl rfl)
theorem dX12_letters_7 : decode cX12_letters 7 = .ok (.astore_n 1, 1) := dk_76 (dk_at dksX12_letters_0 7 rfl rfl)
theorem dX12_letters_8 : decode cX12_letters 8 = .ok (.aload_n 1, 1) := dk_43 (dk_at dksX12_letters_0 8 rfl rfl)
theorem dX12_letters_9 : decode cX12_letters 9 = .ok (.iconst 0, 1) := dk_3 (dk_at dksX12_letters_0 9 rfl rfl)
theorem dX12_letters_10 : decode cX12_letters 10 = .ok (.caload, 1) := dk_52 (dk_at dksX12_letters_0 10 rfl rfl)
theorem dX12_letters_11 : decode cX12_letters 11 = .ok (.istore_n 2, 1) := dk_61 (dk_at dksX12_letters_0 11 rfl rfl)
theorem dX12_letters_12 : decode cX12_letters 12 = .ok (.goto 8, 3) := dk_167 0 8 (dk_at dksX12_letters_0 12 rfl rfl)
theorem dX12_letters_15 : decode cX12_letters 15 = .ok (.astore_n 3, 1) := dk_78 (dk_at dksX12_letters_0 15 rfl rfl)
theorem dX12_letters_16 : decode cX12_letters 16 = .ok (.getstatic 37, 3) := dk_178 0 37 (dk_at dksX12_letters_0 16 rfl rfl)
theorem dX12_letters_19 : decode cX12_letters 19 = .ok (.athrow, 1) := dk_191 (dk_at dksX12_letters_0 19 rfl rfl)
theorem dX12_letters_20 : decode cX12_letters 20 = .ok (.iconst 1, 1) := dk_4 (dk_at dksX12_letters_0 20 rfl rfl)
theorem dX12_letters_21 : decode cX12_letters 21 = .ok (.iload_n 2, 1) := dk_28 (dk_at dksX12_letters_0 21 rfl rfl)
theorem dX12_letters_22 : decode cX12_letters 22 = .ok (.bipush 97, 2) := dk_16 97 (dk_at dksX12_letters_0 22 rfl rfl)
theorem dX12_letters_24 : decode cX12_letters 24 = .ok (.isub, 1) := dk_100 (dk_at dksX12_letters_1 0 rfl rfl)
theorem dX12_letters_25 : decode cX12_letters 25 = .ok (.ishl, 1) := dk_120 (dk_at dksX12_letters_1 1 rfl rfl)
theorem dX12_letters_26 : decode cX12_letters 26 = .ok (.istore_n 3, 1) := dk_62 (dk_at dksX12_letters_1 2 rfl rfl)
theorem dX12_letters_27 : decode cX12_letters 27 = .ok (.iconst 1, 1) := dk_4 (dk_at dksX12_letters_1 3 rfl rfl)
theorem dX12_letters_28 : decode cX12_letters 28 = .ok (.istore 4, 2) := dk_54 4 (dk_at dksX12_letters_1 4 rfl rfl)
theorem dX12_letters_30 : decode cX12_letters 30 = .ok (.iload 4, 2) := dk_21 4 (dk_at dksX12_letters_1 6 rfl rfl)
theorem dX12_letters_32 : decode cX12_letters 32 = .ok (.aload_n 0, 1) := dk_42 (dk_at dksX12_letters_1 8 rfl rfl)
theorem dX12_letters_33 : decode cX12_letters 33 = .ok (.getfield 27, 3) := dk_180 0 27 (dk_at dksX12_letters_1 9 rfl rfl)
theorem dX12_letters_36 : decode cX12_letters 36 = .ok (.if_icmp .ge 24, 3) := dk_162 0 24 (dk_at dksX12_letters_1 12 rfl rfl)
theorem dX12_letters_39 : decode cX12_letters 39 = .ok (.iload_n 3, 1) := dk_29 (dk_at dksX12_letters_1 15 rfl rfl)
theorem dX12_letters_40 : decode cX12_letters 40 = .ok (.iconst 1, 1) := dk_4 (dk_at dksX12_letters_1 16 rfl rfl)
theorem dX12_letters_41 : decode cX12_letters 41 = .ok (.aload_n 0, 1) := dk_42 (dk_at dksX12_letters_1 17 rfl rfl)
theorem dX12_letters_42 : decode cX12_letters 42 = .ok (.getfield 24, 3) := dk_180 0 24 (dk_at dksX12_letters_1 18 rfl rfl)
theorem dX12_letters_45 : decode cX12_letters 45 = .ok (.iload 4, 2) := dk_21 4 (dk_at dksX12_letters_1 21 rfl rfl)
theorem dX12_letters_47 : decode cX12_letters 47 = .ok (.caload, 1) := dk_52 (dk_at dksX12_letters_1 23 rfl rfl)
theorem dX12_letters_48 : decode cX12_letters 48 = .ok (.bipush 97, 2) := dk_16 97 (dk_at dksX12_letters_2 0 rfl rfl)
theorem dX12_letters_50 : decode cX12_letters 50 = .ok (.isub, 1) := dk_100 (dk_at dksX12_letters_2 2 rfl rfl)
theorem dX12_letters_51 : decode cX12_letters 51 = .ok (.ishl, 1) := dk_120 (dk_at dksX12_letters_2 3 rfl rfl)
theorem dX12_letters_52 : decode cX12_letters 52 = .ok (.ior, 1) := dk_128 (dk_at dksX12_letters_2 4 rfl rfl)
theorem dX12_letters_53 : decode cX12_letters 53 = .ok (.istore_n 3, 1) := dk_62 (dk_at dksX12_letters_2 5 rfl rfl)
theorem dX12_letters_54 : decode cX12_letters 54 = .ok (.iinc 4 1, 3) := dk_132 4 1 (dk_at dksX12_letters_2 6 rfl rfl)
theorem dX12_letters_57 : decode cX12_letters 57 = .ok (.goto (-27), 3) := dk_167 255 229 (dk_at dksX12_letters_2 9 rfl rfl)
theorem dX12_letters_60 : decode cX12_letters 60 = .ok (.iload_n 3, 1) := dk_29 (dk_at dksX12_letters_2 12 rfl rfl)
theorem dX12_letters_61 : decode cX12_letters 61 = .ok (.ireturn, 1) := dk_172 (dk_at dksX12_letters_2 13 rfl rfl)
abbrev cX12_keep : ByteArray := prog_15_method_8_code
def yX12_keep : MethodName := ⟨RX12, "keep", "(I)V"⟩
def dkwX12_keep_2 : List UInt8 := [132, 3, 1, 167, 255, 211, 28, 154, 0, 7, 178, 0, 41, 191, 42, 28, 181, 0, 27, 177]
abbrev dktX12_keep_2 : List UInt8 := dkwX12_keep_2 ++ []
def dkwX12_keep_1 : List UInt8 := [126, 154, 0, 6, 167, 0, 18, 42, 180, 0, 24, 28, 42, 180, 0, 24, 29, 52, 85, 132, 2, 1]
abbrev dktX12_keep_1 : List UInt8 := dkwX12_keep_1 ++ dktX12_keep_2
def dkwX12_keep_0 : List UInt8 := [3, 61, 3, 62, 29, 42, 180, 0, 27, 162, 0, 43, 27, 42, 180, 0, 24, 29, 52, 16, 97, 100, 122, 4]
abbrev dktX12_keep_0 : List UInt8 := dkwX12_keep_0 ++ dktX12_keep_1
theorem dksX12_keep_0 : cX12_keep.data.toList.drop 0 = dktX12_keep_0 := by decide +kernel
theorem dksX12_keep_1 : cX12_keep.data.toList.drop 24 = dktX12_keep_1 := dk_seg dksX12_keep_0 24 rfl rfl
theorem dksX12_keep_2 : cX12_keep.data.toList.drop 46 = dktX12_keep_2 := dk_seg dksX12_keep_1 22 rfl rfl
theorem dX12_keep_0 : decode cX12_keep 0 = .ok (.iconst 0, 1) := dk_3 (dk_at dksX12_keep_0 0 rfl rfl)
theorem dX12_keep_1 : decode cX12_keep 1 = .ok (.istore_n 2, 1) := dk_61 (dk_at dksX12_keep_0 1 rfl rfl)
theorem dX12_keep_2 : decode cX12_keep 2 = .ok (.iconst 0, 1) := dk_3 (dk_at dksX12_keep_0 2 rfl rfl)
theorem dX12_keep_3 : decode cX12_keep 3 = .ok (.istore_n 3, 1) := dk_62 (dk_at dksX12_keep_0 3 rfl rfl)
theorem dX12_keep_4 : decode cX12_keep 4 = .ok (.iload_n 3, 1) := dk_29 (dk_at dksX12_keep_0 4 rfl rfl)
theorem dX12_keep_5 : decode cX12_keep 5 = .ok (.aload_n 0, 1) := dk_42 (dk_at dksX12_keep_0 5 rfl rfl)
theorem dX12_keep_6 : decode cX12_keep 6 = .ok (.getfield 27, 3) := dk_180 0 27 (dk_at dksX12_keep_0 6 rfl rfl)
theorem dX12_keep_9 : decode cX12_keep 9 = .ok (.if_icmp .ge 43, 3) := dk_162 0 43 (dk_at dksX12_keep_0 9 rfl rfl)
theorem dX12_keep_12 : decode cX12_keep 12 = .ok (.iload_n 1, 1) := dk_27 (dk_at dksX12_keep_0 12 rfl rfl)
theorem dX12_keep_13 : decode cX12_keep 13 = .ok (.aload_n 0, 1) := dk_42 (dk_at dksX12_keep_0 13 rfl rfl)
theorem dX12_keep_14 : decode cX12_keep 14 = .ok (.getfield 24, 3) := dk_180 0 24 (dk_at dksX12_keep_0 14 rfl rfl)
theorem dX12_keep_17 : decode cX12_keep 17 = .ok (.iload_n 3, 1) := dk_29 (dk_at dksX12_keep_0 17 rfl rfl)
theorem dX12_keep_18 : decode cX12_keep 18 = .ok (.caload, 1) := dk_52 (dk_at dksX12_keep_0 18 rfl rfl)
theorem dX12_keep_19 : decode cX12_keep 19 = .ok (.bipush 97, 2) := dk_16 97 (dk_at dksX12_keep_0 19 rfl rfl)
theorem dX12_keep_21 : decode cX12_keep 21 = .ok (.isub, 1) := dk_100 (dk_at dksX12_keep_0 21 rfl rfl)
theorem dX12_keep_22 : decode cX12_keep 22 = .ok (.ishr, 1) := dk_122 (dk_at dksX12_keep_0 22 rfl rfl)
theorem dX12_keep_23 : decode cX12_keep 23 = .ok (.iconst 1, 1) := dk_4 (dk_at dksX12_keep_0 23 rfl rfl)
theorem dX12_keep_24 : decode cX12_keep 24 = .ok (.iand, 1) := dk_126 (dk_at dksX12_keep_1 0 rfl rfl)
theorem dX12_keep_25 : decode cX12_keep 25 = .ok (.ifCond .ne 6, 3) := dk_154 0 6 (dk_at dksX12_keep_1 1 rfl rfl)
theorem dX12_keep_28 : decode cX12_keep 28 = .ok (.goto 18, 3) := dk_167 0 18 (dk_at dksX12_keep_1 4 rfl rfl)
theorem dX12_keep_31 : decode cX12_keep 31 = .ok (.aload_n 0, 1) := dk_42 (dk_at dksX12_keep_1 7 rfl rfl)
theorem dX12_keep_32 : decode cX12_keep 32 = .ok (.getfield 24, 3) := dk_180 0 24 (dk_at dksX12_keep_1 8 rfl rfl)
theorem dX12_keep_35 : decode cX12_keep 35 = .ok (.iload_n 2, 1) := dk_28 (dk_at dksX12_keep_1 11 rfl rfl)
theorem dX12_keep_36 : decode cX12_keep 36 = .ok (.aload_n 0, 1) := dk_42 (dk_at dksX12_keep_1 12 rfl rfl)
theorem dX12_keep_37 : decode cX12_keep 37 = .ok (.getfield 24, 3) := dk_180 0 24 (dk_at dksX12_keep_1 13 rfl rfl)
theorem dX12_keep_40 : decode cX12_keep 40 = .ok (.iload_n 3, 1) := dk_29 (dk_at dksX12_keep_1 16 rfl rfl)
theorem dX12_keep_41 : decode cX12_keep 41 = .ok (.caload, 1) := dk_52 (dk_at dksX12_keep_1 17 rfl rfl)
theorem dX12_keep_42 : decode cX12_keep 42 = .ok (.castore, 1) := dk_85 (dk_at dksX12_keep_1 18 rfl rfl)
theorem dX12_keep_43 : decode cX12_keep 43 = .ok (.iinc 2 1, 3) := dk_132 2 1 (dk_at dksX12_keep_1 19 rfl rfl)
theorem dX12_keep_46 : decode cX12_keep 46 = .ok (.iinc 3 1, 3) := dk_132 3 1 (dk_at dksX12_keep_2 0 rfl rfl)
theorem dX12_keep_49 : decode cX12_keep 49 = .ok (.goto (-45), 3) := dk_167 255 211 (dk_at dksX12_keep_2 3 rfl rfl)
theorem dX12_keep_52 : decode cX12_keep 52 = .ok (.iload_n 2, 1) := dk_28 (dk_at dksX12_keep_2 6 rfl rfl)
theorem dX12_keep_53 : decode cX12_keep 53 = .ok (.ifCond .ne 7, 3) := dk_154 0 7 (dk_at dksX12_keep_2 7 rfl rfl)
theorem dX12_keep_56 : decode cX12_keep 56 = .ok (.getstatic 41, 3) := dk_178 0 41 (dk_at dksX12_keep_2 10 rfl rfl)
theorem dX12_keep_59 : decode cX12_keep 59 = .ok (.athrow, 1) := dk_191 (dk_at dksX12_keep_2 13 rfl rfl)
theorem dX12_keep_60 : decode cX12_keep 60 = .ok (.aload_n 0, 1) := dk_42 (dk_at dksX12_keep_2 14 rfl rfl)
theorem dX12_keep_61 : decode cX12_keep 61 = .ok (.iload_n 2, 1) := dk_28 (dk_at dksX12_keep_2 15 rfl rfl)
theorem dX12_keep_62 : decode cX12_keep 62 = .ok (.putfield 27, 3) := dk_181 0 27 (dk_at dksX12_keep_2 16 rfl rfl)
theorem dX12_keep_65 : decode cX12_keep 65 = .ok (.return_, 1) := dk_177 (dk_at dksX12_keep_2 19 rfl rfl)
abbrev cX12_thing : ByteArray := prog_15_method_11_code
def yX12_thing : MethodName := ⟨RX12, "thing", "(I)J"⟩
def dkwX12_thing_2 : List UInt8 := [29, 133, 173]
abbrev dktX12_thing_2 : List UInt8 := dkwX12_thing_2 ++ []
def dkwX12_thing_1 : List UInt8 := [187, 0, 51, 89, 183, 0, 53, 191, 27, 42, 180, 0, 27, 161, 0, 11, 187, 0, 51, 89, 183, 0, 53, 191]
abbrev dktX12_thing_1 : List UInt8 := dkwX12_thing_1 ++ dktX12_thing_2
def dkwX12_thing_0 : List UInt8 := [42, 180, 0, 31, 192, 0, 9, 77, 44, 27, 52, 62, 167, 0, 19, 58, 4, 184, 0, 45, 191, 58, 4]
abbrev dktX12_thing_0 : List UInt8 := dkwX12_thing_0 ++ dktX12_thing_1
theorem dksX12_thing_0 : cX12_thing.data.toList.drop 0 = dktX12_thing_0 := by decide +kernel
theorem dksX12_thing_1 : cX12_thing.data.toList.drop 23 = dktX12_thing_1 := dk_seg dksX12_thing_0 23 rfl rfl
theorem dksX12_thing_2 : cX12_thing.data.toList.drop 47 = dktX12_thing_2 := dk_seg dksX12_thing_1 24 rfl rfl
theorem dX12_thing_0 : decode cX12_thing 0 = .ok (.aload_n 0, 1) := dk_42 (dk_at dksX12_thing_0 0 rfl rfl)
theorem dX12_thing_1 : decode cX12_thing 1 = .ok (.getfield 31, 3) := dk_180 0 31 (dk_at dksX12_thing_0 1 rfl rfl)
theorem dX12_thing_4 : decode cX12_thing 4 = .ok (.checkcast 9, 3) := dk_192 0 9 (dk_at dksX12_thing_0 4 rfl rfl)
theorem dX12_thing_7 : decode cX12_thing 7 = .ok (.astore_n 2, 1) := dk_77 (dk_at dksX12_thing_0 7 rfl rfl)
theorem dX12_thing_8 : decode cX12_thing 8 = .ok (.aload_n 2, 1) := dk_44 (dk_at dksX12_thing_0 8 rfl rfl)
theorem dX12_thing_9 : decode cX12_thing 9 = .ok (.iload_n 1, 1) := dk_27 (dk_at dksX12_thing_0 9 rfl rfl)
theorem dX12_thing_10 : decode cX12_thing 10 = .ok (.caload, 1) := dk_52 (dk_at dksX12_thing_0 10 rfl rfl)
theorem dX12_thing_11 : decode cX12_thing 11 = .ok (.istore_n 3, 1) := dk_62 (dk_at dksX12_thing_0 11 rfl rfl)
theorem dX12_thing_12 : decode cX12_thing 12 = .ok (.goto 19, 3) := dk_167 0 19 (dk_at dksX12_thing_0 12 rfl rfl)
theorem dX12_thing_15 : decode cX12_thing 15 = .ok (.astore 4, 2) := dk_58 4 (dk_at dksX12_thing_0 15 rfl rfl)
theorem dX12_thing_17 : decode cX12_thing 17 = .ok (.invokestatic 45, 3) := dk_184 0 45 (dk_at dksX12_thing_0 17 rfl rfl)
theorem dX12_thing_20 : decode cX12_thing 20 = .ok (.athrow, 1) := dk_191 (dk_at dksX12_thing_0 20 rfl rfl)
theorem dX12_thing_21 : decode cX12_thing 21 = .ok (.astore 4, 2) := dk_58 4 (dk_at dksX12_thing_0 21 rfl rfl)
theorem dX12_thing_23 : decode cX12_thing 23 = .ok (.new 51, 3) := dk_187 0 51 (dk_at dksX12_thing_1 0 rfl rfl)
theorem dX12_thing_26 : decode cX12_thing 26 = .ok (.dup, 1) := dk_89 (dk_at dksX12_thing_1 3 rfl rfl)
theorem dX12_thing_27 : decode cX12_thing 27 = .ok (.invokespecial 53, 3) := dk_183 0 53 (dk_at dksX12_thing_1 4 rfl rfl)
theorem dX12_thing_30 : decode cX12_thing 30 = .ok (.athrow, 1) := dk_191 (dk_at dksX12_thing_1 7 rfl rfl)
theorem dX12_thing_31 : decode cX12_thing 31 = .ok (.iload_n 1, 1) := dk_27 (dk_at dksX12_thing_1 8 rfl rfl)
theorem dX12_thing_32 : decode cX12_thing 32 = .ok (.aload_n 0, 1) := dk_42 (dk_at dksX12_thing_1 9 rfl rfl)
theorem dX12_thing_33 : decode cX12_thing 33 = .ok (.getfield 27, 3) := dk_180 0 27 (dk_at dksX12_thing_1 10 rfl rfl)
theorem dX12_thing_36 : decode cX12_thing 36 = .ok (.if_icmp .lt 11, 3) := dk_161 0 11 (dk_at dksX12_thing_1 13 rfl rfl)
theorem dX12_thing_39 : decode cX12_thing 39 = .ok (.new 51, 3) := dk_187 0 51 (dk_at dksX12_thing_1 16 rfl rfl)
theorem dX12_thing_42 : decode cX12_thing 42 = .ok (.dup, 1) := dk_89 (dk_at dksX12_thing_1 19 rfl rfl)
theorem dX12_thing_43 : decode cX12_thing 43 = .ok (.invokespecial 53, 3) := dk_183 0 53 (dk_at dksX12_thing_1 20 rfl rfl)
theorem dX12_thing_46 : decode cX12_thing 46 = .ok (.athrow, 1) := dk_191 (dk_at dksX12_thing_1 23 rfl rfl)
theorem dX12_thing_47 : decode cX12_thing 47 = .ok (.iload_n 3, 1) := dk_29 (dk_at dksX12_thing_2 0 rfl rfl)
theorem dX12_thing_48 : decode cX12_thing 48 = .ok (.i2l, 1) := dk_133 (dk_at dksX12_thing_2 1 rfl rfl)
theorem dX12_thing_49 : decode cX12_thing 49 = .ok (.lreturn, 1) := dk_173 (dk_at dksX12_thing_2 2 rfl rfl)
abbrev cX12_isFixed : ByteArray := prog_15_method_10_code
def yX12_isFixed : MethodName := ⟨RX12, "isFixed", "(D)Z"⟩
def dkwX12_isFixed_0 : List UInt8 := [42, 180, 0, 27, 4, 160, 0, 7, 4, 167, 0, 4, 3, 172]
abbrev dktX12_isFixed_0 : List UInt8 := dkwX12_isFixed_0 ++ []
theorem dksX12_isFixed_0 : cX12_isFixed.data.toList.drop 0 = dktX12_isFixed_0 := by decide +kernel
theorem dX12_isFixed_0 : decode cX12_isFixed 0 = .ok (.aload_n 0, 1) := dk_42 (dk_at dksX12_isFixed_0 0 rfl rfl)
theorem dX12_isFixed_1 : decode cX12_isFixed 1 = .ok (.getfield 27, 3) := dk_180 0 27 (dk_at dksX12_isFixed_0 1 rfl rfl)
theorem dX12_isFixed_4 : decode cX12_isFixed 4 = .ok (.iconst 1, 1) := dk_4 (dk_at dksX12_isFixed_0 4 rfl rfl)
theorem dX12_isFixed_5 : decode cX12_isFixed 5 = .ok (.if_icmp .ne 7, 3) := dk_160 0 7 (dk_at dksX12_isFixed_0 5 rfl rfl)
theorem dX12_isFixed_8 : decode cX12_isFixed 8 = .ok (.iconst 1, 1) := dk_4 (dk_at dksX12_isFixed_0 8 rfl rfl)
theorem dX12_isFixed_9 : decode cX12_isFixed 9 = .ok (.goto 4, 3) := dk_167 0 4 (dk_at dksX12_isFixed_0 9 rfl rfl)
theorem dX12_isFixed_12 : decode cX12_isFixed 12 = .ok (.iconst 0, 1) := dk_3 (dk_at dksX12_isFixed_0 12 rfl rfl)
theorem dX12_isFixed_13 : decode cX12_isFixed 13 = .ok (.ireturn, 1) := dk_172 (dk_at dksX12_isFixed_0 13 rfl rfl)
abbrev cX12_only : ByteArray := prog_15_method_6_code
def yX12_only : MethodName := ⟨RX12, "only", "(C)V"⟩
def dkwX12_only_0 : List UInt8 := [42, 182, 0, 19, 42, 180, 0, 24, 3, 27, 85, 42, 4, 181, 0, 27, 177]
abbrev dktX12_only_0 : List UInt8 := dkwX12_only_0 ++ []
theorem dksX12_only_0 : cX12_only.data.toList.drop 0 = dktX12_only_0 := by decide +kernel
theorem dX12_only_0 : decode cX12_only 0 = .ok (.aload_n 0, 1) := dk_42 (dk_at dksX12_only_0 0 rfl rfl)
theorem dX12_only_1 : decode cX12_only 1 = .ok (.invokevirtual 19, 3) := dk_182 0 19 (dk_at dksX12_only_0 1 rfl rfl)
theorem dX12_only_4 : decode cX12_only 4 = .ok (.aload_n 0, 1) := dk_42 (dk_at dksX12_only_0 4 rfl rfl)
theorem dX12_only_5 : decode cX12_only 5 = .ok (.getfield 24, 3) := dk_180 0 24 (dk_at dksX12_only_0 5 rfl rfl)
theorem dX12_only_8 : decode cX12_only 8 = .ok (.iconst 0, 1) := dk_3 (dk_at dksX12_only_0 8 rfl rfl)
theorem dX12_only_9 : decode cX12_only 9 = .ok (.iload_n 1, 1) := dk_27 (dk_at dksX12_only_0 9 rfl rfl)
theorem dX12_only_10 : decode cX12_only 10 = .ok (.castore, 1) := dk_85 (dk_at dksX12_only_0 10 rfl rfl)
theorem dX12_only_11 : decode cX12_only 11 = .ok (.aload_n 0, 1) := dk_42 (dk_at dksX12_only_0 11 rfl rfl)
theorem dX12_only_12 : decode cX12_only 12 = .ok (.iconst 1, 1) := dk_4 (dk_at dksX12_only_0 12 rfl rfl)
theorem dX12_only_13 : decode cX12_only 13 = .ok (.putfield 27, 3) := dk_181 0 27 (dk_at dksX12_only_0 13 rfl rfl)
theorem dX12_only_16 : decode cX12_only 16 = .ok (.return_, 1) := dk_177 (dk_at dksX12_only_0 16 rfl rfl)
theorem q275 : (Jvm.Cond.initialized "ConstraintHouse$Letter") ∈ lw_all := lw_g (lw_at lw_m1 15 rfl) rfl
theorem q702 : (Jvm.Cond.fieldLink "ConstraintHouse$Letter" (31 : Nat) "ConstraintHouse$Letter" "domain" "Ljava/lang/Object;") ∈ lw_all := lw_g (lw_at lw_m2 202 rfl) rfl
theorem q703 : (Jvm.Cond.sameField "ConstraintHouse$Letter" "ConstraintHouse$Variable" "domain" "Ljava/lang/Object;") ∈ lw_all := lw_g (lw_at lw_m2 203 rfl) rfl
theorem q762 : (Jvm.Cond.instantiable "ConstraintHouse$Letter" (4 : Nat)) ∈ lw_all := lw_g (lw_at lw_m3 22 rfl) rfl
theorem q764 : (Jvm.Cond.instanceMethod ({ cls := "ConstraintHouse$Letter", name := "<init>", desc := "()V" } : Jvm.MethodName)) ∈ lw_all := lw_g (lw_at lw_m3 24 rfl) rfl
theorem q765 : (Jvm.Cond.code ({ cls := "ConstraintHouse$Letter", name := "<init>", desc := "()V" } : Jvm.MethodName) prog_15_method_1_code (1 : Nat) (Option.none : Option Jvm.ClassFile.FieldType)) ∈ lw_all := lw_g (lw_at lw_m3 25 rfl) rfl
theorem q766 : (Jvm.Cond.methodLinkNest "ConstraintHouse$Letter" (3 : Nat) ({ cls := "ConstraintHouse$Variable", name := "<init>", desc := "()V" } : Jvm.MethodName) "ConstraintHouse") ∈ lw_tbl := lw_at lw_m3 26 rfl
theorem q767 : (Jvm.Cond.fieldLink "ConstraintHouse$Letter" (24 : Nat) "ConstraintHouse$Letter" "mine" "[C") ∈ lw_all := lw_g (lw_at lw_m3 27 rfl) rfl
theorem q768 : (Jvm.Cond.fieldLink "ConstraintHouse$Letter" (27 : Nat) "ConstraintHouse$Letter" "many" "I") ∈ lw_all := lw_g (lw_at lw_m3 28 rfl) rfl
theorem q769 : (Jvm.Cond.lays "ConstraintHouse$Letter" "ConstraintHouse$Letter" "mine" "[C") ∈ lw_all := lw_g (lw_at lw_m3 29 rfl) rfl
theorem q770 : (Jvm.Cond.soleField "ConstraintHouse$Letter" "mine") ∈ lw_all := lw_g (lw_at lw_m3 30 rfl) rfl
theorem q771 : (Jvm.Cond.lays "ConstraintHouse$Letter" "ConstraintHouse$Letter" "many" "I") ∈ lw_all := lw_g (lw_at lw_m3 31 rfl) rfl
theorem q772 : (Jvm.Cond.soleField "ConstraintHouse$Letter" "many") ∈ lw_all := lw_g (lw_at lw_m3 32 rfl) rfl
theorem q773 : (Jvm.Cond.lays "ConstraintHouse$Letter" "ConstraintHouse$Variable" "domain" "Ljava/lang/Object;") ∈ lw_all := lw_g (lw_at lw_m3 33 rfl) rfl
theorem q774 : (Jvm.Cond.lays "ConstraintHouse$Letter" "ConstraintHouse$Variable" "number" "I") ∈ lw_all := lw_g (lw_at lw_m3 34 rfl) rfl
theorem q775 : (Jvm.Cond.superclass "ConstraintHouse$Letter" "ConstraintHouse$Variable") ∈ lw_all := lw_g (lw_at lw_m3 35 rfl) rfl
theorem q929 : (Jvm.Cond.instanceMethod ({ cls := "ConstraintHouse$Letter", name := "set", desc := "([CII)V" } : Jvm.MethodName)) ∈ lw_all := lw_g (lw_at lw_m3 189 rfl) rfl
theorem q930 : (Jvm.Cond.selects "ConstraintHouse$Letter" ({ cls := "ConstraintHouse$Letter", name := "set", desc := "([CII)V" } : Jvm.MethodName) ({ cls := "ConstraintHouse$Letter", name := "set", desc := "([CII)V" } : Jvm.MethodName)) ∈ lw_all := lw_g (lw_at lw_m3 190 rfl) rfl
theorem q931 : (Jvm.Cond.code ({ cls := "ConstraintHouse$Letter", name := "set", desc := "([CII)V" } : Jvm.MethodName) prog_15_method_5_code (5 : Nat) (Option.none : Option Jvm.ClassFile.FieldType)) ∈ lw_all := lw_g (lw_at lw_m3 191 rfl) rfl
theorem q932 : (Jvm.Cond.methodLink "ConstraintHouse$Letter" (19 : Nat) ({ cls := "ConstraintHouse$Letter", name := "begin", desc := "()V" } : Jvm.MethodName)) ∈ lw_all := lw_g (lw_at lw_m3 192 rfl) rfl
theorem q933 : (Jvm.Cond.instanceMethod ({ cls := "ConstraintHouse$Letter", name := "begin", desc := "()V" } : Jvm.MethodName)) ∈ lw_all := lw_g (lw_at lw_m3 193 rfl) rfl
theorem q934 : (Jvm.Cond.selects "ConstraintHouse$Letter" ({ cls := "ConstraintHouse$Letter", name := "begin", desc := "()V" } : Jvm.MethodName) ({ cls := "ConstraintHouse$Letter", name := "begin", desc := "()V" } : Jvm.MethodName)) ∈ lw_all := lw_g (lw_at lw_m3 194 rfl) rfl
theorem q935 : (Jvm.Cond.code ({ cls := "ConstraintHouse$Letter", name := "begin", desc := "()V" } : Jvm.MethodName) prog_15_method_4_code (1 : Nat) (Option.none : Option Jvm.ClassFile.FieldType)) ∈ lw_all := lw_g (lw_at lw_m3 195 rfl) rfl
theorem q1550 : (Jvm.Cond.selects "ConstraintHouse$Letter" ({ cls := "ConstraintHouse$Variable", name := "sort", desc := "()I" } : Jvm.MethodName) ({ cls := "ConstraintHouse$Letter", name := "sort", desc := "()I" } : Jvm.MethodName)) ∈ lw_all := lw_g (lw_at lw_m6 90 rfl) rfl
theorem q1551 : (Jvm.Cond.instanceMethod ({ cls := "ConstraintHouse$Letter", name := "sort", desc := "()I" } : Jvm.MethodName)) ∈ lw_all := lw_g (lw_at lw_m6 91 rfl) rfl
theorem q1552 : (Jvm.Cond.code ({ cls := "ConstraintHouse$Letter", name := "sort", desc := "()I" } : Jvm.MethodName) prog_15_method_2_code (1 : Nat) (Option.some Jvm.ClassFile.FieldType.int)) ∈ lw_all := lw_g (lw_at lw_m6 92 rfl) rfl
theorem q2146 : (Jvm.Cond.selects "ConstraintHouse$Letter" ({ cls := "ConstraintHouse$Variable", name := "give", desc := "(Ljava/lang/Object;LConstraintHouse$Fault;)V" } : Jvm.MethodName) ({ cls := "ConstraintHouse$Letter", name := "give", desc := "(Ljava/lang/Object;LConstraintHouse$Fault;)V" } : Jvm.MethodName)) ∈ lw_all := lw_g (lw_at lw_m8 206 rfl) rfl
theorem q2147 : (Jvm.Cond.instanceMethod ({ cls := "ConstraintHouse$Letter", name := "give", desc := "(Ljava/lang/Object;LConstraintHouse$Fault;)V" } : Jvm.MethodName)) ∈ lw_all := lw_g (lw_at lw_m8 207 rfl) rfl
theorem q2148 : (Jvm.Cond.codeWith ({ cls := "ConstraintHouse$Letter", name := "give", desc := "(Ljava/lang/Object;LConstraintHouse$Fault;)V" } : Jvm.MethodName) prog_15_method_3_code (5 : Nat) (Option.none : Option Jvm.ClassFile.FieldType) [((0 : Nat), (5 : Nat), (8 : Nat), (11 : Nat))]) ∈ lw_all := lw_g (lw_at lw_m8 208 rfl) rfl
theorem q2149 : (Jvm.Cond.classLink "ConstraintHouse$Letter" (11 : Nat) "java/lang/ClassCastException") ∈ lw_all := lw_g (lw_at lw_m8 209 rfl) rfl
theorem q2163 : (Jvm.Cond.classLink "ConstraintHouse$Letter" (9 : Nat) "[C") ∈ lw_all := lw_g (lw_at lw_m8 223 rfl) rfl
theorem q2164 : (Jvm.Cond.methodLink "ConstraintHouse$Letter" (13 : Nat) ({ cls := "ConstraintHouse$Fault", name := "of", desc := "(I)LConstraintHouse$Fault;" } : Jvm.MethodName)) ∈ lw_all := lw_g (lw_at lw_m8 224 rfl) rfl
theorem q2391 : (Jvm.Cond.selects "ConstraintHouse$Letter" ({ cls := "ConstraintHouse$Splits", name := "things", desc := "()I" } : Jvm.MethodName) ({ cls := "ConstraintHouse$Letter", name := "things", desc := "()I" } : Jvm.MethodName)) ∈ lw_all := lw_g (lw_at lw_m9 211 rfl) rfl
theorem q2392 : (Jvm.Cond.instanceMethod ({ cls := "ConstraintHouse$Letter", name := "things", desc := "()I" } : Jvm.MethodName)) ∈ lw_all := lw_g (lw_at lw_m9 212 rfl) rfl
theorem q2393 : (Jvm.Cond.code ({ cls := "ConstraintHouse$Letter", name := "things", desc := "()I" } : Jvm.MethodName) prog_15_method_9_code (1 : Nat) (Option.some Jvm.ClassFile.FieldType.int)) ∈ lw_all := lw_g (lw_at lw_m9 213 rfl) rfl
theorem q2413 : (Jvm.Cond.castable "ConstraintHouse$Letter" "ConstraintHouse$Splits") ∈ lw_tbl := lw_at lw_m9 233 rfl
theorem q2414 : (Jvm.Cond.unhidden "ConstraintHouse$Letter" "hasBounds" "()Z") ∈ lw_tbl := lw_at lw_m9 234 rfl
theorem q2524 : (Jvm.Cond.instanceMethod ({ cls := "ConstraintHouse$Letter", name := "letters", desc := "()I" } : Jvm.MethodName)) ∈ lw_all := lw_g (lw_at lw_m10 104 rfl) rfl
theorem q2525 : (Jvm.Cond.selects "ConstraintHouse$Letter" ({ cls := "ConstraintHouse$Letter", name := "letters", desc := "()I" } : Jvm.MethodName) ({ cls := "ConstraintHouse$Letter", name := "letters", desc := "()I" } : Jvm.MethodName)) ∈ lw_all := lw_g (lw_at lw_m10 105 rfl) rfl
theorem q2526 : (Jvm.Cond.codeWith ({ cls := "ConstraintHouse$Letter", name := "letters", desc := "()I" } : Jvm.MethodName) prog_15_method_7_code (5 : Nat) (Option.some Jvm.ClassFile.FieldType.int) [((8 : Nat), (12 : Nat), (15 : Nat), (35 : Nat))]) ∈ lw_all := lw_g (lw_at lw_m10 106 rfl) rfl
theorem q2527 : (Jvm.Cond.classLink "ConstraintHouse$Letter" (35 : Nat) "java/lang/NullPointerException") ∈ lw_all := lw_g (lw_at lw_m10 107 rfl) rfl
theorem q2528 : (Jvm.Cond.fieldLinkNest "ConstraintHouse$Letter" (37 : Nat) "ConstraintHouse" "ABSENT" "LConstraintHouse$Absent;" "ConstraintHouse") ∈ lw_tbl := lw_at lw_m10 108 rfl
theorem q3195 : (Jvm.Cond.instanceMethod ({ cls := "ConstraintHouse$Letter", name := "keep", desc := "(I)V" } : Jvm.MethodName)) ∈ lw_all := lw_g (lw_at lw_m13 55 rfl) rfl
theorem q3196 : (Jvm.Cond.selects "ConstraintHouse$Letter" ({ cls := "ConstraintHouse$Letter", name := "keep", desc := "(I)V" } : Jvm.MethodName) ({ cls := "ConstraintHouse$Letter", name := "keep", desc := "(I)V" } : Jvm.MethodName)) ∈ lw_all := lw_g (lw_at lw_m13 56 rfl) rfl
theorem q3197 : (Jvm.Cond.code ({ cls := "ConstraintHouse$Letter", name := "keep", desc := "(I)V" } : Jvm.MethodName) prog_15_method_8_code (4 : Nat) (Option.none : Option Jvm.ClassFile.FieldType)) ∈ lw_all := lw_g (lw_at lw_m13 57 rfl) rfl
theorem q3198 : (Jvm.Cond.fieldLinkNest "ConstraintHouse$Letter" (41 : Nat) "ConstraintHouse" "NOTHING" "LConstraintHouse$Nothing;" "ConstraintHouse") ∈ lw_tbl := lw_at lw_m13 58 rfl
theorem q3300 : (Jvm.Cond.selects "ConstraintHouse$Letter" ({ cls := "ConstraintHouse$Variable", name := "thing", desc := "(I)J" } : Jvm.MethodName) ({ cls := "ConstraintHouse$Letter", name := "thing", desc := "(I)J" } : Jvm.MethodName)) ∈ lw_all := lw_g (lw_at lw_m13 160 rfl) rfl
theorem q3301 : (Jvm.Cond.instanceMethod ({ cls := "ConstraintHouse$Letter", name := "thing", desc := "(I)J" } : Jvm.MethodName)) ∈ lw_all := lw_g (lw_at lw_m13 161 rfl) rfl
theorem q3302 : (Jvm.Cond.codeWith ({ cls := "ConstraintHouse$Letter", name := "thing", desc := "(I)J" } : Jvm.MethodName) prog_15_method_11_code (5 : Nat) (Option.some Jvm.ClassFile.FieldType.long) [((8 : Nat), (12 : Nat), (15 : Nat), (35 : Nat)), ((8 : Nat), (12 : Nat), (21 : Nat), (49 : Nat))]) ∈ lw_all := lw_g (lw_at lw_m13 162 rfl) rfl
theorem q3303 : (Jvm.Cond.classLink "ConstraintHouse$Letter" (49 : Nat) "java/lang/ArrayIndexOutOfBoundsException") ∈ lw_all := lw_g (lw_at lw_m13 163 rfl) rfl
theorem q3304 : (Jvm.Cond.methodLink "ConstraintHouse$Letter" (45 : Nat) ({ cls := "ConstraintHouse$Letter", name := "without", desc := "()Ljava/lang/IllegalStateException;" } : Jvm.MethodName)) ∈ lw_all := lw_g (lw_at lw_m13 164 rfl) rfl
theorem q3305 : (Jvm.Cond.sameMethod "ConstraintHouse$Letter" "ConstraintHouse$Variable" "without" "()Ljava/lang/IllegalStateException;") ∈ lw_all := lw_g (lw_at lw_m13 165 rfl) rfl
theorem q3323 : (Jvm.Cond.classLink "ConstraintHouse$Letter" (51 : Nat) "java/lang/IndexOutOfBoundsException") ∈ lw_all := lw_g (lw_at lw_m13 183 rfl) rfl
theorem q3332 : (Jvm.Cond.methodLink "ConstraintHouse$Letter" (53 : Nat) ({ cls := "java/lang/IndexOutOfBoundsException", name := "<init>", desc := "()V" } : Jvm.MethodName)) ∈ lw_all := lw_g (lw_at lw_m13 192 rfl) rfl
theorem q3401 : (Jvm.Cond.selects "ConstraintHouse$Letter" ({ cls := "ConstraintHouse$Splits", name := "isFixed", desc := "(D)Z" } : Jvm.MethodName) ({ cls := "ConstraintHouse$Letter", name := "isFixed", desc := "(D)Z" } : Jvm.MethodName)) ∈ lw_all := lw_g (lw_at lw_m14 21 rfl) rfl
theorem q3402 : (Jvm.Cond.instanceMethod ({ cls := "ConstraintHouse$Letter", name := "isFixed", desc := "(D)Z" } : Jvm.MethodName)) ∈ lw_all := lw_g (lw_at lw_m14 22 rfl) rfl
theorem q3403 : (Jvm.Cond.code ({ cls := "ConstraintHouse$Letter", name := "isFixed", desc := "(D)Z" } : Jvm.MethodName) prog_15_method_10_code (3 : Nat) (Option.some Jvm.ClassFile.FieldType.boolean)) ∈ lw_all := lw_g (lw_at lw_m14 23 rfl) rfl
theorem q3460 : (Jvm.Cond.instanceMethod ({ cls := "ConstraintHouse$Letter", name := "only", desc := "(C)V" } : Jvm.MethodName)) ∈ lw_all := lw_g (lw_at lw_m14 80 rfl) rfl
theorem q3461 : (Jvm.Cond.selects "ConstraintHouse$Letter" ({ cls := "ConstraintHouse$Letter", name := "only", desc := "(C)V" } : Jvm.MethodName) ({ cls := "ConstraintHouse$Letter", name := "only", desc := "(C)V" } : Jvm.MethodName)) ∈ lw_all := lw_g (lw_at lw_m14 81 rfl) rfl
theorem q3462 : (Jvm.Cond.code ({ cls := "ConstraintHouse$Letter", name := "only", desc := "(C)V" } : Jvm.MethodName) prog_15_method_6_code (2 : Nat) (Option.none : Option Jvm.ClassFile.FieldType)) ∈ lw_all := lw_g (lw_at lw_m14 82 rfl) rfl
theorem q3525 : (Jvm.Cond.unhidden "ConstraintHouse$Letter" "told" "()I") ∈ lw_tbl := lw_at lw_m14 145 rfl
theorem q3534 : (Jvm.Cond.unhidden "ConstraintHouse$Letter" "things" "()I") ∈ lw_tbl := lw_at lw_m14 154 rfl
theorem q3535 : (Jvm.Cond.publicMethod ({ cls := "ConstraintHouse$Letter", name := "things", desc := "()I" } : Jvm.MethodName)) ∈ lw_tbl := lw_at lw_m14 155 rfl
theorem q4819 : (Jvm.Cond.castable "ConstraintHouse$Letter" "java/lang/Object") ∈ lw_tbl := lw_at lw_m19 239 rfl
theorem q4859 : (Jvm.Cond.castable "ConstraintHouse$Letter" "ConstraintHouse$Variable") ∈ lw_tbl := lw_at lw_m20 39 rfl
theorem in_X12 : ∀ w ∈ wsX120, w ∈ lw_all := lw_in wsX120 [773, 774, 769, 771] (by decide +kernel) (by decide +kernel)
/-! ConstraintHouse$Bounds -/
set_option maxRecDepth 100000
def RX14 : String := "ConstraintHouse$Bounds"
abbrev cX14_plain : ByteArray := prog_6_method_2_code
def yX14_plain : MethodName := ⟨RX14, "plain", "(D)D"⟩
def dkwX14_plain_0 : List UInt8 := [38, 14, 151, 154, 0, 7, 14, 167, 0, 4, 38, 175]
abbrev dktX14_plain_0 : List UInt8 := dkwX14_plain_0 ++ []
theorem dksX14_plain_0 : cX14_plain.data.toList.drop 0 = dktX14_plain_0 := by decide +kernel
theorem dX14_plain_0 : decode cX14_plain 0 = .ok (.dload_n 0, 1) := dk_38 (dk_at dksX14_plain_0 0 rfl rfl)
theorem dX14_plain_1 : decode cX14_plain 1 = .ok (.dconst 0, 1) := dk_14 (dk_at dksX14_plain_0 1 rfl rfl)
theorem dX14_plain_2 : decode cX14_plain 2 = .ok (.dcmp .l, 1) := dk_151 (dk_at dksX14_plain_0 2 rfl rfl)
theorem dX14_plain_3 : decode cX14_plain 3 = .ok (.ifCond .ne 7, 3) := dk_154 0 7 (dk_at dksX14_plain_0 3 rfl rfl)
theorem dX14_plain_6 : decode cX14_plain 6 = .ok (.dconst 0, 1) := dk_14 (dk_at dksX14_plain_0 6 rfl rfl)
theorem dX14_plain_7 : decode cX14_plain 7 = .ok (.goto 4, 3) := dk_167 0 4 (dk_at dksX14_plain_0 7 rfl rfl)
theorem dX14_plain_10 : decode cX14_plain 10 = .ok (.dload_n 0, 1) := dk_38 (dk_at dksX14_plain_0 10 rfl rfl)
theorem dX14_plain_11 : decode cX14_plain 11 = .ok (.dreturn, 1) := dk_175 (dk_at dksX14_plain_0 11 rfl rfl)
abbrev cX14_low : ByteArray := prog_6_method_3_code
def yX14_low : MethodName := ⟨RX14, "low", "(D)D"⟩
def dkwX14_low_0 : List UInt8 := [38, 184, 0, 9, 184, 0, 15, 175]
abbrev dktX14_low_0 : List UInt8 := dkwX14_low_0 ++ []
theorem dksX14_low_0 : cX14_low.data.toList.drop 0 = dktX14_low_0 := by decide +kernel
theorem dX14_low_0 : decode cX14_low 0 = .ok (.dload_n 0, 1) := dk_38 (dk_at dksX14_low_0 0 rfl rfl)
theorem dX14_low_1 : decode cX14_low 1 = .ok (.invokestatic 9, 3) := dk_184 0 9 (dk_at dksX14_low_0 1 rfl rfl)
theorem dX14_low_4 : decode cX14_low 4 = .ok (.invokestatic 15, 3) := dk_184 0 15 (dk_at dksX14_low_0 4 rfl rfl)
theorem dX14_low_7 : decode cX14_low 7 = .ok (.dreturn, 1) := dk_175 (dk_at dksX14_low_0 7 rfl rfl)
abbrev cX14_high : ByteArray := prog_6_method_4_code
def yX14_high : MethodName := ⟨RX14, "high", "(D)D"⟩
def dkwX14_high_0 : List UInt8 := [38, 184, 0, 20, 184, 0, 15, 175]
abbrev dktX14_high_0 : List UInt8 := dkwX14_high_0 ++ []
theorem dksX14_high_0 : cX14_high.data.toList.drop 0 = dktX14_high_0 := by decide +kernel
theorem dX14_high_0 : decode cX14_high 0 = .ok (.dload_n 0, 1) := dk_38 (dk_at dksX14_high_0 0 rfl rfl)
theorem dX14_high_1 : decode cX14_high 1 = .ok (.invokestatic 20, 3) := dk_184 0 20 (dk_at dksX14_high_0 1 rfl rfl)
theorem dX14_high_4 : decode cX14_high 4 = .ok (.invokestatic 15, 3) := dk_184 0 15 (dk_at dksX14_high_0 4 rfl rfl)
theorem dX14_high_7 : decode cX14_high 7 = .ok (.dreturn, 1) := dk_175 (dk_at dksX14_high_0 7 rfl rfl)
abbrev cX14_product : ByteArray := prog_6_method_5_code
def yX14_product : MethodName := ⟨RX14, "product", "(DD)D"⟩
def dkwX14_product_0 : List UInt8 := [38, 14, 151, 153, 0, 9, 40, 14, 151, 154, 0, 7, 14, 167, 0, 6, 38, 40, 107, 175]
abbrev dktX14_product_0 : List UInt8 := dkwX14_product_0 ++ []
theorem dksX14_product_0 : cX14_product.data.toList.drop 0 = dktX14_product_0 := by decide +kernel
theorem dX14_product_0 : decode cX14_product 0 = .ok (.dload_n 0, 1) := dk_38 (dk_at dksX14_product_0 0 rfl rfl)
theorem dX14_product_1 : decode cX14_product 1 = .ok (.dconst 0, 1) := dk_14 (dk_at dksX14_product_0 1 rfl rfl)
theorem dX14_product_2 : decode cX14_product 2 = .ok (.dcmp .l, 1) := dk_151 (dk_at dksX14_product_0 2 rfl rfl)
theorem dX14_product_3 : decode cX14_product 3 = .ok (.ifCond .eq 9, 3) := dk_153 0 9 (dk_at dksX14_product_0 3 rfl rfl)
theorem dX14_product_6 : decode cX14_product 6 = .ok (.dload_n 2, 1) := dk_40 (dk_at dksX14_product_0 6 rfl rfl)
theorem dX14_product_7 : decode cX14_product 7 = .ok (.dconst 0, 1) := dk_14 (dk_at dksX14_product_0 7 rfl rfl)
theorem dX14_product_8 : decode cX14_product 8 = .ok (.dcmp .l, 1) := dk_151 (dk_at dksX14_product_0 8 rfl rfl)
theorem dX14_product_9 : decode cX14_product 9 = .ok (.ifCond .ne 7, 3) := dk_154 0 7 (dk_at dksX14_product_0 9 rfl rfl)
theorem dX14_product_12 : decode cX14_product 12 = .ok (.dconst 0, 1) := dk_14 (dk_at dksX14_product_0 12 rfl rfl)
theorem dX14_product_13 : decode cX14_product 13 = .ok (.goto 6, 3) := dk_167 0 6 (dk_at dksX14_product_0 13 rfl rfl)
theorem dX14_product_16 : decode cX14_product 16 = .ok (.dload_n 0, 1) := dk_38 (dk_at dksX14_product_0 16 rfl rfl)
theorem dX14_product_17 : decode cX14_product 17 = .ok (.dload_n 2, 1) := dk_40 (dk_at dksX14_product_0 17 rfl rfl)
theorem dX14_product_18 : decode cX14_product 18 = .ok (.dmul, 1) := dk_107 (dk_at dksX14_product_0 18 rfl rfl)
theorem dX14_product_19 : decode cX14_product 19 = .ok (.dreturn, 1) := dk_175 (dk_at dksX14_product_0 19 rfl rfl)
abbrev cX14_quotient : ByteArray := prog_6_method_6_code
def yX14_quotient : MethodName := ⟨RX14, "quotient", "(DD)D"⟩
def dkwX14_quotient_1 : List UInt8 := [167, 0, 6, 38, 40, 111, 175]
abbrev dktX14_quotient_1 : List UInt8 := dkwX14_quotient_1 ++ []
def dkwX14_quotient_0 : List UInt8 := [38, 184, 0, 23, 20, 0, 26, 151, 154, 0, 18, 40, 184, 0, 23, 20, 0, 26, 151, 154, 0, 7, 14]
abbrev dktX14_quotient_0 : List UInt8 := dkwX14_quotient_0 ++ dktX14_quotient_1
theorem dksX14_quotient_0 : cX14_quotient.data.toList.drop 0 = dktX14_quotient_0 := by decide +kernel
theorem dksX14_quotient_1 : cX14_quotient.data.toList.drop 23 = dktX14_quotient_1 := dk_seg dksX14_quotient_0 23 rfl rfl
theorem dX14_quotient_0 : decode cX14_quotient 0 = .ok (.dload_n 0, 1) := dk_38 (dk_at dksX14_quotient_0 0 rfl rfl)
theorem dX14_quotient_1 : decode cX14_quotient 1 = .ok (.invokestatic 23, 3) := dk_184 0 23 (dk_at dksX14_quotient_0 1 rfl rfl)
theorem dX14_quotient_4 : decode cX14_quotient 4 = .ok (.ldc2_w 26, 3) := dk_20 0 26 (dk_at dksX14_quotient_0 4 rfl rfl)
theorem dX14_quotient_7 : decode cX14_quotient 7 = .ok (.dcmp .l, 1) := dk_151 (dk_at dksX14_quotient_0 7 rfl rfl)
theorem dX14_quotient_8 : decode cX14_quotient 8 = .ok (.ifCond .ne 18, 3) := dk_154 0 18 (dk_at dksX14_quotient_0 8 rfl rfl)
theorem dX14_quotient_11 : decode cX14_quotient 11 = .ok (.dload_n 2, 1) := dk_40 (dk_at dksX14_quotient_0 11 rfl rfl)
theorem dX14_quotient_12 : decode cX14_quotient 12 = .ok (.invokestatic 23, 3) := dk_184 0 23 (dk_at dksX14_quotient_0 12 rfl rfl)
theorem dX14_quotient_15 : decode cX14_quotient 15 = .ok (.ldc2_w 26, 3) := dk_20 0 26 (dk_at dksX14_quotient_0 15 rfl rfl)
theorem dX14_quotient_18 : decode cX14_quotient 18 = .ok (.dcmp .l, 1) := dk_151 (dk_at dksX14_quotient_0 18 rfl rfl)
theorem dX14_quotient_19 : decode cX14_quotient 19 = .ok (.ifCond .ne 7, 3) := dk_154 0 7 (dk_at dksX14_quotient_0 19 rfl rfl)
theorem dX14_quotient_22 : decode cX14_quotient 22 = .ok (.dconst 0, 1) := dk_14 (dk_at dksX14_quotient_0 22 rfl rfl)
theorem dX14_quotient_23 : decode cX14_quotient 23 = .ok (.goto 6, 3) := dk_167 0 6 (dk_at dksX14_quotient_1 0 rfl rfl)
theorem dX14_quotient_26 : decode cX14_quotient 26 = .ok (.dload_n 0, 1) := dk_38 (dk_at dksX14_quotient_1 3 rfl rfl)
theorem dX14_quotient_27 : decode cX14_quotient 27 = .ok (.dload_n 2, 1) := dk_40 (dk_at dksX14_quotient_1 4 rfl rfl)
theorem dX14_quotient_28 : decode cX14_quotient 28 = .ok (.ddiv, 1) := dk_111 (dk_at dksX14_quotient_1 5 rfl rfl)
theorem dX14_quotient_29 : decode cX14_quotient 29 = .ok (.dreturn, 1) := dk_175 (dk_at dksX14_quotient_1 6 rfl rfl)
theorem q281 : (Jvm.Cond.initialized "ConstraintHouse$Bounds") ∈ lw_all := lw_g (lw_at lw_m1 21 rfl) rfl
theorem q1085 : (Jvm.Cond.static ({ cls := "ConstraintHouse$Bounds", name := "plain", desc := "(D)D" } : Jvm.MethodName)) ∈ lw_all := lw_g (lw_at lw_m4 105 rfl) rfl
theorem q1086 : (Jvm.Cond.code ({ cls := "ConstraintHouse$Bounds", name := "plain", desc := "(D)D" } : Jvm.MethodName) prog_6_method_2_code (2 : Nat) (Option.some Jvm.ClassFile.FieldType.double)) ∈ lw_all := lw_g (lw_at lw_m4 106 rfl) rfl
theorem q2617 : (Jvm.Cond.static ({ cls := "ConstraintHouse$Bounds", name := "low", desc := "(D)D" } : Jvm.MethodName)) ∈ lw_all := lw_g (lw_at lw_m10 197 rfl) rfl
theorem q2618 : (Jvm.Cond.code ({ cls := "ConstraintHouse$Bounds", name := "low", desc := "(D)D" } : Jvm.MethodName) prog_6_method_3_code (2 : Nat) (Option.some Jvm.ClassFile.FieldType.double)) ∈ lw_all := lw_g (lw_at lw_m10 198 rfl) rfl
theorem q2619 : (Jvm.Cond.methodLink "ConstraintHouse$Bounds" (9 : Nat) ({ cls := "java/lang/Math", name := "nextDown", desc := "(D)D" } : Jvm.MethodName)) ∈ lw_all := lw_g (lw_at lw_m10 199 rfl) rfl
theorem q2628 : (Jvm.Cond.methodLink "ConstraintHouse$Bounds" (15 : Nat) ({ cls := "ConstraintHouse$Bounds", name := "plain", desc := "(D)D" } : Jvm.MethodName)) ∈ lw_all := lw_g (lw_at lw_m10 208 rfl) rfl
theorem q2631 : (Jvm.Cond.static ({ cls := "ConstraintHouse$Bounds", name := "high", desc := "(D)D" } : Jvm.MethodName)) ∈ lw_all := lw_g (lw_at lw_m10 211 rfl) rfl
theorem q2632 : (Jvm.Cond.code ({ cls := "ConstraintHouse$Bounds", name := "high", desc := "(D)D" } : Jvm.MethodName) prog_6_method_4_code (2 : Nat) (Option.some Jvm.ClassFile.FieldType.double)) ∈ lw_all := lw_g (lw_at lw_m10 212 rfl) rfl
theorem q2633 : (Jvm.Cond.methodLink "ConstraintHouse$Bounds" (20 : Nat) ({ cls := "java/lang/Math", name := "nextUp", desc := "(D)D" } : Jvm.MethodName)) ∈ lw_all := lw_g (lw_at lw_m10 213 rfl) rfl
theorem q2709 : (Jvm.Cond.static ({ cls := "ConstraintHouse$Bounds", name := "product", desc := "(DD)D" } : Jvm.MethodName)) ∈ lw_all := lw_g (lw_at lw_m11 49 rfl) rfl
theorem q2710 : (Jvm.Cond.code ({ cls := "ConstraintHouse$Bounds", name := "product", desc := "(DD)D" } : Jvm.MethodName) prog_6_method_5_code (4 : Nat) (Option.some Jvm.ClassFile.FieldType.double)) ∈ lw_all := lw_g (lw_at lw_m11 50 rfl) rfl
theorem q2755 : (Jvm.Cond.static ({ cls := "ConstraintHouse$Bounds", name := "quotient", desc := "(DD)D" } : Jvm.MethodName)) ∈ lw_all := lw_g (lw_at lw_m11 95 rfl) rfl
theorem q2756 : (Jvm.Cond.code ({ cls := "ConstraintHouse$Bounds", name := "quotient", desc := "(DD)D" } : Jvm.MethodName) prog_6_method_6_code (4 : Nat) (Option.some Jvm.ClassFile.FieldType.double)) ∈ lw_all := lw_g (lw_at lw_m11 96 rfl) rfl
theorem q2757 : (Jvm.Cond.methodLink "ConstraintHouse$Bounds" (23 : Nat) ({ cls := "java/lang/Math", name := "abs", desc := "(D)D" } : Jvm.MethodName)) ∈ lw_all := lw_g (lw_at lw_m11 97 rfl) rfl
theorem q2758 : (Jvm.Cond.constantDouble "ConstraintHouse$Bounds" (26 : Nat) (9218868437227405312 : UInt64)) ∈ lw_all := lw_g (lw_at lw_m11 98 rfl) rfl
/-! ConstraintHouse$Part -/
set_option maxRecDepth 100000
def RX15 : String := "ConstraintHouse$Part"
abbrev cX15_init : ByteArray := prog_25_method_1_code
def yX15_init : MethodName := ⟨RX15, "<init>", "()V"⟩
theorem dX15_init_0 : decode cX15_init 0 = .ok (.aload_n 0, 1) := by decide +kernel
theorem dX15_init_1 : decode cX15_init 1 = .ok (.invokespecial 5, 3) := by decide +kernel
theorem dX15_init_4 : decode cX15_init 4 = .ok (.return_, 1) := by decide +kernel
abbrev cX15_be : ByteArray := prog_25_method_3_code
def yX15_be : MethodName := ⟨RX15, "be", "(DD)V"⟩
def dkwX15_be_0 : List UInt8 := [42, 39, 181, 0, 11, 42, 41, 181, 0, 17, 177]
abbrev dktX15_be_0 : List UInt8 := dkwX15_be_0 ++ []
theorem dksX15_be_0 : cX15_be.data.toList.drop 0 = dktX15_be_0 := by decide +kernel
theorem dX15_be_0 : decode cX15_be 0 = .ok (.aload_n 0, 1) := dk_42 (dk_at dksX15_be_0 0 rfl rfl)
theorem dX15_be_1 : decode cX15_be 1 = .ok (.dload_n 1, 1) := dk_39 (dk_at dksX15_be_0 1 rfl rfl)
theorem dX15_be_2 : decode cX15_be 2 = .ok (.putfield 11, 3) := dk_181 0 11 (dk_at dksX15_be_0 2 rfl rfl)
theorem dX15_be_5 : decode cX15_be 5 = .ok (.aload_n 0, 1) := dk_42 (dk_at dksX15_be_0 5 rfl rfl)
theorem dX15_be_6 : decode cX15_be 6 = .ok (.dload_n 3, 1) := dk_41 (dk_at dksX15_be_0 6 rfl rfl)
theorem dX15_be_7 : decode cX15_be 7 = .ok (.putfield 17, 3) := dk_181 0 17 (dk_at dksX15_be_0 7 rfl rfl)
theorem dX15_be_10 : decode cX15_be 10 = .ok (.return_, 1) := dk_177 (dk_at dksX15_be_0 10 rfl rfl)
abbrev cX15_truth : ByteArray := prog_25_method_4_code
def yX15_truth : MethodName := ⟨RX15, "truth", "(ZZ)V"⟩
def dkwX15_truth_0 : List UInt8 := [42, 27, 181, 0, 20, 42, 28, 181, 0, 24, 177]
abbrev dktX15_truth_0 : List UInt8 := dkwX15_truth_0 ++ []
theorem dksX15_truth_0 : cX15_truth.data.toList.drop 0 = dktX15_truth_0 := by decide +kernel
theorem dX15_truth_0 : decode cX15_truth 0 = .ok (.aload_n 0, 1) := dk_42 (dk_at dksX15_truth_0 0 rfl rfl)
theorem dX15_truth_1 : decode cX15_truth 1 = .ok (.iload_n 1, 1) := dk_27 (dk_at dksX15_truth_0 1 rfl rfl)
theorem dX15_truth_2 : decode cX15_truth 2 = .ok (.putfield 20, 3) := dk_181 0 20 (dk_at dksX15_truth_0 2 rfl rfl)
theorem dX15_truth_5 : decode cX15_truth 5 = .ok (.aload_n 0, 1) := dk_42 (dk_at dksX15_truth_0 5 rfl rfl)
theorem dX15_truth_6 : decode cX15_truth 6 = .ok (.iload_n 2, 1) := dk_28 (dk_at dksX15_truth_0 6 rfl rfl)
theorem dX15_truth_7 : decode cX15_truth 7 = .ok (.putfield 24, 3) := dk_181 0 24 (dk_at dksX15_truth_0 7 rfl rfl)
theorem dX15_truth_10 : decode cX15_truth 10 = .ok (.return_, 1) := dk_177 (dk_at dksX15_truth_0 10 rfl rfl)
abbrev cX15_as : ByteArray := prog_25_method_10_code
def yX15_as : MethodName := ⟨RX15, "as", "(LConstraintHouse$Part;)V"⟩
def dkwX15_as_1 : List UInt8 := [42, 43, 180, 0, 24, 181, 0, 24, 42, 43, 180, 0, 51, 181, 0, 51, 177]
abbrev dktX15_as_1 : List UInt8 := dkwX15_as_1 ++ []
def dkwX15_as_0 : List UInt8 := [42, 43, 180, 0, 11, 181, 0, 11, 42, 43, 180, 0, 17, 181, 0, 17, 42, 43, 180, 0, 20, 181, 0, 20]
abbrev dktX15_as_0 : List UInt8 := dkwX15_as_0 ++ dktX15_as_1
theorem dksX15_as_0 : cX15_as.data.toList.drop 0 = dktX15_as_0 := by decide +kernel
theorem dksX15_as_1 : cX15_as.data.toList.drop 24 = dktX15_as_1 := dk_seg dksX15_as_0 24 rfl rfl
theorem dX15_as_0 : decode cX15_as 0 = .ok (.aload_n 0, 1) := dk_42 (dk_at dksX15_as_0 0 rfl rfl)
theorem dX15_as_1 : decode cX15_as 1 = .ok (.aload_n 1, 1) := dk_43 (dk_at dksX15_as_0 1 rfl rfl)
theorem dX15_as_2 : decode cX15_as 2 = .ok (.getfield 11, 3) := dk_180 0 11 (dk_at dksX15_as_0 2 rfl rfl)
theorem dX15_as_5 : decode cX15_as 5 = .ok (.putfield 11, 3) := dk_181 0 11 (dk_at dksX15_as_0 5 rfl rfl)
theorem dX15_as_8 : decode cX15_as 8 = .ok (.aload_n 0, 1) := dk_42 (dk_at dksX15_as_0 8 rfl rfl)
theorem dX15_as_9 : decode cX15_as 9 = .ok (.aload_n 1, 1) := dk_43 (dk_at dksX15_as_0 9 rfl rfl)
theorem dX15_as_10 : decode cX15_as 10 = .ok (.getfield 17, 3) := dk_180 0 17 (dk_at dksX15_as_0 10 rfl rfl)
theorem dX15_as_13 : decode cX15_as 13 = .ok (.putfield 17, 3) := dk_181 0 17 (dk_at dksX15_as_0 13 rfl rfl)
theorem dX15_as_16 : decode cX15_as 16 = .ok (.aload_n 0, 1) := dk_42 (dk_at dksX15_as_0 16 rfl rfl)
theorem dX15_as_17 : decode cX15_as 17 = .ok (.aload_n 1, 1) := dk_43 (dk_at dksX15_as_0 17 rfl rfl)
theorem dX15_as_18 : decode cX15_as 18 = .ok (.getfield 20, 3) := dk_180 0 20 (dk_at dksX15_as_0 18 rfl rfl)
theorem dX15_as_21 : decode cX15_as 21 = .ok (.putfield 20, 3) := dk_181 0 20 (dk_at dksX15_as_0 21 rfl rfl)
theorem dX15_as_24 : decode cX15_as 24 = .ok (.aload_n 0, 1) := dk_42 (dk_at dksX15_as_1 0 rfl rfl)
theorem dX15_as_25 : decode cX15_as 25 = .ok (.aload_n 1, 1) := dk_43 (dk_at dksX15_as_1 1 rfl rfl)
theorem dX15_as_26 : decode cX15_as 26 = .ok (.getfield 24, 3) := dk_180 0 24 (dk_at dksX15_as_1 2 rfl rfl)
theorem dX15_as_29 : decode cX15_as 29 = .ok (.putfield 24, 3) := dk_181 0 24 (dk_at dksX15_as_1 5 rfl rfl)
theorem dX15_as_32 : decode cX15_as 32 = .ok (.aload_n 0, 1) := dk_42 (dk_at dksX15_as_1 8 rfl rfl)
theorem dX15_as_33 : decode cX15_as 33 = .ok (.aload_n 1, 1) := dk_43 (dk_at dksX15_as_1 9 rfl rfl)
theorem dX15_as_34 : decode cX15_as 34 = .ok (.getfield 51, 3) := dk_180 0 51 (dk_at dksX15_as_1 10 rfl rfl)
theorem dX15_as_37 : decode cX15_as 37 = .ok (.putfield 51, 3) := dk_181 0 51 (dk_at dksX15_as_1 13 rfl rfl)
theorem dX15_as_40 : decode cX15_as 40 = .ok (.return_, 1) := dk_177 (dk_at dksX15_as_1 16 rfl rfl)
abbrev cX15_hasMeet : ByteArray := prog_25_method_12_code
def yX15_hasMeet : MethodName := ⟨RX15, "hasMeet", "(LConstraintHouse$Part;)Z"⟩
def dkwX15_hasMeet_4 : List UInt8 := [153, 0, 7, 4, 167, 0, 4, 3, 172]
abbrev dktX15_hasMeet_4 : List UInt8 := dkwX15_hasMeet_4 ++ []
def dkwX15_hasMeet_3 : List UInt8 := [180, 0, 24, 153, 0, 7, 4, 167, 0, 24, 3, 167, 0, 20, 42, 180, 0, 51, 43, 180, 0, 51, 126]
abbrev dktX15_hasMeet_3 : List UInt8 := dkwX15_hasMeet_3 ++ dktX15_hasMeet_4
def dkwX15_hasMeet_2 : List UInt8 := [42, 180, 0, 20, 153, 0, 10, 43, 180, 0, 20, 154, 0, 17, 42, 180, 0, 24, 153, 0, 14, 43]
abbrev dktX15_hasMeet_2 : List UInt8 := dkwX15_hasMeet_2 ++ dktX15_hasMeet_3
def dkwX15_hasMeet_1 : List UInt8 := [180, 0, 17, 184, 0, 44, 152, 157, 0, 7, 4, 167, 0, 4, 3, 172, 42, 182, 0, 54, 4, 160, 0, 39]
abbrev dktX15_hasMeet_1 : List UInt8 := dkwX15_hasMeet_1 ++ dktX15_hasMeet_2
def dkwX15_hasMeet_0 : List UInt8 := [42, 182, 0, 54, 154, 0, 35, 42, 180, 0, 11, 43, 180, 0, 11, 184, 0, 38, 42, 180, 0, 17, 43]
abbrev dktX15_hasMeet_0 : List UInt8 := dkwX15_hasMeet_0 ++ dktX15_hasMeet_1
theorem dksX15_hasMeet_0 : cX15_hasMeet.data.toList.drop 0 = dktX15_hasMeet_0 := by decide +kernel
theorem dksX15_hasMeet_1 : cX15_hasMeet.data.toList.drop 23 = dktX15_hasMeet_1 := dk_seg dksX15_hasMeet_0 23 rfl rfl
theorem dksX15_hasMeet_2 : cX15_hasMeet.data.toList.drop 47 = dktX15_hasMeet_2 := dk_seg dksX15_hasMeet_1 24 rfl rfl
theorem dksX15_hasMeet_3 : cX15_hasMeet.data.toList.drop 69 = dktX15_hasMeet_3 := dk_seg dksX15_hasMeet_2 22 rfl rfl
theorem dksX15_hasMeet_4 : cX15_hasMeet.data.toList.drop 92 = dktX15_hasMeet_4 := dk_seg dksX15_hasMeet_3 23 rfl rfl
theorem dX15_hasMeet_0 : decode cX15_hasMeet 0 = .ok (.aload_n 0, 1) := dk_42 (dk_at dksX15_hasMeet_0 0 rfl rfl)
theorem dX15_hasMeet_1 : decode cX15_hasMeet 1 = .ok (.invokevirtual 54, 3) := dk_182 0 54 (dk_at dksX15_hasMeet_0 1 rfl rfl)
theorem dX15_hasMeet_4 : decode cX15_hasMeet 4 = .ok (.ifCond .ne 35, 3) := dk_154 0 35 (dk_at dksX15_hasMeet_0 4 rfl rfl)
theorem dX15_hasMeet_7 : decode cX15_hasMeet 7 = .ok (.aload_n 0, 1) := dk_42 (dk_at dksX15_hasMeet_0 7 rfl rfl)
theorem dX15_hasMeet_8 : decode cX15_hasMeet 8 = .ok (.getfield 11, 3) := dk_180 0 11 (dk_at dksX15_hasMeet_0 8 rfl rfl)
theorem dX15_hasMeet_11 : decode cX15_hasMeet 11 = .ok (.aload_n 1, 1) := dk_43 (dk_at dksX15_hasMeet_0 11 rfl rfl)
theorem dX15_hasMeet_12 : decode cX15_hasMeet 12 = .ok (.getfield 11, 3) := dk_180 0 11 (dk_at dksX15_hasMeet_0 12 rfl rfl)
theorem dX15_hasMeet_15 : decode cX15_hasMeet 15 = .ok (.invokestatic 38, 3) := dk_184 0 38 (dk_at dksX15_hasMeet_0 15 rfl rfl)
theorem dX15_hasMeet_18 : decode cX15_hasMeet 18 = .ok (.aload_n 0, 1) := dk_42 (dk_at dksX15_hasMeet_0 18 rfl rfl)
theorem dX15_hasMeet_19 : decode cX15_hasMeet 19 = .ok (.getfield 17, 3) := dk_180 0 17 (dk_at dksX15_hasMeet_0 19 rfl rfl)
theorem dX15_hasMeet_22 : decode cX15_hasMeet 22 = .ok (.aload_n 1, 1) := dk_43 (dk_at dksX15_hasMeet_0 22 rfl rfl)
theorem dX15_hasMeet_23 : decode cX15_hasMeet 23 = .ok (.getfield 17, 3) := dk_180 0 17 (dk_at dksX15_hasMeet_1 0 rfl rfl)
theorem dX15_hasMeet_26 : decode cX15_hasMeet 26 = .ok (.invokestatic 44, 3) := dk_184 0 44 (dk_at dksX15_hasMeet_1 3 rfl rfl)
theorem dX15_hasMeet_29 : decode cX15_hasMeet 29 = .ok (.dcmp .g, 1) := dk_152 (dk_at dksX15_hasMeet_1 6 rfl rfl)
theorem dX15_hasMeet_30 : decode cX15_hasMeet 30 = .ok (.ifCond .gt 7, 3) := dk_157 0 7 (dk_at dksX15_hasMeet_1 7 rfl rfl)
theorem dX15_hasMeet_33 : decode cX15_hasMeet 33 = .ok (.iconst 1, 1) := dk_4 (dk_at dksX15_hasMeet_1 10 rfl rfl)
theorem dX15_hasMeet_34 : decode cX15_hasMeet 34 = .ok (.goto 4, 3) := dk_167 0 4 (dk_at dksX15_hasMeet_1 11 rfl rfl)
theorem dX15_hasMeet_37 : decode cX15_hasMeet 37 = .ok (.iconst 0, 1) := dk_3 (dk_at dksX15_hasMeet_1 14 rfl rfl)
theorem dX15_hasMeet_38 : decode cX15_hasMeet 38 = .ok (.ireturn, 1) := dk_172 (dk_at dksX15_hasMeet_1 15 rfl rfl)
theorem dX15_hasMeet_39 : decode cX15_hasMeet 39 = .ok (.aload_n 0, 1) := dk_42 (dk_at dksX15_hasMeet_1 16 rfl rfl)
theorem dX15_hasMeet_40 : decode cX15_hasMeet 40 = .ok (.invokevirtual 54, 3) := dk_182 0 54 (dk_at dksX15_hasMeet_1 17 rfl rfl)
theorem dX15_hasMeet_43 : decode cX15_hasMeet 43 = .ok (.iconst 1, 1) := dk_4 (dk_at dksX15_hasMeet_1 20 rfl rfl)
theorem dX15_hasMeet_44 : decode cX15_hasMeet 44 = .ok (.if_icmp .ne 39, 3) := dk_160 0 39 (dk_at dksX15_hasMeet_1 21 rfl rfl)
theorem dX15_hasMeet_47 : decode cX15_hasMeet 47 = .ok (.aload_n 0, 1) := dk_42 (dk_at dksX15_hasMeet_2 0 rfl rfl)
theorem dX15_hasMeet_48 : decode cX15_hasMeet 48 = .ok (.getfield 20, 3) := dk_180 0 20 (dk_at dksX15_hasMeet_2 1 rfl rfl)
theorem dX15_hasMeet_51 : decode cX15_hasMeet 51 = .ok (.ifCond .eq 10, 3) := dk_153 0 10 (dk_at dksX15_hasMeet_2 4 rfl rfl)
theorem dX15_hasMeet_54 : decode cX15_hasMeet 54 = .ok (.aload_n 1, 1) := dk_43 (dk_at dksX15_hasMeet_2 7 rfl rfl)
theorem dX15_hasMeet_55 : decode cX15_hasMeet 55 = .ok (.getfield 20, 3) := dk_180 0 20 (dk_at dksX15_hasMeet_2 8 rfl rfl)
theorem dX15_hasMeet_58 : decode cX15_hasMeet 58 = .ok (.ifCond .ne 17, 3) := dk_154 0 17 (dk_at dksX15_hasMeet_2 11 rfl rfl)
theorem dX15_hasMeet_61 : decode cX15_hasMeet 61 = .ok (.aload_n 0, 1) := dk_42 (dk_at dksX15_hasMeet_2 14 rfl rfl)
theorem dX15_hasMeet_62 : decode cX15_hasMeet 62 = .ok (.getfield 24, 3) := dk_180 0 24 (dk_at dksX15_hasMeet_2 15 rfl rfl)
theorem dX15_hasMeet_65 : decode cX15_hasMeet 65 = .ok (.ifCond .eq 14, 3) := dk_153 0 14 (dk_at dksX15_hasMeet_2 18 rfl rfl)
theorem dX15_hasMeet_68 : decode cX15_hasMeet 68 = .ok (.aload_n 1, 1) := dk_43 (dk_at dksX15_hasMeet_2 21 rfl rfl)
theorem dX15_hasMeet_69 : decode cX15_hasMeet 69 = .ok (.getfield 24, 3) := dk_180 0 24 (dk_at dksX15_hasMeet_3 0 rfl rfl)
theorem dX15_hasMeet_72 : decode cX15_hasMeet 72 = .ok (.ifCond .eq 7, 3) := dk_153 0 7 (dk_at dksX15_hasMeet_3 3 rfl rfl)
theorem dX15_hasMeet_75 : decode cX15_hasMeet 75 = .ok (.iconst 1, 1) := dk_4 (dk_at dksX15_hasMeet_3 6 rfl rfl)
theorem dX15_hasMeet_76 : decode cX15_hasMeet 76 = .ok (.goto 24, 3) := dk_167 0 24 (dk_at dksX15_hasMeet_3 7 rfl rfl)
theorem dX15_hasMeet_79 : decode cX15_hasMeet 79 = .ok (.iconst 0, 1) := dk_3 (dk_at dksX15_hasMeet_3 10 rfl rfl)
theorem dX15_hasMeet_80 : decode cX15_hasMeet 80 = .ok (.goto 20, 3) := dk_167 0 20 (dk_at dksX15_hasMeet_3 11 rfl rfl)
theorem dX15_hasMeet_83 : decode cX15_hasMeet 83 = .ok (.aload_n 0, 1) := dk_42 (dk_at dksX15_hasMeet_3 14 rfl rfl)
theorem dX15_hasMeet_84 : decode cX15_hasMeet 84 = .ok (.getfield 51, 3) := dk_180 0 51 (dk_at dksX15_hasMeet_3 15 rfl rfl)
theorem dX15_hasMeet_87 : decode cX15_hasMeet 87 = .ok (.aload_n 1, 1) := dk_43 (dk_at dksX15_hasMeet_3 18 rfl rfl)
theorem dX15_hasMeet_88 : decode cX15_hasMeet 88 = .ok (.getfield 51, 3) := dk_180 0 51 (dk_at dksX15_hasMeet_3 19 rfl rfl)
theorem dX15_hasMeet_91 : decode cX15_hasMeet 91 = .ok (.iand, 1) := dk_126 (dk_at dksX15_hasMeet_3 22 rfl rfl)
theorem dX15_hasMeet_92 : decode cX15_hasMeet 92 = .ok (.ifCond .eq 7, 3) := dk_153 0 7 (dk_at dksX15_hasMeet_4 0 rfl rfl)
theorem dX15_hasMeet_95 : decode cX15_hasMeet 95 = .ok (.iconst 1, 1) := dk_4 (dk_at dksX15_hasMeet_4 3 rfl rfl)
theorem dX15_hasMeet_96 : decode cX15_hasMeet 96 = .ok (.goto 4, 3) := dk_167 0 4 (dk_at dksX15_hasMeet_4 4 rfl rfl)
theorem dX15_hasMeet_99 : decode cX15_hasMeet 99 = .ok (.iconst 0, 1) := dk_3 (dk_at dksX15_hasMeet_4 7 rfl rfl)
theorem dX15_hasMeet_100 : decode cX15_hasMeet 100 = .ok (.ireturn, 1) := dk_172 (dk_at dksX15_hasMeet_4 8 rfl rfl)
abbrev cX15_meets : ByteArray := prog_25_method_8_code
def yX15_meets : MethodName := ⟨RX15, "meets", "(ZZ)V"⟩
def dkwX15_meets_2 : List UInt8 := [154, 0, 14, 42, 180, 0, 24, 154, 0, 7, 178, 0, 47, 191, 177]
abbrev dktX15_meets_2 : List UInt8 := dkwX15_meets_2 ++ []
def dkwX15_meets_1 : List UInt8 := [180, 0, 24, 153, 0, 11, 28, 153, 0, 7, 4, 167, 0, 4, 3, 181, 0, 24, 42, 180, 0, 20]
abbrev dktX15_meets_1 : List UInt8 := dkwX15_meets_1 ++ dktX15_meets_2
def dkwX15_meets_0 : List UInt8 := [42, 42, 180, 0, 20, 153, 0, 11, 27, 153, 0, 7, 4, 167, 0, 4, 3, 181, 0, 20, 42, 42]
abbrev dktX15_meets_0 : List UInt8 := dkwX15_meets_0 ++ dktX15_meets_1
theorem dksX15_meets_0 : cX15_meets.data.toList.drop 0 = dktX15_meets_0 := by decide +kernel
theorem dksX15_meets_1 : cX15_meets.data.toList.drop 22 = dktX15_meets_1 := dk_seg dksX15_meets_0 22 rfl rfl
theorem dksX15_meets_2 : cX15_meets.data.toList.drop 44 = dktX15_meets_2 := dk_seg dksX15_meets_1 22 rfl rfl
theorem dX15_meets_0 : decode cX15_meets 0 = .ok (.aload_n 0, 1) := dk_42 (dk_at dksX15_meets_0 0 rfl rfl)
theorem dX15_meets_1 : decode cX15_meets 1 = .ok (.aload_n 0, 1) := dk_42 (dk_at dksX15_meets_0 1 rfl rfl)
theorem dX15_meets_2 : decode cX15_meets 2 = .ok (.getfield 20, 3) := dk_180 0 20 (dk_at dksX15_meets_0 2 rfl rfl)
theorem dX15_meets_5 : decode cX15_meets 5 = .ok (.ifCond .eq 11, 3) := dk_153 0 11 (dk_at dksX15_meets_0 5 rfl rfl)
theorem dX15_meets_8 : decode cX15_meets 8 = .ok (.iload_n 1, 1) := dk_27 (dk_at dksX15_meets_0 8 rfl rfl)
theorem dX15_meets_9 : decode cX15_meets 9 = .ok (.ifCond .eq 7, 3) := dk_153 0 7 (dk_at dksX15_meets_0 9 rfl rfl)
theorem dX15_meets_12 : decode cX15_meets 12 = .ok (.iconst 1, 1) := dk_4 (dk_at dksX15_meets_0 12 rfl rfl)
theorem dX15_meets_13 : decode cX15_meets 13 = .ok (.goto 4, 3) := dk_167 0 4 (dk_at dksX15_meets_0 13 rfl rfl)
theorem dX15_meets_16 : decode cX15_meets 16 = .ok (.iconst 0, 1) := dk_3 (dk_at dksX15_meets_0 16 rfl rfl)
theorem dX15_meets_17 : decode cX15_meets 17 = .ok (.putfield 20, 3) := dk_181 0 20 (dk_at dksX15_meets_0 17 rfl rfl)
theorem dX15_meets_20 : decode cX15_meets 20 = .ok (.aload_n 0, 1) := dk_42 (dk_at dksX15_meets_0 20 rfl rfl)
theorem dX15_meets_21 : decode cX15_meets 21 = .ok (.aload_n 0, 1) := dk_42 (dk_at dksX15_meets_0 21 rfl rfl)
theorem dX15_meets_22 : decode cX15_meets 22 = .ok (.getfield 24, 3) := dk_180 0 24 (dk_at dksX15_meets_1 0 rfl rfl)
theorem dX15_meets_25 : decode cX15_meets 25 = .ok (.ifCond .eq 11, 3) := dk_153 0 11 (dk_at dksX15_meets_1 3 rfl rfl)
theorem dX15_meets_28 : decode cX15_meets 28 = .ok (.iload_n 2, 1) := dk_28 (dk_at dksX15_meets_1 6 rfl rfl)
theorem dX15_meets_29 : decode cX15_meets 29 = .ok (.ifCond .eq 7, 3) := dk_153 0 7 (dk_at dksX15_meets_1 7 rfl rfl)
theorem dX15_meets_32 : decode cX15_meets 32 = .ok (.iconst 1, 1) := dk_4 (dk_at dksX15_meets_1 10 rfl rfl)
theorem dX15_meets_33 : decode cX15_meets 33 = .ok (.goto 4, 3) := dk_167 0 4 (dk_at dksX15_meets_1 11 rfl rfl)
theorem dX15_meets_36 : decode cX15_meets 36 = .ok (.iconst 0, 1) := dk_3 (dk_at dksX15_meets_1 14 rfl rfl)
theorem dX15_meets_37 : decode cX15_meets 37 = .ok (.putfield 24, 3) := dk_181 0 24 (dk_at dksX15_meets_1 15 rfl rfl)
theorem dX15_meets_40 : decode cX15_meets 40 = .ok (.aload_n 0, 1) := dk_42 (dk_at dksX15_meets_1 18 rfl rfl)
theorem dX15_meets_41 : decode cX15_meets 41 = .ok (.getfield 20, 3) := dk_180 0 20 (dk_at dksX15_meets_1 19 rfl rfl)
theorem dX15_meets_44 : decode cX15_meets 44 = .ok (.ifCond .ne 14, 3) := dk_154 0 14 (dk_at dksX15_meets_2 0 rfl rfl)
theorem dX15_meets_47 : decode cX15_meets 47 = .ok (.aload_n 0, 1) := dk_42 (dk_at dksX15_meets_2 3 rfl rfl)
theorem dX15_meets_48 : decode cX15_meets 48 = .ok (.getfield 24, 3) := dk_180 0 24 (dk_at dksX15_meets_2 4 rfl rfl)
theorem dX15_meets_51 : decode cX15_meets 51 = .ok (.ifCond .ne 7, 3) := dk_154 0 7 (dk_at dksX15_meets_2 7 rfl rfl)
theorem dX15_meets_54 : decode cX15_meets 54 = .ok (.getstatic 47, 3) := dk_178 0 47 (dk_at dksX15_meets_2 10 rfl rfl)
theorem dX15_meets_57 : decode cX15_meets 57 = .ok (.athrow, 1) := dk_191 (dk_at dksX15_meets_2 13 rfl rfl)
theorem dX15_meets_58 : decode cX15_meets 58 = .ok (.return_, 1) := dk_177 (dk_at dksX15_meets_2 14 rfl rfl)
abbrev cX15_meets_2 : ByteArray := prog_25_method_11_code
def yX15_meets_2 : MethodName := ⟨RX15, "meets", "(LConstraintHouse$Part;)V"⟩
def dkwX15_meets_2_2 : List UInt8 := [180, 0, 51, 182, 0, 66, 177]
abbrev dktX15_meets_2_2 : List UInt8 := dkwX15_meets_2_2 ++ []
def dkwX15_meets_2_1 : List UInt8 := [182, 0, 54, 4, 160, 0, 18, 42, 43, 180, 0, 20, 43, 180, 0, 24, 182, 0, 62, 167, 0, 11, 42, 43]
abbrev dktX15_meets_2_1 : List UInt8 := dkwX15_meets_2_1 ++ dktX15_meets_2_2
def dkwX15_meets_2_0 : List UInt8 := [42, 182, 0, 54, 154, 0, 18, 42, 43, 180, 0, 11, 43, 180, 0, 17, 182, 0, 58, 167, 0, 34, 42]
abbrev dktX15_meets_2_0 : List UInt8 := dkwX15_meets_2_0 ++ dktX15_meets_2_1
theorem dksX15_meets_2_0 : cX15_meets_2.data.toList.drop 0 = dktX15_meets_2_0 := by decide +kernel
theorem dksX15_meets_2_1 : cX15_meets_2.data.toList.drop 23 = dktX15_meets_2_1 := dk_seg dksX15_meets_2_0 23 rfl rfl
theorem dksX15_meets_2_2 : cX15_meets_2.data.toList.drop 47 = dktX15_meets_2_2 := dk_seg dksX15_meets_2_1 24 rfl rfl
theorem dX15_meets_2_0 : decode cX15_meets_2 0 = .ok (.aload_n 0, 1) := dk_42 (dk_at dksX15_meets_2_0 0 rfl rfl)
theorem dX15_meets_2_1 : decode cX15_meets_2 1 = .ok (.invokevirtual 54, 3) := dk_182 0 54 (dk_at dksX15_meets_2_0 1 rfl rfl)
theorem dX15_meets_2_4 : decode cX15_meets_2 4 = .ok (.ifCond .ne 18, 3) := dk_154 0 18 (dk_at dksX15_meets_2_0 4 rfl rfl)
theorem dX15_meets_2_7 : decode cX15_meets_2 7 = .ok (.aload_n 0, 1) := dk_42 (dk_at dksX15_meets_2_0 7 rfl rfl)
theorem dX15_meets_2_8 : decode cX15_meets_2 8 = .ok (.aload_n 1, 1) := dk_43 (dk_at dksX15_meets_2_0 8 rfl rfl)
theorem dX15_meets_2_9 : decode cX15_meets_2 9 = .ok (.getfield 11, 3) := dk_180 0 11 (dk_at dksX15_meets_2_0 9 rfl rfl)
theorem dX15_meets_2_12 : decode cX15_meets_2 12 = .ok (.aload_n 1, 1) := dk_43 (dk_at dksX15_meets_2_0 12 rfl rfl)
theorem dX15_meets_2_13 : decode cX15_meets_2 13 = .ok (.getfield 17, 3) := dk_180 0 17 (dk_at dksX15_meets_2_0 13 rfl rfl)
theorem dX15_meets_2_16 : decode cX15_meets_2 16 = .ok (.invokevirtual 58, 3) := dk_182 0 58 (dk_at dksX15_meets_2_0 16 rfl rfl)
theorem dX15_meets_2_19 : decode cX15_meets_2 19 = .ok (.goto 34, 3) := dk_167 0 34 (dk_at dksX15_meets_2_0 19 rfl rfl)
theorem dX15_meets_2_22 : decode cX15_meets_2 22 = .ok (.aload_n 0, 1) := dk_42 (dk_at dksX15_meets_2_0 22 rfl rfl)
theorem dX15_meets_2_23 : decode cX15_meets_2 23 = .ok (.invokevirtual 54, 3) := dk_182 0 54 (dk_at dksX15_meets_2_1 0 rfl rfl)
theorem dX15_meets_2_26 : decode cX15_meets_2 26 = .ok (.iconst 1, 1) := dk_4 (dk_at dksX15_meets_2_1 3 rfl rfl)
theorem dX15_meets_2_27 : decode cX15_meets_2 27 = .ok (.if_icmp .ne 18, 3) := dk_160 0 18 (dk_at dksX15_meets_2_1 4 rfl rfl)
theorem dX15_meets_2_30 : decode cX15_meets_2 30 = .ok (.aload_n 0, 1) := dk_42 (dk_at dksX15_meets_2_1 7 rfl rfl)
theorem dX15_meets_2_31 : decode cX15_meets_2 31 = .ok (.aload_n 1, 1) := dk_43 (dk_at dksX15_meets_2_1 8 rfl rfl)
theorem dX15_meets_2_32 : decode cX15_meets_2 32 = .ok (.getfield 20, 3) := dk_180 0 20 (dk_at dksX15_meets_2_1 9 rfl rfl)
theorem dX15_meets_2_35 : decode cX15_meets_2 35 = .ok (.aload_n 1, 1) := dk_43 (dk_at dksX15_meets_2_1 12 rfl rfl)
theorem dX15_meets_2_36 : decode cX15_meets_2 36 = .ok (.getfield 24, 3) := dk_180 0 24 (dk_at dksX15_meets_2_1 13 rfl rfl)
theorem dX15_meets_2_39 : decode cX15_meets_2 39 = .ok (.invokevirtual 62, 3) := dk_182 0 62 (dk_at dksX15_meets_2_1 16 rfl rfl)
theorem dX15_meets_2_42 : decode cX15_meets_2 42 = .ok (.goto 11, 3) := dk_167 0 11 (dk_at dksX15_meets_2_1 19 rfl rfl)
theorem dX15_meets_2_45 : decode cX15_meets_2 45 = .ok (.aload_n 0, 1) := dk_42 (dk_at dksX15_meets_2_1 22 rfl rfl)
theorem dX15_meets_2_46 : decode cX15_meets_2 46 = .ok (.aload_n 1, 1) := dk_43 (dk_at dksX15_meets_2_1 23 rfl rfl)
theorem dX15_meets_2_47 : decode cX15_meets_2 47 = .ok (.getfield 51, 3) := dk_180 0 51 (dk_at dksX15_meets_2_2 0 rfl rfl)
theorem dX15_meets_2_50 : decode cX15_meets_2 50 = .ok (.invokevirtual 66, 3) := dk_182 0 66 (dk_at dksX15_meets_2_2 3 rfl rfl)
theorem dX15_meets_2_53 : decode cX15_meets_2 53 = .ok (.return_, 1) := dk_177 (dk_at dksX15_meets_2_2 6 rfl rfl)
abbrev cX15_meet : ByteArray := prog_25_method_7_code
def yX15_meet : MethodName := ⟨RX15, "meet", "(DD)V"⟩
def dkwX15_meet_1 : List UInt8 := [42, 180, 0, 11, 42, 180, 0, 17, 152, 158, 0, 7, 178, 0, 47, 191, 177]
abbrev dktX15_meet_1 : List UInt8 := dkwX15_meet_1 ++ []
def dkwX15_meet_0 : List UInt8 := [42, 42, 180, 0, 11, 39, 184, 0, 38, 181, 0, 11, 42, 42, 180, 0, 17, 41, 184, 0, 44, 181, 0, 17]
abbrev dktX15_meet_0 : List UInt8 := dkwX15_meet_0 ++ dktX15_meet_1
theorem dksX15_meet_0 : cX15_meet.data.toList.drop 0 = dktX15_meet_0 := by decide +kernel
theorem dksX15_meet_1 : cX15_meet.data.toList.drop 24 = dktX15_meet_1 := dk_seg dksX15_meet_0 24 rfl rfl
theorem dX15_meet_0 : decode cX15_meet 0 = .ok (.aload_n 0, 1) := dk_42 (dk_at dksX15_meet_0 0 rfl rfl)
theorem dX15_meet_1 : decode cX15_meet 1 = .ok (.aload_n 0, 1) := dk_42 (dk_at dksX15_meet_0 1 rfl rfl)
theorem dX15_meet_2 : decode cX15_meet 2 = .ok (.getfield 11, 3) := dk_180 0 11 (dk_at dksX15_meet_0 2 rfl rfl)
theorem dX15_meet_5 : decode cX15_meet 5 = .ok (.dload_n 1, 1) := dk_39 (dk_at dksX15_meet_0 5 rfl rfl)
theorem dX15_meet_6 : decode cX15_meet 6 = .ok (.invokestatic 38, 3) := dk_184 0 38 (dk_at dksX15_meet_0 6 rfl rfl)
theorem dX15_meet_9 : decode cX15_meet 9 = .ok (.putfield 11, 3) := dk_181 0 11 (dk_at dksX15_meet_0 9 rfl rfl)
theorem dX15_meet_12 : decode cX15_meet 12 = .ok (.aload_n 0, 1) := dk_42 (dk_at dksX15_meet_0 12 rfl rfl)
theorem dX15_meet_13 : decode cX15_meet 13 = .ok (.aload_n 0, 1) := dk_42 (dk_at dksX15_meet_0 13 rfl rfl)
theorem dX15_meet_14 : decode cX15_meet 14 = .ok (.getfield 17, 3) := dk_180 0 17 (dk_at dksX15_meet_0 14 rfl rfl)
theorem dX15_meet_17 : decode cX15_meet 17 = .ok (.dload_n 3, 1) := dk_41 (dk_at dksX15_meet_0 17 rfl rfl)
theorem dX15_meet_18 : decode cX15_meet 18 = .ok (.invokestatic 44, 3) := dk_184 0 44 (dk_at dksX15_meet_0 18 rfl rfl)
theorem dX15_meet_21 : decode cX15_meet 21 = .ok (.putfield 17, 3) := dk_181 0 17 (dk_at dksX15_meet_0 21 rfl rfl)
theorem dX15_meet_24 : decode cX15_meet 24 = .ok (.aload_n 0, 1) := dk_42 (dk_at dksX15_meet_1 0 rfl rfl)
theorem dX15_meet_25 : decode cX15_meet 25 = .ok (.getfield 11, 3) := dk_180 0 11 (dk_at dksX15_meet_1 1 rfl rfl)
theorem dX15_meet_28 : decode cX15_meet 28 = .ok (.aload_n 0, 1) := dk_42 (dk_at dksX15_meet_1 4 rfl rfl)
theorem dX15_meet_29 : decode cX15_meet 29 = .ok (.getfield 17, 3) := dk_180 0 17 (dk_at dksX15_meet_1 5 rfl rfl)
theorem dX15_meet_32 : decode cX15_meet 32 = .ok (.dcmp .g, 1) := dk_152 (dk_at dksX15_meet_1 8 rfl rfl)
theorem dX15_meet_33 : decode cX15_meet 33 = .ok (.ifCond .le 7, 3) := dk_158 0 7 (dk_at dksX15_meet_1 9 rfl rfl)
theorem dX15_meet_36 : decode cX15_meet 36 = .ok (.getstatic 47, 3) := dk_178 0 47 (dk_at dksX15_meet_1 12 rfl rfl)
theorem dX15_meet_39 : decode cX15_meet 39 = .ok (.athrow, 1) := dk_191 (dk_at dksX15_meet_1 15 rfl rfl)
theorem dX15_meet_40 : decode cX15_meet 40 = .ok (.return_, 1) := dk_177 (dk_at dksX15_meet_1 16 rfl rfl)
abbrev cX15_meets_3 : ByteArray := prog_25_method_9_code
def yX15_meets_3 : MethodName := ⟨RX15, "meets", "(I)V"⟩
def dkwX15_meets_3_0 : List UInt8 := [42, 89, 180, 0, 51, 27, 126, 181, 0, 51, 42, 180, 0, 51, 154, 0, 7, 178, 0, 47, 191, 177]
abbrev dktX15_meets_3_0 : List UInt8 := dkwX15_meets_3_0 ++ []
theorem dksX15_meets_3_0 : cX15_meets_3.data.toList.drop 0 = dktX15_meets_3_0 := by decide +kernel
theorem dX15_meets_3_0 : decode cX15_meets_3 0 = .ok (.aload_n 0, 1) := dk_42 (dk_at dksX15_meets_3_0 0 rfl rfl)
theorem dX15_meets_3_1 : decode cX15_meets_3 1 = .ok (.dup, 1) := dk_89 (dk_at dksX15_meets_3_0 1 rfl rfl)
theorem dX15_meets_3_2 : decode cX15_meets_3 2 = .ok (.getfield 51, 3) := dk_180 0 51 (dk_at dksX15_meets_3_0 2 rfl rfl)
theorem dX15_meets_3_5 : decode cX15_meets_3 5 = .ok (.iload_n 1, 1) := dk_27 (dk_at dksX15_meets_3_0 5 rfl rfl)
theorem dX15_meets_3_6 : decode cX15_meets_3 6 = .ok (.iand, 1) := dk_126 (dk_at dksX15_meets_3_0 6 rfl rfl)
theorem dX15_meets_3_7 : decode cX15_meets_3 7 = .ok (.putfield 51, 3) := dk_181 0 51 (dk_at dksX15_meets_3_0 7 rfl rfl)
theorem dX15_meets_3_10 : decode cX15_meets_3 10 = .ok (.aload_n 0, 1) := dk_42 (dk_at dksX15_meets_3_0 10 rfl rfl)
theorem dX15_meets_3_11 : decode cX15_meets_3 11 = .ok (.getfield 51, 3) := dk_180 0 51 (dk_at dksX15_meets_3_0 11 rfl rfl)
theorem dX15_meets_3_14 : decode cX15_meets_3 14 = .ok (.ifCond .ne 7, 3) := dk_154 0 7 (dk_at dksX15_meets_3_0 14 rfl rfl)
theorem dX15_meets_3_17 : decode cX15_meets_3 17 = .ok (.getstatic 47, 3) := dk_178 0 47 (dk_at dksX15_meets_3_0 17 rfl rfl)
theorem dX15_meets_3_20 : decode cX15_meets_3 20 = .ok (.athrow, 1) := dk_191 (dk_at dksX15_meets_3_0 20 rfl rfl)
theorem dX15_meets_3_21 : decode cX15_meets_3 21 = .ok (.return_, 1) := dk_177 (dk_at dksX15_meets_3_0 21 rfl rfl)
abbrev cX15_lose : ByteArray := prog_25_method_13_code
def yX15_lose : MethodName := ⟨RX15, "lose", "(D)V"⟩
theorem dX15_lose_0 : decode cX15_lose 0 = .ok (.return_, 1) := by decide +kernel
abbrev cX15_enter : ByteArray := prog_25_method_5_code
def yX15_enter : MethodName := ⟨RX15, "enter", "(LConstraintHouse$Solver;)V"⟩
def dkwX15_enter_1 : List UInt8 := [177]
abbrev dktX15_enter_1 : List UInt8 := dkwX15_enter_1 ++ []
def dkwX15_enter_0 : List UInt8 := [43, 180, 0, 27, 18, 33, 162, 0, 13, 43, 89, 180, 0, 27, 4, 96, 181, 0, 27, 42, 43, 182, 0, 34]
abbrev dktX15_enter_0 : List UInt8 := dkwX15_enter_0 ++ dktX15_enter_1
theorem dksX15_enter_0 : cX15_enter.data.toList.drop 0 = dktX15_enter_0 := by decide +kernel
theorem dksX15_enter_1 : cX15_enter.data.toList.drop 24 = dktX15_enter_1 := dk_seg dksX15_enter_0 24 rfl rfl
theorem dX15_enter_0 : decode cX15_enter 0 = .ok (.aload_n 1, 1) := dk_43 (dk_at dksX15_enter_0 0 rfl rfl)
theorem dX15_enter_1 : decode cX15_enter 1 = .ok (.getfield 27, 3) := dk_180 0 27 (dk_at dksX15_enter_0 1 rfl rfl)
theorem dX15_enter_4 : decode cX15_enter 4 = .ok (.ldc 33, 2) := dk_18 33 (dk_at dksX15_enter_0 4 rfl rfl)
theorem dX15_enter_6 : decode cX15_enter 6 = .ok (.if_icmp .ge 13, 3) := dk_162 0 13 (dk_at dksX15_enter_0 6 rfl rfl)
theorem dX15_enter_9 : decode cX15_enter 9 = .ok (.aload_n 1, 1) := dk_43 (dk_at dksX15_enter_0 9 rfl rfl)
theorem dX15_enter_10 : decode cX15_enter 10 = .ok (.dup, 1) := dk_89 (dk_at dksX15_enter_0 10 rfl rfl)
theorem dX15_enter_11 : decode cX15_enter 11 = .ok (.getfield 27, 3) := dk_180 0 27 (dk_at dksX15_enter_0 11 rfl rfl)
theorem dX15_enter_14 : decode cX15_enter 14 = .ok (.iconst 1, 1) := dk_4 (dk_at dksX15_enter_0 14 rfl rfl)
theorem dX15_enter_15 : decode cX15_enter 15 = .ok (.iadd, 1) := dk_96 (dk_at dksX15_enter_0 15 rfl rfl)
theorem dX15_enter_16 : decode cX15_enter 16 = .ok (.putfield 27, 3) := dk_181 0 27 (dk_at dksX15_enter_0 16 rfl rfl)
theorem dX15_enter_19 : decode cX15_enter 19 = .ok (.aload_n 0, 1) := dk_42 (dk_at dksX15_enter_0 19 rfl rfl)
theorem dX15_enter_20 : decode cX15_enter 20 = .ok (.aload_n 1, 1) := dk_43 (dk_at dksX15_enter_0 20 rfl rfl)
theorem dX15_enter_21 : decode cX15_enter 21 = .ok (.invokevirtual 34, 3) := dk_182 0 34 (dk_at dksX15_enter_0 21 rfl rfl)
theorem dX15_enter_24 : decode cX15_enter 24 = .ok (.return_, 1) := dk_177 (dk_at dksX15_enter_1 0 rfl rfl)
abbrev cX15_lose_2 : ByteArray := prog_25_method_14_code
def yX15_lose_2 : MethodName := ⟨RX15, "lose", "([I)V"⟩
theorem dX15_lose_2_0 : decode cX15_lose_2 0 = .ok (.return_, 1) := by decide +kernel
abbrev cX15_backwards : ByteArray := prog_25_method_6_code
def yX15_backwards : MethodName := ⟨RX15, "backwards", "(LConstraintHouse$Solver;)V"⟩
theorem dX15_backwards_0 : decode cX15_backwards 0 = .ok (.return_, 1) := by decide +kernel
theorem q286 : (Jvm.Cond.initialized "ConstraintHouse$Part") ∈ lw_all := lw_g (lw_at lw_m1 26 rfl) rfl
theorem q476 : (Jvm.Cond.fieldLink "ConstraintHouse$Part" (27 : Nat) "ConstraintHouse$Solver" "entered" "I") ∈ lw_all := lw_g (lw_at lw_m1 216 rfl) rfl
theorem q1338 : (Jvm.Cond.instanceMethod ({ cls := "ConstraintHouse$Part", name := "<init>", desc := "()V" } : Jvm.MethodName)) ∈ lw_all := lw_g (lw_at lw_m5 118 rfl) rfl
theorem q1339 : (Jvm.Cond.code ({ cls := "ConstraintHouse$Part", name := "<init>", desc := "()V" } : Jvm.MethodName) prog_25_method_1_code (1 : Nat) (Option.none : Option Jvm.ClassFile.FieldType)) ∈ lw_all := lw_g (lw_at lw_m5 119 rfl) rfl
theorem q1340 : (Jvm.Cond.methodLink "ConstraintHouse$Part" (5 : Nat) ({ cls := "java/lang/Object", name := "<init>", desc := "()V" } : Jvm.MethodName)) ∈ lw_all := lw_g (lw_at lw_m5 120 rfl) rfl
theorem q1358 : (Jvm.Cond.fieldLink "ConstraintHouse$Part" (11 : Nat) "ConstraintHouse$Part" "low" "D") ∈ lw_all := lw_g (lw_at lw_m5 138 rfl) rfl
theorem q1403 : (Jvm.Cond.fieldLink "ConstraintHouse$Part" (17 : Nat) "ConstraintHouse$Part" "high" "D") ∈ lw_all := lw_g (lw_at lw_m5 183 rfl) rfl
theorem q1429 : (Jvm.Cond.fieldLink "ConstraintHouse$Part" (20 : Nat) "ConstraintHouse$Part" "no" "Z") ∈ lw_all := lw_g (lw_at lw_m5 209 rfl) rfl
theorem q1451 : (Jvm.Cond.fieldLink "ConstraintHouse$Part" (24 : Nat) "ConstraintHouse$Part" "yes" "Z") ∈ lw_all := lw_g (lw_at lw_m5 231 rfl) rfl
theorem q1470 : (Jvm.Cond.fieldLink "ConstraintHouse$Part" (51 : Nat) "ConstraintHouse$Part" "letters" "I") ∈ lw_all := lw_g (lw_at lw_m6 10 rfl) rfl
theorem q1480 : (Jvm.Cond.soleField "ConstraintHouse$Part" "low") ∈ lw_all := lw_g (lw_at lw_m6 20 rfl) rfl
theorem q1482 : (Jvm.Cond.soleField "ConstraintHouse$Part" "high") ∈ lw_all := lw_g (lw_at lw_m6 22 rfl) rfl
theorem q1484 : (Jvm.Cond.soleField "ConstraintHouse$Part" "no") ∈ lw_all := lw_g (lw_at lw_m6 24 rfl) rfl
theorem q1486 : (Jvm.Cond.soleField "ConstraintHouse$Part" "yes") ∈ lw_all := lw_g (lw_at lw_m6 26 rfl) rfl
theorem q1488 : (Jvm.Cond.soleField "ConstraintHouse$Part" "letters") ∈ lw_all := lw_g (lw_at lw_m6 28 rfl) rfl
theorem q1531 : (Jvm.Cond.declares ({ cls := "ConstraintHouse$Part", name := "sort", desc := "()I" } : Jvm.MethodName)) ∈ lw_tbl := lw_at lw_m6 71 rfl
theorem q1532 : (Jvm.Cond.sameMethod "ConstraintHouse$Part" "ConstraintHouse$Part" "sort" "()I") ∈ lw_all := lw_g (lw_at lw_m6 72 rfl) rfl
theorem q2473 : (Jvm.Cond.superclass "ConstraintHouse$Part" "java/lang/Object") ∈ lw_all := lw_g (lw_at lw_m10 53 rfl) rfl
theorem q2489 : (Jvm.Cond.declares ({ cls := "ConstraintHouse$Part", name := "be", desc := "(DD)V" } : Jvm.MethodName)) ∈ lw_tbl := lw_at lw_m10 69 rfl
theorem q2491 : (Jvm.Cond.instanceMethod ({ cls := "ConstraintHouse$Part", name := "be", desc := "(DD)V" } : Jvm.MethodName)) ∈ lw_all := lw_g (lw_at lw_m10 71 rfl) rfl
theorem q2492 : (Jvm.Cond.code ({ cls := "ConstraintHouse$Part", name := "be", desc := "(DD)V" } : Jvm.MethodName) prog_25_method_3_code (5 : Nat) (Option.none : Option Jvm.ClassFile.FieldType)) ∈ lw_all := lw_g (lw_at lw_m10 72 rfl) rfl
theorem q2495 : (Jvm.Cond.declares ({ cls := "ConstraintHouse$Part", name := "truth", desc := "(ZZ)V" } : Jvm.MethodName)) ∈ lw_tbl := lw_at lw_m10 75 rfl
theorem q2497 : (Jvm.Cond.instanceMethod ({ cls := "ConstraintHouse$Part", name := "truth", desc := "(ZZ)V" } : Jvm.MethodName)) ∈ lw_all := lw_g (lw_at lw_m10 77 rfl) rfl
theorem q2498 : (Jvm.Cond.code ({ cls := "ConstraintHouse$Part", name := "truth", desc := "(ZZ)V" } : Jvm.MethodName) prog_25_method_4_code (3 : Nat) (Option.none : Option Jvm.ClassFile.FieldType)) ∈ lw_all := lw_g (lw_at lw_m10 78 rfl) rfl
theorem q2772 : (Jvm.Cond.declares ({ cls := "ConstraintHouse$Part", name := "as", desc := "(LConstraintHouse$Part;)V" } : Jvm.MethodName)) ∈ lw_tbl := lw_at lw_m11 112 rfl
theorem q2774 : (Jvm.Cond.instanceMethod ({ cls := "ConstraintHouse$Part", name := "as", desc := "(LConstraintHouse$Part;)V" } : Jvm.MethodName)) ∈ lw_all := lw_g (lw_at lw_m11 114 rfl) rfl
theorem q2775 : (Jvm.Cond.code ({ cls := "ConstraintHouse$Part", name := "as", desc := "(LConstraintHouse$Part;)V" } : Jvm.MethodName) prog_25_method_10_code (2 : Nat) (Option.none : Option Jvm.ClassFile.FieldType)) ∈ lw_all := lw_g (lw_at lw_m11 115 rfl) rfl
theorem q2812 : (Jvm.Cond.instanceMethod ({ cls := "ConstraintHouse$Part", name := "hasMeet", desc := "(LConstraintHouse$Part;)Z" } : Jvm.MethodName)) ∈ lw_all := lw_g (lw_at lw_m11 152 rfl) rfl
theorem q2813 : (Jvm.Cond.sameMethod "ConstraintHouse$Part" "ConstraintHouse$Part" "hasMeet" "(LConstraintHouse$Part;)Z") ∈ lw_all := lw_g (lw_at lw_m11 153 rfl) rfl
theorem q2832 : (Jvm.Cond.code ({ cls := "ConstraintHouse$Part", name := "hasMeet", desc := "(LConstraintHouse$Part;)Z" } : Jvm.MethodName) prog_25_method_12_code (2 : Nat) (Option.some Jvm.ClassFile.FieldType.boolean)) ∈ lw_all := lw_g (lw_at lw_m11 172 rfl) rfl
theorem q2833 : (Jvm.Cond.methodLink "ConstraintHouse$Part" (54 : Nat) ({ cls := "ConstraintHouse$Part", name := "sort", desc := "()I" } : Jvm.MethodName)) ∈ lw_all := lw_g (lw_at lw_m11 173 rfl) rfl
theorem q2834 : (Jvm.Cond.methodLink "ConstraintHouse$Part" (38 : Nat) ({ cls := "java/lang/Math", name := "max", desc := "(DD)D" } : Jvm.MethodName)) ∈ lw_all := lw_g (lw_at lw_m11 174 rfl) rfl
theorem q2835 : (Jvm.Cond.methodLink "ConstraintHouse$Part" (44 : Nat) ({ cls := "java/lang/Math", name := "min", desc := "(DD)D" } : Jvm.MethodName)) ∈ lw_all := lw_g (lw_at lw_m11 175 rfl) rfl
theorem q2863 : (Jvm.Cond.instanceMethod ({ cls := "ConstraintHouse$Part", name := "meets", desc := "(ZZ)V" } : Jvm.MethodName)) ∈ lw_all := lw_g (lw_at lw_m11 203 rfl) rfl
theorem q2864 : (Jvm.Cond.sameMethod "ConstraintHouse$Part" "ConstraintHouse$Part" "meets" "(ZZ)V") ∈ lw_all := lw_g (lw_at lw_m11 204 rfl) rfl
theorem q2883 : (Jvm.Cond.code ({ cls := "ConstraintHouse$Part", name := "meets", desc := "(ZZ)V" } : Jvm.MethodName) prog_25_method_8_code (3 : Nat) (Option.none : Option Jvm.ClassFile.FieldType)) ∈ lw_all := lw_g (lw_at lw_m11 223 rfl) rfl
theorem q2884 : (Jvm.Cond.fieldLinkNest "ConstraintHouse$Part" (47 : Nat) "ConstraintHouse" "NOTHING" "LConstraintHouse$Nothing;" "ConstraintHouse") ∈ lw_tbl := lw_at lw_m11 224 rfl
theorem q2886 : (Jvm.Cond.instanceMethod ({ cls := "ConstraintHouse$Part", name := "enter", desc := "(LConstraintHouse$Solver;)V" } : Jvm.MethodName)) ∈ lw_all := lw_g (lw_at lw_m11 226 rfl) rfl
theorem q2887 : (Jvm.Cond.sameMethod "ConstraintHouse$Part" "ConstraintHouse$Part" "enter" "(LConstraintHouse$Solver;)V") ∈ lw_all := lw_g (lw_at lw_m11 227 rfl) rfl
theorem q2899 : (Jvm.Cond.instanceMethod ({ cls := "ConstraintHouse$Part", name := "meets", desc := "(LConstraintHouse$Part;)V" } : Jvm.MethodName)) ∈ lw_all := lw_g (lw_at lw_m11 239 rfl) rfl
theorem q2900 : (Jvm.Cond.sameMethod "ConstraintHouse$Part" "ConstraintHouse$Part" "meets" "(LConstraintHouse$Part;)V") ∈ lw_all := lw_g (lw_at lw_m12 0 rfl) rfl
theorem q2919 : (Jvm.Cond.code ({ cls := "ConstraintHouse$Part", name := "meets", desc := "(LConstraintHouse$Part;)V" } : Jvm.MethodName) prog_25_method_11_code (2 : Nat) (Option.none : Option Jvm.ClassFile.FieldType)) ∈ lw_all := lw_g (lw_at lw_m12 19 rfl) rfl
theorem q2920 : (Jvm.Cond.methodLink "ConstraintHouse$Part" (58 : Nat) ({ cls := "ConstraintHouse$Part", name := "meet", desc := "(DD)V" } : Jvm.MethodName)) ∈ lw_all := lw_g (lw_at lw_m12 20 rfl) rfl
theorem q2921 : (Jvm.Cond.instanceMethod ({ cls := "ConstraintHouse$Part", name := "meet", desc := "(DD)V" } : Jvm.MethodName)) ∈ lw_all := lw_g (lw_at lw_m12 21 rfl) rfl
theorem q2922 : (Jvm.Cond.sameMethod "ConstraintHouse$Part" "ConstraintHouse$Part" "meet" "(DD)V") ∈ lw_all := lw_g (lw_at lw_m12 22 rfl) rfl
theorem q2941 : (Jvm.Cond.code ({ cls := "ConstraintHouse$Part", name := "meet", desc := "(DD)V" } : Jvm.MethodName) prog_25_method_7_code (5 : Nat) (Option.none : Option Jvm.ClassFile.FieldType)) ∈ lw_all := lw_g (lw_at lw_m12 41 rfl) rfl
theorem q2942 : (Jvm.Cond.methodLink "ConstraintHouse$Part" (62 : Nat) ({ cls := "ConstraintHouse$Part", name := "meets", desc := "(ZZ)V" } : Jvm.MethodName)) ∈ lw_all := lw_g (lw_at lw_m12 42 rfl) rfl
theorem q2943 : (Jvm.Cond.methodLink "ConstraintHouse$Part" (66 : Nat) ({ cls := "ConstraintHouse$Part", name := "meets", desc := "(I)V" } : Jvm.MethodName)) ∈ lw_all := lw_g (lw_at lw_m12 43 rfl) rfl
theorem q2944 : (Jvm.Cond.instanceMethod ({ cls := "ConstraintHouse$Part", name := "meets", desc := "(I)V" } : Jvm.MethodName)) ∈ lw_all := lw_g (lw_at lw_m12 44 rfl) rfl
theorem q2945 : (Jvm.Cond.sameMethod "ConstraintHouse$Part" "ConstraintHouse$Part" "meets" "(I)V") ∈ lw_all := lw_g (lw_at lw_m12 45 rfl) rfl
theorem q2964 : (Jvm.Cond.code ({ cls := "ConstraintHouse$Part", name := "meets", desc := "(I)V" } : Jvm.MethodName) prog_25_method_9_code (2 : Nat) (Option.none : Option Jvm.ClassFile.FieldType)) ∈ lw_all := lw_g (lw_at lw_m12 64 rfl) rfl
theorem q2970 : (Jvm.Cond.instanceMethod ({ cls := "ConstraintHouse$Part", name := "lose", desc := "(D)V" } : Jvm.MethodName)) ∈ lw_all := lw_g (lw_at lw_m12 70 rfl) rfl
theorem q2971 : (Jvm.Cond.sameMethod "ConstraintHouse$Part" "ConstraintHouse$Part" "lose" "(D)V") ∈ lw_all := lw_g (lw_at lw_m12 71 rfl) rfl
theorem q2998 : (Jvm.Cond.code ({ cls := "ConstraintHouse$Part", name := "lose", desc := "(D)V" } : Jvm.MethodName) prog_25_method_13_code (3 : Nat) (Option.none : Option Jvm.ClassFile.FieldType)) ∈ lw_all := lw_g (lw_at lw_m12 98 rfl) rfl
theorem q3028 : (Jvm.Cond.code ({ cls := "ConstraintHouse$Part", name := "enter", desc := "(LConstraintHouse$Solver;)V" } : Jvm.MethodName) prog_25_method_5_code (2 : Nat) (Option.none : Option Jvm.ClassFile.FieldType)) ∈ lw_all := lw_g (lw_at lw_m12 128 rfl) rfl
theorem q3029 : (Jvm.Cond.constant "ConstraintHouse$Part" (33 : Nat) (2000000000 : Int32)) ∈ lw_all := lw_g (lw_at lw_m12 129 rfl) rfl
theorem q3030 : (Jvm.Cond.methodLink "ConstraintHouse$Part" (34 : Nat) ({ cls := "ConstraintHouse$Part", name := "backwards", desc := "(LConstraintHouse$Solver;)V" } : Jvm.MethodName)) ∈ lw_all := lw_g (lw_at lw_m12 130 rfl) rfl
theorem q3031 : (Jvm.Cond.instanceMethod ({ cls := "ConstraintHouse$Part", name := "backwards", desc := "(LConstraintHouse$Solver;)V" } : Jvm.MethodName)) ∈ lw_all := lw_g (lw_at lw_m12 131 rfl) rfl
theorem q3032 : (Jvm.Cond.sameMethod "ConstraintHouse$Part" "ConstraintHouse$Part" "backwards" "(LConstraintHouse$Solver;)V") ∈ lw_all := lw_g (lw_at lw_m12 132 rfl) rfl
theorem q3042 : (Jvm.Cond.instanceMethod ({ cls := "ConstraintHouse$Part", name := "lose", desc := "([I)V" } : Jvm.MethodName)) ∈ lw_all := lw_g (lw_at lw_m12 142 rfl) rfl
theorem q3043 : (Jvm.Cond.sameMethod "ConstraintHouse$Part" "ConstraintHouse$Part" "lose" "([I)V") ∈ lw_all := lw_g (lw_at lw_m12 143 rfl) rfl
theorem q3071 : (Jvm.Cond.code ({ cls := "ConstraintHouse$Part", name := "lose", desc := "([I)V" } : Jvm.MethodName) prog_25_method_14_code (2 : Nat) (Option.none : Option Jvm.ClassFile.FieldType)) ∈ lw_all := lw_g (lw_at lw_m12 171 rfl) rfl
theorem q3260 : (Jvm.Cond.code ({ cls := "ConstraintHouse$Part", name := "backwards", desc := "(LConstraintHouse$Solver;)V" } : Jvm.MethodName) prog_25_method_6_code (2 : Nat) (Option.none : Option Jvm.ClassFile.FieldType)) ∈ lw_all := lw_g (lw_at lw_m13 120 rfl) rfl
/-! ConstraintHouse$Constant -/
set_option maxRecDepth 100000
def RX16 : String := "ConstraintHouse$Constant"
def TX16 : u_T := fun k => match k with
  | 0 => ("ConstraintHouse$Part", "low", "D", false)
  | 1 => ("ConstraintHouse$Part", "high", "D", false)
  | 2 => ("ConstraintHouse$Part", "no", "Z", false)
  | 3 => ("ConstraintHouse$Part", "yes", "Z", false)
  | 4 => ("ConstraintHouse$Part", "letters", "I", false)
  | 5 => ("ConstraintHouse$Constant", "sort", "I", true)
  | 6 => ("ConstraintHouse$Constant", "bits", "I", true)
  | 7 => ("ConstraintHouse$Constant", "number", "D", true)
  | _ => ("ConstraintHouse$Constant", "truth", "Z", true)
def tyX16 : Nat → FieldType := fun k => match k with
  | 0 => .double
  | 1 => .double
  | 2 => .boolean
  | 3 => .boolean
  | 4 => .int
  | 5 => .int
  | 6 => .int
  | 7 => .double
  | _ => .boolean
abbrev wsX160 : List Cond := u_ws RX16 TX16 9
theorem nmX16 : ∀ a, a < 9 → ∀ b, b < 9 → a ≠ b → (TX16 a).2.1 ≠ (TX16 b).2.1 := by decide +kernel
theorem tyX16_ok : ∀ k, k < 9 → parseFieldDescriptor (TX16 k).2.2.1 = some (tyX16 k) := by decide +kernel
abbrev cX16_init : ByteArray := prog_8_method_1_code
def yX16_init : MethodName := ⟨RX16, "<init>", "(IDZI)V"⟩
def dkwX16_init_1 : List UInt8 := [181, 0, 21, 177]
abbrev dktX16_init_1 : List UInt8 := dkwX16_init_1 ++ []
def dkwX16_init_0 : List UInt8 := [42, 183, 0, 1, 42, 27, 181, 0, 7, 42, 40, 181, 0, 13, 42, 21, 4, 181, 0, 17, 42, 21, 5]
abbrev dktX16_init_0 : List UInt8 := dkwX16_init_0 ++ dktX16_init_1
theorem dksX16_init_0 : cX16_init.data.toList.drop 0 = dktX16_init_0 := by decide +kernel
theorem dksX16_init_1 : cX16_init.data.toList.drop 23 = dktX16_init_1 := dk_seg dksX16_init_0 23 rfl rfl
theorem dX16_init_0 : decode cX16_init 0 = .ok (.aload_n 0, 1) := dk_42 (dk_at dksX16_init_0 0 rfl rfl)
theorem dX16_init_1 : decode cX16_init 1 = .ok (.invokespecial 1, 3) := dk_183 0 1 (dk_at dksX16_init_0 1 rfl rfl)
theorem dX16_init_4 : decode cX16_init 4 = .ok (.aload_n 0, 1) := dk_42 (dk_at dksX16_init_0 4 rfl rfl)
theorem dX16_init_5 : decode cX16_init 5 = .ok (.iload_n 1, 1) := dk_27 (dk_at dksX16_init_0 5 rfl rfl)
theorem dX16_init_6 : decode cX16_init 6 = .ok (.putfield 7, 3) := dk_181 0 7 (dk_at dksX16_init_0 6 rfl rfl)
theorem dX16_init_9 : decode cX16_init 9 = .ok (.aload_n 0, 1) := dk_42 (dk_at dksX16_init_0 9 rfl rfl)
theorem dX16_init_10 : decode cX16_init 10 = .ok (.dload_n 2, 1) := dk_40 (dk_at dksX16_init_0 10 rfl rfl)
theorem dX16_init_11 : decode cX16_init 11 = .ok (.putfield 13, 3) := dk_181 0 13 (dk_at dksX16_init_0 11 rfl rfl)
theorem dX16_init_14 : decode cX16_init 14 = .ok (.aload_n 0, 1) := dk_42 (dk_at dksX16_init_0 14 rfl rfl)
theorem dX16_init_15 : decode cX16_init 15 = .ok (.iload 4, 2) := dk_21 4 (dk_at dksX16_init_0 15 rfl rfl)
theorem dX16_init_17 : decode cX16_init 17 = .ok (.putfield 17, 3) := dk_181 0 17 (dk_at dksX16_init_0 17 rfl rfl)
theorem dX16_init_20 : decode cX16_init 20 = .ok (.aload_n 0, 1) := dk_42 (dk_at dksX16_init_0 20 rfl rfl)
theorem dX16_init_21 : decode cX16_init 21 = .ok (.iload 5, 2) := dk_21 5 (dk_at dksX16_init_0 21 rfl rfl)
theorem dX16_init_23 : decode cX16_init 23 = .ok (.putfield 21, 3) := dk_181 0 21 (dk_at dksX16_init_1 0 rfl rfl)
theorem dX16_init_26 : decode cX16_init 26 = .ok (.return_, 1) := dk_177 (dk_at dksX16_init_1 3 rfl rfl)
abbrev cX16_sort : ByteArray := prog_8_method_2_code
def yX16_sort : MethodName := ⟨RX16, "sort", "()I"⟩
theorem dX16_sort_0 : decode cX16_sort 0 = .ok (.aload_n 0, 1) := by decide +kernel
theorem dX16_sort_1 : decode cX16_sort 1 = .ok (.getfield 7, 3) := by decide +kernel
theorem dX16_sort_4 : decode cX16_sort 4 = .ok (.ireturn, 1) := by decide +kernel
abbrev cX16_forwards : ByteArray := prog_8_method_3_code
def yX16_forwards : MethodName := ⟨RX16, "forwards", "(LConstraintHouse$Solver;)V"⟩
def dkwX16_forwards_1 : List UInt8 := [3, 42, 180, 0, 17, 182, 0, 28, 42, 42, 180, 0, 21, 181, 0, 31, 177]
abbrev dktX16_forwards_1 : List UInt8 := dkwX16_forwards_1 ++ []
def dkwX16_forwards_0 : List UInt8 := [42, 42, 180, 0, 13, 42, 180, 0, 13, 182, 0, 24, 42, 42, 180, 0, 17, 154, 0, 7, 4, 167, 0, 4]
abbrev dktX16_forwards_0 : List UInt8 := dkwX16_forwards_0 ++ dktX16_forwards_1
theorem dksX16_forwards_0 : cX16_forwards.data.toList.drop 0 = dktX16_forwards_0 := by decide +kernel
theorem dksX16_forwards_1 : cX16_forwards.data.toList.drop 24 = dktX16_forwards_1 := dk_seg dksX16_forwards_0 24 rfl rfl
theorem dX16_forwards_0 : decode cX16_forwards 0 = .ok (.aload_n 0, 1) := dk_42 (dk_at dksX16_forwards_0 0 rfl rfl)
theorem dX16_forwards_1 : decode cX16_forwards 1 = .ok (.aload_n 0, 1) := dk_42 (dk_at dksX16_forwards_0 1 rfl rfl)
theorem dX16_forwards_2 : decode cX16_forwards 2 = .ok (.getfield 13, 3) := dk_180 0 13 (dk_at dksX16_forwards_0 2 rfl rfl)
theorem dX16_forwards_5 : decode cX16_forwards 5 = .ok (.aload_n 0, 1) := dk_42 (dk_at dksX16_forwards_0 5 rfl rfl)
theorem dX16_forwards_6 : decode cX16_forwards 6 = .ok (.getfield 13, 3) := dk_180 0 13 (dk_at dksX16_forwards_0 6 rfl rfl)
theorem dX16_forwards_9 : decode cX16_forwards 9 = .ok (.invokevirtual 24, 3) := dk_182 0 24 (dk_at dksX16_forwards_0 9 rfl rfl)
theorem dX16_forwards_12 : decode cX16_forwards 12 = .ok (.aload_n 0, 1) := dk_42 (dk_at dksX16_forwards_0 12 rfl rfl)
theorem dX16_forwards_13 : decode cX16_forwards 13 = .ok (.aload_n 0, 1) := dk_42 (dk_at dksX16_forwards_0 13 rfl rfl)
theorem dX16_forwards_14 : decode cX16_forwards 14 = .ok (.getfield 17, 3) := dk_180 0 17 (dk_at dksX16_forwards_0 14 rfl rfl)
theorem dX16_forwards_17 : decode cX16_forwards 17 = .ok (.ifCond .ne 7, 3) := dk_154 0 7 (dk_at dksX16_forwards_0 17 rfl rfl)
theorem dX16_forwards_20 : decode cX16_forwards 20 = .ok (.iconst 1, 1) := dk_4 (dk_at dksX16_forwards_0 20 rfl rfl)
theorem dX16_forwards_21 : decode cX16_forwards 21 = .ok (.goto 4, 3) := dk_167 0 4 (dk_at dksX16_forwards_0 21 rfl rfl)
theorem dX16_forwards_24 : decode cX16_forwards 24 = .ok (.iconst 0, 1) := dk_3 (dk_at dksX16_forwards_1 0 rfl rfl)
theorem dX16_forwards_25 : decode cX16_forwards 25 = .ok (.aload_n 0, 1) := dk_42 (dk_at dksX16_forwards_1 1 rfl rfl)
theorem dX16_forwards_26 : decode cX16_forwards 26 = .ok (.getfield 17, 3) := dk_180 0 17 (dk_at dksX16_forwards_1 2 rfl rfl)
theorem dX16_forwards_29 : decode cX16_forwards 29 = .ok (.invokevirtual 28, 3) := dk_182 0 28 (dk_at dksX16_forwards_1 5 rfl rfl)
theorem dX16_forwards_32 : decode cX16_forwards 32 = .ok (.aload_n 0, 1) := dk_42 (dk_at dksX16_forwards_1 8 rfl rfl)
theorem dX16_forwards_33 : decode cX16_forwards 33 = .ok (.aload_n 0, 1) := dk_42 (dk_at dksX16_forwards_1 9 rfl rfl)
theorem dX16_forwards_34 : decode cX16_forwards 34 = .ok (.getfield 21, 3) := dk_180 0 21 (dk_at dksX16_forwards_1 10 rfl rfl)
theorem dX16_forwards_37 : decode cX16_forwards 37 = .ok (.putfield 31, 3) := dk_181 0 31 (dk_at dksX16_forwards_1 13 rfl rfl)
theorem dX16_forwards_40 : decode cX16_forwards 40 = .ok (.return_, 1) := dk_177 (dk_at dksX16_forwards_1 16 rfl rfl)
theorem q287 : (Jvm.Cond.initialized "ConstraintHouse$Constant") ∈ lw_all := lw_g (lw_at lw_m1 27 rfl) rfl
theorem q1333 : (Jvm.Cond.instantiable "ConstraintHouse$Constant" (9 : Nat)) ∈ lw_all := lw_g (lw_at lw_m5 113 rfl) rfl
theorem q1335 : (Jvm.Cond.instanceMethod ({ cls := "ConstraintHouse$Constant", name := "<init>", desc := "(IDZI)V" } : Jvm.MethodName)) ∈ lw_all := lw_g (lw_at lw_m5 115 rfl) rfl
theorem q1336 : (Jvm.Cond.code ({ cls := "ConstraintHouse$Constant", name := "<init>", desc := "(IDZI)V" } : Jvm.MethodName) prog_8_method_1_code (6 : Nat) (Option.none : Option Jvm.ClassFile.FieldType)) ∈ lw_all := lw_g (lw_at lw_m5 116 rfl) rfl
theorem q1337 : (Jvm.Cond.methodLinkNest "ConstraintHouse$Constant" (1 : Nat) ({ cls := "ConstraintHouse$Part", name := "<init>", desc := "()V" } : Jvm.MethodName) "ConstraintHouse") ∈ lw_tbl := lw_at lw_m5 117 rfl
theorem q1341 : (Jvm.Cond.fieldLink "ConstraintHouse$Constant" (7 : Nat) "ConstraintHouse$Constant" "sort" "I") ∈ lw_all := lw_g (lw_at lw_m5 121 rfl) rfl
theorem q1342 : (Jvm.Cond.fieldLink "ConstraintHouse$Constant" (21 : Nat) "ConstraintHouse$Constant" "bits" "I") ∈ lw_all := lw_g (lw_at lw_m5 122 rfl) rfl
theorem q1343 : (Jvm.Cond.fieldLink "ConstraintHouse$Constant" (13 : Nat) "ConstraintHouse$Constant" "number" "D") ∈ lw_all := lw_g (lw_at lw_m5 123 rfl) rfl
theorem q1344 : (Jvm.Cond.fieldLink "ConstraintHouse$Constant" (17 : Nat) "ConstraintHouse$Constant" "truth" "Z") ∈ lw_all := lw_g (lw_at lw_m5 124 rfl) rfl
theorem q1462 : (Jvm.Cond.fieldLink "ConstraintHouse$Constant" (31 : Nat) "ConstraintHouse$Constant" "letters" "I") ∈ lw_all := lw_g (lw_at lw_m6 2 rfl) rfl
theorem q1463 : (Jvm.Cond.sameField "ConstraintHouse$Constant" "ConstraintHouse$Part" "letters" "I") ∈ lw_all := lw_g (lw_at lw_m6 3 rfl) rfl
theorem q1471 : (Jvm.Cond.laysFinal "ConstraintHouse$Constant" "ConstraintHouse$Constant" "sort" "I") ∈ lw_all := lw_g (lw_at lw_m6 11 rfl) rfl
theorem q1472 : (Jvm.Cond.soleField "ConstraintHouse$Constant" "sort") ∈ lw_all := lw_g (lw_at lw_m6 12 rfl) rfl
theorem q1473 : (Jvm.Cond.laysFinal "ConstraintHouse$Constant" "ConstraintHouse$Constant" "bits" "I") ∈ lw_all := lw_g (lw_at lw_m6 13 rfl) rfl
theorem q1474 : (Jvm.Cond.soleField "ConstraintHouse$Constant" "bits") ∈ lw_all := lw_g (lw_at lw_m6 14 rfl) rfl
theorem q1475 : (Jvm.Cond.laysFinal "ConstraintHouse$Constant" "ConstraintHouse$Constant" "number" "D") ∈ lw_all := lw_g (lw_at lw_m6 15 rfl) rfl
theorem q1476 : (Jvm.Cond.soleField "ConstraintHouse$Constant" "number") ∈ lw_all := lw_g (lw_at lw_m6 16 rfl) rfl
theorem q1477 : (Jvm.Cond.laysFinal "ConstraintHouse$Constant" "ConstraintHouse$Constant" "truth" "Z") ∈ lw_all := lw_g (lw_at lw_m6 17 rfl) rfl
theorem q1478 : (Jvm.Cond.soleField "ConstraintHouse$Constant" "truth") ∈ lw_all := lw_g (lw_at lw_m6 18 rfl) rfl
theorem q1479 : (Jvm.Cond.lays "ConstraintHouse$Constant" "ConstraintHouse$Part" "low" "D") ∈ lw_all := lw_g (lw_at lw_m6 19 rfl) rfl
theorem q1481 : (Jvm.Cond.lays "ConstraintHouse$Constant" "ConstraintHouse$Part" "high" "D") ∈ lw_all := lw_g (lw_at lw_m6 21 rfl) rfl
theorem q1483 : (Jvm.Cond.lays "ConstraintHouse$Constant" "ConstraintHouse$Part" "no" "Z") ∈ lw_all := lw_g (lw_at lw_m6 23 rfl) rfl
theorem q1485 : (Jvm.Cond.lays "ConstraintHouse$Constant" "ConstraintHouse$Part" "yes" "Z") ∈ lw_all := lw_g (lw_at lw_m6 25 rfl) rfl
theorem q1487 : (Jvm.Cond.lays "ConstraintHouse$Constant" "ConstraintHouse$Part" "letters" "I") ∈ lw_all := lw_g (lw_at lw_m6 27 rfl) rfl
theorem q1489 : (Jvm.Cond.superclass "ConstraintHouse$Constant" "ConstraintHouse$Part") ∈ lw_all := lw_g (lw_at lw_m6 29 rfl) rfl
theorem q1541 : (Jvm.Cond.instanceMethod ({ cls := "ConstraintHouse$Constant", name := "sort", desc := "()I" } : Jvm.MethodName)) ∈ lw_all := lw_g (lw_at lw_m6 81 rfl) rfl
theorem q1542 : (Jvm.Cond.code ({ cls := "ConstraintHouse$Constant", name := "sort", desc := "()I" } : Jvm.MethodName) prog_8_method_2_code (1 : Nat) (Option.some Jvm.ClassFile.FieldType.int)) ∈ lw_all := lw_g (lw_at lw_m6 82 rfl) rfl
theorem q1567 : (Jvm.Cond.selects "ConstraintHouse$Constant" ({ cls := "ConstraintHouse$Part", name := "sort", desc := "()I" } : Jvm.MethodName) ({ cls := "ConstraintHouse$Constant", name := "sort", desc := "()I" } : Jvm.MethodName)) ∈ lw_all := lw_g (lw_at lw_m6 107 rfl) rfl
theorem q2484 : (Jvm.Cond.selects "ConstraintHouse$Constant" ({ cls := "ConstraintHouse$Narrows", name := "forwards", desc := "(LConstraintHouse$Solver;)V" } : Jvm.MethodName) ({ cls := "ConstraintHouse$Constant", name := "forwards", desc := "(LConstraintHouse$Solver;)V" } : Jvm.MethodName)) ∈ lw_all := lw_g (lw_at lw_m10 64 rfl) rfl
theorem q2485 : (Jvm.Cond.instanceMethod ({ cls := "ConstraintHouse$Constant", name := "forwards", desc := "(LConstraintHouse$Solver;)V" } : Jvm.MethodName)) ∈ lw_all := lw_g (lw_at lw_m10 65 rfl) rfl
theorem q2486 : (Jvm.Cond.code ({ cls := "ConstraintHouse$Constant", name := "forwards", desc := "(LConstraintHouse$Solver;)V" } : Jvm.MethodName) prog_8_method_3_code (2 : Nat) (Option.none : Option Jvm.ClassFile.FieldType)) ∈ lw_all := lw_g (lw_at lw_m10 66 rfl) rfl
theorem q2487 : (Jvm.Cond.methodLink "ConstraintHouse$Constant" (24 : Nat) ({ cls := "ConstraintHouse$Constant", name := "be", desc := "(DD)V" } : Jvm.MethodName)) ∈ lw_all := lw_g (lw_at lw_m10 67 rfl) rfl
theorem q2488 : (Jvm.Cond.sameMethod "ConstraintHouse$Constant" "ConstraintHouse$Part" "be" "(DD)V") ∈ lw_all := lw_g (lw_at lw_m10 68 rfl) rfl
theorem q2490 : (Jvm.Cond.selects "ConstraintHouse$Constant" ({ cls := "ConstraintHouse$Constant", name := "be", desc := "(DD)V" } : Jvm.MethodName) ({ cls := "ConstraintHouse$Part", name := "be", desc := "(DD)V" } : Jvm.MethodName)) ∈ lw_all := lw_g (lw_at lw_m10 70 rfl) rfl
theorem q2493 : (Jvm.Cond.methodLink "ConstraintHouse$Constant" (28 : Nat) ({ cls := "ConstraintHouse$Constant", name := "truth", desc := "(ZZ)V" } : Jvm.MethodName)) ∈ lw_all := lw_g (lw_at lw_m10 73 rfl) rfl
theorem q2494 : (Jvm.Cond.sameMethod "ConstraintHouse$Constant" "ConstraintHouse$Part" "truth" "(ZZ)V") ∈ lw_all := lw_g (lw_at lw_m10 74 rfl) rfl
theorem q2496 : (Jvm.Cond.selects "ConstraintHouse$Constant" ({ cls := "ConstraintHouse$Constant", name := "truth", desc := "(ZZ)V" } : Jvm.MethodName) ({ cls := "ConstraintHouse$Part", name := "truth", desc := "(ZZ)V" } : Jvm.MethodName)) ∈ lw_all := lw_g (lw_at lw_m10 76 rfl) rfl
theorem q2817 : (Jvm.Cond.selects "ConstraintHouse$Constant" ({ cls := "ConstraintHouse$Part", name := "hasMeet", desc := "(LConstraintHouse$Part;)Z" } : Jvm.MethodName) ({ cls := "ConstraintHouse$Part", name := "hasMeet", desc := "(LConstraintHouse$Part;)Z" } : Jvm.MethodName)) ∈ lw_all := lw_g (lw_at lw_m11 157 rfl) rfl
theorem q2868 : (Jvm.Cond.selects "ConstraintHouse$Constant" ({ cls := "ConstraintHouse$Part", name := "meets", desc := "(ZZ)V" } : Jvm.MethodName) ({ cls := "ConstraintHouse$Part", name := "meets", desc := "(ZZ)V" } : Jvm.MethodName)) ∈ lw_all := lw_g (lw_at lw_m11 208 rfl) rfl
theorem q2904 : (Jvm.Cond.selects "ConstraintHouse$Constant" ({ cls := "ConstraintHouse$Part", name := "meets", desc := "(LConstraintHouse$Part;)V" } : Jvm.MethodName) ({ cls := "ConstraintHouse$Part", name := "meets", desc := "(LConstraintHouse$Part;)V" } : Jvm.MethodName)) ∈ lw_all := lw_g (lw_at lw_m12 4 rfl) rfl
theorem q2926 : (Jvm.Cond.selects "ConstraintHouse$Constant" ({ cls := "ConstraintHouse$Part", name := "meet", desc := "(DD)V" } : Jvm.MethodName) ({ cls := "ConstraintHouse$Part", name := "meet", desc := "(DD)V" } : Jvm.MethodName)) ∈ lw_all := lw_g (lw_at lw_m12 26 rfl) rfl
theorem q2949 : (Jvm.Cond.selects "ConstraintHouse$Constant" ({ cls := "ConstraintHouse$Part", name := "meets", desc := "(I)V" } : Jvm.MethodName) ({ cls := "ConstraintHouse$Part", name := "meets", desc := "(I)V" } : Jvm.MethodName)) ∈ lw_all := lw_g (lw_at lw_m12 49 rfl) rfl
theorem q2975 : (Jvm.Cond.selects "ConstraintHouse$Constant" ({ cls := "ConstraintHouse$Part", name := "lose", desc := "(D)V" } : Jvm.MethodName) ({ cls := "ConstraintHouse$Part", name := "lose", desc := "(D)V" } : Jvm.MethodName)) ∈ lw_all := lw_g (lw_at lw_m12 75 rfl) rfl
theorem q3047 : (Jvm.Cond.selects "ConstraintHouse$Constant" ({ cls := "ConstraintHouse$Part", name := "lose", desc := "([I)V" } : Jvm.MethodName) ({ cls := "ConstraintHouse$Part", name := "lose", desc := "([I)V" } : Jvm.MethodName)) ∈ lw_all := lw_g (lw_at lw_m12 147 rfl) rfl
theorem q3167 : (Jvm.Cond.selects "ConstraintHouse$Constant" ({ cls := "ConstraintHouse$Part", name := "backwards", desc := "(LConstraintHouse$Solver;)V" } : Jvm.MethodName) ({ cls := "ConstraintHouse$Part", name := "backwards", desc := "(LConstraintHouse$Solver;)V" } : Jvm.MethodName)) ∈ lw_all := lw_g (lw_at lw_m13 27 rfl) rfl
theorem q3263 : (Jvm.Cond.selects "ConstraintHouse$Constant" ({ cls := "ConstraintHouse$Part", name := "enter", desc := "(LConstraintHouse$Solver;)V" } : Jvm.MethodName) ({ cls := "ConstraintHouse$Part", name := "enter", desc := "(LConstraintHouse$Solver;)V" } : Jvm.MethodName)) ∈ lw_all := lw_g (lw_at lw_m13 123 rfl) rfl
theorem q4825 : (Jvm.Cond.castable "ConstraintHouse$Constant" "java/lang/Object") ∈ lw_tbl := lw_at lw_m20 5 rfl
theorem q4860 : (Jvm.Cond.castable "ConstraintHouse$Constant" "ConstraintHouse$Part") ∈ lw_tbl := lw_at lw_m20 40 rfl
theorem in_X16 : ∀ w ∈ wsX160, w ∈ lw_all := lw_in wsX160 [1479, 1481, 1483, 1485, 1487, 1471, 1473, 1475, 1477] (by decide +kernel) (by decide +kernel)
/-! ConstraintHouse$Leaf -/
set_option maxRecDepth 100000
def RX17 : String := "ConstraintHouse$Leaf"
def TX17 : u_T := fun k => match k with
  | 0 => ("ConstraintHouse$Part", "low", "D", false)
  | 1 => ("ConstraintHouse$Part", "high", "D", false)
  | 2 => ("ConstraintHouse$Part", "no", "Z", false)
  | 3 => ("ConstraintHouse$Part", "yes", "Z", false)
  | 4 => ("ConstraintHouse$Part", "letters", "I", false)
  | _ => ("ConstraintHouse$Leaf", "of", "LConstraintHouse$Variable;", true)
def tyX17 : Nat → FieldType := fun k => match k with
  | 0 => .double
  | 1 => .double
  | 2 => .boolean
  | 3 => .boolean
  | 4 => .int
  | _ => .object "ConstraintHouse$Variable"
abbrev wsX170 : List Cond := u_ws RX17 TX17 6
theorem nmX17 : ∀ a, a < 6 → ∀ b, b < 6 → a ≠ b → (TX17 a).2.1 ≠ (TX17 b).2.1 := by decide +kernel
theorem tyX17_ok : ∀ k, k < 6 → parseFieldDescriptor (TX17 k).2.2.1 = some (tyX17 k) := by decide +kernel
abbrev cX17_init : ByteArray := prog_14_method_1_code
def yX17_init : MethodName := ⟨RX17, "<init>", "(LConstraintHouse$Variable;)V"⟩
def dkwX17_init_0 : List UInt8 := [42, 183, 0, 3, 42, 43, 181, 0, 9, 177]
abbrev dktX17_init_0 : List UInt8 := dkwX17_init_0 ++ []
theorem dksX17_init_0 : cX17_init.data.toList.drop 0 = dktX17_init_0 := by decide +kernel
theorem dX17_init_0 : decode cX17_init 0 = .ok (.aload_n 0, 1) := dk_42 (dk_at dksX17_init_0 0 rfl rfl)
theorem dX17_init_1 : decode cX17_init 1 = .ok (.invokespecial 3, 3) := dk_183 0 3 (dk_at dksX17_init_0 1 rfl rfl)
theorem dX17_init_4 : decode cX17_init 4 = .ok (.aload_n 0, 1) := dk_42 (dk_at dksX17_init_0 4 rfl rfl)
theorem dX17_init_5 : decode cX17_init 5 = .ok (.aload_n 1, 1) := dk_43 (dk_at dksX17_init_0 5 rfl rfl)
theorem dX17_init_6 : decode cX17_init 6 = .ok (.putfield 9, 3) := dk_181 0 9 (dk_at dksX17_init_0 6 rfl rfl)
theorem dX17_init_9 : decode cX17_init 9 = .ok (.return_, 1) := dk_177 (dk_at dksX17_init_0 9 rfl rfl)
abbrev cX17_sort : ByteArray := prog_14_method_2_code
def yX17_sort : MethodName := ⟨RX17, "sort", "()I"⟩
def dkwX17_sort_1 : List UInt8 := [160, 0, 7, 5, 167, 0, 4, 3, 172]
abbrev dktX17_sort_1 : List UInt8 := dkwX17_sort_1 ++ []
def dkwX17_sort_0 : List UInt8 := [42, 180, 0, 9, 182, 0, 15, 6, 160, 0, 7, 4, 167, 0, 19, 42, 180, 0, 9, 182, 0, 15, 7]
abbrev dktX17_sort_0 : List UInt8 := dkwX17_sort_0 ++ dktX17_sort_1
theorem dksX17_sort_0 : cX17_sort.data.toList.drop 0 = dktX17_sort_0 := by decide +kernel
theorem dksX17_sort_1 : cX17_sort.data.toList.drop 23 = dktX17_sort_1 := dk_seg dksX17_sort_0 23 rfl rfl
theorem dX17_sort_0 : decode cX17_sort 0 = .ok (.aload_n 0, 1) := dk_42 (dk_at dksX17_sort_0 0 rfl rfl)
theorem dX17_sort_1 : decode cX17_sort 1 = .ok (.getfield 9, 3) := dk_180 0 9 (dk_at dksX17_sort_0 1 rfl rfl)
theorem dX17_sort_4 : decode cX17_sort 4 = .ok (.invokevirtual 15, 3) := dk_182 0 15 (dk_at dksX17_sort_0 4 rfl rfl)
theorem dX17_sort_7 : decode cX17_sort 7 = .ok (.iconst 3, 1) := dk_6 (dk_at dksX17_sort_0 7 rfl rfl)
theorem dX17_sort_8 : decode cX17_sort 8 = .ok (.if_icmp .ne 7, 3) := dk_160 0 7 (dk_at dksX17_sort_0 8 rfl rfl)
theorem dX17_sort_11 : decode cX17_sort 11 = .ok (.iconst 1, 1) := dk_4 (dk_at dksX17_sort_0 11 rfl rfl)
theorem dX17_sort_12 : decode cX17_sort 12 = .ok (.goto 19, 3) := dk_167 0 19 (dk_at dksX17_sort_0 12 rfl rfl)
theorem dX17_sort_15 : decode cX17_sort 15 = .ok (.aload_n 0, 1) := dk_42 (dk_at dksX17_sort_0 15 rfl rfl)
theorem dX17_sort_16 : decode cX17_sort 16 = .ok (.getfield 9, 3) := dk_180 0 9 (dk_at dksX17_sort_0 16 rfl rfl)
theorem dX17_sort_19 : decode cX17_sort 19 = .ok (.invokevirtual 15, 3) := dk_182 0 15 (dk_at dksX17_sort_0 19 rfl rfl)
theorem dX17_sort_22 : decode cX17_sort 22 = .ok (.iconst 4, 1) := dk_7 (dk_at dksX17_sort_0 22 rfl rfl)
theorem dX17_sort_23 : decode cX17_sort 23 = .ok (.if_icmp .ne 7, 3) := dk_160 0 7 (dk_at dksX17_sort_1 0 rfl rfl)
theorem dX17_sort_26 : decode cX17_sort 26 = .ok (.iconst 2, 1) := dk_5 (dk_at dksX17_sort_1 3 rfl rfl)
theorem dX17_sort_27 : decode cX17_sort 27 = .ok (.goto 4, 3) := dk_167 0 4 (dk_at dksX17_sort_1 4 rfl rfl)
theorem dX17_sort_30 : decode cX17_sort 30 = .ok (.iconst 0, 1) := dk_3 (dk_at dksX17_sort_1 7 rfl rfl)
theorem dX17_sort_31 : decode cX17_sort 31 = .ok (.ireturn, 1) := dk_172 (dk_at dksX17_sort_1 8 rfl rfl)
abbrev cX17_forwards : ByteArray := prog_14_method_3_code
def yX17_forwards : MethodName := ⟨RX17, "forwards", "(LConstraintHouse$Solver;)V"⟩
def dkwX17_forwards_3 : List UInt8 := [180, 0, 9, 192, 0, 44, 182, 0, 46, 181, 0, 49, 177]
abbrev dktX17_forwards_3 : List UInt8 := dkwX17_forwards_3 ++ []
def dkwX17_forwards_2 : List UInt8 := [192, 0, 34, 77, 42, 44, 3, 182, 0, 36, 44, 4, 182, 0, 36, 182, 0, 40, 167, 0, 17, 42, 42]
abbrev dktX17_forwards_2 : List UInt8 := dkwX17_forwards_2 ++ dktX17_forwards_3
def dkwX17_forwards_1 : List UInt8 := [182, 0, 27, 182, 0, 30, 167, 0, 52, 42, 180, 0, 9, 193, 0, 34, 153, 0, 28, 42, 180, 0, 9]
abbrev dktX17_forwards_1 : List UInt8 := dkwX17_forwards_1 ++ dktX17_forwards_2
def dkwX17_forwards_0 : List UInt8 := [42, 180, 0, 9, 193, 0, 21, 153, 0, 26, 42, 180, 0, 9, 192, 0, 21, 77, 42, 44, 182, 0, 23, 44]
abbrev dktX17_forwards_0 : List UInt8 := dkwX17_forwards_0 ++ dktX17_forwards_1
theorem dksX17_forwards_0 : cX17_forwards.data.toList.drop 0 = dktX17_forwards_0 := by decide +kernel
theorem dksX17_forwards_1 : cX17_forwards.data.toList.drop 24 = dktX17_forwards_1 := dk_seg dksX17_forwards_0 24 rfl rfl
theorem dksX17_forwards_2 : cX17_forwards.data.toList.drop 47 = dktX17_forwards_2 := dk_seg dksX17_forwards_1 23 rfl rfl
theorem dksX17_forwards_3 : cX17_forwards.data.toList.drop 70 = dktX17_forwards_3 := dk_seg dksX17_forwards_2 23 rfl rfl
theorem dX17_forwards_0 : decode cX17_forwards 0 = .ok (.aload_n 0, 1) := dk_42 (dk_at dksX17_forwards_0 0 rfl rfl)
theorem dX17_forwards_1 : decode cX17_forwards 1 = .ok (.getfield 9, 3) := dk_180 0 9 (dk_at dksX17_forwards_0 1 rfl rfl)
theorem dX17_forwards_4 : decode cX17_forwards 4 = .ok (.instanceof 21, 3) := dk_193 0 21 (dk_at dksX17_forwards_0 4 rfl rfl)
theorem dX17_forwards_7 : decode cX17_forwards 7 = .ok (.ifCond .eq 26, 3) := dk_153 0 26 (dk_at dksX17_forwards_0 7 rfl rfl)
theorem dX17_forwards_10 : decode cX17_forwards 10 = .ok (.aload_n 0, 1) := dk_42 (dk_at dksX17_forwards_0 10 rfl rfl)
theorem dX17_forwards_11 : decode cX17_forwards 11 = .ok (.getfield 9, 3) := dk_180 0 9 (dk_at dksX17_forwards_0 11 rfl rfl)
theorem dX17_forwards_14 : decode cX17_forwards 14 = .ok (.checkcast 21, 3) := dk_192 0 21 (dk_at dksX17_forwards_0 14 rfl rfl)
theorem dX17_forwards_17 : decode cX17_forwards 17 = .ok (.astore_n 2, 1) := dk_77 (dk_at dksX17_forwards_0 17 rfl rfl)
theorem dX17_forwards_18 : decode cX17_forwards 18 = .ok (.aload_n 0, 1) := dk_42 (dk_at dksX17_forwards_0 18 rfl rfl)
theorem dX17_forwards_19 : decode cX17_forwards 19 = .ok (.aload_n 2, 1) := dk_44 (dk_at dksX17_forwards_0 19 rfl rfl)
theorem dX17_forwards_20 : decode cX17_forwards 20 = .ok (.invokevirtual 23, 3) := dk_182 0 23 (dk_at dksX17_forwards_0 20 rfl rfl)
theorem dX17_forwards_23 : decode cX17_forwards 23 = .ok (.aload_n 2, 1) := dk_44 (dk_at dksX17_forwards_0 23 rfl rfl)
theorem dX17_forwards_24 : decode cX17_forwards 24 = .ok (.invokevirtual 27, 3) := dk_182 0 27 (dk_at dksX17_forwards_1 0 rfl rfl)
theorem dX17_forwards_27 : decode cX17_forwards 27 = .ok (.invokevirtual 30, 3) := dk_182 0 30 (dk_at dksX17_forwards_1 3 rfl rfl)
theorem dX17_forwards_30 : decode cX17_forwards 30 = .ok (.goto 52, 3) := dk_167 0 52 (dk_at dksX17_forwards_1 6 rfl rfl)
theorem dX17_forwards_33 : decode cX17_forwards 33 = .ok (.aload_n 0, 1) := dk_42 (dk_at dksX17_forwards_1 9 rfl rfl)
theorem dX17_forwards_34 : decode cX17_forwards 34 = .ok (.getfield 9, 3) := dk_180 0 9 (dk_at dksX17_forwards_1 10 rfl rfl)
theorem dX17_forwards_37 : decode cX17_forwards 37 = .ok (.instanceof 34, 3) := dk_193 0 34 (dk_at dksX17_forwards_1 13 rfl rfl)
theorem dX17_forwards_40 : decode cX17_forwards 40 = .ok (.ifCond .eq 28, 3) := dk_153 0 28 (dk_at dksX17_forwards_1 16 rfl rfl)
theorem dX17_forwards_43 : decode cX17_forwards 43 = .ok (.aload_n 0, 1) := dk_42 (dk_at dksX17_forwards_1 19 rfl rfl)
theorem dX17_forwards_44 : decode cX17_forwards 44 = .ok (.getfield 9, 3) := dk_180 0 9 (dk_at dksX17_forwards_1 20 rfl rfl)
theorem dX17_forwards_47 : decode cX17_forwards 47 = .ok (.checkcast 34, 3) := dk_192 0 34 (dk_at dksX17_forwards_2 0 rfl rfl)
theorem dX17_forwards_50 : decode cX17_forwards 50 = .ok (.astore_n 2, 1) := dk_77 (dk_at dksX17_forwards_2 3 rfl rfl)
theorem dX17_forwards_51 : decode cX17_forwards 51 = .ok (.aload_n 0, 1) := dk_42 (dk_at dksX17_forwards_2 4 rfl rfl)
theorem dX17_forwards_52 : decode cX17_forwards 52 = .ok (.aload_n 2, 1) := dk_44 (dk_at dksX17_forwards_2 5 rfl rfl)
theorem dX17_forwards_53 : decode cX17_forwards 53 = .ok (.iconst 0, 1) := dk_3 (dk_at dksX17_forwards_2 6 rfl rfl)
theorem dX17_forwards_54 : decode cX17_forwards 54 = .ok (.invokevirtual 36, 3) := dk_182 0 36 (dk_at dksX17_forwards_2 7 rfl rfl)
theorem dX17_forwards_57 : decode cX17_forwards 57 = .ok (.aload_n 2, 1) := dk_44 (dk_at dksX17_forwards_2 10 rfl rfl)
theorem dX17_forwards_58 : decode cX17_forwards 58 = .ok (.iconst 1, 1) := dk_4 (dk_at dksX17_forwards_2 11 rfl rfl)
theorem dX17_forwards_59 : decode cX17_forwards 59 = .ok (.invokevirtual 36, 3) := dk_182 0 36 (dk_at dksX17_forwards_2 12 rfl rfl)
theorem dX17_forwards_62 : decode cX17_forwards 62 = .ok (.invokevirtual 40, 3) := dk_182 0 40 (dk_at dksX17_forwards_2 15 rfl rfl)
theorem dX17_forwards_65 : decode cX17_forwards 65 = .ok (.goto 17, 3) := dk_167 0 17 (dk_at dksX17_forwards_2 18 rfl rfl)
theorem dX17_forwards_68 : decode cX17_forwards 68 = .ok (.aload_n 0, 1) := dk_42 (dk_at dksX17_forwards_2 21 rfl rfl)
theorem dX17_forwards_69 : decode cX17_forwards 69 = .ok (.aload_n 0, 1) := dk_42 (dk_at dksX17_forwards_2 22 rfl rfl)
theorem dX17_forwards_70 : decode cX17_forwards 70 = .ok (.getfield 9, 3) := dk_180 0 9 (dk_at dksX17_forwards_3 0 rfl rfl)
theorem dX17_forwards_73 : decode cX17_forwards 73 = .ok (.checkcast 44, 3) := dk_192 0 44 (dk_at dksX17_forwards_3 3 rfl rfl)
theorem dX17_forwards_76 : decode cX17_forwards 76 = .ok (.invokevirtual 46, 3) := dk_182 0 46 (dk_at dksX17_forwards_3 6 rfl rfl)
theorem dX17_forwards_79 : decode cX17_forwards 79 = .ok (.putfield 49, 3) := dk_181 0 49 (dk_at dksX17_forwards_3 9 rfl rfl)
theorem dX17_forwards_82 : decode cX17_forwards 82 = .ok (.return_, 1) := dk_177 (dk_at dksX17_forwards_3 12 rfl rfl)
abbrev cX17_lose : ByteArray := prog_14_method_6_code
def yX17_lose : MethodName := ⟨RX17, "lose", "(D)V"⟩
def dkwX17_lose_0 : List UInt8 := [42, 180, 0, 9, 193, 0, 77, 153, 0, 14, 42, 180, 0, 9, 192, 0, 77, 39, 182, 0, 79, 177]
abbrev dktX17_lose_0 : List UInt8 := dkwX17_lose_0 ++ []
theorem dksX17_lose_0 : cX17_lose.data.toList.drop 0 = dktX17_lose_0 := by decide +kernel
theorem dX17_lose_0 : decode cX17_lose 0 = .ok (.aload_n 0, 1) := dk_42 (dk_at dksX17_lose_0 0 rfl rfl)
theorem dX17_lose_1 : decode cX17_lose 1 = .ok (.getfield 9, 3) := dk_180 0 9 (dk_at dksX17_lose_0 1 rfl rfl)
theorem dX17_lose_4 : decode cX17_lose 4 = .ok (.instanceof 77, 3) := dk_193 0 77 (dk_at dksX17_lose_0 4 rfl rfl)
theorem dX17_lose_7 : decode cX17_lose 7 = .ok (.ifCond .eq 14, 3) := dk_153 0 14 (dk_at dksX17_lose_0 7 rfl rfl)
theorem dX17_lose_10 : decode cX17_lose 10 = .ok (.aload_n 0, 1) := dk_42 (dk_at dksX17_lose_0 10 rfl rfl)
theorem dX17_lose_11 : decode cX17_lose 11 = .ok (.getfield 9, 3) := dk_180 0 9 (dk_at dksX17_lose_0 11 rfl rfl)
theorem dX17_lose_14 : decode cX17_lose 14 = .ok (.checkcast 77, 3) := dk_192 0 77 (dk_at dksX17_lose_0 14 rfl rfl)
theorem dX17_lose_17 : decode cX17_lose 17 = .ok (.dload_n 1, 1) := dk_39 (dk_at dksX17_lose_0 17 rfl rfl)
theorem dX17_lose_18 : decode cX17_lose 18 = .ok (.invokevirtual 79, 3) := dk_182 0 79 (dk_at dksX17_lose_0 18 rfl rfl)
theorem dX17_lose_21 : decode cX17_lose 21 = .ok (.return_, 1) := dk_177 (dk_at dksX17_lose_0 21 rfl rfl)
abbrev cX17_lose_2 : ByteArray := prog_14_method_7_code
def yX17_lose_2 : MethodName := ⟨RX17, "lose", "([I)V"⟩
def dkwX17_lose_2_0 : List UInt8 := [42, 180, 0, 9, 193, 0, 77, 153, 0, 14, 42, 180, 0, 9, 192, 0, 77, 43, 182, 0, 83, 177]
abbrev dktX17_lose_2_0 : List UInt8 := dkwX17_lose_2_0 ++ []
theorem dksX17_lose_2_0 : cX17_lose_2.data.toList.drop 0 = dktX17_lose_2_0 := by decide +kernel
theorem dX17_lose_2_0 : decode cX17_lose_2 0 = .ok (.aload_n 0, 1) := dk_42 (dk_at dksX17_lose_2_0 0 rfl rfl)
theorem dX17_lose_2_1 : decode cX17_lose_2 1 = .ok (.getfield 9, 3) := dk_180 0 9 (dk_at dksX17_lose_2_0 1 rfl rfl)
theorem dX17_lose_2_4 : decode cX17_lose_2 4 = .ok (.instanceof 77, 3) := dk_193 0 77 (dk_at dksX17_lose_2_0 4 rfl rfl)
theorem dX17_lose_2_7 : decode cX17_lose_2 7 = .ok (.ifCond .eq 14, 3) := dk_153 0 14 (dk_at dksX17_lose_2_0 7 rfl rfl)
theorem dX17_lose_2_10 : decode cX17_lose_2 10 = .ok (.aload_n 0, 1) := dk_42 (dk_at dksX17_lose_2_0 10 rfl rfl)
theorem dX17_lose_2_11 : decode cX17_lose_2 11 = .ok (.getfield 9, 3) := dk_180 0 9 (dk_at dksX17_lose_2_0 11 rfl rfl)
theorem dX17_lose_2_14 : decode cX17_lose_2 14 = .ok (.checkcast 77, 3) := dk_192 0 77 (dk_at dksX17_lose_2_0 14 rfl rfl)
theorem dX17_lose_2_17 : decode cX17_lose_2 17 = .ok (.aload_n 1, 1) := dk_43 (dk_at dksX17_lose_2_0 17 rfl rfl)
theorem dX17_lose_2_18 : decode cX17_lose_2 18 = .ok (.invokevirtual 83, 3) := dk_182 0 83 (dk_at dksX17_lose_2_0 18 rfl rfl)
theorem dX17_lose_2_21 : decode cX17_lose_2 21 = .ok (.return_, 1) := dk_177 (dk_at dksX17_lose_2_0 21 rfl rfl)
abbrev cX17_enter : ByteArray := prog_14_method_4_code
def yX17_enter : MethodName := ⟨RX17, "enter", "(LConstraintHouse$Solver;)V"⟩
def dkwX17_enter_1 : List UInt8 := [43, 183, 0, 60, 177]
abbrev dktX17_enter_1 : List UInt8 := dkwX17_enter_1 ++ []
def dkwX17_enter_0 : List UInt8 := [42, 182, 0, 52, 4, 160, 0, 18, 42, 180, 0, 53, 153, 0, 11, 42, 180, 0, 57, 153, 0, 4, 177, 42]
abbrev dktX17_enter_0 : List UInt8 := dkwX17_enter_0 ++ dktX17_enter_1
theorem dksX17_enter_0 : cX17_enter.data.toList.drop 0 = dktX17_enter_0 := by decide +kernel
theorem dksX17_enter_1 : cX17_enter.data.toList.drop 24 = dktX17_enter_1 := dk_seg dksX17_enter_0 24 rfl rfl
theorem dX17_enter_0 : decode cX17_enter 0 = .ok (.aload_n 0, 1) := dk_42 (dk_at dksX17_enter_0 0 rfl rfl)
theorem dX17_enter_1 : decode cX17_enter 1 = .ok (.invokevirtual 52, 3) := dk_182 0 52 (dk_at dksX17_enter_0 1 rfl rfl)
theorem dX17_enter_4 : decode cX17_enter 4 = .ok (.iconst 1, 1) := dk_4 (dk_at dksX17_enter_0 4 rfl rfl)
theorem dX17_enter_5 : decode cX17_enter 5 = .ok (.if_icmp .ne 18, 3) := dk_160 0 18 (dk_at dksX17_enter_0 5 rfl rfl)
theorem dX17_enter_8 : decode cX17_enter 8 = .ok (.aload_n 0, 1) := dk_42 (dk_at dksX17_enter_0 8 rfl rfl)
theorem dX17_enter_9 : decode cX17_enter 9 = .ok (.getfield 53, 3) := dk_180 0 53 (dk_at dksX17_enter_0 9 rfl rfl)
theorem dX17_enter_12 : decode cX17_enter 12 = .ok (.ifCond .eq 11, 3) := dk_153 0 11 (dk_at dksX17_enter_0 12 rfl rfl)
theorem dX17_enter_15 : decode cX17_enter 15 = .ok (.aload_n 0, 1) := dk_42 (dk_at dksX17_enter_0 15 rfl rfl)
theorem dX17_enter_16 : decode cX17_enter 16 = .ok (.getfield 57, 3) := dk_180 0 57 (dk_at dksX17_enter_0 16 rfl rfl)
theorem dX17_enter_19 : decode cX17_enter 19 = .ok (.ifCond .eq 4, 3) := dk_153 0 4 (dk_at dksX17_enter_0 19 rfl rfl)
theorem dX17_enter_22 : decode cX17_enter 22 = .ok (.return_, 1) := dk_177 (dk_at dksX17_enter_0 22 rfl rfl)
theorem dX17_enter_23 : decode cX17_enter 23 = .ok (.aload_n 0, 1) := dk_42 (dk_at dksX17_enter_0 23 rfl rfl)
theorem dX17_enter_24 : decode cX17_enter 24 = .ok (.aload_n 1, 1) := dk_43 (dk_at dksX17_enter_1 0 rfl rfl)
theorem dX17_enter_25 : decode cX17_enter 25 = .ok (.invokespecial 60, 3) := dk_183 0 60 (dk_at dksX17_enter_1 1 rfl rfl)
theorem dX17_enter_28 : decode cX17_enter 28 = .ok (.return_, 1) := dk_177 (dk_at dksX17_enter_1 4 rfl rfl)
abbrev cX17_backwards : ByteArray := prog_14_method_5_code
def yX17_backwards : MethodName := ⟨RX17, "backwards", "(LConstraintHouse$Solver;)V"⟩
def dkwX17_backwards_3 : List UInt8 := [42, 180, 0, 49, 182, 0, 74, 177]
abbrev dktX17_backwards_3 : List UInt8 := dkwX17_backwards_3 ++ []
def dkwX17_backwards_2 : List UInt8 := [192, 0, 34, 42, 180, 0, 53, 42, 180, 0, 57, 182, 0, 72, 167, 0, 17, 42, 180, 0, 9, 192, 0, 44]
abbrev dktX17_backwards_2 : List UInt8 := dkwX17_backwards_2 ++ dktX17_backwards_3
def dkwX17_backwards_1 : List UInt8 := [180, 0, 67, 182, 0, 69, 167, 0, 48, 42, 180, 0, 9, 193, 0, 34, 153, 0, 24, 42, 180, 0, 9]
abbrev dktX17_backwards_1 : List UInt8 := dkwX17_backwards_1 ++ dktX17_backwards_2
def dkwX17_backwards_0 : List UInt8 := [42, 180, 0, 9, 193, 0, 21, 153, 0, 24, 42, 180, 0, 9, 192, 0, 21, 42, 180, 0, 64, 42]
abbrev dktX17_backwards_0 : List UInt8 := dkwX17_backwards_0 ++ dktX17_backwards_1
theorem dksX17_backwards_0 : cX17_backwards.data.toList.drop 0 = dktX17_backwards_0 := by decide +kernel
theorem dksX17_backwards_1 : cX17_backwards.data.toList.drop 22 = dktX17_backwards_1 := dk_seg dksX17_backwards_0 22 rfl rfl
theorem dksX17_backwards_2 : cX17_backwards.data.toList.drop 45 = dktX17_backwards_2 := dk_seg dksX17_backwards_1 23 rfl rfl
theorem dksX17_backwards_3 : cX17_backwards.data.toList.drop 69 = dktX17_backwards_3 := dk_seg dksX17_backwards_2 24 rfl rfl
theorem dX17_backwards_0 : decode cX17_backwards 0 = .ok (.aload_n 0, 1) := dk_42 (dk_at dksX17_backwards_0 0 rfl rfl)
theorem dX17_backwards_1 : decode cX17_backwards 1 = .ok (.getfield 9, 3) := dk_180 0 9 (dk_at dksX17_backwards_0 1 rfl rfl)
theorem dX17_backwards_4 : decode cX17_backwards 4 = .ok (.instanceof 21, 3) := dk_193 0 21 (dk_at dksX17_backwards_0 4 rfl rfl)
theorem dX17_backwards_7 : decode cX17_backwards 7 = .ok (.ifCond .eq 24, 3) := dk_153 0 24 (dk_at dksX17_backwards_0 7 rfl rfl)
theorem dX17_backwards_10 : decode cX17_backwards 10 = .ok (.aload_n 0, 1) := dk_42 (dk_at dksX17_backwards_0 10 rfl rfl)
theorem dX17_backwards_11 : decode cX17_backwards 11 = .ok (.getfield 9, 3) := dk_180 0 9 (dk_at dksX17_backwards_0 11 rfl rfl)
theorem dX17_backwards_14 : decode cX17_backwards 14 = .ok (.checkcast 21, 3) := dk_192 0 21 (dk_at dksX17_backwards_0 14 rfl rfl)
theorem dX17_backwards_17 : decode cX17_backwards 17 = .ok (.aload_n 0, 1) := dk_42 (dk_at dksX17_backwards_0 17 rfl rfl)
theorem dX17_backwards_18 : decode cX17_backwards 18 = .ok (.getfield 64, 3) := dk_180 0 64 (dk_at dksX17_backwards_0 18 rfl rfl)
theorem dX17_backwards_21 : decode cX17_backwards 21 = .ok (.aload_n 0, 1) := dk_42 (dk_at dksX17_backwards_0 21 rfl rfl)
theorem dX17_backwards_22 : decode cX17_backwards 22 = .ok (.getfield 67, 3) := dk_180 0 67 (dk_at dksX17_backwards_1 0 rfl rfl)
theorem dX17_backwards_25 : decode cX17_backwards 25 = .ok (.invokevirtual 69, 3) := dk_182 0 69 (dk_at dksX17_backwards_1 3 rfl rfl)
theorem dX17_backwards_28 : decode cX17_backwards 28 = .ok (.goto 48, 3) := dk_167 0 48 (dk_at dksX17_backwards_1 6 rfl rfl)
theorem dX17_backwards_31 : decode cX17_backwards 31 = .ok (.aload_n 0, 1) := dk_42 (dk_at dksX17_backwards_1 9 rfl rfl)
theorem dX17_backwards_32 : decode cX17_backwards 32 = .ok (.getfield 9, 3) := dk_180 0 9 (dk_at dksX17_backwards_1 10 rfl rfl)
theorem dX17_backwards_35 : decode cX17_backwards 35 = .ok (.instanceof 34, 3) := dk_193 0 34 (dk_at dksX17_backwards_1 13 rfl rfl)
theorem dX17_backwards_38 : decode cX17_backwards 38 = .ok (.ifCond .eq 24, 3) := dk_153 0 24 (dk_at dksX17_backwards_1 16 rfl rfl)
theorem dX17_backwards_41 : decode cX17_backwards 41 = .ok (.aload_n 0, 1) := dk_42 (dk_at dksX17_backwards_1 19 rfl rfl)
theorem dX17_backwards_42 : decode cX17_backwards 42 = .ok (.getfield 9, 3) := dk_180 0 9 (dk_at dksX17_backwards_1 20 rfl rfl)
theorem dX17_backwards_45 : decode cX17_backwards 45 = .ok (.checkcast 34, 3) := dk_192 0 34 (dk_at dksX17_backwards_2 0 rfl rfl)
theorem dX17_backwards_48 : decode cX17_backwards 48 = .ok (.aload_n 0, 1) := dk_42 (dk_at dksX17_backwards_2 3 rfl rfl)
theorem dX17_backwards_49 : decode cX17_backwards 49 = .ok (.getfield 53, 3) := dk_180 0 53 (dk_at dksX17_backwards_2 4 rfl rfl)
theorem dX17_backwards_52 : decode cX17_backwards 52 = .ok (.aload_n 0, 1) := dk_42 (dk_at dksX17_backwards_2 7 rfl rfl)
theorem dX17_backwards_53 : decode cX17_backwards 53 = .ok (.getfield 57, 3) := dk_180 0 57 (dk_at dksX17_backwards_2 8 rfl rfl)
theorem dX17_backwards_56 : decode cX17_backwards 56 = .ok (.invokevirtual 72, 3) := dk_182 0 72 (dk_at dksX17_backwards_2 11 rfl rfl)
theorem dX17_backwards_59 : decode cX17_backwards 59 = .ok (.goto 17, 3) := dk_167 0 17 (dk_at dksX17_backwards_2 14 rfl rfl)
theorem dX17_backwards_62 : decode cX17_backwards 62 = .ok (.aload_n 0, 1) := dk_42 (dk_at dksX17_backwards_2 17 rfl rfl)
theorem dX17_backwards_63 : decode cX17_backwards 63 = .ok (.getfield 9, 3) := dk_180 0 9 (dk_at dksX17_backwards_2 18 rfl rfl)
theorem dX17_backwards_66 : decode cX17_backwards 66 = .ok (.checkcast 44, 3) := dk_192 0 44 (dk_at dksX17_backwards_2 21 rfl rfl)
theorem dX17_backwards_69 : decode cX17_backwards 69 = .ok (.aload_n 0, 1) := dk_42 (dk_at dksX17_backwards_3 0 rfl rfl)
theorem dX17_backwards_70 : decode cX17_backwards 70 = .ok (.getfield 49, 3) := dk_180 0 49 (dk_at dksX17_backwards_3 1 rfl rfl)
theorem dX17_backwards_73 : decode cX17_backwards 73 = .ok (.invokevirtual 74, 3) := dk_182 0 74 (dk_at dksX17_backwards_3 4 rfl rfl)
theorem dX17_backwards_76 : decode cX17_backwards 76 = .ok (.return_, 1) := dk_177 (dk_at dksX17_backwards_3 7 rfl rfl)
theorem q288 : (Jvm.Cond.initialized "ConstraintHouse$Leaf") ∈ lw_all := lw_g (lw_at lw_m1 28 rfl) rfl
theorem q1379 : (Jvm.Cond.fieldLink "ConstraintHouse$Leaf" (64 : Nat) "ConstraintHouse$Leaf" "low" "D") ∈ lw_all := lw_g (lw_at lw_m5 159 rfl) rfl
theorem q1380 : (Jvm.Cond.sameField "ConstraintHouse$Leaf" "ConstraintHouse$Part" "low" "D") ∈ lw_all := lw_g (lw_at lw_m5 160 rfl) rfl
theorem q1417 : (Jvm.Cond.fieldLink "ConstraintHouse$Leaf" (67 : Nat) "ConstraintHouse$Leaf" "high" "D") ∈ lw_all := lw_g (lw_at lw_m5 197 rfl) rfl
theorem q1418 : (Jvm.Cond.sameField "ConstraintHouse$Leaf" "ConstraintHouse$Part" "high" "D") ∈ lw_all := lw_g (lw_at lw_m5 198 rfl) rfl
theorem q1432 : (Jvm.Cond.fieldLink "ConstraintHouse$Leaf" (53 : Nat) "ConstraintHouse$Leaf" "no" "Z") ∈ lw_all := lw_g (lw_at lw_m5 212 rfl) rfl
theorem q1433 : (Jvm.Cond.sameField "ConstraintHouse$Leaf" "ConstraintHouse$Part" "no" "Z") ∈ lw_all := lw_g (lw_at lw_m5 213 rfl) rfl
theorem q1454 : (Jvm.Cond.fieldLink "ConstraintHouse$Leaf" (57 : Nat) "ConstraintHouse$Leaf" "yes" "Z") ∈ lw_all := lw_g (lw_at lw_m5 234 rfl) rfl
theorem q1455 : (Jvm.Cond.sameField "ConstraintHouse$Leaf" "ConstraintHouse$Part" "yes" "Z") ∈ lw_all := lw_g (lw_at lw_m5 235 rfl) rfl
theorem q1464 : (Jvm.Cond.fieldLink "ConstraintHouse$Leaf" (49 : Nat) "ConstraintHouse$Leaf" "letters" "I") ∈ lw_all := lw_g (lw_at lw_m6 4 rfl) rfl
theorem q1465 : (Jvm.Cond.sameField "ConstraintHouse$Leaf" "ConstraintHouse$Part" "letters" "I") ∈ lw_all := lw_g (lw_at lw_m6 5 rfl) rfl
theorem q1512 : (Jvm.Cond.instantiable "ConstraintHouse$Leaf" (6 : Nat)) ∈ lw_all := lw_g (lw_at lw_m6 52 rfl) rfl
theorem q1514 : (Jvm.Cond.instanceMethod ({ cls := "ConstraintHouse$Leaf", name := "<init>", desc := "(LConstraintHouse$Variable;)V" } : Jvm.MethodName)) ∈ lw_all := lw_g (lw_at lw_m6 54 rfl) rfl
theorem q1515 : (Jvm.Cond.code ({ cls := "ConstraintHouse$Leaf", name := "<init>", desc := "(LConstraintHouse$Variable;)V" } : Jvm.MethodName) prog_14_method_1_code (2 : Nat) (Option.none : Option Jvm.ClassFile.FieldType)) ∈ lw_all := lw_g (lw_at lw_m6 55 rfl) rfl
theorem q1516 : (Jvm.Cond.methodLinkNest "ConstraintHouse$Leaf" (3 : Nat) ({ cls := "ConstraintHouse$Part", name := "<init>", desc := "()V" } : Jvm.MethodName) "ConstraintHouse") ∈ lw_tbl := lw_at lw_m6 56 rfl
theorem q1517 : (Jvm.Cond.fieldLink "ConstraintHouse$Leaf" (9 : Nat) "ConstraintHouse$Leaf" "of" "LConstraintHouse$Variable;") ∈ lw_all := lw_g (lw_at lw_m6 57 rfl) rfl
theorem q1518 : (Jvm.Cond.laysFinal "ConstraintHouse$Leaf" "ConstraintHouse$Leaf" "of" "LConstraintHouse$Variable;") ∈ lw_all := lw_g (lw_at lw_m6 58 rfl) rfl
theorem q1519 : (Jvm.Cond.soleField "ConstraintHouse$Leaf" "of") ∈ lw_all := lw_g (lw_at lw_m6 59 rfl) rfl
theorem q1520 : (Jvm.Cond.lays "ConstraintHouse$Leaf" "ConstraintHouse$Part" "low" "D") ∈ lw_all := lw_g (lw_at lw_m6 60 rfl) rfl
theorem q1521 : (Jvm.Cond.lays "ConstraintHouse$Leaf" "ConstraintHouse$Part" "high" "D") ∈ lw_all := lw_g (lw_at lw_m6 61 rfl) rfl
theorem q1522 : (Jvm.Cond.lays "ConstraintHouse$Leaf" "ConstraintHouse$Part" "no" "Z") ∈ lw_all := lw_g (lw_at lw_m6 62 rfl) rfl
theorem q1523 : (Jvm.Cond.lays "ConstraintHouse$Leaf" "ConstraintHouse$Part" "yes" "Z") ∈ lw_all := lw_g (lw_at lw_m6 63 rfl) rfl
theorem q1524 : (Jvm.Cond.lays "ConstraintHouse$Leaf" "ConstraintHouse$Part" "letters" "I") ∈ lw_all := lw_g (lw_at lw_m6 64 rfl) rfl
theorem q1525 : (Jvm.Cond.superclass "ConstraintHouse$Leaf" "ConstraintHouse$Part") ∈ lw_all := lw_g (lw_at lw_m6 65 rfl) rfl
theorem q1545 : (Jvm.Cond.instanceMethod ({ cls := "ConstraintHouse$Leaf", name := "sort", desc := "()I" } : Jvm.MethodName)) ∈ lw_all := lw_g (lw_at lw_m6 85 rfl) rfl
theorem q1546 : (Jvm.Cond.code ({ cls := "ConstraintHouse$Leaf", name := "sort", desc := "()I" } : Jvm.MethodName) prog_14_method_2_code (1 : Nat) (Option.some Jvm.ClassFile.FieldType.int)) ∈ lw_all := lw_g (lw_at lw_m6 86 rfl) rfl
theorem q1547 : (Jvm.Cond.methodLink "ConstraintHouse$Leaf" (15 : Nat) ({ cls := "ConstraintHouse$Variable", name := "sort", desc := "()I" } : Jvm.MethodName)) ∈ lw_all := lw_g (lw_at lw_m6 87 rfl) rfl
theorem q1570 : (Jvm.Cond.selects "ConstraintHouse$Leaf" ({ cls := "ConstraintHouse$Part", name := "sort", desc := "()I" } : Jvm.MethodName) ({ cls := "ConstraintHouse$Leaf", name := "sort", desc := "()I" } : Jvm.MethodName)) ∈ lw_all := lw_g (lw_at lw_m6 110 rfl) rfl
theorem q2503 : (Jvm.Cond.selects "ConstraintHouse$Leaf" ({ cls := "ConstraintHouse$Narrows", name := "forwards", desc := "(LConstraintHouse$Solver;)V" } : Jvm.MethodName) ({ cls := "ConstraintHouse$Leaf", name := "forwards", desc := "(LConstraintHouse$Solver;)V" } : Jvm.MethodName)) ∈ lw_all := lw_g (lw_at lw_m10 83 rfl) rfl
theorem q2504 : (Jvm.Cond.instanceMethod ({ cls := "ConstraintHouse$Leaf", name := "forwards", desc := "(LConstraintHouse$Solver;)V" } : Jvm.MethodName)) ∈ lw_all := lw_g (lw_at lw_m10 84 rfl) rfl
theorem q2505 : (Jvm.Cond.code ({ cls := "ConstraintHouse$Leaf", name := "forwards", desc := "(LConstraintHouse$Solver;)V" } : Jvm.MethodName) prog_14_method_3_code (3 : Nat) (Option.none : Option Jvm.ClassFile.FieldType)) ∈ lw_all := lw_g (lw_at lw_m10 85 rfl) rfl
theorem q2506 : (Jvm.Cond.classLink "ConstraintHouse$Leaf" (21 : Nat) "ConstraintHouse$Numeric") ∈ lw_all := lw_g (lw_at lw_m10 86 rfl) rfl
theorem q2507 : (Jvm.Cond.methodLink "ConstraintHouse$Leaf" (23 : Nat) ({ cls := "ConstraintHouse$Numeric", name := "low", desc := "()D" } : Jvm.MethodName)) ∈ lw_all := lw_g (lw_at lw_m10 87 rfl) rfl
theorem q2508 : (Jvm.Cond.methodLink "ConstraintHouse$Leaf" (27 : Nat) ({ cls := "ConstraintHouse$Numeric", name := "high", desc := "()D" } : Jvm.MethodName)) ∈ lw_all := lw_g (lw_at lw_m10 88 rfl) rfl
theorem q2509 : (Jvm.Cond.methodLink "ConstraintHouse$Leaf" (30 : Nat) ({ cls := "ConstraintHouse$Leaf", name := "be", desc := "(DD)V" } : Jvm.MethodName)) ∈ lw_all := lw_g (lw_at lw_m10 89 rfl) rfl
theorem q2510 : (Jvm.Cond.sameMethod "ConstraintHouse$Leaf" "ConstraintHouse$Part" "be" "(DD)V") ∈ lw_all := lw_g (lw_at lw_m10 90 rfl) rfl
theorem q2511 : (Jvm.Cond.selects "ConstraintHouse$Leaf" ({ cls := "ConstraintHouse$Leaf", name := "be", desc := "(DD)V" } : Jvm.MethodName) ({ cls := "ConstraintHouse$Part", name := "be", desc := "(DD)V" } : Jvm.MethodName)) ∈ lw_all := lw_g (lw_at lw_m10 91 rfl) rfl
theorem q2512 : (Jvm.Cond.classLink "ConstraintHouse$Leaf" (34 : Nat) "ConstraintHouse$Truth") ∈ lw_all := lw_g (lw_at lw_m10 92 rfl) rfl
theorem q2513 : (Jvm.Cond.methodLink "ConstraintHouse$Leaf" (36 : Nat) ({ cls := "ConstraintHouse$Truth", name := "may", desc := "(Z)Z" } : Jvm.MethodName)) ∈ lw_all := lw_g (lw_at lw_m10 93 rfl) rfl
theorem q2519 : (Jvm.Cond.methodLink "ConstraintHouse$Leaf" (40 : Nat) ({ cls := "ConstraintHouse$Leaf", name := "truth", desc := "(ZZ)V" } : Jvm.MethodName)) ∈ lw_all := lw_g (lw_at lw_m10 99 rfl) rfl
theorem q2520 : (Jvm.Cond.sameMethod "ConstraintHouse$Leaf" "ConstraintHouse$Part" "truth" "(ZZ)V") ∈ lw_all := lw_g (lw_at lw_m10 100 rfl) rfl
theorem q2521 : (Jvm.Cond.selects "ConstraintHouse$Leaf" ({ cls := "ConstraintHouse$Leaf", name := "truth", desc := "(ZZ)V" } : Jvm.MethodName) ({ cls := "ConstraintHouse$Part", name := "truth", desc := "(ZZ)V" } : Jvm.MethodName)) ∈ lw_all := lw_g (lw_at lw_m10 101 rfl) rfl
theorem q2522 : (Jvm.Cond.classLink "ConstraintHouse$Leaf" (44 : Nat) "ConstraintHouse$Letter") ∈ lw_all := lw_g (lw_at lw_m10 102 rfl) rfl
theorem q2523 : (Jvm.Cond.methodLink "ConstraintHouse$Leaf" (46 : Nat) ({ cls := "ConstraintHouse$Letter", name := "letters", desc := "()I" } : Jvm.MethodName)) ∈ lw_all := lw_g (lw_at lw_m10 103 rfl) rfl
theorem q2820 : (Jvm.Cond.selects "ConstraintHouse$Leaf" ({ cls := "ConstraintHouse$Part", name := "hasMeet", desc := "(LConstraintHouse$Part;)Z" } : Jvm.MethodName) ({ cls := "ConstraintHouse$Part", name := "hasMeet", desc := "(LConstraintHouse$Part;)Z" } : Jvm.MethodName)) ∈ lw_all := lw_g (lw_at lw_m11 160 rfl) rfl
theorem q2871 : (Jvm.Cond.selects "ConstraintHouse$Leaf" ({ cls := "ConstraintHouse$Part", name := "meets", desc := "(ZZ)V" } : Jvm.MethodName) ({ cls := "ConstraintHouse$Part", name := "meets", desc := "(ZZ)V" } : Jvm.MethodName)) ∈ lw_all := lw_g (lw_at lw_m11 211 rfl) rfl
theorem q2907 : (Jvm.Cond.selects "ConstraintHouse$Leaf" ({ cls := "ConstraintHouse$Part", name := "meets", desc := "(LConstraintHouse$Part;)V" } : Jvm.MethodName) ({ cls := "ConstraintHouse$Part", name := "meets", desc := "(LConstraintHouse$Part;)V" } : Jvm.MethodName)) ∈ lw_all := lw_g (lw_at lw_m12 7 rfl) rfl
theorem q2929 : (Jvm.Cond.selects "ConstraintHouse$Leaf" ({ cls := "ConstraintHouse$Part", name := "meet", desc := "(DD)V" } : Jvm.MethodName) ({ cls := "ConstraintHouse$Part", name := "meet", desc := "(DD)V" } : Jvm.MethodName)) ∈ lw_all := lw_g (lw_at lw_m12 29 rfl) rfl
theorem q2952 : (Jvm.Cond.selects "ConstraintHouse$Leaf" ({ cls := "ConstraintHouse$Part", name := "meets", desc := "(I)V" } : Jvm.MethodName) ({ cls := "ConstraintHouse$Part", name := "meets", desc := "(I)V" } : Jvm.MethodName)) ∈ lw_all := lw_g (lw_at lw_m12 52 rfl) rfl
theorem q2978 : (Jvm.Cond.selects "ConstraintHouse$Leaf" ({ cls := "ConstraintHouse$Part", name := "lose", desc := "(D)V" } : Jvm.MethodName) ({ cls := "ConstraintHouse$Leaf", name := "lose", desc := "(D)V" } : Jvm.MethodName)) ∈ lw_all := lw_g (lw_at lw_m12 78 rfl) rfl
theorem q2979 : (Jvm.Cond.instanceMethod ({ cls := "ConstraintHouse$Leaf", name := "lose", desc := "(D)V" } : Jvm.MethodName)) ∈ lw_all := lw_g (lw_at lw_m12 79 rfl) rfl
theorem q2980 : (Jvm.Cond.code ({ cls := "ConstraintHouse$Leaf", name := "lose", desc := "(D)V" } : Jvm.MethodName) prog_14_method_6_code (3 : Nat) (Option.none : Option Jvm.ClassFile.FieldType)) ∈ lw_all := lw_g (lw_at lw_m12 80 rfl) rfl
theorem q2981 : (Jvm.Cond.classLink "ConstraintHouse$Leaf" (77 : Nat) "ConstraintHouse$Whole") ∈ lw_all := lw_g (lw_at lw_m12 81 rfl) rfl
theorem q2982 : (Jvm.Cond.methodLink "ConstraintHouse$Leaf" (79 : Nat) ({ cls := "ConstraintHouse$Whole", name := "lose", desc := "(D)V" } : Jvm.MethodName)) ∈ lw_all := lw_g (lw_at lw_m12 82 rfl) rfl
theorem q3050 : (Jvm.Cond.selects "ConstraintHouse$Leaf" ({ cls := "ConstraintHouse$Part", name := "lose", desc := "([I)V" } : Jvm.MethodName) ({ cls := "ConstraintHouse$Leaf", name := "lose", desc := "([I)V" } : Jvm.MethodName)) ∈ lw_all := lw_g (lw_at lw_m12 150 rfl) rfl
theorem q3051 : (Jvm.Cond.instanceMethod ({ cls := "ConstraintHouse$Leaf", name := "lose", desc := "([I)V" } : Jvm.MethodName)) ∈ lw_all := lw_g (lw_at lw_m12 151 rfl) rfl
theorem q3052 : (Jvm.Cond.code ({ cls := "ConstraintHouse$Leaf", name := "lose", desc := "([I)V" } : Jvm.MethodName) prog_14_method_7_code (2 : Nat) (Option.none : Option Jvm.ClassFile.FieldType)) ∈ lw_all := lw_g (lw_at lw_m12 152 rfl) rfl
theorem q3053 : (Jvm.Cond.methodLink "ConstraintHouse$Leaf" (83 : Nat) ({ cls := "ConstraintHouse$Whole", name := "lose", desc := "([I)V" } : Jvm.MethodName)) ∈ lw_all := lw_g (lw_at lw_m12 153 rfl) rfl
theorem q3157 : (Jvm.Cond.instanceMethod ({ cls := "ConstraintHouse$Leaf", name := "enter", desc := "(LConstraintHouse$Solver;)V" } : Jvm.MethodName)) ∈ lw_all := lw_g (lw_at lw_m13 17 rfl) rfl
theorem q3158 : (Jvm.Cond.code ({ cls := "ConstraintHouse$Leaf", name := "enter", desc := "(LConstraintHouse$Solver;)V" } : Jvm.MethodName) prog_14_method_4_code (2 : Nat) (Option.none : Option Jvm.ClassFile.FieldType)) ∈ lw_all := lw_g (lw_at lw_m13 18 rfl) rfl
theorem q3159 : (Jvm.Cond.methodLink "ConstraintHouse$Leaf" (52 : Nat) ({ cls := "ConstraintHouse$Leaf", name := "sort", desc := "()I" } : Jvm.MethodName)) ∈ lw_all := lw_g (lw_at lw_m13 19 rfl) rfl
theorem q3160 : (Jvm.Cond.methodLink "ConstraintHouse$Leaf" (60 : Nat) ({ cls := "ConstraintHouse$Part", name := "enter", desc := "(LConstraintHouse$Solver;)V" } : Jvm.MethodName)) ∈ lw_all := lw_g (lw_at lw_m13 20 rfl) rfl
theorem q3170 : (Jvm.Cond.selects "ConstraintHouse$Leaf" ({ cls := "ConstraintHouse$Part", name := "backwards", desc := "(LConstraintHouse$Solver;)V" } : Jvm.MethodName) ({ cls := "ConstraintHouse$Leaf", name := "backwards", desc := "(LConstraintHouse$Solver;)V" } : Jvm.MethodName)) ∈ lw_all := lw_g (lw_at lw_m13 30 rfl) rfl
theorem q3171 : (Jvm.Cond.instanceMethod ({ cls := "ConstraintHouse$Leaf", name := "backwards", desc := "(LConstraintHouse$Solver;)V" } : Jvm.MethodName)) ∈ lw_all := lw_g (lw_at lw_m13 31 rfl) rfl
theorem q3172 : (Jvm.Cond.code ({ cls := "ConstraintHouse$Leaf", name := "backwards", desc := "(LConstraintHouse$Solver;)V" } : Jvm.MethodName) prog_14_method_5_code (2 : Nat) (Option.none : Option Jvm.ClassFile.FieldType)) ∈ lw_all := lw_g (lw_at lw_m13 32 rfl) rfl
theorem q3173 : (Jvm.Cond.methodLink "ConstraintHouse$Leaf" (69 : Nat) ({ cls := "ConstraintHouse$Numeric", name := "keep", desc := "(DD)V" } : Jvm.MethodName)) ∈ lw_all := lw_g (lw_at lw_m13 33 rfl) rfl
theorem q3189 : (Jvm.Cond.methodLink "ConstraintHouse$Leaf" (72 : Nat) ({ cls := "ConstraintHouse$Truth", name := "keep", desc := "(ZZ)V" } : Jvm.MethodName)) ∈ lw_all := lw_g (lw_at lw_m13 49 rfl) rfl
theorem q3194 : (Jvm.Cond.methodLink "ConstraintHouse$Leaf" (74 : Nat) ({ cls := "ConstraintHouse$Letter", name := "keep", desc := "(I)V" } : Jvm.MethodName)) ∈ lw_all := lw_g (lw_at lw_m13 54 rfl) rfl
theorem q3266 : (Jvm.Cond.selects "ConstraintHouse$Leaf" ({ cls := "ConstraintHouse$Part", name := "enter", desc := "(LConstraintHouse$Solver;)V" } : Jvm.MethodName) ({ cls := "ConstraintHouse$Leaf", name := "enter", desc := "(LConstraintHouse$Solver;)V" } : Jvm.MethodName)) ∈ lw_all := lw_g (lw_at lw_m13 126 rfl) rfl
theorem q4793 : (Jvm.Cond.selects "ConstraintHouse$Leaf" ({ cls := "ConstraintHouse$Leaf", name := "sort", desc := "()I" } : Jvm.MethodName) ({ cls := "ConstraintHouse$Leaf", name := "sort", desc := "()I" } : Jvm.MethodName)) ∈ lw_all := lw_g (lw_at lw_m19 213 rfl) rfl
theorem q4826 : (Jvm.Cond.castable "ConstraintHouse$Leaf" "java/lang/Object") ∈ lw_tbl := lw_at lw_m20 6 rfl
theorem q4861 : (Jvm.Cond.castable "ConstraintHouse$Leaf" "ConstraintHouse$Part") ∈ lw_tbl := lw_at lw_m20 41 rfl
theorem in_X17 : ∀ w ∈ wsX170, w ∈ lw_all := lw_in wsX170 [1520, 1521, 1522, 1523, 1524, 1518] (by decide +kernel) (by decide +kernel)
/-! ConstraintHouse$Single -/
set_option maxRecDepth 100000
def RX18 : String := "ConstraintHouse$Single"
abbrev cX18_sort : ByteArray := prog_34_method_2_code
def yX18_sort : MethodName := ⟨RX18, "sort", "()I"⟩
theorem dX18_sort_0 : decode cX18_sort 0 = .ok (.iconst 0, 1) := by decide +kernel
theorem dX18_sort_1 : decode cX18_sort 1 = .ok (.ireturn, 1) := by decide +kernel
abbrev cX18_init : ByteArray := prog_34_method_1_code
def yX18_init : MethodName := ⟨RX18, "<init>", "(LConstraintHouse$Part;)V"⟩
def dkwX18_init_0 : List UInt8 := [42, 183, 0, 1, 42, 43, 181, 0, 7, 177]
abbrev dktX18_init_0 : List UInt8 := dkwX18_init_0 ++ []
theorem dksX18_init_0 : cX18_init.data.toList.drop 0 = dktX18_init_0 := by decide +kernel
theorem dX18_init_0 : decode cX18_init 0 = .ok (.aload_n 0, 1) := dk_42 (dk_at dksX18_init_0 0 rfl rfl)
theorem dX18_init_1 : decode cX18_init 1 = .ok (.invokespecial 1, 3) := dk_183 0 1 (dk_at dksX18_init_0 1 rfl rfl)
theorem dX18_init_4 : decode cX18_init 4 = .ok (.aload_n 0, 1) := dk_42 (dk_at dksX18_init_0 4 rfl rfl)
theorem dX18_init_5 : decode cX18_init 5 = .ok (.aload_n 1, 1) := dk_43 (dk_at dksX18_init_0 5 rfl rfl)
theorem dX18_init_6 : decode cX18_init 6 = .ok (.putfield 7, 3) := dk_181 0 7 (dk_at dksX18_init_0 6 rfl rfl)
theorem dX18_init_9 : decode cX18_init 9 = .ok (.return_, 1) := dk_177 (dk_at dksX18_init_0 9 rfl rfl)
abbrev cX18_forwards : ByteArray := prog_34_method_4_code
def yX18_forwards : MethodName := ⟨RX18, "forwards", "(LConstraintHouse$Solver;)V"⟩
def dkwX18_forwards_0 : List UInt8 := [42, 180, 0, 7, 43, 182, 0, 13, 42, 182, 0, 17, 177]
abbrev dktX18_forwards_0 : List UInt8 := dkwX18_forwards_0 ++ []
theorem dksX18_forwards_0 : cX18_forwards.data.toList.drop 0 = dktX18_forwards_0 := by decide +kernel
theorem dX18_forwards_0 : decode cX18_forwards 0 = .ok (.aload_n 0, 1) := dk_42 (dk_at dksX18_forwards_0 0 rfl rfl)
theorem dX18_forwards_1 : decode cX18_forwards 1 = .ok (.getfield 7, 3) := dk_180 0 7 (dk_at dksX18_forwards_0 1 rfl rfl)
theorem dX18_forwards_4 : decode cX18_forwards 4 = .ok (.aload_n 1, 1) := dk_43 (dk_at dksX18_forwards_0 4 rfl rfl)
theorem dX18_forwards_5 : decode cX18_forwards 5 = .ok (.invokevirtual 13, 3) := dk_182 0 13 (dk_at dksX18_forwards_0 5 rfl rfl)
theorem dX18_forwards_8 : decode cX18_forwards 8 = .ok (.aload_n 0, 1) := dk_42 (dk_at dksX18_forwards_0 8 rfl rfl)
theorem dX18_forwards_9 : decode cX18_forwards 9 = .ok (.invokevirtual 17, 3) := dk_182 0 17 (dk_at dksX18_forwards_0 9 rfl rfl)
theorem dX18_forwards_12 : decode cX18_forwards 12 = .ok (.return_, 1) := dk_177 (dk_at dksX18_forwards_0 12 rfl rfl)
abbrev cX18_backwards : ByteArray := prog_34_method_6_code
def yX18_backwards : MethodName := ⟨RX18, "backwards", "(LConstraintHouse$Solver;)V"⟩
def dkwX18_backwards_0 : List UInt8 := [42, 182, 0, 20, 42, 180, 0, 7, 43, 182, 0, 23, 177]
abbrev dktX18_backwards_0 : List UInt8 := dkwX18_backwards_0 ++ []
theorem dksX18_backwards_0 : cX18_backwards.data.toList.drop 0 = dktX18_backwards_0 := by decide +kernel
theorem dX18_backwards_0 : decode cX18_backwards 0 = .ok (.aload_n 0, 1) := dk_42 (dk_at dksX18_backwards_0 0 rfl rfl)
theorem dX18_backwards_1 : decode cX18_backwards 1 = .ok (.invokevirtual 20, 3) := dk_182 0 20 (dk_at dksX18_backwards_0 1 rfl rfl)
theorem dX18_backwards_4 : decode cX18_backwards 4 = .ok (.aload_n 0, 1) := dk_42 (dk_at dksX18_backwards_0 4 rfl rfl)
theorem dX18_backwards_5 : decode cX18_backwards 5 = .ok (.getfield 7, 3) := dk_180 0 7 (dk_at dksX18_backwards_0 5 rfl rfl)
theorem dX18_backwards_8 : decode cX18_backwards 8 = .ok (.aload_n 1, 1) := dk_43 (dk_at dksX18_backwards_0 8 rfl rfl)
theorem dX18_backwards_9 : decode cX18_backwards 9 = .ok (.invokevirtual 23, 3) := dk_182 0 23 (dk_at dksX18_backwards_0 9 rfl rfl)
theorem dX18_backwards_12 : decode cX18_backwards 12 = .ok (.return_, 1) := dk_177 (dk_at dksX18_backwards_0 12 rfl rfl)
theorem q289 : (Jvm.Cond.initialized "ConstraintHouse$Single") ∈ lw_all := lw_g (lw_at lw_m1 29 rfl) rfl
theorem q1565 : (Jvm.Cond.instanceMethod ({ cls := "ConstraintHouse$Single", name := "sort", desc := "()I" } : Jvm.MethodName)) ∈ lw_all := lw_g (lw_at lw_m6 105 rfl) rfl
theorem q1566 : (Jvm.Cond.code ({ cls := "ConstraintHouse$Single", name := "sort", desc := "()I" } : Jvm.MethodName) prog_34_method_2_code (1 : Nat) (Option.some Jvm.ClassFile.FieldType.int)) ∈ lw_all := lw_g (lw_at lw_m6 106 rfl) rfl
theorem q1588 : (Jvm.Cond.instanceMethod ({ cls := "ConstraintHouse$Single", name := "<init>", desc := "(LConstraintHouse$Part;)V" } : Jvm.MethodName)) ∈ lw_all := lw_g (lw_at lw_m6 128 rfl) rfl
theorem q1589 : (Jvm.Cond.code ({ cls := "ConstraintHouse$Single", name := "<init>", desc := "(LConstraintHouse$Part;)V" } : Jvm.MethodName) prog_34_method_1_code (2 : Nat) (Option.none : Option Jvm.ClassFile.FieldType)) ∈ lw_all := lw_g (lw_at lw_m6 129 rfl) rfl
theorem q1590 : (Jvm.Cond.methodLinkNest "ConstraintHouse$Single" (1 : Nat) ({ cls := "ConstraintHouse$Part", name := "<init>", desc := "()V" } : Jvm.MethodName) "ConstraintHouse") ∈ lw_tbl := lw_at lw_m6 130 rfl
theorem q1591 : (Jvm.Cond.fieldLink "ConstraintHouse$Single" (7 : Nat) "ConstraintHouse$Single" "x" "LConstraintHouse$Part;") ∈ lw_all := lw_g (lw_at lw_m6 131 rfl) rfl
theorem q1601 : (Jvm.Cond.soleField "ConstraintHouse$Single" "x") ∈ lw_all := lw_g (lw_at lw_m6 141 rfl) rfl
theorem q2531 : (Jvm.Cond.instanceMethod ({ cls := "ConstraintHouse$Single", name := "forwards", desc := "(LConstraintHouse$Solver;)V" } : Jvm.MethodName)) ∈ lw_all := lw_g (lw_at lw_m10 111 rfl) rfl
theorem q2532 : (Jvm.Cond.code ({ cls := "ConstraintHouse$Single", name := "forwards", desc := "(LConstraintHouse$Solver;)V" } : Jvm.MethodName) prog_34_method_4_code (2 : Nat) (Option.none : Option Jvm.ClassFile.FieldType)) ∈ lw_all := lw_g (lw_at lw_m10 112 rfl) rfl
theorem q2547 : (Jvm.Cond.methodLink "ConstraintHouse$Single" (17 : Nat) ({ cls := "ConstraintHouse$Single", name := "reckon", desc := "()V" } : Jvm.MethodName)) ∈ lw_all := lw_g (lw_at lw_m10 127 rfl) rfl
theorem q2548 : (Jvm.Cond.declares ({ cls := "ConstraintHouse$Single", name := "reckon", desc := "()V" } : Jvm.MethodName)) ∈ lw_tbl := lw_at lw_m10 128 rfl
theorem q2549 : (Jvm.Cond.sameMethod "ConstraintHouse$Single" "ConstraintHouse$Single" "reckon" "()V") ∈ lw_all := lw_g (lw_at lw_m10 129 rfl) rfl
theorem q3201 : (Jvm.Cond.instanceMethod ({ cls := "ConstraintHouse$Single", name := "backwards", desc := "(LConstraintHouse$Solver;)V" } : Jvm.MethodName)) ∈ lw_all := lw_g (lw_at lw_m13 61 rfl) rfl
theorem q3202 : (Jvm.Cond.code ({ cls := "ConstraintHouse$Single", name := "backwards", desc := "(LConstraintHouse$Solver;)V" } : Jvm.MethodName) prog_34_method_6_code (2 : Nat) (Option.none : Option Jvm.ClassFile.FieldType)) ∈ lw_all := lw_g (lw_at lw_m13 62 rfl) rfl
theorem q3203 : (Jvm.Cond.methodLink "ConstraintHouse$Single" (20 : Nat) ({ cls := "ConstraintHouse$Single", name := "hand", desc := "()V" } : Jvm.MethodName)) ∈ lw_all := lw_g (lw_at lw_m13 63 rfl) rfl
theorem q3204 : (Jvm.Cond.declares ({ cls := "ConstraintHouse$Single", name := "hand", desc := "()V" } : Jvm.MethodName)) ∈ lw_tbl := lw_at lw_m13 64 rfl
theorem q3205 : (Jvm.Cond.sameMethod "ConstraintHouse$Single" "ConstraintHouse$Single" "hand" "()V") ∈ lw_all := lw_g (lw_at lw_m13 65 rfl) rfl
theorem q3246 : (Jvm.Cond.methodLink "ConstraintHouse$Single" (23 : Nat) ({ cls := "ConstraintHouse$Part", name := "enter", desc := "(LConstraintHouse$Solver;)V" } : Jvm.MethodName)) ∈ lw_all := lw_g (lw_at lw_m13 106 rfl) rfl
/-! ConstraintHouse$Negated -/
set_option maxRecDepth 100000
def RX19 : String := "ConstraintHouse$Negated"
def TX19 : u_T := fun k => match k with
  | 0 => ("ConstraintHouse$Single", "x", "LConstraintHouse$Part;", true)
  | 1 => ("ConstraintHouse$Part", "low", "D", false)
  | 2 => ("ConstraintHouse$Part", "high", "D", false)
  | 3 => ("ConstraintHouse$Part", "no", "Z", false)
  | 4 => ("ConstraintHouse$Part", "yes", "Z", false)
  | _ => ("ConstraintHouse$Part", "letters", "I", false)
def tyX19 : Nat → FieldType := fun k => match k with
  | 0 => .object "ConstraintHouse$Part"
  | 1 => .double
  | 2 => .double
  | 3 => .boolean
  | 4 => .boolean
  | _ => .int
abbrev wsX190 : List Cond := u_ws RX19 TX19 6
theorem nmX19 : ∀ a, a < 6 → ∀ b, b < 6 → a ≠ b → (TX19 a).2.1 ≠ (TX19 b).2.1 := by decide +kernel
theorem tyX19_ok : ∀ k, k < 6 → parseFieldDescriptor (TX19 k).2.2.1 = some (tyX19 k) := by decide +kernel
abbrev cX19_init : ByteArray := prog_19_method_1_code
def yX19_init : MethodName := ⟨RX19, "<init>", "(LConstraintHouse$Part;)V"⟩
def dkwX19_init_0 : List UInt8 := [42, 43, 183, 0, 1, 177]
abbrev dktX19_init_0 : List UInt8 := dkwX19_init_0 ++ []
theorem dksX19_init_0 : cX19_init.data.toList.drop 0 = dktX19_init_0 := by decide +kernel
theorem dX19_init_0 : decode cX19_init 0 = .ok (.aload_n 0, 1) := dk_42 (dk_at dksX19_init_0 0 rfl rfl)
theorem dX19_init_1 : decode cX19_init 1 = .ok (.aload_n 1, 1) := dk_43 (dk_at dksX19_init_0 1 rfl rfl)
theorem dX19_init_2 : decode cX19_init 2 = .ok (.invokespecial 1, 3) := dk_183 0 1 (dk_at dksX19_init_0 2 rfl rfl)
theorem dX19_init_5 : decode cX19_init 5 = .ok (.return_, 1) := dk_177 (dk_at dksX19_init_0 5 rfl rfl)
abbrev cX19_reckon : ByteArray := prog_19_method_2_code
def yX19_reckon : MethodName := ⟨RX19, "reckon", "()V"⟩
def dkwX19_reckon_1 : List UInt8 := [182, 0, 28, 177]
abbrev dktX19_reckon_1 : List UInt8 := dkwX19_reckon_1 ++ []
def dkwX19_reckon_0 : List UInt8 := [42, 42, 180, 0, 7, 180, 0, 13, 119, 184, 0, 19, 42, 180, 0, 7, 180, 0, 25, 119, 184, 0, 19]
abbrev dktX19_reckon_0 : List UInt8 := dkwX19_reckon_0 ++ dktX19_reckon_1
theorem dksX19_reckon_0 : cX19_reckon.data.toList.drop 0 = dktX19_reckon_0 := by decide +kernel
theorem dksX19_reckon_1 : cX19_reckon.data.toList.drop 23 = dktX19_reckon_1 := dk_seg dksX19_reckon_0 23 rfl rfl
theorem dX19_reckon_0 : decode cX19_reckon 0 = .ok (.aload_n 0, 1) := dk_42 (dk_at dksX19_reckon_0 0 rfl rfl)
theorem dX19_reckon_1 : decode cX19_reckon 1 = .ok (.aload_n 0, 1) := dk_42 (dk_at dksX19_reckon_0 1 rfl rfl)
theorem dX19_reckon_2 : decode cX19_reckon 2 = .ok (.getfield 7, 3) := dk_180 0 7 (dk_at dksX19_reckon_0 2 rfl rfl)
theorem dX19_reckon_5 : decode cX19_reckon 5 = .ok (.getfield 13, 3) := dk_180 0 13 (dk_at dksX19_reckon_0 5 rfl rfl)
theorem dX19_reckon_8 : decode cX19_reckon 8 = .ok (.dneg, 1) := dk_119 (dk_at dksX19_reckon_0 8 rfl rfl)
theorem dX19_reckon_9 : decode cX19_reckon 9 = .ok (.invokestatic 19, 3) := dk_184 0 19 (dk_at dksX19_reckon_0 9 rfl rfl)
theorem dX19_reckon_12 : decode cX19_reckon 12 = .ok (.aload_n 0, 1) := dk_42 (dk_at dksX19_reckon_0 12 rfl rfl)
theorem dX19_reckon_13 : decode cX19_reckon 13 = .ok (.getfield 7, 3) := dk_180 0 7 (dk_at dksX19_reckon_0 13 rfl rfl)
theorem dX19_reckon_16 : decode cX19_reckon 16 = .ok (.getfield 25, 3) := dk_180 0 25 (dk_at dksX19_reckon_0 16 rfl rfl)
theorem dX19_reckon_19 : decode cX19_reckon 19 = .ok (.dneg, 1) := dk_119 (dk_at dksX19_reckon_0 19 rfl rfl)
theorem dX19_reckon_20 : decode cX19_reckon 20 = .ok (.invokestatic 19, 3) := dk_184 0 19 (dk_at dksX19_reckon_0 20 rfl rfl)
theorem dX19_reckon_23 : decode cX19_reckon 23 = .ok (.invokevirtual 28, 3) := dk_182 0 28 (dk_at dksX19_reckon_1 0 rfl rfl)
theorem dX19_reckon_26 : decode cX19_reckon 26 = .ok (.return_, 1) := dk_177 (dk_at dksX19_reckon_1 3 rfl rfl)
abbrev cX19_hand : ByteArray := prog_19_method_3_code
def yX19_hand : MethodName := ⟨RX19, "hand", "()V"⟩
def dkwX19_hand_0 : List UInt8 := [42, 180, 0, 7, 42, 180, 0, 32, 119, 184, 0, 19, 42, 180, 0, 33, 119, 184, 0, 19, 182, 0, 34, 177]
abbrev dktX19_hand_0 : List UInt8 := dkwX19_hand_0 ++ []
theorem dksX19_hand_0 : cX19_hand.data.toList.drop 0 = dktX19_hand_0 := by decide +kernel
theorem dX19_hand_0 : decode cX19_hand 0 = .ok (.aload_n 0, 1) := dk_42 (dk_at dksX19_hand_0 0 rfl rfl)
theorem dX19_hand_1 : decode cX19_hand 1 = .ok (.getfield 7, 3) := dk_180 0 7 (dk_at dksX19_hand_0 1 rfl rfl)
theorem dX19_hand_4 : decode cX19_hand 4 = .ok (.aload_n 0, 1) := dk_42 (dk_at dksX19_hand_0 4 rfl rfl)
theorem dX19_hand_5 : decode cX19_hand 5 = .ok (.getfield 32, 3) := dk_180 0 32 (dk_at dksX19_hand_0 5 rfl rfl)
theorem dX19_hand_8 : decode cX19_hand 8 = .ok (.dneg, 1) := dk_119 (dk_at dksX19_hand_0 8 rfl rfl)
theorem dX19_hand_9 : decode cX19_hand 9 = .ok (.invokestatic 19, 3) := dk_184 0 19 (dk_at dksX19_hand_0 9 rfl rfl)
theorem dX19_hand_12 : decode cX19_hand 12 = .ok (.aload_n 0, 1) := dk_42 (dk_at dksX19_hand_0 12 rfl rfl)
theorem dX19_hand_13 : decode cX19_hand 13 = .ok (.getfield 33, 3) := dk_180 0 33 (dk_at dksX19_hand_0 13 rfl rfl)
theorem dX19_hand_16 : decode cX19_hand 16 = .ok (.dneg, 1) := dk_119 (dk_at dksX19_hand_0 16 rfl rfl)
theorem dX19_hand_17 : decode cX19_hand 17 = .ok (.invokestatic 19, 3) := dk_184 0 19 (dk_at dksX19_hand_0 17 rfl rfl)
theorem dX19_hand_20 : decode cX19_hand 20 = .ok (.invokevirtual 34, 3) := dk_182 0 34 (dk_at dksX19_hand_0 20 rfl rfl)
theorem dX19_hand_23 : decode cX19_hand 23 = .ok (.return_, 1) := dk_177 (dk_at dksX19_hand_0 23 rfl rfl)
theorem q290 : (Jvm.Cond.initialized "ConstraintHouse$Negated") ∈ lw_all := lw_g (lw_at lw_m1 30 rfl) rfl
theorem q1356 : (Jvm.Cond.fieldLink "ConstraintHouse$Negated" (25 : Nat) "ConstraintHouse$Part" "low" "D") ∈ lw_all := lw_g (lw_at lw_m5 136 rfl) rfl
theorem q1368 : (Jvm.Cond.fieldLink "ConstraintHouse$Negated" (33 : Nat) "ConstraintHouse$Negated" "low" "D") ∈ lw_all := lw_g (lw_at lw_m5 148 rfl) rfl
theorem q1369 : (Jvm.Cond.sameField "ConstraintHouse$Negated" "ConstraintHouse$Part" "low" "D") ∈ lw_all := lw_g (lw_at lw_m5 149 rfl) rfl
theorem q1383 : (Jvm.Cond.fieldLink "ConstraintHouse$Negated" (13 : Nat) "ConstraintHouse$Part" "high" "D") ∈ lw_all := lw_g (lw_at lw_m5 163 rfl) rfl
theorem q1397 : (Jvm.Cond.fieldLink "ConstraintHouse$Negated" (32 : Nat) "ConstraintHouse$Negated" "high" "D") ∈ lw_all := lw_g (lw_at lw_m5 177 rfl) rfl
theorem q1398 : (Jvm.Cond.sameField "ConstraintHouse$Negated" "ConstraintHouse$Part" "high" "D") ∈ lw_all := lw_g (lw_at lw_m5 178 rfl) rfl
theorem q1573 : (Jvm.Cond.selects "ConstraintHouse$Negated" ({ cls := "ConstraintHouse$Part", name := "sort", desc := "()I" } : Jvm.MethodName) ({ cls := "ConstraintHouse$Single", name := "sort", desc := "()I" } : Jvm.MethodName)) ∈ lw_all := lw_g (lw_at lw_m6 113 rfl) rfl
theorem q1583 : (Jvm.Cond.instantiable "ConstraintHouse$Negated" (6 : Nat)) ∈ lw_all := lw_g (lw_at lw_m6 123 rfl) rfl
theorem q1585 : (Jvm.Cond.instanceMethod ({ cls := "ConstraintHouse$Negated", name := "<init>", desc := "(LConstraintHouse$Part;)V" } : Jvm.MethodName)) ∈ lw_all := lw_g (lw_at lw_m6 125 rfl) rfl
theorem q1586 : (Jvm.Cond.code ({ cls := "ConstraintHouse$Negated", name := "<init>", desc := "(LConstraintHouse$Part;)V" } : Jvm.MethodName) prog_19_method_1_code (2 : Nat) (Option.none : Option Jvm.ClassFile.FieldType)) ∈ lw_all := lw_g (lw_at lw_m6 126 rfl) rfl
theorem q1587 : (Jvm.Cond.methodLink "ConstraintHouse$Negated" (1 : Nat) ({ cls := "ConstraintHouse$Single", name := "<init>", desc := "(LConstraintHouse$Part;)V" } : Jvm.MethodName)) ∈ lw_all := lw_g (lw_at lw_m6 127 rfl) rfl
theorem q1594 : (Jvm.Cond.fieldLink "ConstraintHouse$Negated" (7 : Nat) "ConstraintHouse$Negated" "x" "LConstraintHouse$Part;") ∈ lw_all := lw_g (lw_at lw_m6 134 rfl) rfl
theorem q1595 : (Jvm.Cond.sameField "ConstraintHouse$Negated" "ConstraintHouse$Single" "x" "LConstraintHouse$Part;") ∈ lw_all := lw_g (lw_at lw_m6 135 rfl) rfl
theorem q1600 : (Jvm.Cond.laysFinal "ConstraintHouse$Negated" "ConstraintHouse$Single" "x" "LConstraintHouse$Part;") ∈ lw_all := lw_g (lw_at lw_m6 140 rfl) rfl
theorem q1602 : (Jvm.Cond.lays "ConstraintHouse$Negated" "ConstraintHouse$Part" "low" "D") ∈ lw_all := lw_g (lw_at lw_m6 142 rfl) rfl
theorem q1603 : (Jvm.Cond.lays "ConstraintHouse$Negated" "ConstraintHouse$Part" "high" "D") ∈ lw_all := lw_g (lw_at lw_m6 143 rfl) rfl
theorem q1604 : (Jvm.Cond.lays "ConstraintHouse$Negated" "ConstraintHouse$Part" "no" "Z") ∈ lw_all := lw_g (lw_at lw_m6 144 rfl) rfl
theorem q1605 : (Jvm.Cond.lays "ConstraintHouse$Negated" "ConstraintHouse$Part" "yes" "Z") ∈ lw_all := lw_g (lw_at lw_m6 145 rfl) rfl
theorem q1606 : (Jvm.Cond.lays "ConstraintHouse$Negated" "ConstraintHouse$Part" "letters" "I") ∈ lw_all := lw_g (lw_at lw_m6 146 rfl) rfl
theorem q1607 : (Jvm.Cond.superclass "ConstraintHouse$Negated" "ConstraintHouse$Single") ∈ lw_all := lw_g (lw_at lw_m6 147 rfl) rfl
theorem q2533 : (Jvm.Cond.selects "ConstraintHouse$Negated" ({ cls := "ConstraintHouse$Narrows", name := "forwards", desc := "(LConstraintHouse$Solver;)V" } : Jvm.MethodName) ({ cls := "ConstraintHouse$Single", name := "forwards", desc := "(LConstraintHouse$Solver;)V" } : Jvm.MethodName)) ∈ lw_all := lw_g (lw_at lw_m10 113 rfl) rfl
theorem q2567 : (Jvm.Cond.selects "ConstraintHouse$Negated" ({ cls := "ConstraintHouse$Single", name := "reckon", desc := "()V" } : Jvm.MethodName) ({ cls := "ConstraintHouse$Negated", name := "reckon", desc := "()V" } : Jvm.MethodName)) ∈ lw_all := lw_g (lw_at lw_m10 147 rfl) rfl
theorem q2568 : (Jvm.Cond.instanceMethod ({ cls := "ConstraintHouse$Negated", name := "reckon", desc := "()V" } : Jvm.MethodName)) ∈ lw_all := lw_g (lw_at lw_m10 148 rfl) rfl
theorem q2569 : (Jvm.Cond.code ({ cls := "ConstraintHouse$Negated", name := "reckon", desc := "()V" } : Jvm.MethodName) prog_19_method_2_code (1 : Nat) (Option.none : Option Jvm.ClassFile.FieldType)) ∈ lw_all := lw_g (lw_at lw_m10 149 rfl) rfl
theorem q2570 : (Jvm.Cond.methodLink "ConstraintHouse$Negated" (19 : Nat) ({ cls := "ConstraintHouse$Bounds", name := "plain", desc := "(D)D" } : Jvm.MethodName)) ∈ lw_all := lw_g (lw_at lw_m10 150 rfl) rfl
theorem q2571 : (Jvm.Cond.methodLink "ConstraintHouse$Negated" (28 : Nat) ({ cls := "ConstraintHouse$Negated", name := "be", desc := "(DD)V" } : Jvm.MethodName)) ∈ lw_all := lw_g (lw_at lw_m10 151 rfl) rfl
theorem q2572 : (Jvm.Cond.sameMethod "ConstraintHouse$Negated" "ConstraintHouse$Part" "be" "(DD)V") ∈ lw_all := lw_g (lw_at lw_m10 152 rfl) rfl
theorem q2573 : (Jvm.Cond.selects "ConstraintHouse$Negated" ({ cls := "ConstraintHouse$Negated", name := "be", desc := "(DD)V" } : Jvm.MethodName) ({ cls := "ConstraintHouse$Part", name := "be", desc := "(DD)V" } : Jvm.MethodName)) ∈ lw_all := lw_g (lw_at lw_m10 153 rfl) rfl
theorem q2823 : (Jvm.Cond.selects "ConstraintHouse$Negated" ({ cls := "ConstraintHouse$Part", name := "hasMeet", desc := "(LConstraintHouse$Part;)Z" } : Jvm.MethodName) ({ cls := "ConstraintHouse$Part", name := "hasMeet", desc := "(LConstraintHouse$Part;)Z" } : Jvm.MethodName)) ∈ lw_all := lw_g (lw_at lw_m11 163 rfl) rfl
theorem q2874 : (Jvm.Cond.selects "ConstraintHouse$Negated" ({ cls := "ConstraintHouse$Part", name := "meets", desc := "(ZZ)V" } : Jvm.MethodName) ({ cls := "ConstraintHouse$Part", name := "meets", desc := "(ZZ)V" } : Jvm.MethodName)) ∈ lw_all := lw_g (lw_at lw_m11 214 rfl) rfl
theorem q2910 : (Jvm.Cond.selects "ConstraintHouse$Negated" ({ cls := "ConstraintHouse$Part", name := "meets", desc := "(LConstraintHouse$Part;)V" } : Jvm.MethodName) ({ cls := "ConstraintHouse$Part", name := "meets", desc := "(LConstraintHouse$Part;)V" } : Jvm.MethodName)) ∈ lw_all := lw_g (lw_at lw_m12 10 rfl) rfl
theorem q2932 : (Jvm.Cond.selects "ConstraintHouse$Negated" ({ cls := "ConstraintHouse$Part", name := "meet", desc := "(DD)V" } : Jvm.MethodName) ({ cls := "ConstraintHouse$Part", name := "meet", desc := "(DD)V" } : Jvm.MethodName)) ∈ lw_all := lw_g (lw_at lw_m12 32 rfl) rfl
theorem q2955 : (Jvm.Cond.selects "ConstraintHouse$Negated" ({ cls := "ConstraintHouse$Part", name := "meets", desc := "(I)V" } : Jvm.MethodName) ({ cls := "ConstraintHouse$Part", name := "meets", desc := "(I)V" } : Jvm.MethodName)) ∈ lw_all := lw_g (lw_at lw_m12 55 rfl) rfl
theorem q2989 : (Jvm.Cond.selects "ConstraintHouse$Negated" ({ cls := "ConstraintHouse$Part", name := "lose", desc := "(D)V" } : Jvm.MethodName) ({ cls := "ConstraintHouse$Part", name := "lose", desc := "(D)V" } : Jvm.MethodName)) ∈ lw_all := lw_g (lw_at lw_m12 89 rfl) rfl
theorem q3062 : (Jvm.Cond.selects "ConstraintHouse$Negated" ({ cls := "ConstraintHouse$Part", name := "lose", desc := "([I)V" } : Jvm.MethodName) ({ cls := "ConstraintHouse$Part", name := "lose", desc := "([I)V" } : Jvm.MethodName)) ∈ lw_all := lw_g (lw_at lw_m12 162 rfl) rfl
theorem q3219 : (Jvm.Cond.selects "ConstraintHouse$Negated" ({ cls := "ConstraintHouse$Single", name := "hand", desc := "()V" } : Jvm.MethodName) ({ cls := "ConstraintHouse$Negated", name := "hand", desc := "()V" } : Jvm.MethodName)) ∈ lw_all := lw_g (lw_at lw_m13 79 rfl) rfl
theorem q3220 : (Jvm.Cond.instanceMethod ({ cls := "ConstraintHouse$Negated", name := "hand", desc := "()V" } : Jvm.MethodName)) ∈ lw_all := lw_g (lw_at lw_m13 80 rfl) rfl
theorem q3221 : (Jvm.Cond.code ({ cls := "ConstraintHouse$Negated", name := "hand", desc := "()V" } : Jvm.MethodName) prog_19_method_3_code (1 : Nat) (Option.none : Option Jvm.ClassFile.FieldType)) ∈ lw_all := lw_g (lw_at lw_m13 81 rfl) rfl
theorem q3222 : (Jvm.Cond.methodLink "ConstraintHouse$Negated" (34 : Nat) ({ cls := "ConstraintHouse$Part", name := "meet", desc := "(DD)V" } : Jvm.MethodName)) ∈ lw_all := lw_g (lw_at lw_m13 82 rfl) rfl
theorem q3247 : (Jvm.Cond.selects "ConstraintHouse$Negated" ({ cls := "ConstraintHouse$Part", name := "backwards", desc := "(LConstraintHouse$Solver;)V" } : Jvm.MethodName) ({ cls := "ConstraintHouse$Single", name := "backwards", desc := "(LConstraintHouse$Solver;)V" } : Jvm.MethodName)) ∈ lw_all := lw_g (lw_at lw_m13 107 rfl) rfl
theorem q3269 : (Jvm.Cond.selects "ConstraintHouse$Negated" ({ cls := "ConstraintHouse$Part", name := "enter", desc := "(LConstraintHouse$Solver;)V" } : Jvm.MethodName) ({ cls := "ConstraintHouse$Part", name := "enter", desc := "(LConstraintHouse$Solver;)V" } : Jvm.MethodName)) ∈ lw_all := lw_g (lw_at lw_m13 129 rfl) rfl
theorem q4827 : (Jvm.Cond.castable "ConstraintHouse$Negated" "java/lang/Object") ∈ lw_tbl := lw_at lw_m20 7 rfl
theorem q4862 : (Jvm.Cond.castable "ConstraintHouse$Negated" "ConstraintHouse$Part") ∈ lw_tbl := lw_at lw_m20 42 rfl
theorem in_X19 : ∀ w ∈ wsX190, w ∈ lw_all := lw_in wsX190 [1600, 1602, 1603, 1604, 1605, 1606] (by decide +kernel) (by decide +kernel)
/-! ConstraintHouse$Magnitude -/
set_option maxRecDepth 100000
def RX20 : String := "ConstraintHouse$Magnitude"
def TX20 : u_T := fun k => match k with
  | 0 => ("ConstraintHouse$Single", "x", "LConstraintHouse$Part;", true)
  | 1 => ("ConstraintHouse$Part", "low", "D", false)
  | 2 => ("ConstraintHouse$Part", "high", "D", false)
  | 3 => ("ConstraintHouse$Part", "no", "Z", false)
  | 4 => ("ConstraintHouse$Part", "yes", "Z", false)
  | _ => ("ConstraintHouse$Part", "letters", "I", false)
def tyX20 : Nat → FieldType := fun k => match k with
  | 0 => .object "ConstraintHouse$Part"
  | 1 => .double
  | 2 => .double
  | 3 => .boolean
  | 4 => .boolean
  | _ => .int
abbrev wsX200 : List Cond := u_ws RX20 TX20 6
theorem nmX20 : ∀ a, a < 6 → ∀ b, b < 6 → a ≠ b → (TX20 a).2.1 ≠ (TX20 b).2.1 := by decide +kernel
theorem tyX20_ok : ∀ k, k < 6 → parseFieldDescriptor (TX20 k).2.2.1 = some (tyX20 k) := by decide +kernel
abbrev cX20_init : ByteArray := prog_17_method_1_code
def yX20_init : MethodName := ⟨RX20, "<init>", "(LConstraintHouse$Part;)V"⟩
def dkwX20_init_0 : List UInt8 := [42, 43, 183, 0, 1, 177]
abbrev dktX20_init_0 : List UInt8 := dkwX20_init_0 ++ []
theorem dksX20_init_0 : cX20_init.data.toList.drop 0 = dktX20_init_0 := by decide +kernel
theorem dX20_init_0 : decode cX20_init 0 = .ok (.aload_n 0, 1) := dk_42 (dk_at dksX20_init_0 0 rfl rfl)
theorem dX20_init_1 : decode cX20_init 1 = .ok (.aload_n 1, 1) := dk_43 (dk_at dksX20_init_0 1 rfl rfl)
theorem dX20_init_2 : decode cX20_init 2 = .ok (.invokespecial 1, 3) := dk_183 0 1 (dk_at dksX20_init_0 2 rfl rfl)
theorem dX20_init_5 : decode cX20_init 5 = .ok (.return_, 1) := dk_177 (dk_at dksX20_init_0 5 rfl rfl)
abbrev cX20_reckon : ByteArray := prog_17_method_2_code
def yX20_reckon : MethodName := ⟨RX20, "reckon", "()V"⟩
def dkwX20_reckon_4 : List UInt8 := [184, 0, 32, 182, 0, 22, 177]
abbrev dktX20_reckon_4 : List UInt8 := dkwX20_reckon_4 ++ []
def dkwX20_reckon_3 : List UInt8 := [167, 0, 28, 42, 14, 42, 180, 0, 7, 180, 0, 13, 184, 0, 26, 42, 180, 0, 7, 180, 0, 19]
abbrev dktX20_reckon_3 : List UInt8 := dkwX20_reckon_3 ++ dktX20_reckon_4
def dkwX20_reckon_2 : List UInt8 := [180, 0, 7, 180, 0, 19, 184, 0, 26, 42, 180, 0, 7, 180, 0, 13, 184, 0, 26, 182, 0, 22]
abbrev dktX20_reckon_2 : List UInt8 := dkwX20_reckon_2 ++ dktX20_reckon_3
def dkwX20_reckon_1 : List UInt8 := [180, 0, 19, 182, 0, 22, 167, 0, 67, 42, 180, 0, 7, 180, 0, 19, 14, 152, 157, 0, 30, 42, 42]
abbrev dktX20_reckon_1 : List UInt8 := dkwX20_reckon_1 ++ dktX20_reckon_2
def dkwX20_reckon_0 : List UInt8 := [42, 180, 0, 7, 180, 0, 13, 14, 151, 155, 0, 24, 42, 42, 180, 0, 7, 180, 0, 13, 42, 180, 0, 7]
abbrev dktX20_reckon_0 : List UInt8 := dkwX20_reckon_0 ++ dktX20_reckon_1
theorem dksX20_reckon_0 : cX20_reckon.data.toList.drop 0 = dktX20_reckon_0 := by decide +kernel
theorem dksX20_reckon_1 : cX20_reckon.data.toList.drop 24 = dktX20_reckon_1 := dk_seg dksX20_reckon_0 24 rfl rfl
theorem dksX20_reckon_2 : cX20_reckon.data.toList.drop 47 = dktX20_reckon_2 := dk_seg dksX20_reckon_1 23 rfl rfl
theorem dksX20_reckon_3 : cX20_reckon.data.toList.drop 69 = dktX20_reckon_3 := dk_seg dksX20_reckon_2 22 rfl rfl
theorem dksX20_reckon_4 : cX20_reckon.data.toList.drop 91 = dktX20_reckon_4 := dk_seg dksX20_reckon_3 22 rfl rfl
theorem dX20_reckon_0 : decode cX20_reckon 0 = .ok (.aload_n 0, 1) := dk_42 (dk_at dksX20_reckon_0 0 rfl rfl)
theorem dX20_reckon_1 : decode cX20_reckon 1 = .ok (.getfield 7, 3) := dk_180 0 7 (dk_at dksX20_reckon_0 1 rfl rfl)
theorem dX20_reckon_4 : decode cX20_reckon 4 = .ok (.getfield 13, 3) := dk_180 0 13 (dk_at dksX20_reckon_0 4 rfl rfl)
theorem dX20_reckon_7 : decode cX20_reckon 7 = .ok (.dconst 0, 1) := dk_14 (dk_at dksX20_reckon_0 7 rfl rfl)
theorem dX20_reckon_8 : decode cX20_reckon 8 = .ok (.dcmp .l, 1) := dk_151 (dk_at dksX20_reckon_0 8 rfl rfl)
theorem dX20_reckon_9 : decode cX20_reckon 9 = .ok (.ifCond .lt 24, 3) := dk_155 0 24 (dk_at dksX20_reckon_0 9 rfl rfl)
theorem dX20_reckon_12 : decode cX20_reckon 12 = .ok (.aload_n 0, 1) := dk_42 (dk_at dksX20_reckon_0 12 rfl rfl)
theorem dX20_reckon_13 : decode cX20_reckon 13 = .ok (.aload_n 0, 1) := dk_42 (dk_at dksX20_reckon_0 13 rfl rfl)
theorem dX20_reckon_14 : decode cX20_reckon 14 = .ok (.getfield 7, 3) := dk_180 0 7 (dk_at dksX20_reckon_0 14 rfl rfl)
theorem dX20_reckon_17 : decode cX20_reckon 17 = .ok (.getfield 13, 3) := dk_180 0 13 (dk_at dksX20_reckon_0 17 rfl rfl)
theorem dX20_reckon_20 : decode cX20_reckon 20 = .ok (.aload_n 0, 1) := dk_42 (dk_at dksX20_reckon_0 20 rfl rfl)
theorem dX20_reckon_21 : decode cX20_reckon 21 = .ok (.getfield 7, 3) := dk_180 0 7 (dk_at dksX20_reckon_0 21 rfl rfl)
theorem dX20_reckon_24 : decode cX20_reckon 24 = .ok (.getfield 19, 3) := dk_180 0 19 (dk_at dksX20_reckon_1 0 rfl rfl)
theorem dX20_reckon_27 : decode cX20_reckon 27 = .ok (.invokevirtual 22, 3) := dk_182 0 22 (dk_at dksX20_reckon_1 3 rfl rfl)
theorem dX20_reckon_30 : decode cX20_reckon 30 = .ok (.goto 67, 3) := dk_167 0 67 (dk_at dksX20_reckon_1 6 rfl rfl)
theorem dX20_reckon_33 : decode cX20_reckon 33 = .ok (.aload_n 0, 1) := dk_42 (dk_at dksX20_reckon_1 9 rfl rfl)
theorem dX20_reckon_34 : decode cX20_reckon 34 = .ok (.getfield 7, 3) := dk_180 0 7 (dk_at dksX20_reckon_1 10 rfl rfl)
theorem dX20_reckon_37 : decode cX20_reckon 37 = .ok (.getfield 19, 3) := dk_180 0 19 (dk_at dksX20_reckon_1 13 rfl rfl)
theorem dX20_reckon_40 : decode cX20_reckon 40 = .ok (.dconst 0, 1) := dk_14 (dk_at dksX20_reckon_1 16 rfl rfl)
theorem dX20_reckon_41 : decode cX20_reckon 41 = .ok (.dcmp .g, 1) := dk_152 (dk_at dksX20_reckon_1 17 rfl rfl)
theorem dX20_reckon_42 : decode cX20_reckon 42 = .ok (.ifCond .gt 30, 3) := dk_157 0 30 (dk_at dksX20_reckon_1 18 rfl rfl)
theorem dX20_reckon_45 : decode cX20_reckon 45 = .ok (.aload_n 0, 1) := dk_42 (dk_at dksX20_reckon_1 21 rfl rfl)
theorem dX20_reckon_46 : decode cX20_reckon 46 = .ok (.aload_n 0, 1) := dk_42 (dk_at dksX20_reckon_1 22 rfl rfl)
theorem dX20_reckon_47 : decode cX20_reckon 47 = .ok (.getfield 7, 3) := dk_180 0 7 (dk_at dksX20_reckon_2 0 rfl rfl)
theorem dX20_reckon_50 : decode cX20_reckon 50 = .ok (.getfield 19, 3) := dk_180 0 19 (dk_at dksX20_reckon_2 3 rfl rfl)
theorem dX20_reckon_53 : decode cX20_reckon 53 = .ok (.invokestatic 26, 3) := dk_184 0 26 (dk_at dksX20_reckon_2 6 rfl rfl)
theorem dX20_reckon_56 : decode cX20_reckon 56 = .ok (.aload_n 0, 1) := dk_42 (dk_at dksX20_reckon_2 9 rfl rfl)
theorem dX20_reckon_57 : decode cX20_reckon 57 = .ok (.getfield 7, 3) := dk_180 0 7 (dk_at dksX20_reckon_2 10 rfl rfl)
theorem dX20_reckon_60 : decode cX20_reckon 60 = .ok (.getfield 13, 3) := dk_180 0 13 (dk_at dksX20_reckon_2 13 rfl rfl)
theorem dX20_reckon_63 : decode cX20_reckon 63 = .ok (.invokestatic 26, 3) := dk_184 0 26 (dk_at dksX20_reckon_2 16 rfl rfl)
theorem dX20_reckon_66 : decode cX20_reckon 66 = .ok (.invokevirtual 22, 3) := dk_182 0 22 (dk_at dksX20_reckon_2 19 rfl rfl)
theorem dX20_reckon_69 : decode cX20_reckon 69 = .ok (.goto 28, 3) := dk_167 0 28 (dk_at dksX20_reckon_3 0 rfl rfl)
theorem dX20_reckon_72 : decode cX20_reckon 72 = .ok (.aload_n 0, 1) := dk_42 (dk_at dksX20_reckon_3 3 rfl rfl)
theorem dX20_reckon_73 : decode cX20_reckon 73 = .ok (.dconst 0, 1) := dk_14 (dk_at dksX20_reckon_3 4 rfl rfl)
theorem dX20_reckon_74 : decode cX20_reckon 74 = .ok (.aload_n 0, 1) := dk_42 (dk_at dksX20_reckon_3 5 rfl rfl)
theorem dX20_reckon_75 : decode cX20_reckon 75 = .ok (.getfield 7, 3) := dk_180 0 7 (dk_at dksX20_reckon_3 6 rfl rfl)
theorem dX20_reckon_78 : decode cX20_reckon 78 = .ok (.getfield 13, 3) := dk_180 0 13 (dk_at dksX20_reckon_3 9 rfl rfl)
theorem dX20_reckon_81 : decode cX20_reckon 81 = .ok (.invokestatic 26, 3) := dk_184 0 26 (dk_at dksX20_reckon_3 12 rfl rfl)
theorem dX20_reckon_84 : decode cX20_reckon 84 = .ok (.aload_n 0, 1) := dk_42 (dk_at dksX20_reckon_3 15 rfl rfl)
theorem dX20_reckon_85 : decode cX20_reckon 85 = .ok (.getfield 7, 3) := dk_180 0 7 (dk_at dksX20_reckon_3 16 rfl rfl)
theorem dX20_reckon_88 : decode cX20_reckon 88 = .ok (.getfield 19, 3) := dk_180 0 19 (dk_at dksX20_reckon_3 19 rfl rfl)
theorem dX20_reckon_91 : decode cX20_reckon 91 = .ok (.invokestatic 32, 3) := dk_184 0 32 (dk_at dksX20_reckon_4 0 rfl rfl)
theorem dX20_reckon_94 : decode cX20_reckon 94 = .ok (.invokevirtual 22, 3) := dk_182 0 22 (dk_at dksX20_reckon_4 3 rfl rfl)
theorem dX20_reckon_97 : decode cX20_reckon 97 = .ok (.return_, 1) := dk_177 (dk_at dksX20_reckon_4 6 rfl rfl)
abbrev cX20_hand : ByteArray := prog_17_method_3_code
def yX20_hand : MethodName := ⟨RX20, "hand", "()V"⟩
def dkwX20_hand_0 : List UInt8 := [42, 42, 180, 0, 36, 42, 180, 0, 37, 182, 0, 38, 177]
abbrev dktX20_hand_0 : List UInt8 := dkwX20_hand_0 ++ []
theorem dksX20_hand_0 : cX20_hand.data.toList.drop 0 = dktX20_hand_0 := by decide +kernel
theorem dX20_hand_0 : decode cX20_hand 0 = .ok (.aload_n 0, 1) := dk_42 (dk_at dksX20_hand_0 0 rfl rfl)
theorem dX20_hand_1 : decode cX20_hand 1 = .ok (.aload_n 0, 1) := dk_42 (dk_at dksX20_hand_0 1 rfl rfl)
theorem dX20_hand_2 : decode cX20_hand 2 = .ok (.getfield 36, 3) := dk_180 0 36 (dk_at dksX20_hand_0 2 rfl rfl)
theorem dX20_hand_5 : decode cX20_hand 5 = .ok (.aload_n 0, 1) := dk_42 (dk_at dksX20_hand_0 5 rfl rfl)
theorem dX20_hand_6 : decode cX20_hand 6 = .ok (.getfield 37, 3) := dk_180 0 37 (dk_at dksX20_hand_0 6 rfl rfl)
theorem dX20_hand_9 : decode cX20_hand 9 = .ok (.invokevirtual 38, 3) := dk_182 0 38 (dk_at dksX20_hand_0 9 rfl rfl)
theorem dX20_hand_12 : decode cX20_hand 12 = .ok (.return_, 1) := dk_177 (dk_at dksX20_hand_0 12 rfl rfl)
abbrev cX20_mirrored : ByteArray := prog_17_method_4_code
def yX20_mirrored : MethodName := ⟨RX20, "mirrored", "(DD)V"⟩
def dkwX20_mirrored_2 : List UInt8 := [156, 0, 18, 42, 180, 0, 7, 20, 0, 51, 39, 119, 184, 0, 41, 182, 0, 46, 177]
abbrev dktX20_mirrored_2 : List UInt8 := dkwX20_mirrored_2 ++ []
def dkwX20_mirrored_1 : List UInt8 := [158, 0, 14, 42, 180, 0, 7, 39, 20, 0, 49, 182, 0, 46, 42, 180, 0, 7, 180, 0, 19, 39, 152]
abbrev dktX20_mirrored_1 : List UInt8 := dkwX20_mirrored_1 ++ dktX20_mirrored_2
def dkwX20_mirrored_0 : List UInt8 := [42, 180, 0, 7, 41, 119, 184, 0, 41, 41, 182, 0, 46, 42, 180, 0, 7, 180, 0, 13, 39, 119, 151]
abbrev dktX20_mirrored_0 : List UInt8 := dkwX20_mirrored_0 ++ dktX20_mirrored_1
theorem dksX20_mirrored_0 : cX20_mirrored.data.toList.drop 0 = dktX20_mirrored_0 := by decide +kernel
theorem dksX20_mirrored_1 : cX20_mirrored.data.toList.drop 23 = dktX20_mirrored_1 := dk_seg dksX20_mirrored_0 23 rfl rfl
theorem dksX20_mirrored_2 : cX20_mirrored.data.toList.drop 46 = dktX20_mirrored_2 := dk_seg dksX20_mirrored_1 23 rfl rfl
theorem dX20_mirrored_0 : decode cX20_mirrored 0 = .ok (.aload_n 0, 1) := dk_42 (dk_at dksX20_mirrored_0 0 rfl rfl)
theorem dX20_mirrored_1 : decode cX20_mirrored 1 = .ok (.getfield 7, 3) := dk_180 0 7 (dk_at dksX20_mirrored_0 1 rfl rfl)
theorem dX20_mirrored_4 : decode cX20_mirrored 4 = .ok (.dload_n 3, 1) := dk_41 (dk_at dksX20_mirrored_0 4 rfl rfl)
theorem dX20_mirrored_5 : decode cX20_mirrored 5 = .ok (.dneg, 1) := dk_119 (dk_at dksX20_mirrored_0 5 rfl rfl)
theorem dX20_mirrored_6 : decode cX20_mirrored 6 = .ok (.invokestatic 41, 3) := dk_184 0 41 (dk_at dksX20_mirrored_0 6 rfl rfl)
theorem dX20_mirrored_9 : decode cX20_mirrored 9 = .ok (.dload_n 3, 1) := dk_41 (dk_at dksX20_mirrored_0 9 rfl rfl)
theorem dX20_mirrored_10 : decode cX20_mirrored 10 = .ok (.invokevirtual 46, 3) := dk_182 0 46 (dk_at dksX20_mirrored_0 10 rfl rfl)
theorem dX20_mirrored_13 : decode cX20_mirrored 13 = .ok (.aload_n 0, 1) := dk_42 (dk_at dksX20_mirrored_0 13 rfl rfl)
theorem dX20_mirrored_14 : decode cX20_mirrored 14 = .ok (.getfield 7, 3) := dk_180 0 7 (dk_at dksX20_mirrored_0 14 rfl rfl)
theorem dX20_mirrored_17 : decode cX20_mirrored 17 = .ok (.getfield 13, 3) := dk_180 0 13 (dk_at dksX20_mirrored_0 17 rfl rfl)
theorem dX20_mirrored_20 : decode cX20_mirrored 20 = .ok (.dload_n 1, 1) := dk_39 (dk_at dksX20_mirrored_0 20 rfl rfl)
theorem dX20_mirrored_21 : decode cX20_mirrored 21 = .ok (.dneg, 1) := dk_119 (dk_at dksX20_mirrored_0 21 rfl rfl)
theorem dX20_mirrored_22 : decode cX20_mirrored 22 = .ok (.dcmp .l, 1) := dk_151 (dk_at dksX20_mirrored_0 22 rfl rfl)
theorem dX20_mirrored_23 : decode cX20_mirrored 23 = .ok (.ifCond .le 14, 3) := dk_158 0 14 (dk_at dksX20_mirrored_1 0 rfl rfl)
theorem dX20_mirrored_26 : decode cX20_mirrored 26 = .ok (.aload_n 0, 1) := dk_42 (dk_at dksX20_mirrored_1 3 rfl rfl)
theorem dX20_mirrored_27 : decode cX20_mirrored 27 = .ok (.getfield 7, 3) := dk_180 0 7 (dk_at dksX20_mirrored_1 4 rfl rfl)
theorem dX20_mirrored_30 : decode cX20_mirrored 30 = .ok (.dload_n 1, 1) := dk_39 (dk_at dksX20_mirrored_1 7 rfl rfl)
theorem dX20_mirrored_31 : decode cX20_mirrored 31 = .ok (.ldc2_w 49, 3) := dk_20 0 49 (dk_at dksX20_mirrored_1 8 rfl rfl)
theorem dX20_mirrored_34 : decode cX20_mirrored 34 = .ok (.invokevirtual 46, 3) := dk_182 0 46 (dk_at dksX20_mirrored_1 11 rfl rfl)
theorem dX20_mirrored_37 : decode cX20_mirrored 37 = .ok (.aload_n 0, 1) := dk_42 (dk_at dksX20_mirrored_1 14 rfl rfl)
theorem dX20_mirrored_38 : decode cX20_mirrored 38 = .ok (.getfield 7, 3) := dk_180 0 7 (dk_at dksX20_mirrored_1 15 rfl rfl)
theorem dX20_mirrored_41 : decode cX20_mirrored 41 = .ok (.getfield 19, 3) := dk_180 0 19 (dk_at dksX20_mirrored_1 18 rfl rfl)
theorem dX20_mirrored_44 : decode cX20_mirrored 44 = .ok (.dload_n 1, 1) := dk_39 (dk_at dksX20_mirrored_1 21 rfl rfl)
theorem dX20_mirrored_45 : decode cX20_mirrored 45 = .ok (.dcmp .g, 1) := dk_152 (dk_at dksX20_mirrored_1 22 rfl rfl)
theorem dX20_mirrored_46 : decode cX20_mirrored 46 = .ok (.ifCond .ge 18, 3) := dk_156 0 18 (dk_at dksX20_mirrored_2 0 rfl rfl)
theorem dX20_mirrored_49 : decode cX20_mirrored 49 = .ok (.aload_n 0, 1) := dk_42 (dk_at dksX20_mirrored_2 3 rfl rfl)
theorem dX20_mirrored_50 : decode cX20_mirrored 50 = .ok (.getfield 7, 3) := dk_180 0 7 (dk_at dksX20_mirrored_2 4 rfl rfl)
theorem dX20_mirrored_53 : decode cX20_mirrored 53 = .ok (.ldc2_w 51, 3) := dk_20 0 51 (dk_at dksX20_mirrored_2 7 rfl rfl)
theorem dX20_mirrored_56 : decode cX20_mirrored 56 = .ok (.dload_n 1, 1) := dk_39 (dk_at dksX20_mirrored_2 10 rfl rfl)
theorem dX20_mirrored_57 : decode cX20_mirrored 57 = .ok (.dneg, 1) := dk_119 (dk_at dksX20_mirrored_2 11 rfl rfl)
theorem dX20_mirrored_58 : decode cX20_mirrored 58 = .ok (.invokestatic 41, 3) := dk_184 0 41 (dk_at dksX20_mirrored_2 12 rfl rfl)
theorem dX20_mirrored_61 : decode cX20_mirrored 61 = .ok (.invokevirtual 46, 3) := dk_182 0 46 (dk_at dksX20_mirrored_2 15 rfl rfl)
theorem dX20_mirrored_64 : decode cX20_mirrored 64 = .ok (.return_, 1) := dk_177 (dk_at dksX20_mirrored_2 18 rfl rfl)
theorem q291 : (Jvm.Cond.initialized "ConstraintHouse$Magnitude") ∈ lw_all := lw_g (lw_at lw_m1 31 rfl) rfl
theorem q1347 : (Jvm.Cond.fieldLink "ConstraintHouse$Magnitude" (13 : Nat) "ConstraintHouse$Part" "low" "D") ∈ lw_all := lw_g (lw_at lw_m5 127 rfl) rfl
theorem q1361 : (Jvm.Cond.fieldLink "ConstraintHouse$Magnitude" (36 : Nat) "ConstraintHouse$Magnitude" "low" "D") ∈ lw_all := lw_g (lw_at lw_m5 141 rfl) rfl
theorem q1362 : (Jvm.Cond.sameField "ConstraintHouse$Magnitude" "ConstraintHouse$Part" "low" "D") ∈ lw_all := lw_g (lw_at lw_m5 142 rfl) rfl
theorem q1394 : (Jvm.Cond.fieldLink "ConstraintHouse$Magnitude" (19 : Nat) "ConstraintHouse$Part" "high" "D") ∈ lw_all := lw_g (lw_at lw_m5 174 rfl) rfl
theorem q1401 : (Jvm.Cond.fieldLink "ConstraintHouse$Magnitude" (37 : Nat) "ConstraintHouse$Magnitude" "high" "D") ∈ lw_all := lw_g (lw_at lw_m5 181 rfl) rfl
theorem q1402 : (Jvm.Cond.sameField "ConstraintHouse$Magnitude" "ConstraintHouse$Part" "high" "D") ∈ lw_all := lw_g (lw_at lw_m5 182 rfl) rfl
theorem q1572 : (Jvm.Cond.selects "ConstraintHouse$Magnitude" ({ cls := "ConstraintHouse$Part", name := "sort", desc := "()I" } : Jvm.MethodName) ({ cls := "ConstraintHouse$Single", name := "sort", desc := "()I" } : Jvm.MethodName)) ∈ lw_all := lw_g (lw_at lw_m6 112 rfl) rfl
theorem q1592 : (Jvm.Cond.fieldLink "ConstraintHouse$Magnitude" (7 : Nat) "ConstraintHouse$Magnitude" "x" "LConstraintHouse$Part;") ∈ lw_all := lw_g (lw_at lw_m6 132 rfl) rfl
theorem q1593 : (Jvm.Cond.sameField "ConstraintHouse$Magnitude" "ConstraintHouse$Single" "x" "LConstraintHouse$Part;") ∈ lw_all := lw_g (lw_at lw_m6 133 rfl) rfl
theorem q1613 : (Jvm.Cond.instantiable "ConstraintHouse$Magnitude" (6 : Nat)) ∈ lw_all := lw_g (lw_at lw_m6 153 rfl) rfl
theorem q1615 : (Jvm.Cond.instanceMethod ({ cls := "ConstraintHouse$Magnitude", name := "<init>", desc := "(LConstraintHouse$Part;)V" } : Jvm.MethodName)) ∈ lw_all := lw_g (lw_at lw_m6 155 rfl) rfl
theorem q1616 : (Jvm.Cond.code ({ cls := "ConstraintHouse$Magnitude", name := "<init>", desc := "(LConstraintHouse$Part;)V" } : Jvm.MethodName) prog_17_method_1_code (2 : Nat) (Option.none : Option Jvm.ClassFile.FieldType)) ∈ lw_all := lw_g (lw_at lw_m6 156 rfl) rfl
theorem q1617 : (Jvm.Cond.methodLink "ConstraintHouse$Magnitude" (1 : Nat) ({ cls := "ConstraintHouse$Single", name := "<init>", desc := "(LConstraintHouse$Part;)V" } : Jvm.MethodName)) ∈ lw_all := lw_g (lw_at lw_m6 157 rfl) rfl
theorem q1618 : (Jvm.Cond.laysFinal "ConstraintHouse$Magnitude" "ConstraintHouse$Single" "x" "LConstraintHouse$Part;") ∈ lw_all := lw_g (lw_at lw_m6 158 rfl) rfl
theorem q1619 : (Jvm.Cond.lays "ConstraintHouse$Magnitude" "ConstraintHouse$Part" "low" "D") ∈ lw_all := lw_g (lw_at lw_m6 159 rfl) rfl
theorem q1620 : (Jvm.Cond.lays "ConstraintHouse$Magnitude" "ConstraintHouse$Part" "high" "D") ∈ lw_all := lw_g (lw_at lw_m6 160 rfl) rfl
theorem q1621 : (Jvm.Cond.lays "ConstraintHouse$Magnitude" "ConstraintHouse$Part" "no" "Z") ∈ lw_all := lw_g (lw_at lw_m6 161 rfl) rfl
theorem q1622 : (Jvm.Cond.lays "ConstraintHouse$Magnitude" "ConstraintHouse$Part" "yes" "Z") ∈ lw_all := lw_g (lw_at lw_m6 162 rfl) rfl
theorem q1623 : (Jvm.Cond.lays "ConstraintHouse$Magnitude" "ConstraintHouse$Part" "letters" "I") ∈ lw_all := lw_g (lw_at lw_m6 163 rfl) rfl
theorem q1624 : (Jvm.Cond.superclass "ConstraintHouse$Magnitude" "ConstraintHouse$Single") ∈ lw_all := lw_g (lw_at lw_m6 164 rfl) rfl
theorem q2530 : (Jvm.Cond.selects "ConstraintHouse$Magnitude" ({ cls := "ConstraintHouse$Narrows", name := "forwards", desc := "(LConstraintHouse$Solver;)V" } : Jvm.MethodName) ({ cls := "ConstraintHouse$Single", name := "forwards", desc := "(LConstraintHouse$Solver;)V" } : Jvm.MethodName)) ∈ lw_all := lw_g (lw_at lw_m10 110 rfl) rfl
theorem q2550 : (Jvm.Cond.selects "ConstraintHouse$Magnitude" ({ cls := "ConstraintHouse$Single", name := "reckon", desc := "()V" } : Jvm.MethodName) ({ cls := "ConstraintHouse$Magnitude", name := "reckon", desc := "()V" } : Jvm.MethodName)) ∈ lw_all := lw_g (lw_at lw_m10 130 rfl) rfl
theorem q2551 : (Jvm.Cond.instanceMethod ({ cls := "ConstraintHouse$Magnitude", name := "reckon", desc := "()V" } : Jvm.MethodName)) ∈ lw_all := lw_g (lw_at lw_m10 131 rfl) rfl
theorem q2552 : (Jvm.Cond.code ({ cls := "ConstraintHouse$Magnitude", name := "reckon", desc := "()V" } : Jvm.MethodName) prog_17_method_2_code (1 : Nat) (Option.none : Option Jvm.ClassFile.FieldType)) ∈ lw_all := lw_g (lw_at lw_m10 132 rfl) rfl
theorem q2553 : (Jvm.Cond.methodLink "ConstraintHouse$Magnitude" (22 : Nat) ({ cls := "ConstraintHouse$Magnitude", name := "be", desc := "(DD)V" } : Jvm.MethodName)) ∈ lw_all := lw_g (lw_at lw_m10 133 rfl) rfl
theorem q2554 : (Jvm.Cond.sameMethod "ConstraintHouse$Magnitude" "ConstraintHouse$Part" "be" "(DD)V") ∈ lw_all := lw_g (lw_at lw_m10 134 rfl) rfl
theorem q2555 : (Jvm.Cond.selects "ConstraintHouse$Magnitude" ({ cls := "ConstraintHouse$Magnitude", name := "be", desc := "(DD)V" } : Jvm.MethodName) ({ cls := "ConstraintHouse$Part", name := "be", desc := "(DD)V" } : Jvm.MethodName)) ∈ lw_all := lw_g (lw_at lw_m10 135 rfl) rfl
theorem q2557 : (Jvm.Cond.methodLink "ConstraintHouse$Magnitude" (26 : Nat) ({ cls := "java/lang/Math", name := "abs", desc := "(D)D" } : Jvm.MethodName)) ∈ lw_all := lw_g (lw_at lw_m10 137 rfl) rfl
theorem q2562 : (Jvm.Cond.methodLink "ConstraintHouse$Magnitude" (32 : Nat) ({ cls := "java/lang/Math", name := "max", desc := "(DD)D" } : Jvm.MethodName)) ∈ lw_all := lw_g (lw_at lw_m10 142 rfl) rfl
theorem q2822 : (Jvm.Cond.selects "ConstraintHouse$Magnitude" ({ cls := "ConstraintHouse$Part", name := "hasMeet", desc := "(LConstraintHouse$Part;)Z" } : Jvm.MethodName) ({ cls := "ConstraintHouse$Part", name := "hasMeet", desc := "(LConstraintHouse$Part;)Z" } : Jvm.MethodName)) ∈ lw_all := lw_g (lw_at lw_m11 162 rfl) rfl
theorem q2873 : (Jvm.Cond.selects "ConstraintHouse$Magnitude" ({ cls := "ConstraintHouse$Part", name := "meets", desc := "(ZZ)V" } : Jvm.MethodName) ({ cls := "ConstraintHouse$Part", name := "meets", desc := "(ZZ)V" } : Jvm.MethodName)) ∈ lw_all := lw_g (lw_at lw_m11 213 rfl) rfl
theorem q2909 : (Jvm.Cond.selects "ConstraintHouse$Magnitude" ({ cls := "ConstraintHouse$Part", name := "meets", desc := "(LConstraintHouse$Part;)V" } : Jvm.MethodName) ({ cls := "ConstraintHouse$Part", name := "meets", desc := "(LConstraintHouse$Part;)V" } : Jvm.MethodName)) ∈ lw_all := lw_g (lw_at lw_m12 9 rfl) rfl
theorem q2931 : (Jvm.Cond.selects "ConstraintHouse$Magnitude" ({ cls := "ConstraintHouse$Part", name := "meet", desc := "(DD)V" } : Jvm.MethodName) ({ cls := "ConstraintHouse$Part", name := "meet", desc := "(DD)V" } : Jvm.MethodName)) ∈ lw_all := lw_g (lw_at lw_m12 31 rfl) rfl
theorem q2954 : (Jvm.Cond.selects "ConstraintHouse$Magnitude" ({ cls := "ConstraintHouse$Part", name := "meets", desc := "(I)V" } : Jvm.MethodName) ({ cls := "ConstraintHouse$Part", name := "meets", desc := "(I)V" } : Jvm.MethodName)) ∈ lw_all := lw_g (lw_at lw_m12 54 rfl) rfl
theorem q2988 : (Jvm.Cond.selects "ConstraintHouse$Magnitude" ({ cls := "ConstraintHouse$Part", name := "lose", desc := "(D)V" } : Jvm.MethodName) ({ cls := "ConstraintHouse$Part", name := "lose", desc := "(D)V" } : Jvm.MethodName)) ∈ lw_all := lw_g (lw_at lw_m12 88 rfl) rfl
theorem q3061 : (Jvm.Cond.selects "ConstraintHouse$Magnitude" ({ cls := "ConstraintHouse$Part", name := "lose", desc := "([I)V" } : Jvm.MethodName) ({ cls := "ConstraintHouse$Part", name := "lose", desc := "([I)V" } : Jvm.MethodName)) ∈ lw_all := lw_g (lw_at lw_m12 161 rfl) rfl
theorem q3200 : (Jvm.Cond.selects "ConstraintHouse$Magnitude" ({ cls := "ConstraintHouse$Part", name := "backwards", desc := "(LConstraintHouse$Solver;)V" } : Jvm.MethodName) ({ cls := "ConstraintHouse$Single", name := "backwards", desc := "(LConstraintHouse$Solver;)V" } : Jvm.MethodName)) ∈ lw_all := lw_g (lw_at lw_m13 60 rfl) rfl
theorem q3206 : (Jvm.Cond.selects "ConstraintHouse$Magnitude" ({ cls := "ConstraintHouse$Single", name := "hand", desc := "()V" } : Jvm.MethodName) ({ cls := "ConstraintHouse$Magnitude", name := "hand", desc := "()V" } : Jvm.MethodName)) ∈ lw_all := lw_g (lw_at lw_m13 66 rfl) rfl
theorem q3207 : (Jvm.Cond.instanceMethod ({ cls := "ConstraintHouse$Magnitude", name := "hand", desc := "()V" } : Jvm.MethodName)) ∈ lw_all := lw_g (lw_at lw_m13 67 rfl) rfl
theorem q3208 : (Jvm.Cond.code ({ cls := "ConstraintHouse$Magnitude", name := "hand", desc := "()V" } : Jvm.MethodName) prog_17_method_3_code (1 : Nat) (Option.none : Option Jvm.ClassFile.FieldType)) ∈ lw_all := lw_g (lw_at lw_m13 68 rfl) rfl
theorem q3209 : (Jvm.Cond.methodLink "ConstraintHouse$Magnitude" (38 : Nat) ({ cls := "ConstraintHouse$Magnitude", name := "mirrored", desc := "(DD)V" } : Jvm.MethodName)) ∈ lw_all := lw_g (lw_at lw_m13 69 rfl) rfl
theorem q3210 : (Jvm.Cond.instanceMethod ({ cls := "ConstraintHouse$Magnitude", name := "mirrored", desc := "(DD)V" } : Jvm.MethodName)) ∈ lw_all := lw_g (lw_at lw_m13 70 rfl) rfl
theorem q3211 : (Jvm.Cond.selects "ConstraintHouse$Magnitude" ({ cls := "ConstraintHouse$Magnitude", name := "mirrored", desc := "(DD)V" } : Jvm.MethodName) ({ cls := "ConstraintHouse$Magnitude", name := "mirrored", desc := "(DD)V" } : Jvm.MethodName)) ∈ lw_all := lw_g (lw_at lw_m13 71 rfl) rfl
theorem q3212 : (Jvm.Cond.sameMethod "ConstraintHouse$Magnitude" "ConstraintHouse$Magnitude" "mirrored" "(DD)V") ∈ lw_all := lw_g (lw_at lw_m13 72 rfl) rfl
theorem q3214 : (Jvm.Cond.code ({ cls := "ConstraintHouse$Magnitude", name := "mirrored", desc := "(DD)V" } : Jvm.MethodName) prog_17_method_4_code (5 : Nat) (Option.none : Option Jvm.ClassFile.FieldType)) ∈ lw_all := lw_g (lw_at lw_m13 74 rfl) rfl
theorem q3215 : (Jvm.Cond.methodLink "ConstraintHouse$Magnitude" (41 : Nat) ({ cls := "ConstraintHouse$Bounds", name := "plain", desc := "(D)D" } : Jvm.MethodName)) ∈ lw_all := lw_g (lw_at lw_m13 75 rfl) rfl
theorem q3216 : (Jvm.Cond.methodLink "ConstraintHouse$Magnitude" (46 : Nat) ({ cls := "ConstraintHouse$Part", name := "meet", desc := "(DD)V" } : Jvm.MethodName)) ∈ lw_all := lw_g (lw_at lw_m13 76 rfl) rfl
theorem q3217 : (Jvm.Cond.constantDouble "ConstraintHouse$Magnitude" (49 : Nat) (9218868437227405312 : UInt64)) ∈ lw_all := lw_g (lw_at lw_m13 77 rfl) rfl
theorem q3218 : (Jvm.Cond.constantDouble "ConstraintHouse$Magnitude" (51 : Nat) (18442240474082181120 : UInt64)) ∈ lw_all := lw_g (lw_at lw_m13 78 rfl) rfl
theorem q3268 : (Jvm.Cond.selects "ConstraintHouse$Magnitude" ({ cls := "ConstraintHouse$Part", name := "enter", desc := "(LConstraintHouse$Solver;)V" } : Jvm.MethodName) ({ cls := "ConstraintHouse$Part", name := "enter", desc := "(LConstraintHouse$Solver;)V" } : Jvm.MethodName)) ∈ lw_all := lw_g (lw_at lw_m13 128 rfl) rfl
theorem q4790 : (Jvm.Cond.sameMethod "ConstraintHouse$Magnitude" "ConstraintHouse$Magnitude" "reckon" "()V") ∈ lw_all := lw_g (lw_at lw_m19 210 rfl) rfl
theorem q4828 : (Jvm.Cond.castable "ConstraintHouse$Magnitude" "java/lang/Object") ∈ lw_tbl := lw_at lw_m20 8 rfl
theorem q4863 : (Jvm.Cond.castable "ConstraintHouse$Magnitude" "ConstraintHouse$Part") ∈ lw_tbl := lw_at lw_m20 43 rfl
theorem in_X20 : ∀ w ∈ wsX200, w ∈ lw_all := lw_in wsX200 [1618, 1619, 1620, 1621, 1622, 1623] (by decide +kernel) (by decide +kernel)
/-! ConstraintHouse$Square -/
set_option maxRecDepth 100000
def RX21 : String := "ConstraintHouse$Square"
def TX21 : u_T := fun k => match k with
  | 0 => ("ConstraintHouse$Single", "x", "LConstraintHouse$Part;", true)
  | 1 => ("ConstraintHouse$Part", "low", "D", false)
  | 2 => ("ConstraintHouse$Part", "high", "D", false)
  | 3 => ("ConstraintHouse$Part", "no", "Z", false)
  | 4 => ("ConstraintHouse$Part", "yes", "Z", false)
  | _ => ("ConstraintHouse$Part", "letters", "I", false)
def tyX21 : Nat → FieldType := fun k => match k with
  | 0 => .object "ConstraintHouse$Part"
  | 1 => .double
  | 2 => .double
  | 3 => .boolean
  | 4 => .boolean
  | _ => .int
abbrev wsX210 : List Cond := u_ws RX21 TX21 6
theorem nmX21 : ∀ a, a < 6 → ∀ b, b < 6 → a ≠ b → (TX21 a).2.1 ≠ (TX21 b).2.1 := by decide +kernel
theorem tyX21_ok : ∀ k, k < 6 → parseFieldDescriptor (TX21 k).2.2.1 = some (tyX21 k) := by decide +kernel
abbrev cX21_init : ByteArray := prog_38_method_1_code
def yX21_init : MethodName := ⟨RX21, "<init>", "(LConstraintHouse$Part;)V"⟩
def dkwX21_init_0 : List UInt8 := [42, 43, 183, 0, 1, 177]
abbrev dktX21_init_0 : List UInt8 := dkwX21_init_0 ++ []
theorem dksX21_init_0 : cX21_init.data.toList.drop 0 = dktX21_init_0 := by decide +kernel
theorem dX21_init_0 : decode cX21_init 0 = .ok (.aload_n 0, 1) := dk_42 (dk_at dksX21_init_0 0 rfl rfl)
theorem dX21_init_1 : decode cX21_init 1 = .ok (.aload_n 1, 1) := dk_43 (dk_at dksX21_init_0 1 rfl rfl)
theorem dX21_init_2 : decode cX21_init 2 = .ok (.invokespecial 1, 3) := dk_183 0 1 (dk_at dksX21_init_0 2 rfl rfl)
theorem dX21_init_5 : decode cX21_init 5 = .ok (.return_, 1) := dk_177 (dk_at dksX21_init_0 5 rfl rfl)
abbrev cX21_reckon : ByteArray := prog_38_method_2_code
def yX21_reckon : MethodName := ⟨RX21, "reckon", "()V"⟩
def dkwX21_reckon_1 : List UInt8 := [180, 0, 28, 42, 180, 0, 28, 107, 184, 0, 31, 182, 0, 33, 177]
abbrev dktX21_reckon_1 : List UInt8 := dkwX21_reckon_1 ++ []
def dkwX21_reckon_0 : List UInt8 := [42, 183, 0, 7, 42, 14, 42, 180, 0, 11, 42, 180, 0, 11, 107, 184, 0, 17, 184, 0, 22, 42]
abbrev dktX21_reckon_0 : List UInt8 := dkwX21_reckon_0 ++ dktX21_reckon_1
theorem dksX21_reckon_0 : cX21_reckon.data.toList.drop 0 = dktX21_reckon_0 := by decide +kernel
theorem dksX21_reckon_1 : cX21_reckon.data.toList.drop 22 = dktX21_reckon_1 := dk_seg dksX21_reckon_0 22 rfl rfl
theorem dX21_reckon_0 : decode cX21_reckon 0 = .ok (.aload_n 0, 1) := dk_42 (dk_at dksX21_reckon_0 0 rfl rfl)
theorem dX21_reckon_1 : decode cX21_reckon 1 = .ok (.invokespecial 7, 3) := dk_183 0 7 (dk_at dksX21_reckon_0 1 rfl rfl)
theorem dX21_reckon_4 : decode cX21_reckon 4 = .ok (.aload_n 0, 1) := dk_42 (dk_at dksX21_reckon_0 4 rfl rfl)
theorem dX21_reckon_5 : decode cX21_reckon 5 = .ok (.dconst 0, 1) := dk_14 (dk_at dksX21_reckon_0 5 rfl rfl)
theorem dX21_reckon_6 : decode cX21_reckon 6 = .ok (.aload_n 0, 1) := dk_42 (dk_at dksX21_reckon_0 6 rfl rfl)
theorem dX21_reckon_7 : decode cX21_reckon 7 = .ok (.getfield 11, 3) := dk_180 0 11 (dk_at dksX21_reckon_0 7 rfl rfl)
theorem dX21_reckon_10 : decode cX21_reckon 10 = .ok (.aload_n 0, 1) := dk_42 (dk_at dksX21_reckon_0 10 rfl rfl)
theorem dX21_reckon_11 : decode cX21_reckon 11 = .ok (.getfield 11, 3) := dk_180 0 11 (dk_at dksX21_reckon_0 11 rfl rfl)
theorem dX21_reckon_14 : decode cX21_reckon 14 = .ok (.dmul, 1) := dk_107 (dk_at dksX21_reckon_0 14 rfl rfl)
theorem dX21_reckon_15 : decode cX21_reckon 15 = .ok (.invokestatic 17, 3) := dk_184 0 17 (dk_at dksX21_reckon_0 15 rfl rfl)
theorem dX21_reckon_18 : decode cX21_reckon 18 = .ok (.invokestatic 22, 3) := dk_184 0 22 (dk_at dksX21_reckon_0 18 rfl rfl)
theorem dX21_reckon_21 : decode cX21_reckon 21 = .ok (.aload_n 0, 1) := dk_42 (dk_at dksX21_reckon_0 21 rfl rfl)
theorem dX21_reckon_22 : decode cX21_reckon 22 = .ok (.getfield 28, 3) := dk_180 0 28 (dk_at dksX21_reckon_1 0 rfl rfl)
theorem dX21_reckon_25 : decode cX21_reckon 25 = .ok (.aload_n 0, 1) := dk_42 (dk_at dksX21_reckon_1 3 rfl rfl)
theorem dX21_reckon_26 : decode cX21_reckon 26 = .ok (.getfield 28, 3) := dk_180 0 28 (dk_at dksX21_reckon_1 4 rfl rfl)
theorem dX21_reckon_29 : decode cX21_reckon 29 = .ok (.dmul, 1) := dk_107 (dk_at dksX21_reckon_1 7 rfl rfl)
theorem dX21_reckon_30 : decode cX21_reckon 30 = .ok (.invokestatic 31, 3) := dk_184 0 31 (dk_at dksX21_reckon_1 8 rfl rfl)
theorem dX21_reckon_33 : decode cX21_reckon 33 = .ok (.invokevirtual 33, 3) := dk_182 0 33 (dk_at dksX21_reckon_1 11 rfl rfl)
theorem dX21_reckon_36 : decode cX21_reckon 36 = .ok (.return_, 1) := dk_177 (dk_at dksX21_reckon_1 14 rfl rfl)
abbrev cX21_hand : ByteArray := prog_38_method_3_code
def yX21_hand : MethodName := ⟨RX21, "hand", "()V"⟩
def dkwX21_hand_1 : List UInt8 := [180, 0, 28, 184, 0, 48, 184, 0, 31, 183, 0, 51, 177]
abbrev dktX21_hand_1 : List UInt8 := dkwX21_hand_1 ++ []
def dkwX21_hand_0 : List UInt8 := [42, 180, 0, 28, 14, 152, 156, 0, 7, 178, 0, 37, 191, 42, 42, 180, 0, 11, 184, 0, 43, 42]
abbrev dktX21_hand_0 : List UInt8 := dkwX21_hand_0 ++ dktX21_hand_1
theorem dksX21_hand_0 : cX21_hand.data.toList.drop 0 = dktX21_hand_0 := by decide +kernel
theorem dksX21_hand_1 : cX21_hand.data.toList.drop 22 = dktX21_hand_1 := dk_seg dksX21_hand_0 22 rfl rfl
theorem dX21_hand_0 : decode cX21_hand 0 = .ok (.aload_n 0, 1) := dk_42 (dk_at dksX21_hand_0 0 rfl rfl)
theorem dX21_hand_1 : decode cX21_hand 1 = .ok (.getfield 28, 3) := dk_180 0 28 (dk_at dksX21_hand_0 1 rfl rfl)
theorem dX21_hand_4 : decode cX21_hand 4 = .ok (.dconst 0, 1) := dk_14 (dk_at dksX21_hand_0 4 rfl rfl)
theorem dX21_hand_5 : decode cX21_hand 5 = .ok (.dcmp .g, 1) := dk_152 (dk_at dksX21_hand_0 5 rfl rfl)
theorem dX21_hand_6 : decode cX21_hand 6 = .ok (.ifCond .ge 7, 3) := dk_156 0 7 (dk_at dksX21_hand_0 6 rfl rfl)
theorem dX21_hand_9 : decode cX21_hand 9 = .ok (.getstatic 37, 3) := dk_178 0 37 (dk_at dksX21_hand_0 9 rfl rfl)
theorem dX21_hand_12 : decode cX21_hand 12 = .ok (.athrow, 1) := dk_191 (dk_at dksX21_hand_0 12 rfl rfl)
theorem dX21_hand_13 : decode cX21_hand 13 = .ok (.aload_n 0, 1) := dk_42 (dk_at dksX21_hand_0 13 rfl rfl)
theorem dX21_hand_14 : decode cX21_hand 14 = .ok (.aload_n 0, 1) := dk_42 (dk_at dksX21_hand_0 14 rfl rfl)
theorem dX21_hand_15 : decode cX21_hand 15 = .ok (.getfield 11, 3) := dk_180 0 11 (dk_at dksX21_hand_0 15 rfl rfl)
theorem dX21_hand_18 : decode cX21_hand 18 = .ok (.invokestatic 43, 3) := dk_184 0 43 (dk_at dksX21_hand_0 18 rfl rfl)
theorem dX21_hand_21 : decode cX21_hand 21 = .ok (.aload_n 0, 1) := dk_42 (dk_at dksX21_hand_0 21 rfl rfl)
theorem dX21_hand_22 : decode cX21_hand 22 = .ok (.getfield 28, 3) := dk_180 0 28 (dk_at dksX21_hand_1 0 rfl rfl)
theorem dX21_hand_25 : decode cX21_hand 25 = .ok (.invokestatic 48, 3) := dk_184 0 48 (dk_at dksX21_hand_1 3 rfl rfl)
theorem dX21_hand_28 : decode cX21_hand 28 = .ok (.invokestatic 31, 3) := dk_184 0 31 (dk_at dksX21_hand_1 6 rfl rfl)
theorem dX21_hand_31 : decode cX21_hand 31 = .ok (.invokespecial 51, 3) := dk_183 0 51 (dk_at dksX21_hand_1 9 rfl rfl)
theorem dX21_hand_34 : decode cX21_hand 34 = .ok (.return_, 1) := dk_177 (dk_at dksX21_hand_1 12 rfl rfl)
theorem q292 : (Jvm.Cond.initialized "ConstraintHouse$Square") ∈ lw_all := lw_g (lw_at lw_m1 32 rfl) rfl
theorem q1352 : (Jvm.Cond.fieldLink "ConstraintHouse$Square" (11 : Nat) "ConstraintHouse$Square" "low" "D") ∈ lw_all := lw_g (lw_at lw_m5 132 rfl) rfl
theorem q1353 : (Jvm.Cond.sameField "ConstraintHouse$Square" "ConstraintHouse$Part" "low" "D") ∈ lw_all := lw_g (lw_at lw_m5 133 rfl) rfl
theorem q1391 : (Jvm.Cond.fieldLink "ConstraintHouse$Square" (28 : Nat) "ConstraintHouse$Square" "high" "D") ∈ lw_all := lw_g (lw_at lw_m5 171 rfl) rfl
theorem q1392 : (Jvm.Cond.sameField "ConstraintHouse$Square" "ConstraintHouse$Part" "high" "D") ∈ lw_all := lw_g (lw_at lw_m5 172 rfl) rfl
theorem q1579 : (Jvm.Cond.selects "ConstraintHouse$Square" ({ cls := "ConstraintHouse$Part", name := "sort", desc := "()I" } : Jvm.MethodName) ({ cls := "ConstraintHouse$Single", name := "sort", desc := "()I" } : Jvm.MethodName)) ∈ lw_all := lw_g (lw_at lw_m6 119 rfl) rfl
theorem q1626 : (Jvm.Cond.instantiable "ConstraintHouse$Square" (6 : Nat)) ∈ lw_all := lw_g (lw_at lw_m6 166 rfl) rfl
theorem q1628 : (Jvm.Cond.instanceMethod ({ cls := "ConstraintHouse$Square", name := "<init>", desc := "(LConstraintHouse$Part;)V" } : Jvm.MethodName)) ∈ lw_all := lw_g (lw_at lw_m6 168 rfl) rfl
theorem q1629 : (Jvm.Cond.code ({ cls := "ConstraintHouse$Square", name := "<init>", desc := "(LConstraintHouse$Part;)V" } : Jvm.MethodName) prog_38_method_1_code (2 : Nat) (Option.none : Option Jvm.ClassFile.FieldType)) ∈ lw_all := lw_g (lw_at lw_m6 169 rfl) rfl
theorem q1630 : (Jvm.Cond.methodLink "ConstraintHouse$Square" (1 : Nat) ({ cls := "ConstraintHouse$Magnitude", name := "<init>", desc := "(LConstraintHouse$Part;)V" } : Jvm.MethodName)) ∈ lw_all := lw_g (lw_at lw_m6 170 rfl) rfl
theorem q1631 : (Jvm.Cond.laysFinal "ConstraintHouse$Square" "ConstraintHouse$Single" "x" "LConstraintHouse$Part;") ∈ lw_all := lw_g (lw_at lw_m6 171 rfl) rfl
theorem q1632 : (Jvm.Cond.lays "ConstraintHouse$Square" "ConstraintHouse$Part" "low" "D") ∈ lw_all := lw_g (lw_at lw_m6 172 rfl) rfl
theorem q1633 : (Jvm.Cond.lays "ConstraintHouse$Square" "ConstraintHouse$Part" "high" "D") ∈ lw_all := lw_g (lw_at lw_m6 173 rfl) rfl
theorem q1634 : (Jvm.Cond.lays "ConstraintHouse$Square" "ConstraintHouse$Part" "no" "Z") ∈ lw_all := lw_g (lw_at lw_m6 174 rfl) rfl
theorem q1635 : (Jvm.Cond.lays "ConstraintHouse$Square" "ConstraintHouse$Part" "yes" "Z") ∈ lw_all := lw_g (lw_at lw_m6 175 rfl) rfl
theorem q1636 : (Jvm.Cond.lays "ConstraintHouse$Square" "ConstraintHouse$Part" "letters" "I") ∈ lw_all := lw_g (lw_at lw_m6 176 rfl) rfl
theorem q1637 : (Jvm.Cond.superclass "ConstraintHouse$Square" "ConstraintHouse$Magnitude") ∈ lw_all := lw_g (lw_at lw_m6 177 rfl) rfl
theorem q2541 : (Jvm.Cond.selects "ConstraintHouse$Square" ({ cls := "ConstraintHouse$Narrows", name := "forwards", desc := "(LConstraintHouse$Solver;)V" } : Jvm.MethodName) ({ cls := "ConstraintHouse$Single", name := "forwards", desc := "(LConstraintHouse$Solver;)V" } : Jvm.MethodName)) ∈ lw_all := lw_g (lw_at lw_m10 121 rfl) rfl
theorem q2556 : (Jvm.Cond.selects "ConstraintHouse$Square" ({ cls := "ConstraintHouse$Magnitude", name := "be", desc := "(DD)V" } : Jvm.MethodName) ({ cls := "ConstraintHouse$Part", name := "be", desc := "(DD)V" } : Jvm.MethodName)) ∈ lw_all := lw_g (lw_at lw_m10 136 rfl) rfl
theorem q2640 : (Jvm.Cond.selects "ConstraintHouse$Square" ({ cls := "ConstraintHouse$Single", name := "reckon", desc := "()V" } : Jvm.MethodName) ({ cls := "ConstraintHouse$Square", name := "reckon", desc := "()V" } : Jvm.MethodName)) ∈ lw_all := lw_g (lw_at lw_m10 220 rfl) rfl
theorem q2641 : (Jvm.Cond.instanceMethod ({ cls := "ConstraintHouse$Square", name := "reckon", desc := "()V" } : Jvm.MethodName)) ∈ lw_all := lw_g (lw_at lw_m10 221 rfl) rfl
theorem q2642 : (Jvm.Cond.code ({ cls := "ConstraintHouse$Square", name := "reckon", desc := "()V" } : Jvm.MethodName) prog_38_method_2_code (1 : Nat) (Option.none : Option Jvm.ClassFile.FieldType)) ∈ lw_all := lw_g (lw_at lw_m10 222 rfl) rfl
theorem q2643 : (Jvm.Cond.methodLink "ConstraintHouse$Square" (7 : Nat) ({ cls := "ConstraintHouse$Magnitude", name := "reckon", desc := "()V" } : Jvm.MethodName)) ∈ lw_all := lw_g (lw_at lw_m10 223 rfl) rfl
theorem q2644 : (Jvm.Cond.methodLink "ConstraintHouse$Square" (17 : Nat) ({ cls := "ConstraintHouse$Bounds", name := "low", desc := "(D)D" } : Jvm.MethodName)) ∈ lw_all := lw_g (lw_at lw_m10 224 rfl) rfl
theorem q2645 : (Jvm.Cond.methodLink "ConstraintHouse$Square" (22 : Nat) ({ cls := "java/lang/Math", name := "max", desc := "(DD)D" } : Jvm.MethodName)) ∈ lw_all := lw_g (lw_at lw_m10 225 rfl) rfl
theorem q2646 : (Jvm.Cond.methodLink "ConstraintHouse$Square" (31 : Nat) ({ cls := "ConstraintHouse$Bounds", name := "high", desc := "(D)D" } : Jvm.MethodName)) ∈ lw_all := lw_g (lw_at lw_m10 226 rfl) rfl
theorem q2647 : (Jvm.Cond.methodLink "ConstraintHouse$Square" (33 : Nat) ({ cls := "ConstraintHouse$Square", name := "be", desc := "(DD)V" } : Jvm.MethodName)) ∈ lw_all := lw_g (lw_at lw_m10 227 rfl) rfl
theorem q2648 : (Jvm.Cond.sameMethod "ConstraintHouse$Square" "ConstraintHouse$Part" "be" "(DD)V") ∈ lw_all := lw_g (lw_at lw_m10 228 rfl) rfl
theorem q2649 : (Jvm.Cond.selects "ConstraintHouse$Square" ({ cls := "ConstraintHouse$Square", name := "be", desc := "(DD)V" } : Jvm.MethodName) ({ cls := "ConstraintHouse$Part", name := "be", desc := "(DD)V" } : Jvm.MethodName)) ∈ lw_all := lw_g (lw_at lw_m10 229 rfl) rfl
theorem q2829 : (Jvm.Cond.selects "ConstraintHouse$Square" ({ cls := "ConstraintHouse$Part", name := "hasMeet", desc := "(LConstraintHouse$Part;)Z" } : Jvm.MethodName) ({ cls := "ConstraintHouse$Part", name := "hasMeet", desc := "(LConstraintHouse$Part;)Z" } : Jvm.MethodName)) ∈ lw_all := lw_g (lw_at lw_m11 169 rfl) rfl
theorem q2880 : (Jvm.Cond.selects "ConstraintHouse$Square" ({ cls := "ConstraintHouse$Part", name := "meets", desc := "(ZZ)V" } : Jvm.MethodName) ({ cls := "ConstraintHouse$Part", name := "meets", desc := "(ZZ)V" } : Jvm.MethodName)) ∈ lw_all := lw_g (lw_at lw_m11 220 rfl) rfl
theorem q2916 : (Jvm.Cond.selects "ConstraintHouse$Square" ({ cls := "ConstraintHouse$Part", name := "meets", desc := "(LConstraintHouse$Part;)V" } : Jvm.MethodName) ({ cls := "ConstraintHouse$Part", name := "meets", desc := "(LConstraintHouse$Part;)V" } : Jvm.MethodName)) ∈ lw_all := lw_g (lw_at lw_m12 16 rfl) rfl
theorem q2938 : (Jvm.Cond.selects "ConstraintHouse$Square" ({ cls := "ConstraintHouse$Part", name := "meet", desc := "(DD)V" } : Jvm.MethodName) ({ cls := "ConstraintHouse$Part", name := "meet", desc := "(DD)V" } : Jvm.MethodName)) ∈ lw_all := lw_g (lw_at lw_m12 38 rfl) rfl
theorem q2961 : (Jvm.Cond.selects "ConstraintHouse$Square" ({ cls := "ConstraintHouse$Part", name := "meets", desc := "(I)V" } : Jvm.MethodName) ({ cls := "ConstraintHouse$Part", name := "meets", desc := "(I)V" } : Jvm.MethodName)) ∈ lw_all := lw_g (lw_at lw_m12 61 rfl) rfl
theorem q2995 : (Jvm.Cond.selects "ConstraintHouse$Square" ({ cls := "ConstraintHouse$Part", name := "lose", desc := "(D)V" } : Jvm.MethodName) ({ cls := "ConstraintHouse$Part", name := "lose", desc := "(D)V" } : Jvm.MethodName)) ∈ lw_all := lw_g (lw_at lw_m12 95 rfl) rfl
theorem q3068 : (Jvm.Cond.selects "ConstraintHouse$Square" ({ cls := "ConstraintHouse$Part", name := "lose", desc := "([I)V" } : Jvm.MethodName) ({ cls := "ConstraintHouse$Part", name := "lose", desc := "([I)V" } : Jvm.MethodName)) ∈ lw_all := lw_g (lw_at lw_m12 168 rfl) rfl
theorem q3213 : (Jvm.Cond.selects "ConstraintHouse$Square" ({ cls := "ConstraintHouse$Magnitude", name := "mirrored", desc := "(DD)V" } : Jvm.MethodName) ({ cls := "ConstraintHouse$Magnitude", name := "mirrored", desc := "(DD)V" } : Jvm.MethodName)) ∈ lw_all := lw_g (lw_at lw_m13 73 rfl) rfl
theorem q3228 : (Jvm.Cond.selects "ConstraintHouse$Square" ({ cls := "ConstraintHouse$Single", name := "hand", desc := "()V" } : Jvm.MethodName) ({ cls := "ConstraintHouse$Square", name := "hand", desc := "()V" } : Jvm.MethodName)) ∈ lw_all := lw_g (lw_at lw_m13 88 rfl) rfl
theorem q3229 : (Jvm.Cond.instanceMethod ({ cls := "ConstraintHouse$Square", name := "hand", desc := "()V" } : Jvm.MethodName)) ∈ lw_all := lw_g (lw_at lw_m13 89 rfl) rfl
theorem q3230 : (Jvm.Cond.code ({ cls := "ConstraintHouse$Square", name := "hand", desc := "()V" } : Jvm.MethodName) prog_38_method_3_code (1 : Nat) (Option.none : Option Jvm.ClassFile.FieldType)) ∈ lw_all := lw_g (lw_at lw_m13 90 rfl) rfl
theorem q3231 : (Jvm.Cond.fieldLinkNest "ConstraintHouse$Square" (37 : Nat) "ConstraintHouse" "NOTHING" "LConstraintHouse$Nothing;" "ConstraintHouse") ∈ lw_tbl := lw_at lw_m13 91 rfl
theorem q3232 : (Jvm.Cond.methodLink "ConstraintHouse$Square" (43 : Nat) ({ cls := "ConstraintHouse$Root", name := "lower", desc := "(D)D" } : Jvm.MethodName)) ∈ lw_all := lw_g (lw_at lw_m13 92 rfl) rfl
theorem q3233 : (Jvm.Cond.methodLink "ConstraintHouse$Square" (48 : Nat) ({ cls := "java/lang/Math", name := "sqrt", desc := "(D)D" } : Jvm.MethodName)) ∈ lw_all := lw_g (lw_at lw_m13 93 rfl) rfl
theorem q3234 : (Jvm.Cond.methodLink "ConstraintHouse$Square" (51 : Nat) ({ cls := "ConstraintHouse$Magnitude", name := "mirrored", desc := "(DD)V" } : Jvm.MethodName)) ∈ lw_all := lw_g (lw_at lw_m13 94 rfl) rfl
theorem q3257 : (Jvm.Cond.selects "ConstraintHouse$Square" ({ cls := "ConstraintHouse$Part", name := "backwards", desc := "(LConstraintHouse$Solver;)V" } : Jvm.MethodName) ({ cls := "ConstraintHouse$Single", name := "backwards", desc := "(LConstraintHouse$Solver;)V" } : Jvm.MethodName)) ∈ lw_all := lw_g (lw_at lw_m13 117 rfl) rfl
theorem q3275 : (Jvm.Cond.selects "ConstraintHouse$Square" ({ cls := "ConstraintHouse$Part", name := "enter", desc := "(LConstraintHouse$Solver;)V" } : Jvm.MethodName) ({ cls := "ConstraintHouse$Part", name := "enter", desc := "(LConstraintHouse$Solver;)V" } : Jvm.MethodName)) ∈ lw_all := lw_g (lw_at lw_m13 135 rfl) rfl
theorem q4829 : (Jvm.Cond.castable "ConstraintHouse$Square" "java/lang/Object") ∈ lw_tbl := lw_at lw_m20 9 rfl
theorem q4864 : (Jvm.Cond.castable "ConstraintHouse$Square" "ConstraintHouse$Part") ∈ lw_tbl := lw_at lw_m20 44 rfl
theorem in_X21 : ∀ w ∈ wsX210, w ∈ lw_all := lw_in wsX210 [1631, 1632, 1633, 1634, 1635, 1636] (by decide +kernel) (by decide +kernel)
/-! ConstraintHouse$Root -/
set_option maxRecDepth 100000
def RX22 : String := "ConstraintHouse$Root"
def TX22 : u_T := fun k => match k with
  | 0 => ("ConstraintHouse$Single", "x", "LConstraintHouse$Part;", true)
  | 1 => ("ConstraintHouse$Part", "low", "D", false)
  | 2 => ("ConstraintHouse$Part", "high", "D", false)
  | 3 => ("ConstraintHouse$Part", "no", "Z", false)
  | 4 => ("ConstraintHouse$Part", "yes", "Z", false)
  | _ => ("ConstraintHouse$Part", "letters", "I", false)
def tyX22 : Nat → FieldType := fun k => match k with
  | 0 => .object "ConstraintHouse$Part"
  | 1 => .double
  | 2 => .double
  | 3 => .boolean
  | 4 => .boolean
  | _ => .int
abbrev wsX220 : List Cond := u_ws RX22 TX22 6
theorem nmX22 : ∀ a, a < 6 → ∀ b, b < 6 → a ≠ b → (TX22 a).2.1 ≠ (TX22 b).2.1 := by decide +kernel
theorem tyX22_ok : ∀ k, k < 6 → parseFieldDescriptor (TX22 k).2.2.1 = some (tyX22 k) := by decide +kernel
abbrev cX22_init : ByteArray := prog_31_method_1_code
def yX22_init : MethodName := ⟨RX22, "<init>", "(LConstraintHouse$Part;)V"⟩
def dkwX22_init_0 : List UInt8 := [42, 43, 183, 0, 1, 177]
abbrev dktX22_init_0 : List UInt8 := dkwX22_init_0 ++ []
theorem dksX22_init_0 : cX22_init.data.toList.drop 0 = dktX22_init_0 := by decide +kernel
theorem dX22_init_0 : decode cX22_init 0 = .ok (.aload_n 0, 1) := dk_42 (dk_at dksX22_init_0 0 rfl rfl)
theorem dX22_init_1 : decode cX22_init 1 = .ok (.aload_n 1, 1) := dk_43 (dk_at dksX22_init_0 1 rfl rfl)
theorem dX22_init_2 : decode cX22_init 2 = .ok (.invokespecial 1, 3) := dk_183 0 1 (dk_at dksX22_init_0 2 rfl rfl)
theorem dX22_init_5 : decode cX22_init 5 = .ok (.return_, 1) := dk_177 (dk_at dksX22_init_0 5 rfl rfl)
abbrev cX22_reckon : ByteArray := prog_31_method_3_code
def yX22_reckon : MethodName := ⟨RX22, "reckon", "()V"⟩
def dkwX22_reckon_1 : List UInt8 := [184, 0, 42, 42, 180, 0, 22, 180, 0, 28, 184, 0, 7, 184, 0, 45, 182, 0, 47, 177]
abbrev dktX22_reckon_1 : List UInt8 := dkwX22_reckon_1 ++ []
def dkwX22_reckon_0 : List UInt8 := [42, 180, 0, 22, 180, 0, 28, 14, 152, 156, 0, 7, 178, 0, 34, 191, 42, 42, 180, 0, 22, 180, 0, 40]
abbrev dktX22_reckon_0 : List UInt8 := dkwX22_reckon_0 ++ dktX22_reckon_1
theorem dksX22_reckon_0 : cX22_reckon.data.toList.drop 0 = dktX22_reckon_0 := by decide +kernel
theorem dksX22_reckon_1 : cX22_reckon.data.toList.drop 24 = dktX22_reckon_1 := dk_seg dksX22_reckon_0 24 rfl rfl
theorem dX22_reckon_0 : decode cX22_reckon 0 = .ok (.aload_n 0, 1) := dk_42 (dk_at dksX22_reckon_0 0 rfl rfl)
theorem dX22_reckon_1 : decode cX22_reckon 1 = .ok (.getfield 22, 3) := dk_180 0 22 (dk_at dksX22_reckon_0 1 rfl rfl)
theorem dX22_reckon_4 : decode cX22_reckon 4 = .ok (.getfield 28, 3) := dk_180 0 28 (dk_at dksX22_reckon_0 4 rfl rfl)
theorem dX22_reckon_7 : decode cX22_reckon 7 = .ok (.dconst 0, 1) := dk_14 (dk_at dksX22_reckon_0 7 rfl rfl)
theorem dX22_reckon_8 : decode cX22_reckon 8 = .ok (.dcmp .g, 1) := dk_152 (dk_at dksX22_reckon_0 8 rfl rfl)
theorem dX22_reckon_9 : decode cX22_reckon 9 = .ok (.ifCond .ge 7, 3) := dk_156 0 7 (dk_at dksX22_reckon_0 9 rfl rfl)
theorem dX22_reckon_12 : decode cX22_reckon 12 = .ok (.getstatic 34, 3) := dk_178 0 34 (dk_at dksX22_reckon_0 12 rfl rfl)
theorem dX22_reckon_15 : decode cX22_reckon 15 = .ok (.athrow, 1) := dk_191 (dk_at dksX22_reckon_0 15 rfl rfl)
theorem dX22_reckon_16 : decode cX22_reckon 16 = .ok (.aload_n 0, 1) := dk_42 (dk_at dksX22_reckon_0 16 rfl rfl)
theorem dX22_reckon_17 : decode cX22_reckon 17 = .ok (.aload_n 0, 1) := dk_42 (dk_at dksX22_reckon_0 17 rfl rfl)
theorem dX22_reckon_18 : decode cX22_reckon 18 = .ok (.getfield 22, 3) := dk_180 0 22 (dk_at dksX22_reckon_0 18 rfl rfl)
theorem dX22_reckon_21 : decode cX22_reckon 21 = .ok (.getfield 40, 3) := dk_180 0 40 (dk_at dksX22_reckon_0 21 rfl rfl)
theorem dX22_reckon_24 : decode cX22_reckon 24 = .ok (.invokestatic 42, 3) := dk_184 0 42 (dk_at dksX22_reckon_1 0 rfl rfl)
theorem dX22_reckon_27 : decode cX22_reckon 27 = .ok (.aload_n 0, 1) := dk_42 (dk_at dksX22_reckon_1 3 rfl rfl)
theorem dX22_reckon_28 : decode cX22_reckon 28 = .ok (.getfield 22, 3) := dk_180 0 22 (dk_at dksX22_reckon_1 4 rfl rfl)
theorem dX22_reckon_31 : decode cX22_reckon 31 = .ok (.getfield 28, 3) := dk_180 0 28 (dk_at dksX22_reckon_1 7 rfl rfl)
theorem dX22_reckon_34 : decode cX22_reckon 34 = .ok (.invokestatic 7, 3) := dk_184 0 7 (dk_at dksX22_reckon_1 10 rfl rfl)
theorem dX22_reckon_37 : decode cX22_reckon 37 = .ok (.invokestatic 45, 3) := dk_184 0 45 (dk_at dksX22_reckon_1 13 rfl rfl)
theorem dX22_reckon_40 : decode cX22_reckon 40 = .ok (.invokevirtual 47, 3) := dk_182 0 47 (dk_at dksX22_reckon_1 16 rfl rfl)
theorem dX22_reckon_43 : decode cX22_reckon 43 = .ok (.return_, 1) := dk_177 (dk_at dksX22_reckon_1 19 rfl rfl)
abbrev cX22_lower : ByteArray := prog_31_method_2_code
def yX22_lower : MethodName := ⟨RX22, "lower", "(D)D"⟩
def dkwX22_lower_0 : List UInt8 := [38, 14, 152, 157, 0, 7, 14, 167, 0, 14, 14, 38, 184, 0, 7, 184, 0, 13, 184, 0, 18, 175]
abbrev dktX22_lower_0 : List UInt8 := dkwX22_lower_0 ++ []
theorem dksX22_lower_0 : cX22_lower.data.toList.drop 0 = dktX22_lower_0 := by decide +kernel
theorem dX22_lower_0 : decode cX22_lower 0 = .ok (.dload_n 0, 1) := dk_38 (dk_at dksX22_lower_0 0 rfl rfl)
theorem dX22_lower_1 : decode cX22_lower 1 = .ok (.dconst 0, 1) := dk_14 (dk_at dksX22_lower_0 1 rfl rfl)
theorem dX22_lower_2 : decode cX22_lower 2 = .ok (.dcmp .g, 1) := dk_152 (dk_at dksX22_lower_0 2 rfl rfl)
theorem dX22_lower_3 : decode cX22_lower 3 = .ok (.ifCond .gt 7, 3) := dk_157 0 7 (dk_at dksX22_lower_0 3 rfl rfl)
theorem dX22_lower_6 : decode cX22_lower 6 = .ok (.dconst 0, 1) := dk_14 (dk_at dksX22_lower_0 6 rfl rfl)
theorem dX22_lower_7 : decode cX22_lower 7 = .ok (.goto 14, 3) := dk_167 0 14 (dk_at dksX22_lower_0 7 rfl rfl)
theorem dX22_lower_10 : decode cX22_lower 10 = .ok (.dconst 0, 1) := dk_14 (dk_at dksX22_lower_0 10 rfl rfl)
theorem dX22_lower_11 : decode cX22_lower 11 = .ok (.dload_n 0, 1) := dk_38 (dk_at dksX22_lower_0 11 rfl rfl)
theorem dX22_lower_12 : decode cX22_lower 12 = .ok (.invokestatic 7, 3) := dk_184 0 7 (dk_at dksX22_lower_0 12 rfl rfl)
theorem dX22_lower_15 : decode cX22_lower 15 = .ok (.invokestatic 13, 3) := dk_184 0 13 (dk_at dksX22_lower_0 15 rfl rfl)
theorem dX22_lower_18 : decode cX22_lower 18 = .ok (.invokestatic 18, 3) := dk_184 0 18 (dk_at dksX22_lower_0 18 rfl rfl)
theorem dX22_lower_21 : decode cX22_lower 21 = .ok (.dreturn, 1) := dk_175 (dk_at dksX22_lower_0 21 rfl rfl)
abbrev cX22_hand : ByteArray := prog_31_method_4_code
def yX22_hand : MethodName := ⟨RX22, "hand", "()V"⟩
def dkwX22_hand_2 : List UInt8 := [184, 0, 45, 182, 0, 53, 42, 180, 0, 22, 14, 20, 0, 56, 182, 0, 53, 177]
abbrev dktX22_hand_2 : List UInt8 := dkwX22_hand_2 ++ []
def dkwX22_hand_1 : List UInt8 := [180, 0, 22, 14, 39, 39, 107, 184, 0, 13, 184, 0, 18, 42, 180, 0, 52, 42, 180, 0, 52, 107]
abbrev dktX22_hand_1 : List UInt8 := dkwX22_hand_1 ++ dktX22_hand_2
def dkwX22_hand_0 : List UInt8 := [42, 180, 0, 51, 14, 184, 0, 18, 72, 42, 180, 0, 52, 39, 152, 156, 0, 7, 178, 0, 34, 191, 42]
abbrev dktX22_hand_0 : List UInt8 := dkwX22_hand_0 ++ dktX22_hand_1
theorem dksX22_hand_0 : cX22_hand.data.toList.drop 0 = dktX22_hand_0 := by decide +kernel
theorem dksX22_hand_1 : cX22_hand.data.toList.drop 23 = dktX22_hand_1 := dk_seg dksX22_hand_0 23 rfl rfl
theorem dksX22_hand_2 : cX22_hand.data.toList.drop 45 = dktX22_hand_2 := dk_seg dksX22_hand_1 22 rfl rfl
theorem dX22_hand_0 : decode cX22_hand 0 = .ok (.aload_n 0, 1) := dk_42 (dk_at dksX22_hand_0 0 rfl rfl)
theorem dX22_hand_1 : decode cX22_hand 1 = .ok (.getfield 51, 3) := dk_180 0 51 (dk_at dksX22_hand_0 1 rfl rfl)
theorem dX22_hand_4 : decode cX22_hand 4 = .ok (.dconst 0, 1) := dk_14 (dk_at dksX22_hand_0 4 rfl rfl)
theorem dX22_hand_5 : decode cX22_hand 5 = .ok (.invokestatic 18, 3) := dk_184 0 18 (dk_at dksX22_hand_0 5 rfl rfl)
theorem dX22_hand_8 : decode cX22_hand 8 = .ok (.dstore_n 1, 1) := dk_72 (dk_at dksX22_hand_0 8 rfl rfl)
theorem dX22_hand_9 : decode cX22_hand 9 = .ok (.aload_n 0, 1) := dk_42 (dk_at dksX22_hand_0 9 rfl rfl)
theorem dX22_hand_10 : decode cX22_hand 10 = .ok (.getfield 52, 3) := dk_180 0 52 (dk_at dksX22_hand_0 10 rfl rfl)
theorem dX22_hand_13 : decode cX22_hand 13 = .ok (.dload_n 1, 1) := dk_39 (dk_at dksX22_hand_0 13 rfl rfl)
theorem dX22_hand_14 : decode cX22_hand 14 = .ok (.dcmp .g, 1) := dk_152 (dk_at dksX22_hand_0 14 rfl rfl)
theorem dX22_hand_15 : decode cX22_hand 15 = .ok (.ifCond .ge 7, 3) := dk_156 0 7 (dk_at dksX22_hand_0 15 rfl rfl)
theorem dX22_hand_18 : decode cX22_hand 18 = .ok (.getstatic 34, 3) := dk_178 0 34 (dk_at dksX22_hand_0 18 rfl rfl)
theorem dX22_hand_21 : decode cX22_hand 21 = .ok (.athrow, 1) := dk_191 (dk_at dksX22_hand_0 21 rfl rfl)
theorem dX22_hand_22 : decode cX22_hand 22 = .ok (.aload_n 0, 1) := dk_42 (dk_at dksX22_hand_0 22 rfl rfl)
theorem dX22_hand_23 : decode cX22_hand 23 = .ok (.getfield 22, 3) := dk_180 0 22 (dk_at dksX22_hand_1 0 rfl rfl)
theorem dX22_hand_26 : decode cX22_hand 26 = .ok (.dconst 0, 1) := dk_14 (dk_at dksX22_hand_1 3 rfl rfl)
theorem dX22_hand_27 : decode cX22_hand 27 = .ok (.dload_n 1, 1) := dk_39 (dk_at dksX22_hand_1 4 rfl rfl)
theorem dX22_hand_28 : decode cX22_hand 28 = .ok (.dload_n 1, 1) := dk_39 (dk_at dksX22_hand_1 5 rfl rfl)
theorem dX22_hand_29 : decode cX22_hand 29 = .ok (.dmul, 1) := dk_107 (dk_at dksX22_hand_1 6 rfl rfl)
theorem dX22_hand_30 : decode cX22_hand 30 = .ok (.invokestatic 13, 3) := dk_184 0 13 (dk_at dksX22_hand_1 7 rfl rfl)
theorem dX22_hand_33 : decode cX22_hand 33 = .ok (.invokestatic 18, 3) := dk_184 0 18 (dk_at dksX22_hand_1 10 rfl rfl)
theorem dX22_hand_36 : decode cX22_hand 36 = .ok (.aload_n 0, 1) := dk_42 (dk_at dksX22_hand_1 13 rfl rfl)
theorem dX22_hand_37 : decode cX22_hand 37 = .ok (.getfield 52, 3) := dk_180 0 52 (dk_at dksX22_hand_1 14 rfl rfl)
theorem dX22_hand_40 : decode cX22_hand 40 = .ok (.aload_n 0, 1) := dk_42 (dk_at dksX22_hand_1 17 rfl rfl)
theorem dX22_hand_41 : decode cX22_hand 41 = .ok (.getfield 52, 3) := dk_180 0 52 (dk_at dksX22_hand_1 18 rfl rfl)
theorem dX22_hand_44 : decode cX22_hand 44 = .ok (.dmul, 1) := dk_107 (dk_at dksX22_hand_1 21 rfl rfl)
theorem dX22_hand_45 : decode cX22_hand 45 = .ok (.invokestatic 45, 3) := dk_184 0 45 (dk_at dksX22_hand_2 0 rfl rfl)
theorem dX22_hand_48 : decode cX22_hand 48 = .ok (.invokevirtual 53, 3) := dk_182 0 53 (dk_at dksX22_hand_2 3 rfl rfl)
theorem dX22_hand_51 : decode cX22_hand 51 = .ok (.aload_n 0, 1) := dk_42 (dk_at dksX22_hand_2 6 rfl rfl)
theorem dX22_hand_52 : decode cX22_hand 52 = .ok (.getfield 22, 3) := dk_180 0 22 (dk_at dksX22_hand_2 7 rfl rfl)
theorem dX22_hand_55 : decode cX22_hand 55 = .ok (.dconst 0, 1) := dk_14 (dk_at dksX22_hand_2 10 rfl rfl)
theorem dX22_hand_56 : decode cX22_hand 56 = .ok (.ldc2_w 56, 3) := dk_20 0 56 (dk_at dksX22_hand_2 11 rfl rfl)
theorem dX22_hand_59 : decode cX22_hand 59 = .ok (.invokevirtual 53, 3) := dk_182 0 53 (dk_at dksX22_hand_2 14 rfl rfl)
theorem dX22_hand_62 : decode cX22_hand 62 = .ok (.return_, 1) := dk_177 (dk_at dksX22_hand_2 17 rfl rfl)
theorem q293 : (Jvm.Cond.initialized "ConstraintHouse$Root") ∈ lw_all := lw_g (lw_at lw_m1 33 rfl) rfl
theorem q1370 : (Jvm.Cond.fieldLink "ConstraintHouse$Root" (40 : Nat) "ConstraintHouse$Part" "low" "D") ∈ lw_all := lw_g (lw_at lw_m5 150 rfl) rfl
theorem q1375 : (Jvm.Cond.fieldLink "ConstraintHouse$Root" (51 : Nat) "ConstraintHouse$Root" "low" "D") ∈ lw_all := lw_g (lw_at lw_m5 155 rfl) rfl
theorem q1376 : (Jvm.Cond.sameField "ConstraintHouse$Root" "ConstraintHouse$Part" "low" "D") ∈ lw_all := lw_g (lw_at lw_m5 156 rfl) rfl
theorem q1396 : (Jvm.Cond.fieldLink "ConstraintHouse$Root" (28 : Nat) "ConstraintHouse$Part" "high" "D") ∈ lw_all := lw_g (lw_at lw_m5 176 rfl) rfl
theorem q1413 : (Jvm.Cond.fieldLink "ConstraintHouse$Root" (52 : Nat) "ConstraintHouse$Root" "high" "D") ∈ lw_all := lw_g (lw_at lw_m5 193 rfl) rfl
theorem q1414 : (Jvm.Cond.sameField "ConstraintHouse$Root" "ConstraintHouse$Part" "high" "D") ∈ lw_all := lw_g (lw_at lw_m5 194 rfl) rfl
theorem q1578 : (Jvm.Cond.selects "ConstraintHouse$Root" ({ cls := "ConstraintHouse$Part", name := "sort", desc := "()I" } : Jvm.MethodName) ({ cls := "ConstraintHouse$Single", name := "sort", desc := "()I" } : Jvm.MethodName)) ∈ lw_all := lw_g (lw_at lw_m6 118 rfl) rfl
theorem q1596 : (Jvm.Cond.fieldLink "ConstraintHouse$Root" (22 : Nat) "ConstraintHouse$Root" "x" "LConstraintHouse$Part;") ∈ lw_all := lw_g (lw_at lw_m6 136 rfl) rfl
theorem q1597 : (Jvm.Cond.sameField "ConstraintHouse$Root" "ConstraintHouse$Single" "x" "LConstraintHouse$Part;") ∈ lw_all := lw_g (lw_at lw_m6 137 rfl) rfl
theorem q1639 : (Jvm.Cond.instantiable "ConstraintHouse$Root" (6 : Nat)) ∈ lw_all := lw_g (lw_at lw_m6 179 rfl) rfl
theorem q1641 : (Jvm.Cond.instanceMethod ({ cls := "ConstraintHouse$Root", name := "<init>", desc := "(LConstraintHouse$Part;)V" } : Jvm.MethodName)) ∈ lw_all := lw_g (lw_at lw_m6 181 rfl) rfl
theorem q1642 : (Jvm.Cond.code ({ cls := "ConstraintHouse$Root", name := "<init>", desc := "(LConstraintHouse$Part;)V" } : Jvm.MethodName) prog_31_method_1_code (2 : Nat) (Option.none : Option Jvm.ClassFile.FieldType)) ∈ lw_all := lw_g (lw_at lw_m6 182 rfl) rfl
theorem q1643 : (Jvm.Cond.methodLink "ConstraintHouse$Root" (1 : Nat) ({ cls := "ConstraintHouse$Single", name := "<init>", desc := "(LConstraintHouse$Part;)V" } : Jvm.MethodName)) ∈ lw_all := lw_g (lw_at lw_m6 183 rfl) rfl
theorem q1644 : (Jvm.Cond.laysFinal "ConstraintHouse$Root" "ConstraintHouse$Single" "x" "LConstraintHouse$Part;") ∈ lw_all := lw_g (lw_at lw_m6 184 rfl) rfl
theorem q1645 : (Jvm.Cond.lays "ConstraintHouse$Root" "ConstraintHouse$Part" "low" "D") ∈ lw_all := lw_g (lw_at lw_m6 185 rfl) rfl
theorem q1646 : (Jvm.Cond.lays "ConstraintHouse$Root" "ConstraintHouse$Part" "high" "D") ∈ lw_all := lw_g (lw_at lw_m6 186 rfl) rfl
theorem q1647 : (Jvm.Cond.lays "ConstraintHouse$Root" "ConstraintHouse$Part" "no" "Z") ∈ lw_all := lw_g (lw_at lw_m6 187 rfl) rfl
theorem q1648 : (Jvm.Cond.lays "ConstraintHouse$Root" "ConstraintHouse$Part" "yes" "Z") ∈ lw_all := lw_g (lw_at lw_m6 188 rfl) rfl
theorem q1649 : (Jvm.Cond.lays "ConstraintHouse$Root" "ConstraintHouse$Part" "letters" "I") ∈ lw_all := lw_g (lw_at lw_m6 189 rfl) rfl
theorem q1650 : (Jvm.Cond.superclass "ConstraintHouse$Root" "ConstraintHouse$Single") ∈ lw_all := lw_g (lw_at lw_m6 190 rfl) rfl
theorem q2540 : (Jvm.Cond.selects "ConstraintHouse$Root" ({ cls := "ConstraintHouse$Narrows", name := "forwards", desc := "(LConstraintHouse$Solver;)V" } : Jvm.MethodName) ({ cls := "ConstraintHouse$Single", name := "forwards", desc := "(LConstraintHouse$Solver;)V" } : Jvm.MethodName)) ∈ lw_all := lw_g (lw_at lw_m10 120 rfl) rfl
theorem q2574 : (Jvm.Cond.selects "ConstraintHouse$Root" ({ cls := "ConstraintHouse$Single", name := "reckon", desc := "()V" } : Jvm.MethodName) ({ cls := "ConstraintHouse$Root", name := "reckon", desc := "()V" } : Jvm.MethodName)) ∈ lw_all := lw_g (lw_at lw_m10 154 rfl) rfl
theorem q2575 : (Jvm.Cond.instanceMethod ({ cls := "ConstraintHouse$Root", name := "reckon", desc := "()V" } : Jvm.MethodName)) ∈ lw_all := lw_g (lw_at lw_m10 155 rfl) rfl
theorem q2576 : (Jvm.Cond.code ({ cls := "ConstraintHouse$Root", name := "reckon", desc := "()V" } : Jvm.MethodName) prog_31_method_3_code (1 : Nat) (Option.none : Option Jvm.ClassFile.FieldType)) ∈ lw_all := lw_g (lw_at lw_m10 156 rfl) rfl
theorem q2577 : (Jvm.Cond.fieldLinkNest "ConstraintHouse$Root" (34 : Nat) "ConstraintHouse" "NOTHING" "LConstraintHouse$Nothing;" "ConstraintHouse") ∈ lw_tbl := lw_at lw_m10 157 rfl
theorem q2579 : (Jvm.Cond.methodLink "ConstraintHouse$Root" (42 : Nat) ({ cls := "ConstraintHouse$Root", name := "lower", desc := "(D)D" } : Jvm.MethodName)) ∈ lw_all := lw_g (lw_at lw_m10 159 rfl) rfl
theorem q2580 : (Jvm.Cond.static ({ cls := "ConstraintHouse$Root", name := "lower", desc := "(D)D" } : Jvm.MethodName)) ∈ lw_all := lw_g (lw_at lw_m10 160 rfl) rfl
theorem q2581 : (Jvm.Cond.code ({ cls := "ConstraintHouse$Root", name := "lower", desc := "(D)D" } : Jvm.MethodName) prog_31_method_2_code (2 : Nat) (Option.some Jvm.ClassFile.FieldType.double)) ∈ lw_all := lw_g (lw_at lw_m10 161 rfl) rfl
theorem q2582 : (Jvm.Cond.methodLink "ConstraintHouse$Root" (7 : Nat) ({ cls := "java/lang/Math", name := "sqrt", desc := "(D)D" } : Jvm.MethodName)) ∈ lw_all := lw_g (lw_at lw_m10 162 rfl) rfl
theorem q2616 : (Jvm.Cond.methodLink "ConstraintHouse$Root" (13 : Nat) ({ cls := "ConstraintHouse$Bounds", name := "low", desc := "(D)D" } : Jvm.MethodName)) ∈ lw_all := lw_g (lw_at lw_m10 196 rfl) rfl
theorem q2629 : (Jvm.Cond.methodLink "ConstraintHouse$Root" (18 : Nat) ({ cls := "java/lang/Math", name := "max", desc := "(DD)D" } : Jvm.MethodName)) ∈ lw_all := lw_g (lw_at lw_m10 209 rfl) rfl
theorem q2630 : (Jvm.Cond.methodLink "ConstraintHouse$Root" (45 : Nat) ({ cls := "ConstraintHouse$Bounds", name := "high", desc := "(D)D" } : Jvm.MethodName)) ∈ lw_all := lw_g (lw_at lw_m10 210 rfl) rfl
theorem q2637 : (Jvm.Cond.methodLink "ConstraintHouse$Root" (47 : Nat) ({ cls := "ConstraintHouse$Root", name := "be", desc := "(DD)V" } : Jvm.MethodName)) ∈ lw_all := lw_g (lw_at lw_m10 217 rfl) rfl
theorem q2638 : (Jvm.Cond.sameMethod "ConstraintHouse$Root" "ConstraintHouse$Part" "be" "(DD)V") ∈ lw_all := lw_g (lw_at lw_m10 218 rfl) rfl
theorem q2639 : (Jvm.Cond.selects "ConstraintHouse$Root" ({ cls := "ConstraintHouse$Root", name := "be", desc := "(DD)V" } : Jvm.MethodName) ({ cls := "ConstraintHouse$Part", name := "be", desc := "(DD)V" } : Jvm.MethodName)) ∈ lw_all := lw_g (lw_at lw_m10 219 rfl) rfl
theorem q2828 : (Jvm.Cond.selects "ConstraintHouse$Root" ({ cls := "ConstraintHouse$Part", name := "hasMeet", desc := "(LConstraintHouse$Part;)Z" } : Jvm.MethodName) ({ cls := "ConstraintHouse$Part", name := "hasMeet", desc := "(LConstraintHouse$Part;)Z" } : Jvm.MethodName)) ∈ lw_all := lw_g (lw_at lw_m11 168 rfl) rfl
theorem q2879 : (Jvm.Cond.selects "ConstraintHouse$Root" ({ cls := "ConstraintHouse$Part", name := "meets", desc := "(ZZ)V" } : Jvm.MethodName) ({ cls := "ConstraintHouse$Part", name := "meets", desc := "(ZZ)V" } : Jvm.MethodName)) ∈ lw_all := lw_g (lw_at lw_m11 219 rfl) rfl
theorem q2915 : (Jvm.Cond.selects "ConstraintHouse$Root" ({ cls := "ConstraintHouse$Part", name := "meets", desc := "(LConstraintHouse$Part;)V" } : Jvm.MethodName) ({ cls := "ConstraintHouse$Part", name := "meets", desc := "(LConstraintHouse$Part;)V" } : Jvm.MethodName)) ∈ lw_all := lw_g (lw_at lw_m12 15 rfl) rfl
theorem q2937 : (Jvm.Cond.selects "ConstraintHouse$Root" ({ cls := "ConstraintHouse$Part", name := "meet", desc := "(DD)V" } : Jvm.MethodName) ({ cls := "ConstraintHouse$Part", name := "meet", desc := "(DD)V" } : Jvm.MethodName)) ∈ lw_all := lw_g (lw_at lw_m12 37 rfl) rfl
theorem q2960 : (Jvm.Cond.selects "ConstraintHouse$Root" ({ cls := "ConstraintHouse$Part", name := "meets", desc := "(I)V" } : Jvm.MethodName) ({ cls := "ConstraintHouse$Part", name := "meets", desc := "(I)V" } : Jvm.MethodName)) ∈ lw_all := lw_g (lw_at lw_m12 60 rfl) rfl
theorem q2994 : (Jvm.Cond.selects "ConstraintHouse$Root" ({ cls := "ConstraintHouse$Part", name := "lose", desc := "(D)V" } : Jvm.MethodName) ({ cls := "ConstraintHouse$Part", name := "lose", desc := "(D)V" } : Jvm.MethodName)) ∈ lw_all := lw_g (lw_at lw_m12 94 rfl) rfl
theorem q3067 : (Jvm.Cond.selects "ConstraintHouse$Root" ({ cls := "ConstraintHouse$Part", name := "lose", desc := "([I)V" } : Jvm.MethodName) ({ cls := "ConstraintHouse$Part", name := "lose", desc := "([I)V" } : Jvm.MethodName)) ∈ lw_all := lw_g (lw_at lw_m12 167 rfl) rfl
theorem q3223 : (Jvm.Cond.selects "ConstraintHouse$Root" ({ cls := "ConstraintHouse$Single", name := "hand", desc := "()V" } : Jvm.MethodName) ({ cls := "ConstraintHouse$Root", name := "hand", desc := "()V" } : Jvm.MethodName)) ∈ lw_all := lw_g (lw_at lw_m13 83 rfl) rfl
theorem q3224 : (Jvm.Cond.instanceMethod ({ cls := "ConstraintHouse$Root", name := "hand", desc := "()V" } : Jvm.MethodName)) ∈ lw_all := lw_g (lw_at lw_m13 84 rfl) rfl
theorem q3225 : (Jvm.Cond.code ({ cls := "ConstraintHouse$Root", name := "hand", desc := "()V" } : Jvm.MethodName) prog_31_method_4_code (3 : Nat) (Option.none : Option Jvm.ClassFile.FieldType)) ∈ lw_all := lw_g (lw_at lw_m13 85 rfl) rfl
theorem q3226 : (Jvm.Cond.methodLink "ConstraintHouse$Root" (53 : Nat) ({ cls := "ConstraintHouse$Part", name := "meet", desc := "(DD)V" } : Jvm.MethodName)) ∈ lw_all := lw_g (lw_at lw_m13 86 rfl) rfl
theorem q3227 : (Jvm.Cond.constantDouble "ConstraintHouse$Root" (56 : Nat) (9218868437227405312 : UInt64)) ∈ lw_all := lw_g (lw_at lw_m13 87 rfl) rfl
theorem q3256 : (Jvm.Cond.selects "ConstraintHouse$Root" ({ cls := "ConstraintHouse$Part", name := "backwards", desc := "(LConstraintHouse$Solver;)V" } : Jvm.MethodName) ({ cls := "ConstraintHouse$Single", name := "backwards", desc := "(LConstraintHouse$Solver;)V" } : Jvm.MethodName)) ∈ lw_all := lw_g (lw_at lw_m13 116 rfl) rfl
theorem q3274 : (Jvm.Cond.selects "ConstraintHouse$Root" ({ cls := "ConstraintHouse$Part", name := "enter", desc := "(LConstraintHouse$Solver;)V" } : Jvm.MethodName) ({ cls := "ConstraintHouse$Part", name := "enter", desc := "(LConstraintHouse$Solver;)V" } : Jvm.MethodName)) ∈ lw_all := lw_g (lw_at lw_m13 134 rfl) rfl
theorem q4830 : (Jvm.Cond.castable "ConstraintHouse$Root" "java/lang/Object") ∈ lw_tbl := lw_at lw_m20 10 rfl
theorem q4865 : (Jvm.Cond.castable "ConstraintHouse$Root" "ConstraintHouse$Part") ∈ lw_tbl := lw_at lw_m20 45 rfl
theorem in_X22 : ∀ w ∈ wsX220, w ∈ lw_all := lw_in wsX220 [1644, 1645, 1646, 1647, 1648, 1649] (by decide +kernel) (by decide +kernel)
/-! ConstraintHouse$Stairs -/
set_option maxRecDepth 100000
def RX23 : String := "ConstraintHouse$Stairs"
def TX23 : u_T := fun k => match k with
  | 0 => ("ConstraintHouse$Single", "x", "LConstraintHouse$Part;", true)
  | 1 => ("ConstraintHouse$Part", "low", "D", false)
  | 2 => ("ConstraintHouse$Part", "high", "D", false)
  | 3 => ("ConstraintHouse$Part", "no", "Z", false)
  | 4 => ("ConstraintHouse$Part", "yes", "Z", false)
  | 5 => ("ConstraintHouse$Part", "letters", "I", false)
  | _ => ("ConstraintHouse$Stairs", "which", "I", true)
def tyX23 : Nat → FieldType := fun k => match k with
  | 0 => .object "ConstraintHouse$Part"
  | 1 => .double
  | 2 => .double
  | 3 => .boolean
  | 4 => .boolean
  | 5 => .int
  | _ => .int
abbrev wsX230 : List Cond := u_ws RX23 TX23 7
theorem nmX23 : ∀ a, a < 7 → ∀ b, b < 7 → a ≠ b → (TX23 a).2.1 ≠ (TX23 b).2.1 := by decide +kernel
theorem tyX23_ok : ∀ k, k < 7 → parseFieldDescriptor (TX23 k).2.2.1 = some (tyX23 k) := by decide +kernel
abbrev cX23_init : ByteArray := prog_39_method_1_code
def yX23_init : MethodName := ⟨RX23, "<init>", "(LConstraintHouse$Part;I)V"⟩
def dkwX23_init_0 : List UInt8 := [42, 43, 183, 0, 1, 42, 28, 181, 0, 7, 177]
abbrev dktX23_init_0 : List UInt8 := dkwX23_init_0 ++ []
theorem dksX23_init_0 : cX23_init.data.toList.drop 0 = dktX23_init_0 := by decide +kernel
theorem dX23_init_0 : decode cX23_init 0 = .ok (.aload_n 0, 1) := dk_42 (dk_at dksX23_init_0 0 rfl rfl)
theorem dX23_init_1 : decode cX23_init 1 = .ok (.aload_n 1, 1) := dk_43 (dk_at dksX23_init_0 1 rfl rfl)
theorem dX23_init_2 : decode cX23_init 2 = .ok (.invokespecial 1, 3) := dk_183 0 1 (dk_at dksX23_init_0 2 rfl rfl)
theorem dX23_init_5 : decode cX23_init 5 = .ok (.aload_n 0, 1) := dk_42 (dk_at dksX23_init_0 5 rfl rfl)
theorem dX23_init_6 : decode cX23_init 6 = .ok (.iload_n 2, 1) := dk_28 (dk_at dksX23_init_0 6 rfl rfl)
theorem dX23_init_7 : decode cX23_init 7 = .ok (.putfield 7, 3) := dk_181 0 7 (dk_at dksX23_init_0 7 rfl rfl)
theorem dX23_init_10 : decode cX23_init 10 = .ok (.return_, 1) := dk_177 (dk_at dksX23_init_0 10 rfl rfl)
abbrev cX23_reckon : ByteArray := prog_39_method_3_code
def yX23_reckon : MethodName := ⟨RX23, "reckon", "()V"⟩
def dkwX23_reckon_1 : List UInt8 := [182, 0, 46, 177]
abbrev dktX23_reckon_1 : List UInt8 := dkwX23_reckon_1 ++ []
def dkwX23_reckon_0 : List UInt8 := [42, 42, 42, 180, 0, 30, 180, 0, 34, 182, 0, 40, 42, 42, 180, 0, 30, 180, 0, 43, 182, 0, 40]
abbrev dktX23_reckon_0 : List UInt8 := dkwX23_reckon_0 ++ dktX23_reckon_1
theorem dksX23_reckon_0 : cX23_reckon.data.toList.drop 0 = dktX23_reckon_0 := by decide +kernel
theorem dksX23_reckon_1 : cX23_reckon.data.toList.drop 23 = dktX23_reckon_1 := dk_seg dksX23_reckon_0 23 rfl rfl
theorem dX23_reckon_0 : decode cX23_reckon 0 = .ok (.aload_n 0, 1) := dk_42 (dk_at dksX23_reckon_0 0 rfl rfl)
theorem dX23_reckon_1 : decode cX23_reckon 1 = .ok (.aload_n 0, 1) := dk_42 (dk_at dksX23_reckon_0 1 rfl rfl)
theorem dX23_reckon_2 : decode cX23_reckon 2 = .ok (.aload_n 0, 1) := dk_42 (dk_at dksX23_reckon_0 2 rfl rfl)
theorem dX23_reckon_3 : decode cX23_reckon 3 = .ok (.getfield 30, 3) := dk_180 0 30 (dk_at dksX23_reckon_0 3 rfl rfl)
theorem dX23_reckon_6 : decode cX23_reckon 6 = .ok (.getfield 34, 3) := dk_180 0 34 (dk_at dksX23_reckon_0 6 rfl rfl)
theorem dX23_reckon_9 : decode cX23_reckon 9 = .ok (.invokevirtual 40, 3) := dk_182 0 40 (dk_at dksX23_reckon_0 9 rfl rfl)
theorem dX23_reckon_12 : decode cX23_reckon 12 = .ok (.aload_n 0, 1) := dk_42 (dk_at dksX23_reckon_0 12 rfl rfl)
theorem dX23_reckon_13 : decode cX23_reckon 13 = .ok (.aload_n 0, 1) := dk_42 (dk_at dksX23_reckon_0 13 rfl rfl)
theorem dX23_reckon_14 : decode cX23_reckon 14 = .ok (.getfield 30, 3) := dk_180 0 30 (dk_at dksX23_reckon_0 14 rfl rfl)
theorem dX23_reckon_17 : decode cX23_reckon 17 = .ok (.getfield 43, 3) := dk_180 0 43 (dk_at dksX23_reckon_0 17 rfl rfl)
theorem dX23_reckon_20 : decode cX23_reckon 20 = .ok (.invokevirtual 40, 3) := dk_182 0 40 (dk_at dksX23_reckon_0 20 rfl rfl)
theorem dX23_reckon_23 : decode cX23_reckon 23 = .ok (.invokevirtual 46, 3) := dk_182 0 46 (dk_at dksX23_reckon_1 0 rfl rfl)
theorem dX23_reckon_26 : decode cX23_reckon 26 = .ok (.return_, 1) := dk_177 (dk_at dksX23_reckon_1 3 rfl rfl)
abbrev cX23_step : ByteArray := prog_39_method_2_code
def yX23_step : MethodName := ⟨RX23, "step", "(D)D"⟩
def dkwX23_step_1 : List UInt8 := [184, 0, 19, 167, 0, 7, 39, 184, 0, 22, 184, 0, 25, 175]
abbrev dktX23_step_1 : List UInt8 := dkwX23_step_1 ++ []
def dkwX23_step_0 : List UInt8 := [42, 180, 0, 7, 154, 0, 10, 39, 184, 0, 13, 167, 0, 22, 42, 180, 0, 7, 4, 160, 0, 10, 39]
abbrev dktX23_step_0 : List UInt8 := dkwX23_step_0 ++ dktX23_step_1
theorem dksX23_step_0 : cX23_step.data.toList.drop 0 = dktX23_step_0 := by decide +kernel
theorem dksX23_step_1 : cX23_step.data.toList.drop 23 = dktX23_step_1 := dk_seg dksX23_step_0 23 rfl rfl
theorem dX23_step_0 : decode cX23_step 0 = .ok (.aload_n 0, 1) := dk_42 (dk_at dksX23_step_0 0 rfl rfl)
theorem dX23_step_1 : decode cX23_step 1 = .ok (.getfield 7, 3) := dk_180 0 7 (dk_at dksX23_step_0 1 rfl rfl)
theorem dX23_step_4 : decode cX23_step 4 = .ok (.ifCond .ne 10, 3) := dk_154 0 10 (dk_at dksX23_step_0 4 rfl rfl)
theorem dX23_step_7 : decode cX23_step 7 = .ok (.dload_n 1, 1) := dk_39 (dk_at dksX23_step_0 7 rfl rfl)
theorem dX23_step_8 : decode cX23_step 8 = .ok (.invokestatic 13, 3) := dk_184 0 13 (dk_at dksX23_step_0 8 rfl rfl)
theorem dX23_step_11 : decode cX23_step 11 = .ok (.goto 22, 3) := dk_167 0 22 (dk_at dksX23_step_0 11 rfl rfl)
theorem dX23_step_14 : decode cX23_step 14 = .ok (.aload_n 0, 1) := dk_42 (dk_at dksX23_step_0 14 rfl rfl)
theorem dX23_step_15 : decode cX23_step 15 = .ok (.getfield 7, 3) := dk_180 0 7 (dk_at dksX23_step_0 15 rfl rfl)
theorem dX23_step_18 : decode cX23_step 18 = .ok (.iconst 1, 1) := dk_4 (dk_at dksX23_step_0 18 rfl rfl)
theorem dX23_step_19 : decode cX23_step 19 = .ok (.if_icmp .ne 10, 3) := dk_160 0 10 (dk_at dksX23_step_0 19 rfl rfl)
theorem dX23_step_22 : decode cX23_step 22 = .ok (.dload_n 1, 1) := dk_39 (dk_at dksX23_step_0 22 rfl rfl)
theorem dX23_step_23 : decode cX23_step 23 = .ok (.invokestatic 19, 3) := dk_184 0 19 (dk_at dksX23_step_1 0 rfl rfl)
theorem dX23_step_26 : decode cX23_step 26 = .ok (.goto 7, 3) := dk_167 0 7 (dk_at dksX23_step_1 3 rfl rfl)
theorem dX23_step_29 : decode cX23_step 29 = .ok (.dload_n 1, 1) := dk_39 (dk_at dksX23_step_1 6 rfl rfl)
theorem dX23_step_30 : decode cX23_step 30 = .ok (.invokestatic 22, 3) := dk_184 0 22 (dk_at dksX23_step_1 7 rfl rfl)
theorem dX23_step_33 : decode cX23_step 33 = .ok (.invokestatic 25, 3) := dk_184 0 25 (dk_at dksX23_step_1 10 rfl rfl)
theorem dX23_step_36 : decode cX23_step 36 = .ok (.dreturn, 1) := dk_175 (dk_at dksX23_step_1 13 rfl rfl)
abbrev cX23_hand : ByteArray := prog_39_method_4_code
def yX23_hand : MethodName := ⟨RX23, "hand", "()V"⟩
def dkwX23_hand_5 : List UInt8 := [20, 0, 71, 99, 184, 0, 25, 182, 0, 55, 177]
abbrev dktX23_hand_5 : List UInt8 := dkwX23_hand_5 ++ []
def dkwX23_hand_4 : List UInt8 := [184, 0, 25, 182, 0, 55, 167, 0, 26, 42, 180, 0, 30, 39, 20, 0, 71, 103, 184, 0, 25, 41]
abbrev dktX23_hand_4 : List UInt8 := dkwX23_hand_4 ++ dktX23_hand_5
def dkwX23_hand_3 : List UInt8 := [154, 0, 33, 42, 180, 0, 30, 39, 184, 0, 25, 42, 180, 0, 58, 41, 15, 99, 184, 0, 64, 184, 0, 67]
abbrev dktX23_hand_3 : List UInt8 := dkwX23_hand_3 ++ dktX23_hand_4
def dkwX23_hand_2 : List UInt8 := [182, 0, 55, 177, 42, 180, 0, 50, 184, 0, 61, 72, 42, 180, 0, 58, 184, 0, 13, 74, 42, 180, 0, 7]
abbrev dktX23_hand_2 : List UInt8 := dkwX23_hand_2 ++ dktX23_hand_3
def dkwX23_hand_1 : List UInt8 := [20, 0, 53, 182, 0, 55, 42, 180, 0, 58, 15, 152, 156, 0, 14, 42, 180, 0, 30, 20, 0, 59, 14]
abbrev dktX23_hand_1 : List UInt8 := dkwX23_hand_1 ++ dktX23_hand_2
def dkwX23_hand_0 : List UInt8 := [42, 180, 0, 7, 5, 160, 0, 46, 42, 180, 0, 50, 20, 0, 51, 151, 158, 0, 14, 42, 180, 0, 30, 14]
abbrev dktX23_hand_0 : List UInt8 := dkwX23_hand_0 ++ dktX23_hand_1
theorem dksX23_hand_0 : cX23_hand.data.toList.drop 0 = dktX23_hand_0 := by decide +kernel
theorem dksX23_hand_1 : cX23_hand.data.toList.drop 24 = dktX23_hand_1 := dk_seg dksX23_hand_0 24 rfl rfl
theorem dksX23_hand_2 : cX23_hand.data.toList.drop 47 = dktX23_hand_2 := dk_seg dksX23_hand_1 23 rfl rfl
theorem dksX23_hand_3 : cX23_hand.data.toList.drop 71 = dktX23_hand_3 := dk_seg dksX23_hand_2 24 rfl rfl
theorem dksX23_hand_4 : cX23_hand.data.toList.drop 95 = dktX23_hand_4 := dk_seg dksX23_hand_3 24 rfl rfl
theorem dksX23_hand_5 : cX23_hand.data.toList.drop 117 = dktX23_hand_5 := dk_seg dksX23_hand_4 22 rfl rfl
theorem dX23_hand_0 : decode cX23_hand 0 = .ok (.aload_n 0, 1) := dk_42 (dk_at dksX23_hand_0 0 rfl rfl)
theorem dX23_hand_1 : decode cX23_hand 1 = .ok (.getfield 7, 3) := dk_180 0 7 (dk_at dksX23_hand_0 1 rfl rfl)
theorem dX23_hand_4 : decode cX23_hand 4 = .ok (.iconst 2, 1) := dk_5 (dk_at dksX23_hand_0 4 rfl rfl)
theorem dX23_hand_5 : decode cX23_hand 5 = .ok (.if_icmp .ne 46, 3) := dk_160 0 46 (dk_at dksX23_hand_0 5 rfl rfl)
theorem dX23_hand_8 : decode cX23_hand 8 = .ok (.aload_n 0, 1) := dk_42 (dk_at dksX23_hand_0 8 rfl rfl)
theorem dX23_hand_9 : decode cX23_hand 9 = .ok (.getfield 50, 3) := dk_180 0 50 (dk_at dksX23_hand_0 9 rfl rfl)
theorem dX23_hand_12 : decode cX23_hand 12 = .ok (.ldc2_w 51, 3) := dk_20 0 51 (dk_at dksX23_hand_0 12 rfl rfl)
theorem dX23_hand_15 : decode cX23_hand 15 = .ok (.dcmp .l, 1) := dk_151 (dk_at dksX23_hand_0 15 rfl rfl)
theorem dX23_hand_16 : decode cX23_hand 16 = .ok (.ifCond .le 14, 3) := dk_158 0 14 (dk_at dksX23_hand_0 16 rfl rfl)
theorem dX23_hand_19 : decode cX23_hand 19 = .ok (.aload_n 0, 1) := dk_42 (dk_at dksX23_hand_0 19 rfl rfl)
theorem dX23_hand_20 : decode cX23_hand 20 = .ok (.getfield 30, 3) := dk_180 0 30 (dk_at dksX23_hand_0 20 rfl rfl)
theorem dX23_hand_23 : decode cX23_hand 23 = .ok (.dconst 0, 1) := dk_14 (dk_at dksX23_hand_0 23 rfl rfl)
theorem dX23_hand_24 : decode cX23_hand 24 = .ok (.ldc2_w 53, 3) := dk_20 0 53 (dk_at dksX23_hand_1 0 rfl rfl)
theorem dX23_hand_27 : decode cX23_hand 27 = .ok (.invokevirtual 55, 3) := dk_182 0 55 (dk_at dksX23_hand_1 3 rfl rfl)
theorem dX23_hand_30 : decode cX23_hand 30 = .ok (.aload_n 0, 1) := dk_42 (dk_at dksX23_hand_1 6 rfl rfl)
theorem dX23_hand_31 : decode cX23_hand 31 = .ok (.getfield 58, 3) := dk_180 0 58 (dk_at dksX23_hand_1 7 rfl rfl)
theorem dX23_hand_34 : decode cX23_hand 34 = .ok (.dconst 1, 1) := dk_15 (dk_at dksX23_hand_1 10 rfl rfl)
theorem dX23_hand_35 : decode cX23_hand 35 = .ok (.dcmp .g, 1) := dk_152 (dk_at dksX23_hand_1 11 rfl rfl)
theorem dX23_hand_36 : decode cX23_hand 36 = .ok (.ifCond .ge 14, 3) := dk_156 0 14 (dk_at dksX23_hand_1 12 rfl rfl)
theorem dX23_hand_39 : decode cX23_hand 39 = .ok (.aload_n 0, 1) := dk_42 (dk_at dksX23_hand_1 15 rfl rfl)
theorem dX23_hand_40 : decode cX23_hand 40 = .ok (.getfield 30, 3) := dk_180 0 30 (dk_at dksX23_hand_1 16 rfl rfl)
theorem dX23_hand_43 : decode cX23_hand 43 = .ok (.ldc2_w 59, 3) := dk_20 0 59 (dk_at dksX23_hand_1 19 rfl rfl)
theorem dX23_hand_46 : decode cX23_hand 46 = .ok (.dconst 0, 1) := dk_14 (dk_at dksX23_hand_1 22 rfl rfl)
theorem dX23_hand_47 : decode cX23_hand 47 = .ok (.invokevirtual 55, 3) := dk_182 0 55 (dk_at dksX23_hand_2 0 rfl rfl)
theorem dX23_hand_50 : decode cX23_hand 50 = .ok (.return_, 1) := dk_177 (dk_at dksX23_hand_2 3 rfl rfl)
theorem dX23_hand_51 : decode cX23_hand 51 = .ok (.aload_n 0, 1) := dk_42 (dk_at dksX23_hand_2 4 rfl rfl)
theorem dX23_hand_52 : decode cX23_hand 52 = .ok (.getfield 50, 3) := dk_180 0 50 (dk_at dksX23_hand_2 5 rfl rfl)
theorem dX23_hand_55 : decode cX23_hand 55 = .ok (.invokestatic 61, 3) := dk_184 0 61 (dk_at dksX23_hand_2 8 rfl rfl)
theorem dX23_hand_58 : decode cX23_hand 58 = .ok (.dstore_n 1, 1) := dk_72 (dk_at dksX23_hand_2 11 rfl rfl)
theorem dX23_hand_59 : decode cX23_hand 59 = .ok (.aload_n 0, 1) := dk_42 (dk_at dksX23_hand_2 12 rfl rfl)
theorem dX23_hand_60 : decode cX23_hand 60 = .ok (.getfield 58, 3) := dk_180 0 58 (dk_at dksX23_hand_2 13 rfl rfl)
theorem dX23_hand_63 : decode cX23_hand 63 = .ok (.invokestatic 13, 3) := dk_184 0 13 (dk_at dksX23_hand_2 16 rfl rfl)
theorem dX23_hand_66 : decode cX23_hand 66 = .ok (.dstore_n 3, 1) := dk_74 (dk_at dksX23_hand_2 19 rfl rfl)
theorem dX23_hand_67 : decode cX23_hand 67 = .ok (.aload_n 0, 1) := dk_42 (dk_at dksX23_hand_2 20 rfl rfl)
theorem dX23_hand_68 : decode cX23_hand 68 = .ok (.getfield 7, 3) := dk_180 0 7 (dk_at dksX23_hand_2 21 rfl rfl)
theorem dX23_hand_71 : decode cX23_hand 71 = .ok (.ifCond .ne 33, 3) := dk_154 0 33 (dk_at dksX23_hand_3 0 rfl rfl)
theorem dX23_hand_74 : decode cX23_hand 74 = .ok (.aload_n 0, 1) := dk_42 (dk_at dksX23_hand_3 3 rfl rfl)
theorem dX23_hand_75 : decode cX23_hand 75 = .ok (.getfield 30, 3) := dk_180 0 30 (dk_at dksX23_hand_3 4 rfl rfl)
theorem dX23_hand_78 : decode cX23_hand 78 = .ok (.dload_n 1, 1) := dk_39 (dk_at dksX23_hand_3 7 rfl rfl)
theorem dX23_hand_79 : decode cX23_hand 79 = .ok (.invokestatic 25, 3) := dk_184 0 25 (dk_at dksX23_hand_3 8 rfl rfl)
theorem dX23_hand_82 : decode cX23_hand 82 = .ok (.aload_n 0, 1) := dk_42 (dk_at dksX23_hand_3 11 rfl rfl)
theorem dX23_hand_83 : decode cX23_hand 83 = .ok (.getfield 58, 3) := dk_180 0 58 (dk_at dksX23_hand_3 12 rfl rfl)
theorem dX23_hand_86 : decode cX23_hand 86 = .ok (.dload_n 3, 1) := dk_41 (dk_at dksX23_hand_3 15 rfl rfl)
theorem dX23_hand_87 : decode cX23_hand 87 = .ok (.dconst 1, 1) := dk_15 (dk_at dksX23_hand_3 16 rfl rfl)
theorem dX23_hand_88 : decode cX23_hand 88 = .ok (.dadd, 1) := dk_99 (dk_at dksX23_hand_3 17 rfl rfl)
theorem dX23_hand_89 : decode cX23_hand 89 = .ok (.invokestatic 64, 3) := dk_184 0 64 (dk_at dksX23_hand_3 18 rfl rfl)
theorem dX23_hand_92 : decode cX23_hand 92 = .ok (.invokestatic 67, 3) := dk_184 0 67 (dk_at dksX23_hand_3 21 rfl rfl)
theorem dX23_hand_95 : decode cX23_hand 95 = .ok (.invokestatic 25, 3) := dk_184 0 25 (dk_at dksX23_hand_4 0 rfl rfl)
theorem dX23_hand_98 : decode cX23_hand 98 = .ok (.invokevirtual 55, 3) := dk_182 0 55 (dk_at dksX23_hand_4 3 rfl rfl)
theorem dX23_hand_101 : decode cX23_hand 101 = .ok (.goto 26, 3) := dk_167 0 26 (dk_at dksX23_hand_4 6 rfl rfl)
theorem dX23_hand_104 : decode cX23_hand 104 = .ok (.aload_n 0, 1) := dk_42 (dk_at dksX23_hand_4 9 rfl rfl)
theorem dX23_hand_105 : decode cX23_hand 105 = .ok (.getfield 30, 3) := dk_180 0 30 (dk_at dksX23_hand_4 10 rfl rfl)
theorem dX23_hand_108 : decode cX23_hand 108 = .ok (.dload_n 1, 1) := dk_39 (dk_at dksX23_hand_4 13 rfl rfl)
theorem dX23_hand_109 : decode cX23_hand 109 = .ok (.ldc2_w 71, 3) := dk_20 0 71 (dk_at dksX23_hand_4 14 rfl rfl)
theorem dX23_hand_112 : decode cX23_hand 112 = .ok (.dsub, 1) := dk_103 (dk_at dksX23_hand_4 17 rfl rfl)
theorem dX23_hand_113 : decode cX23_hand 113 = .ok (.invokestatic 25, 3) := dk_184 0 25 (dk_at dksX23_hand_4 18 rfl rfl)
theorem dX23_hand_116 : decode cX23_hand 116 = .ok (.dload_n 3, 1) := dk_41 (dk_at dksX23_hand_4 21 rfl rfl)
theorem dX23_hand_117 : decode cX23_hand 117 = .ok (.ldc2_w 71, 3) := dk_20 0 71 (dk_at dksX23_hand_5 0 rfl rfl)
theorem dX23_hand_120 : decode cX23_hand 120 = .ok (.dadd, 1) := dk_99 (dk_at dksX23_hand_5 3 rfl rfl)
theorem dX23_hand_121 : decode cX23_hand 121 = .ok (.invokestatic 25, 3) := dk_184 0 25 (dk_at dksX23_hand_5 4 rfl rfl)
theorem dX23_hand_124 : decode cX23_hand 124 = .ok (.invokevirtual 55, 3) := dk_182 0 55 (dk_at dksX23_hand_5 7 rfl rfl)
theorem dX23_hand_127 : decode cX23_hand 127 = .ok (.return_, 1) := dk_177 (dk_at dksX23_hand_5 10 rfl rfl)
theorem q294 : (Jvm.Cond.initialized "ConstraintHouse$Stairs") ∈ lw_all := lw_g (lw_at lw_m1 34 rfl) rfl
theorem q1365 : (Jvm.Cond.fieldLink "ConstraintHouse$Stairs" (34 : Nat) "ConstraintHouse$Part" "low" "D") ∈ lw_all := lw_g (lw_at lw_m5 145 rfl) rfl
theorem q1377 : (Jvm.Cond.fieldLink "ConstraintHouse$Stairs" (50 : Nat) "ConstraintHouse$Stairs" "low" "D") ∈ lw_all := lw_g (lw_at lw_m5 157 rfl) rfl
theorem q1378 : (Jvm.Cond.sameField "ConstraintHouse$Stairs" "ConstraintHouse$Part" "low" "D") ∈ lw_all := lw_g (lw_at lw_m5 158 rfl) rfl
theorem q1404 : (Jvm.Cond.fieldLink "ConstraintHouse$Stairs" (43 : Nat) "ConstraintHouse$Part" "high" "D") ∈ lw_all := lw_g (lw_at lw_m5 184 rfl) rfl
theorem q1415 : (Jvm.Cond.fieldLink "ConstraintHouse$Stairs" (58 : Nat) "ConstraintHouse$Stairs" "high" "D") ∈ lw_all := lw_g (lw_at lw_m5 195 rfl) rfl
theorem q1416 : (Jvm.Cond.sameField "ConstraintHouse$Stairs" "ConstraintHouse$Part" "high" "D") ∈ lw_all := lw_g (lw_at lw_m5 196 rfl) rfl
theorem q1580 : (Jvm.Cond.selects "ConstraintHouse$Stairs" ({ cls := "ConstraintHouse$Part", name := "sort", desc := "()I" } : Jvm.MethodName) ({ cls := "ConstraintHouse$Single", name := "sort", desc := "()I" } : Jvm.MethodName)) ∈ lw_all := lw_g (lw_at lw_m6 120 rfl) rfl
theorem q1598 : (Jvm.Cond.fieldLink "ConstraintHouse$Stairs" (30 : Nat) "ConstraintHouse$Stairs" "x" "LConstraintHouse$Part;") ∈ lw_all := lw_g (lw_at lw_m6 138 rfl) rfl
theorem q1599 : (Jvm.Cond.sameField "ConstraintHouse$Stairs" "ConstraintHouse$Single" "x" "LConstraintHouse$Part;") ∈ lw_all := lw_g (lw_at lw_m6 139 rfl) rfl
theorem q1652 : (Jvm.Cond.instantiable "ConstraintHouse$Stairs" (7 : Nat)) ∈ lw_all := lw_g (lw_at lw_m6 192 rfl) rfl
theorem q1654 : (Jvm.Cond.instanceMethod ({ cls := "ConstraintHouse$Stairs", name := "<init>", desc := "(LConstraintHouse$Part;I)V" } : Jvm.MethodName)) ∈ lw_all := lw_g (lw_at lw_m6 194 rfl) rfl
theorem q1655 : (Jvm.Cond.code ({ cls := "ConstraintHouse$Stairs", name := "<init>", desc := "(LConstraintHouse$Part;I)V" } : Jvm.MethodName) prog_39_method_1_code (3 : Nat) (Option.none : Option Jvm.ClassFile.FieldType)) ∈ lw_all := lw_g (lw_at lw_m6 195 rfl) rfl
theorem q1656 : (Jvm.Cond.methodLink "ConstraintHouse$Stairs" (1 : Nat) ({ cls := "ConstraintHouse$Single", name := "<init>", desc := "(LConstraintHouse$Part;)V" } : Jvm.MethodName)) ∈ lw_all := lw_g (lw_at lw_m6 196 rfl) rfl
theorem q1657 : (Jvm.Cond.fieldLink "ConstraintHouse$Stairs" (7 : Nat) "ConstraintHouse$Stairs" "which" "I") ∈ lw_all := lw_g (lw_at lw_m6 197 rfl) rfl
theorem q1658 : (Jvm.Cond.laysFinal "ConstraintHouse$Stairs" "ConstraintHouse$Stairs" "which" "I") ∈ lw_all := lw_g (lw_at lw_m6 198 rfl) rfl
theorem q1659 : (Jvm.Cond.soleField "ConstraintHouse$Stairs" "which") ∈ lw_all := lw_g (lw_at lw_m6 199 rfl) rfl
theorem q1660 : (Jvm.Cond.laysFinal "ConstraintHouse$Stairs" "ConstraintHouse$Single" "x" "LConstraintHouse$Part;") ∈ lw_all := lw_g (lw_at lw_m6 200 rfl) rfl
theorem q1661 : (Jvm.Cond.lays "ConstraintHouse$Stairs" "ConstraintHouse$Part" "low" "D") ∈ lw_all := lw_g (lw_at lw_m6 201 rfl) rfl
theorem q1662 : (Jvm.Cond.lays "ConstraintHouse$Stairs" "ConstraintHouse$Part" "high" "D") ∈ lw_all := lw_g (lw_at lw_m6 202 rfl) rfl
theorem q1663 : (Jvm.Cond.lays "ConstraintHouse$Stairs" "ConstraintHouse$Part" "no" "Z") ∈ lw_all := lw_g (lw_at lw_m6 203 rfl) rfl
theorem q1664 : (Jvm.Cond.lays "ConstraintHouse$Stairs" "ConstraintHouse$Part" "yes" "Z") ∈ lw_all := lw_g (lw_at lw_m6 204 rfl) rfl
theorem q1665 : (Jvm.Cond.lays "ConstraintHouse$Stairs" "ConstraintHouse$Part" "letters" "I") ∈ lw_all := lw_g (lw_at lw_m6 205 rfl) rfl
theorem q1666 : (Jvm.Cond.superclass "ConstraintHouse$Stairs" "ConstraintHouse$Single") ∈ lw_all := lw_g (lw_at lw_m6 206 rfl) rfl
theorem q2542 : (Jvm.Cond.selects "ConstraintHouse$Stairs" ({ cls := "ConstraintHouse$Narrows", name := "forwards", desc := "(LConstraintHouse$Solver;)V" } : Jvm.MethodName) ({ cls := "ConstraintHouse$Single", name := "forwards", desc := "(LConstraintHouse$Solver;)V" } : Jvm.MethodName)) ∈ lw_all := lw_g (lw_at lw_m10 122 rfl) rfl
theorem q2650 : (Jvm.Cond.selects "ConstraintHouse$Stairs" ({ cls := "ConstraintHouse$Single", name := "reckon", desc := "()V" } : Jvm.MethodName) ({ cls := "ConstraintHouse$Stairs", name := "reckon", desc := "()V" } : Jvm.MethodName)) ∈ lw_all := lw_g (lw_at lw_m10 230 rfl) rfl
theorem q2651 : (Jvm.Cond.instanceMethod ({ cls := "ConstraintHouse$Stairs", name := "reckon", desc := "()V" } : Jvm.MethodName)) ∈ lw_all := lw_g (lw_at lw_m10 231 rfl) rfl
theorem q2652 : (Jvm.Cond.code ({ cls := "ConstraintHouse$Stairs", name := "reckon", desc := "()V" } : Jvm.MethodName) prog_39_method_3_code (1 : Nat) (Option.none : Option Jvm.ClassFile.FieldType)) ∈ lw_all := lw_g (lw_at lw_m10 232 rfl) rfl
theorem q2653 : (Jvm.Cond.methodLink "ConstraintHouse$Stairs" (40 : Nat) ({ cls := "ConstraintHouse$Stairs", name := "step", desc := "(D)D" } : Jvm.MethodName)) ∈ lw_all := lw_g (lw_at lw_m10 233 rfl) rfl
theorem q2654 : (Jvm.Cond.privateMethod ({ cls := "ConstraintHouse$Stairs", name := "step", desc := "(D)D" } : Jvm.MethodName)) ∈ lw_tbl := lw_at lw_m10 234 rfl
theorem q2655 : (Jvm.Cond.instanceMethod ({ cls := "ConstraintHouse$Stairs", name := "step", desc := "(D)D" } : Jvm.MethodName)) ∈ lw_all := lw_g (lw_at lw_m10 235 rfl) rfl
theorem q2656 : (Jvm.Cond.code ({ cls := "ConstraintHouse$Stairs", name := "step", desc := "(D)D" } : Jvm.MethodName) prog_39_method_2_code (3 : Nat) (Option.some Jvm.ClassFile.FieldType.double)) ∈ lw_all := lw_g (lw_at lw_m10 236 rfl) rfl
theorem q2657 : (Jvm.Cond.methodLink "ConstraintHouse$Stairs" (13 : Nat) ({ cls := "java/lang/Math", name := "floor", desc := "(D)D" } : Jvm.MethodName)) ∈ lw_all := lw_g (lw_at lw_m10 237 rfl) rfl
theorem q2658 : (Jvm.Cond.methodLink "ConstraintHouse$Stairs" (19 : Nat) ({ cls := "java/lang/Math", name := "rint", desc := "(D)D" } : Jvm.MethodName)) ∈ lw_all := lw_g (lw_at lw_m10 238 rfl) rfl
theorem q2670 : (Jvm.Cond.methodLink "ConstraintHouse$Stairs" (22 : Nat) ({ cls := "java/lang/Math", name := "signum", desc := "(D)D" } : Jvm.MethodName)) ∈ lw_all := lw_g (lw_at lw_m11 10 rfl) rfl
theorem q2674 : (Jvm.Cond.methodLink "ConstraintHouse$Stairs" (25 : Nat) ({ cls := "ConstraintHouse$Bounds", name := "plain", desc := "(D)D" } : Jvm.MethodName)) ∈ lw_all := lw_g (lw_at lw_m11 14 rfl) rfl
theorem q2675 : (Jvm.Cond.methodLink "ConstraintHouse$Stairs" (46 : Nat) ({ cls := "ConstraintHouse$Stairs", name := "be", desc := "(DD)V" } : Jvm.MethodName)) ∈ lw_all := lw_g (lw_at lw_m11 15 rfl) rfl
theorem q2676 : (Jvm.Cond.sameMethod "ConstraintHouse$Stairs" "ConstraintHouse$Part" "be" "(DD)V") ∈ lw_all := lw_g (lw_at lw_m11 16 rfl) rfl
theorem q2677 : (Jvm.Cond.selects "ConstraintHouse$Stairs" ({ cls := "ConstraintHouse$Stairs", name := "be", desc := "(DD)V" } : Jvm.MethodName) ({ cls := "ConstraintHouse$Part", name := "be", desc := "(DD)V" } : Jvm.MethodName)) ∈ lw_all := lw_g (lw_at lw_m11 17 rfl) rfl
theorem q2830 : (Jvm.Cond.selects "ConstraintHouse$Stairs" ({ cls := "ConstraintHouse$Part", name := "hasMeet", desc := "(LConstraintHouse$Part;)Z" } : Jvm.MethodName) ({ cls := "ConstraintHouse$Part", name := "hasMeet", desc := "(LConstraintHouse$Part;)Z" } : Jvm.MethodName)) ∈ lw_all := lw_g (lw_at lw_m11 170 rfl) rfl
theorem q2881 : (Jvm.Cond.selects "ConstraintHouse$Stairs" ({ cls := "ConstraintHouse$Part", name := "meets", desc := "(ZZ)V" } : Jvm.MethodName) ({ cls := "ConstraintHouse$Part", name := "meets", desc := "(ZZ)V" } : Jvm.MethodName)) ∈ lw_all := lw_g (lw_at lw_m11 221 rfl) rfl
theorem q2917 : (Jvm.Cond.selects "ConstraintHouse$Stairs" ({ cls := "ConstraintHouse$Part", name := "meets", desc := "(LConstraintHouse$Part;)V" } : Jvm.MethodName) ({ cls := "ConstraintHouse$Part", name := "meets", desc := "(LConstraintHouse$Part;)V" } : Jvm.MethodName)) ∈ lw_all := lw_g (lw_at lw_m12 17 rfl) rfl
theorem q2939 : (Jvm.Cond.selects "ConstraintHouse$Stairs" ({ cls := "ConstraintHouse$Part", name := "meet", desc := "(DD)V" } : Jvm.MethodName) ({ cls := "ConstraintHouse$Part", name := "meet", desc := "(DD)V" } : Jvm.MethodName)) ∈ lw_all := lw_g (lw_at lw_m12 39 rfl) rfl
theorem q2962 : (Jvm.Cond.selects "ConstraintHouse$Stairs" ({ cls := "ConstraintHouse$Part", name := "meets", desc := "(I)V" } : Jvm.MethodName) ({ cls := "ConstraintHouse$Part", name := "meets", desc := "(I)V" } : Jvm.MethodName)) ∈ lw_all := lw_g (lw_at lw_m12 62 rfl) rfl
theorem q2996 : (Jvm.Cond.selects "ConstraintHouse$Stairs" ({ cls := "ConstraintHouse$Part", name := "lose", desc := "(D)V" } : Jvm.MethodName) ({ cls := "ConstraintHouse$Part", name := "lose", desc := "(D)V" } : Jvm.MethodName)) ∈ lw_all := lw_g (lw_at lw_m12 96 rfl) rfl
theorem q3069 : (Jvm.Cond.selects "ConstraintHouse$Stairs" ({ cls := "ConstraintHouse$Part", name := "lose", desc := "([I)V" } : Jvm.MethodName) ({ cls := "ConstraintHouse$Part", name := "lose", desc := "([I)V" } : Jvm.MethodName)) ∈ lw_all := lw_g (lw_at lw_m12 169 rfl) rfl
theorem q3235 : (Jvm.Cond.selects "ConstraintHouse$Stairs" ({ cls := "ConstraintHouse$Single", name := "hand", desc := "()V" } : Jvm.MethodName) ({ cls := "ConstraintHouse$Stairs", name := "hand", desc := "()V" } : Jvm.MethodName)) ∈ lw_all := lw_g (lw_at lw_m13 95 rfl) rfl
theorem q3236 : (Jvm.Cond.instanceMethod ({ cls := "ConstraintHouse$Stairs", name := "hand", desc := "()V" } : Jvm.MethodName)) ∈ lw_all := lw_g (lw_at lw_m13 96 rfl) rfl
theorem q3237 : (Jvm.Cond.code ({ cls := "ConstraintHouse$Stairs", name := "hand", desc := "()V" } : Jvm.MethodName) prog_39_method_4_code (5 : Nat) (Option.none : Option Jvm.ClassFile.FieldType)) ∈ lw_all := lw_g (lw_at lw_m13 97 rfl) rfl
theorem q3238 : (Jvm.Cond.constantDouble "ConstraintHouse$Stairs" (51 : Nat) (13830554455654793216 : UInt64)) ∈ lw_all := lw_g (lw_at lw_m13 98 rfl) rfl
theorem q3239 : (Jvm.Cond.constantDouble "ConstraintHouse$Stairs" (53 : Nat) (9218868437227405312 : UInt64)) ∈ lw_all := lw_g (lw_at lw_m13 99 rfl) rfl
theorem q3240 : (Jvm.Cond.methodLink "ConstraintHouse$Stairs" (55 : Nat) ({ cls := "ConstraintHouse$Part", name := "meet", desc := "(DD)V" } : Jvm.MethodName)) ∈ lw_all := lw_g (lw_at lw_m13 100 rfl) rfl
theorem q3241 : (Jvm.Cond.constantDouble "ConstraintHouse$Stairs" (59 : Nat) (18442240474082181120 : UInt64)) ∈ lw_all := lw_g (lw_at lw_m13 101 rfl) rfl
theorem q3242 : (Jvm.Cond.methodLink "ConstraintHouse$Stairs" (61 : Nat) ({ cls := "java/lang/Math", name := "ceil", desc := "(D)D" } : Jvm.MethodName)) ∈ lw_all := lw_g (lw_at lw_m13 102 rfl) rfl
theorem q3243 : (Jvm.Cond.methodLink "ConstraintHouse$Stairs" (64 : Nat) ({ cls := "java/lang/Math", name := "nextDown", desc := "(D)D" } : Jvm.MethodName)) ∈ lw_all := lw_g (lw_at lw_m13 103 rfl) rfl
theorem q3244 : (Jvm.Cond.methodLink "ConstraintHouse$Stairs" (67 : Nat) ({ cls := "java/lang/Math", name := "max", desc := "(DD)D" } : Jvm.MethodName)) ∈ lw_all := lw_g (lw_at lw_m13 104 rfl) rfl
theorem q3245 : (Jvm.Cond.constantDouble "ConstraintHouse$Stairs" (71 : Nat) (4602678819172646912 : UInt64)) ∈ lw_all := lw_g (lw_at lw_m13 105 rfl) rfl
theorem q3258 : (Jvm.Cond.selects "ConstraintHouse$Stairs" ({ cls := "ConstraintHouse$Part", name := "backwards", desc := "(LConstraintHouse$Solver;)V" } : Jvm.MethodName) ({ cls := "ConstraintHouse$Single", name := "backwards", desc := "(LConstraintHouse$Solver;)V" } : Jvm.MethodName)) ∈ lw_all := lw_g (lw_at lw_m13 118 rfl) rfl
theorem q3276 : (Jvm.Cond.selects "ConstraintHouse$Stairs" ({ cls := "ConstraintHouse$Part", name := "enter", desc := "(LConstraintHouse$Solver;)V" } : Jvm.MethodName) ({ cls := "ConstraintHouse$Part", name := "enter", desc := "(LConstraintHouse$Solver;)V" } : Jvm.MethodName)) ∈ lw_all := lw_g (lw_at lw_m13 136 rfl) rfl
theorem q4831 : (Jvm.Cond.castable "ConstraintHouse$Stairs" "java/lang/Object") ∈ lw_tbl := lw_at lw_m20 11 rfl
theorem q4866 : (Jvm.Cond.castable "ConstraintHouse$Stairs" "ConstraintHouse$Part") ∈ lw_tbl := lw_at lw_m20 46 rfl
theorem in_X23 : ∀ w ∈ wsX230, w ∈ lw_all := lw_in wsX230 [1660, 1661, 1662, 1663, 1664, 1665, 1658] (by decide +kernel) (by decide +kernel)
/-! ConstraintHouse$Pair -/
set_option maxRecDepth 100000
def RX24 : String := "ConstraintHouse$Pair"
abbrev cX24_sort : ByteArray := prog_24_method_2_code
def yX24_sort : MethodName := ⟨RX24, "sort", "()I"⟩
theorem dX24_sort_0 : decode cX24_sort 0 = .ok (.iconst 0, 1) := by decide +kernel
theorem dX24_sort_1 : decode cX24_sort 1 = .ok (.ireturn, 1) := by decide +kernel
abbrev cX24_init : ByteArray := prog_24_method_1_code
def yX24_init : MethodName := ⟨RX24, "<init>", "(LConstraintHouse$Part;LConstraintHouse$Part;)V"⟩
def dkwX24_init_0 : List UInt8 := [42, 183, 0, 3, 42, 43, 181, 0, 9, 42, 44, 181, 0, 15, 177]
abbrev dktX24_init_0 : List UInt8 := dkwX24_init_0 ++ []
theorem dksX24_init_0 : cX24_init.data.toList.drop 0 = dktX24_init_0 := by decide +kernel
theorem dX24_init_0 : decode cX24_init 0 = .ok (.aload_n 0, 1) := dk_42 (dk_at dksX24_init_0 0 rfl rfl)
theorem dX24_init_1 : decode cX24_init 1 = .ok (.invokespecial 3, 3) := dk_183 0 3 (dk_at dksX24_init_0 1 rfl rfl)
theorem dX24_init_4 : decode cX24_init 4 = .ok (.aload_n 0, 1) := dk_42 (dk_at dksX24_init_0 4 rfl rfl)
theorem dX24_init_5 : decode cX24_init 5 = .ok (.aload_n 1, 1) := dk_43 (dk_at dksX24_init_0 5 rfl rfl)
theorem dX24_init_6 : decode cX24_init 6 = .ok (.putfield 9, 3) := dk_181 0 9 (dk_at dksX24_init_0 6 rfl rfl)
theorem dX24_init_9 : decode cX24_init 9 = .ok (.aload_n 0, 1) := dk_42 (dk_at dksX24_init_0 9 rfl rfl)
theorem dX24_init_10 : decode cX24_init 10 = .ok (.aload_n 2, 1) := dk_44 (dk_at dksX24_init_0 10 rfl rfl)
theorem dX24_init_11 : decode cX24_init 11 = .ok (.putfield 15, 3) := dk_181 0 15 (dk_at dksX24_init_0 11 rfl rfl)
theorem dX24_init_14 : decode cX24_init 14 = .ok (.return_, 1) := dk_177 (dk_at dksX24_init_0 14 rfl rfl)
abbrev cX24_forwards : ByteArray := prog_24_method_5_code
def yX24_forwards : MethodName := ⟨RX24, "forwards", "(LConstraintHouse$Solver;)V"⟩
def dkwX24_forwards_0 : List UInt8 := [42, 180, 0, 9, 43, 182, 0, 18, 42, 180, 0, 15, 43, 182, 0, 18, 42, 182, 0, 22, 177]
abbrev dktX24_forwards_0 : List UInt8 := dkwX24_forwards_0 ++ []
theorem dksX24_forwards_0 : cX24_forwards.data.toList.drop 0 = dktX24_forwards_0 := by decide +kernel
theorem dX24_forwards_0 : decode cX24_forwards 0 = .ok (.aload_n 0, 1) := dk_42 (dk_at dksX24_forwards_0 0 rfl rfl)
theorem dX24_forwards_1 : decode cX24_forwards 1 = .ok (.getfield 9, 3) := dk_180 0 9 (dk_at dksX24_forwards_0 1 rfl rfl)
theorem dX24_forwards_4 : decode cX24_forwards 4 = .ok (.aload_n 1, 1) := dk_43 (dk_at dksX24_forwards_0 4 rfl rfl)
theorem dX24_forwards_5 : decode cX24_forwards 5 = .ok (.invokevirtual 18, 3) := dk_182 0 18 (dk_at dksX24_forwards_0 5 rfl rfl)
theorem dX24_forwards_8 : decode cX24_forwards 8 = .ok (.aload_n 0, 1) := dk_42 (dk_at dksX24_forwards_0 8 rfl rfl)
theorem dX24_forwards_9 : decode cX24_forwards 9 = .ok (.getfield 15, 3) := dk_180 0 15 (dk_at dksX24_forwards_0 9 rfl rfl)
theorem dX24_forwards_12 : decode cX24_forwards 12 = .ok (.aload_n 1, 1) := dk_43 (dk_at dksX24_forwards_0 12 rfl rfl)
theorem dX24_forwards_13 : decode cX24_forwards 13 = .ok (.invokevirtual 18, 3) := dk_182 0 18 (dk_at dksX24_forwards_0 13 rfl rfl)
theorem dX24_forwards_16 : decode cX24_forwards 16 = .ok (.aload_n 0, 1) := dk_42 (dk_at dksX24_forwards_0 16 rfl rfl)
theorem dX24_forwards_17 : decode cX24_forwards 17 = .ok (.invokevirtual 22, 3) := dk_182 0 22 (dk_at dksX24_forwards_0 17 rfl rfl)
theorem dX24_forwards_20 : decode cX24_forwards 20 = .ok (.return_, 1) := dk_177 (dk_at dksX24_forwards_0 20 rfl rfl)
abbrev cX24_hull : ByteArray := prog_24_method_7_code
def yX24_hull : MethodName := ⟨RX24, "hull", "(DDDD)V"⟩
def dkwX24_hull_1 : List UInt8 := [24, 5, 24, 7, 184, 0, 50, 184, 0, 50, 184, 0, 53, 182, 0, 56, 177]
abbrev dktX24_hull_1 : List UInt8 := dkwX24_hull_1 ++ []
def dkwX24_hull_0 : List UInt8 := [42, 39, 41, 184, 0, 38, 24, 5, 24, 7, 184, 0, 38, 184, 0, 38, 184, 0, 44, 39, 41, 184, 0, 50]
abbrev dktX24_hull_0 : List UInt8 := dkwX24_hull_0 ++ dktX24_hull_1
theorem dksX24_hull_0 : cX24_hull.data.toList.drop 0 = dktX24_hull_0 := by decide +kernel
theorem dksX24_hull_1 : cX24_hull.data.toList.drop 24 = dktX24_hull_1 := dk_seg dksX24_hull_0 24 rfl rfl
theorem dX24_hull_0 : decode cX24_hull 0 = .ok (.aload_n 0, 1) := dk_42 (dk_at dksX24_hull_0 0 rfl rfl)
theorem dX24_hull_1 : decode cX24_hull 1 = .ok (.dload_n 1, 1) := dk_39 (dk_at dksX24_hull_0 1 rfl rfl)
theorem dX24_hull_2 : decode cX24_hull 2 = .ok (.dload_n 3, 1) := dk_41 (dk_at dksX24_hull_0 2 rfl rfl)
theorem dX24_hull_3 : decode cX24_hull 3 = .ok (.invokestatic 38, 3) := dk_184 0 38 (dk_at dksX24_hull_0 3 rfl rfl)
theorem dX24_hull_6 : decode cX24_hull 6 = .ok (.dload 5, 2) := dk_24 5 (dk_at dksX24_hull_0 6 rfl rfl)
theorem dX24_hull_8 : decode cX24_hull 8 = .ok (.dload 7, 2) := dk_24 7 (dk_at dksX24_hull_0 8 rfl rfl)
theorem dX24_hull_10 : decode cX24_hull 10 = .ok (.invokestatic 38, 3) := dk_184 0 38 (dk_at dksX24_hull_0 10 rfl rfl)
theorem dX24_hull_13 : decode cX24_hull 13 = .ok (.invokestatic 38, 3) := dk_184 0 38 (dk_at dksX24_hull_0 13 rfl rfl)
theorem dX24_hull_16 : decode cX24_hull 16 = .ok (.invokestatic 44, 3) := dk_184 0 44 (dk_at dksX24_hull_0 16 rfl rfl)
theorem dX24_hull_19 : decode cX24_hull 19 = .ok (.dload_n 1, 1) := dk_39 (dk_at dksX24_hull_0 19 rfl rfl)
theorem dX24_hull_20 : decode cX24_hull 20 = .ok (.dload_n 3, 1) := dk_41 (dk_at dksX24_hull_0 20 rfl rfl)
theorem dX24_hull_21 : decode cX24_hull 21 = .ok (.invokestatic 50, 3) := dk_184 0 50 (dk_at dksX24_hull_0 21 rfl rfl)
theorem dX24_hull_24 : decode cX24_hull 24 = .ok (.dload 5, 2) := dk_24 5 (dk_at dksX24_hull_1 0 rfl rfl)
theorem dX24_hull_26 : decode cX24_hull 26 = .ok (.dload 7, 2) := dk_24 7 (dk_at dksX24_hull_1 2 rfl rfl)
theorem dX24_hull_28 : decode cX24_hull 28 = .ok (.invokestatic 50, 3) := dk_184 0 50 (dk_at dksX24_hull_1 4 rfl rfl)
theorem dX24_hull_31 : decode cX24_hull 31 = .ok (.invokestatic 50, 3) := dk_184 0 50 (dk_at dksX24_hull_1 7 rfl rfl)
theorem dX24_hull_34 : decode cX24_hull 34 = .ok (.invokestatic 53, 3) := dk_184 0 53 (dk_at dksX24_hull_1 10 rfl rfl)
theorem dX24_hull_37 : decode cX24_hull 37 = .ok (.invokevirtual 56, 3) := dk_182 0 56 (dk_at dksX24_hull_1 13 rfl rfl)
theorem dX24_hull_40 : decode cX24_hull 40 = .ok (.return_, 1) := dk_177 (dk_at dksX24_hull_1 16 rfl rfl)
abbrev cX24_enter : ByteArray := prog_24_method_6_code
def yX24_enter : MethodName := ⟨RX24, "enter", "(LConstraintHouse$Solver;)V"⟩
def dkwX24_enter_1 : List UInt8 := [180, 0, 9, 43, 182, 0, 35, 42, 180, 0, 15, 43, 182, 0, 35, 177]
abbrev dktX24_enter_1 : List UInt8 := dkwX24_enter_1 ++ []
def dkwX24_enter_0 : List UInt8 := [43, 180, 0, 25, 18, 31, 162, 0, 13, 43, 89, 180, 0, 25, 4, 96, 181, 0, 25, 42, 182, 0, 32, 42]
abbrev dktX24_enter_0 : List UInt8 := dkwX24_enter_0 ++ dktX24_enter_1
theorem dksX24_enter_0 : cX24_enter.data.toList.drop 0 = dktX24_enter_0 := by decide +kernel
theorem dksX24_enter_1 : cX24_enter.data.toList.drop 24 = dktX24_enter_1 := dk_seg dksX24_enter_0 24 rfl rfl
theorem dX24_enter_0 : decode cX24_enter 0 = .ok (.aload_n 1, 1) := dk_43 (dk_at dksX24_enter_0 0 rfl rfl)
theorem dX24_enter_1 : decode cX24_enter 1 = .ok (.getfield 25, 3) := dk_180 0 25 (dk_at dksX24_enter_0 1 rfl rfl)
theorem dX24_enter_4 : decode cX24_enter 4 = .ok (.ldc 31, 2) := dk_18 31 (dk_at dksX24_enter_0 4 rfl rfl)
theorem dX24_enter_6 : decode cX24_enter 6 = .ok (.if_icmp .ge 13, 3) := dk_162 0 13 (dk_at dksX24_enter_0 6 rfl rfl)
theorem dX24_enter_9 : decode cX24_enter 9 = .ok (.aload_n 1, 1) := dk_43 (dk_at dksX24_enter_0 9 rfl rfl)
theorem dX24_enter_10 : decode cX24_enter 10 = .ok (.dup, 1) := dk_89 (dk_at dksX24_enter_0 10 rfl rfl)
theorem dX24_enter_11 : decode cX24_enter 11 = .ok (.getfield 25, 3) := dk_180 0 25 (dk_at dksX24_enter_0 11 rfl rfl)
theorem dX24_enter_14 : decode cX24_enter 14 = .ok (.iconst 1, 1) := dk_4 (dk_at dksX24_enter_0 14 rfl rfl)
theorem dX24_enter_15 : decode cX24_enter 15 = .ok (.iadd, 1) := dk_96 (dk_at dksX24_enter_0 15 rfl rfl)
theorem dX24_enter_16 : decode cX24_enter 16 = .ok (.putfield 25, 3) := dk_181 0 25 (dk_at dksX24_enter_0 16 rfl rfl)
theorem dX24_enter_19 : decode cX24_enter 19 = .ok (.aload_n 0, 1) := dk_42 (dk_at dksX24_enter_0 19 rfl rfl)
theorem dX24_enter_20 : decode cX24_enter 20 = .ok (.invokevirtual 32, 3) := dk_182 0 32 (dk_at dksX24_enter_0 20 rfl rfl)
theorem dX24_enter_23 : decode cX24_enter 23 = .ok (.aload_n 0, 1) := dk_42 (dk_at dksX24_enter_0 23 rfl rfl)
theorem dX24_enter_24 : decode cX24_enter 24 = .ok (.getfield 9, 3) := dk_180 0 9 (dk_at dksX24_enter_1 0 rfl rfl)
theorem dX24_enter_27 : decode cX24_enter 27 = .ok (.aload_n 1, 1) := dk_43 (dk_at dksX24_enter_1 3 rfl rfl)
theorem dX24_enter_28 : decode cX24_enter 28 = .ok (.invokevirtual 35, 3) := dk_182 0 35 (dk_at dksX24_enter_1 4 rfl rfl)
theorem dX24_enter_31 : decode cX24_enter 31 = .ok (.aload_n 0, 1) := dk_42 (dk_at dksX24_enter_1 7 rfl rfl)
theorem dX24_enter_32 : decode cX24_enter 32 = .ok (.getfield 15, 3) := dk_180 0 15 (dk_at dksX24_enter_1 8 rfl rfl)
theorem dX24_enter_35 : decode cX24_enter 35 = .ok (.aload_n 1, 1) := dk_43 (dk_at dksX24_enter_1 11 rfl rfl)
theorem dX24_enter_36 : decode cX24_enter 36 = .ok (.invokevirtual 35, 3) := dk_182 0 35 (dk_at dksX24_enter_1 12 rfl rfl)
theorem dX24_enter_39 : decode cX24_enter 39 = .ok (.return_, 1) := dk_177 (dk_at dksX24_enter_1 15 rfl rfl)
theorem q295 : (Jvm.Cond.initialized "ConstraintHouse$Pair") ∈ lw_all := lw_g (lw_at lw_m1 35 rfl) rfl
theorem q478 : (Jvm.Cond.fieldLink "ConstraintHouse$Pair" (25 : Nat) "ConstraintHouse$Solver" "entered" "I") ∈ lw_all := lw_g (lw_at lw_m1 218 rfl) rfl
theorem q1543 : (Jvm.Cond.instanceMethod ({ cls := "ConstraintHouse$Pair", name := "sort", desc := "()I" } : Jvm.MethodName)) ∈ lw_all := lw_g (lw_at lw_m6 83 rfl) rfl
theorem q1544 : (Jvm.Cond.code ({ cls := "ConstraintHouse$Pair", name := "sort", desc := "()I" } : Jvm.MethodName) prog_24_method_2_code (1 : Nat) (Option.some Jvm.ClassFile.FieldType.int)) ∈ lw_all := lw_g (lw_at lw_m6 84 rfl) rfl
theorem q1677 : (Jvm.Cond.instanceMethod ({ cls := "ConstraintHouse$Pair", name := "<init>", desc := "(LConstraintHouse$Part;LConstraintHouse$Part;)V" } : Jvm.MethodName)) ∈ lw_all := lw_g (lw_at lw_m6 217 rfl) rfl
theorem q1678 : (Jvm.Cond.code ({ cls := "ConstraintHouse$Pair", name := "<init>", desc := "(LConstraintHouse$Part;LConstraintHouse$Part;)V" } : Jvm.MethodName) prog_24_method_1_code (3 : Nat) (Option.none : Option Jvm.ClassFile.FieldType)) ∈ lw_all := lw_g (lw_at lw_m6 218 rfl) rfl
theorem q1679 : (Jvm.Cond.methodLinkNest "ConstraintHouse$Pair" (3 : Nat) ({ cls := "ConstraintHouse$Part", name := "<init>", desc := "()V" } : Jvm.MethodName) "ConstraintHouse") ∈ lw_tbl := lw_at lw_m6 219 rfl
theorem q1680 : (Jvm.Cond.fieldLink "ConstraintHouse$Pair" (9 : Nat) "ConstraintHouse$Pair" "x" "LConstraintHouse$Part;") ∈ lw_all := lw_g (lw_at lw_m6 220 rfl) rfl
theorem q1691 : (Jvm.Cond.fieldLink "ConstraintHouse$Pair" (15 : Nat) "ConstraintHouse$Pair" "y" "LConstraintHouse$Part;") ∈ lw_all := lw_g (lw_at lw_m6 231 rfl) rfl
theorem q1703 : (Jvm.Cond.soleField "ConstraintHouse$Pair" "x") ∈ lw_all := lw_g (lw_at lw_m7 3 rfl) rfl
theorem q1705 : (Jvm.Cond.soleField "ConstraintHouse$Pair" "y") ∈ lw_all := lw_g (lw_at lw_m7 5 rfl) rfl
theorem q2500 : (Jvm.Cond.instanceMethod ({ cls := "ConstraintHouse$Pair", name := "forwards", desc := "(LConstraintHouse$Solver;)V" } : Jvm.MethodName)) ∈ lw_all := lw_g (lw_at lw_m10 80 rfl) rfl
theorem q2501 : (Jvm.Cond.code ({ cls := "ConstraintHouse$Pair", name := "forwards", desc := "(LConstraintHouse$Solver;)V" } : Jvm.MethodName) prog_24_method_5_code (2 : Nat) (Option.none : Option Jvm.ClassFile.FieldType)) ∈ lw_all := lw_g (lw_at lw_m10 81 rfl) rfl
theorem q2678 : (Jvm.Cond.methodLink "ConstraintHouse$Pair" (22 : Nat) ({ cls := "ConstraintHouse$Pair", name := "reckon", desc := "()V" } : Jvm.MethodName)) ∈ lw_all := lw_g (lw_at lw_m11 18 rfl) rfl
theorem q2679 : (Jvm.Cond.declares ({ cls := "ConstraintHouse$Pair", name := "reckon", desc := "()V" } : Jvm.MethodName)) ∈ lw_tbl := lw_at lw_m11 19 rfl
theorem q2680 : (Jvm.Cond.sameMethod "ConstraintHouse$Pair" "ConstraintHouse$Pair" "reckon" "()V") ∈ lw_all := lw_g (lw_at lw_m11 20 rfl) rfl
theorem q2713 : (Jvm.Cond.declares ({ cls := "ConstraintHouse$Pair", name := "hull", desc := "(DDDD)V" } : Jvm.MethodName)) ∈ lw_tbl := lw_at lw_m11 53 rfl
theorem q2716 : (Jvm.Cond.instanceMethod ({ cls := "ConstraintHouse$Pair", name := "hull", desc := "(DDDD)V" } : Jvm.MethodName)) ∈ lw_all := lw_g (lw_at lw_m11 56 rfl) rfl
theorem q2717 : (Jvm.Cond.code ({ cls := "ConstraintHouse$Pair", name := "hull", desc := "(DDDD)V" } : Jvm.MethodName) prog_24_method_7_code (9 : Nat) (Option.none : Option Jvm.ClassFile.FieldType)) ∈ lw_all := lw_g (lw_at lw_m11 57 rfl) rfl
theorem q2718 : (Jvm.Cond.methodLink "ConstraintHouse$Pair" (38 : Nat) ({ cls := "java/lang/Math", name := "min", desc := "(DD)D" } : Jvm.MethodName)) ∈ lw_all := lw_g (lw_at lw_m11 58 rfl) rfl
theorem q2719 : (Jvm.Cond.methodLink "ConstraintHouse$Pair" (44 : Nat) ({ cls := "ConstraintHouse$Bounds", name := "low", desc := "(D)D" } : Jvm.MethodName)) ∈ lw_all := lw_g (lw_at lw_m11 59 rfl) rfl
theorem q2720 : (Jvm.Cond.methodLink "ConstraintHouse$Pair" (50 : Nat) ({ cls := "java/lang/Math", name := "max", desc := "(DD)D" } : Jvm.MethodName)) ∈ lw_all := lw_g (lw_at lw_m11 60 rfl) rfl
theorem q2721 : (Jvm.Cond.methodLink "ConstraintHouse$Pair" (53 : Nat) ({ cls := "ConstraintHouse$Bounds", name := "high", desc := "(D)D" } : Jvm.MethodName)) ∈ lw_all := lw_g (lw_at lw_m11 61 rfl) rfl
theorem q2722 : (Jvm.Cond.methodLink "ConstraintHouse$Pair" (56 : Nat) ({ cls := "ConstraintHouse$Pair", name := "be", desc := "(DD)V" } : Jvm.MethodName)) ∈ lw_all := lw_g (lw_at lw_m11 62 rfl) rfl
theorem q2723 : (Jvm.Cond.sameMethod "ConstraintHouse$Pair" "ConstraintHouse$Part" "be" "(DD)V") ∈ lw_all := lw_g (lw_at lw_m11 63 rfl) rfl
theorem q3087 : (Jvm.Cond.instanceMethod ({ cls := "ConstraintHouse$Pair", name := "enter", desc := "(LConstraintHouse$Solver;)V" } : Jvm.MethodName)) ∈ lw_all := lw_g (lw_at lw_m12 187 rfl) rfl
theorem q3088 : (Jvm.Cond.code ({ cls := "ConstraintHouse$Pair", name := "enter", desc := "(LConstraintHouse$Solver;)V" } : Jvm.MethodName) prog_24_method_6_code (2 : Nat) (Option.none : Option Jvm.ClassFile.FieldType)) ∈ lw_all := lw_g (lw_at lw_m12 188 rfl) rfl
theorem q3089 : (Jvm.Cond.constant "ConstraintHouse$Pair" (31 : Nat) (2000000000 : Int32)) ∈ lw_all := lw_g (lw_at lw_m12 189 rfl) rfl
theorem q3090 : (Jvm.Cond.methodLink "ConstraintHouse$Pair" (32 : Nat) ({ cls := "ConstraintHouse$Pair", name := "hand", desc := "()V" } : Jvm.MethodName)) ∈ lw_all := lw_g (lw_at lw_m12 190 rfl) rfl
theorem q3091 : (Jvm.Cond.declares ({ cls := "ConstraintHouse$Pair", name := "hand", desc := "()V" } : Jvm.MethodName)) ∈ lw_tbl := lw_at lw_m12 191 rfl
theorem q3092 : (Jvm.Cond.sameMethod "ConstraintHouse$Pair" "ConstraintHouse$Pair" "hand" "()V") ∈ lw_all := lw_g (lw_at lw_m12 192 rfl) rfl
theorem q3156 : (Jvm.Cond.methodLink "ConstraintHouse$Pair" (35 : Nat) ({ cls := "ConstraintHouse$Part", name := "enter", desc := "(LConstraintHouse$Solver;)V" } : Jvm.MethodName)) ∈ lw_all := lw_g (lw_at lw_m13 16 rfl) rfl
/-! ConstraintHouse$Sum -/
set_option maxRecDepth 100000
def RX25 : String := "ConstraintHouse$Sum"
def TX25 : u_T := fun k => match k with
  | 0 => ("ConstraintHouse$Pair", "x", "LConstraintHouse$Part;", true)
  | 1 => ("ConstraintHouse$Pair", "y", "LConstraintHouse$Part;", true)
  | 2 => ("ConstraintHouse$Part", "low", "D", false)
  | 3 => ("ConstraintHouse$Part", "high", "D", false)
  | 4 => ("ConstraintHouse$Part", "no", "Z", false)
  | 5 => ("ConstraintHouse$Part", "yes", "Z", false)
  | _ => ("ConstraintHouse$Part", "letters", "I", false)
def tyX25 : Nat → FieldType := fun k => match k with
  | 0 => .object "ConstraintHouse$Part"
  | 1 => .object "ConstraintHouse$Part"
  | 2 => .double
  | 3 => .double
  | 4 => .boolean
  | 5 => .boolean
  | _ => .int
abbrev wsX250 : List Cond := u_ws RX25 TX25 7
theorem nmX25 : ∀ a, a < 7 → ∀ b, b < 7 → a ≠ b → (TX25 a).2.1 ≠ (TX25 b).2.1 := by decide +kernel
theorem tyX25_ok : ∀ k, k < 7 → parseFieldDescriptor (TX25 k).2.2.1 = some (tyX25 k) := by decide +kernel
abbrev cX25_init : ByteArray := prog_40_method_1_code
def yX25_init : MethodName := ⟨RX25, "<init>", "(LConstraintHouse$Part;LConstraintHouse$Part;)V"⟩
def dkwX25_init_0 : List UInt8 := [42, 43, 44, 183, 0, 1, 177]
abbrev dktX25_init_0 : List UInt8 := dkwX25_init_0 ++ []
theorem dksX25_init_0 : cX25_init.data.toList.drop 0 = dktX25_init_0 := by decide +kernel
theorem dX25_init_0 : decode cX25_init 0 = .ok (.aload_n 0, 1) := dk_42 (dk_at dksX25_init_0 0 rfl rfl)
theorem dX25_init_1 : decode cX25_init 1 = .ok (.aload_n 1, 1) := dk_43 (dk_at dksX25_init_0 1 rfl rfl)
theorem dX25_init_2 : decode cX25_init 2 = .ok (.aload_n 2, 1) := dk_44 (dk_at dksX25_init_0 2 rfl rfl)
theorem dX25_init_3 : decode cX25_init 3 = .ok (.invokespecial 1, 3) := dk_183 0 1 (dk_at dksX25_init_0 3 rfl rfl)
theorem dX25_init_6 : decode cX25_init 6 = .ok (.return_, 1) := dk_177 (dk_at dksX25_init_0 6 rfl rfl)
abbrev cX25_reckon : ByteArray := prog_40_method_2_code
def yX25_reckon : MethodName := ⟨RX25, "reckon", "()V"⟩
def dkwX25_reckon_1 : List UInt8 := [180, 0, 27, 42, 180, 0, 19, 180, 0, 27, 99, 184, 0, 30, 182, 0, 32, 177]
abbrev dktX25_reckon_1 : List UInt8 := dkwX25_reckon_1 ++ []
def dkwX25_reckon_0 : List UInt8 := [42, 42, 180, 0, 7, 180, 0, 13, 42, 180, 0, 19, 180, 0, 13, 99, 184, 0, 22, 42, 180, 0, 7]
abbrev dktX25_reckon_0 : List UInt8 := dkwX25_reckon_0 ++ dktX25_reckon_1
theorem dksX25_reckon_0 : cX25_reckon.data.toList.drop 0 = dktX25_reckon_0 := by decide +kernel
theorem dksX25_reckon_1 : cX25_reckon.data.toList.drop 23 = dktX25_reckon_1 := dk_seg dksX25_reckon_0 23 rfl rfl
theorem dX25_reckon_0 : decode cX25_reckon 0 = .ok (.aload_n 0, 1) := dk_42 (dk_at dksX25_reckon_0 0 rfl rfl)
theorem dX25_reckon_1 : decode cX25_reckon 1 = .ok (.aload_n 0, 1) := dk_42 (dk_at dksX25_reckon_0 1 rfl rfl)
theorem dX25_reckon_2 : decode cX25_reckon 2 = .ok (.getfield 7, 3) := dk_180 0 7 (dk_at dksX25_reckon_0 2 rfl rfl)
theorem dX25_reckon_5 : decode cX25_reckon 5 = .ok (.getfield 13, 3) := dk_180 0 13 (dk_at dksX25_reckon_0 5 rfl rfl)
theorem dX25_reckon_8 : decode cX25_reckon 8 = .ok (.aload_n 0, 1) := dk_42 (dk_at dksX25_reckon_0 8 rfl rfl)
theorem dX25_reckon_9 : decode cX25_reckon 9 = .ok (.getfield 19, 3) := dk_180 0 19 (dk_at dksX25_reckon_0 9 rfl rfl)
theorem dX25_reckon_12 : decode cX25_reckon 12 = .ok (.getfield 13, 3) := dk_180 0 13 (dk_at dksX25_reckon_0 12 rfl rfl)
theorem dX25_reckon_15 : decode cX25_reckon 15 = .ok (.dadd, 1) := dk_99 (dk_at dksX25_reckon_0 15 rfl rfl)
theorem dX25_reckon_16 : decode cX25_reckon 16 = .ok (.invokestatic 22, 3) := dk_184 0 22 (dk_at dksX25_reckon_0 16 rfl rfl)
theorem dX25_reckon_19 : decode cX25_reckon 19 = .ok (.aload_n 0, 1) := dk_42 (dk_at dksX25_reckon_0 19 rfl rfl)
theorem dX25_reckon_20 : decode cX25_reckon 20 = .ok (.getfield 7, 3) := dk_180 0 7 (dk_at dksX25_reckon_0 20 rfl rfl)
theorem dX25_reckon_23 : decode cX25_reckon 23 = .ok (.getfield 27, 3) := dk_180 0 27 (dk_at dksX25_reckon_1 0 rfl rfl)
theorem dX25_reckon_26 : decode cX25_reckon 26 = .ok (.aload_n 0, 1) := dk_42 (dk_at dksX25_reckon_1 3 rfl rfl)
theorem dX25_reckon_27 : decode cX25_reckon 27 = .ok (.getfield 19, 3) := dk_180 0 19 (dk_at dksX25_reckon_1 4 rfl rfl)
theorem dX25_reckon_30 : decode cX25_reckon 30 = .ok (.getfield 27, 3) := dk_180 0 27 (dk_at dksX25_reckon_1 7 rfl rfl)
theorem dX25_reckon_33 : decode cX25_reckon 33 = .ok (.dadd, 1) := dk_99 (dk_at dksX25_reckon_1 10 rfl rfl)
theorem dX25_reckon_34 : decode cX25_reckon 34 = .ok (.invokestatic 30, 3) := dk_184 0 30 (dk_at dksX25_reckon_1 11 rfl rfl)
theorem dX25_reckon_37 : decode cX25_reckon 37 = .ok (.invokevirtual 32, 3) := dk_182 0 32 (dk_at dksX25_reckon_1 14 rfl rfl)
theorem dX25_reckon_40 : decode cX25_reckon 40 = .ok (.return_, 1) := dk_177 (dk_at dksX25_reckon_1 17 rfl rfl)
abbrev cX25_share : ByteArray := prog_40_method_3_code
def yX25_share : MethodName := ⟨RX25, "share", "(LConstraintHouse$Part;LConstraintHouse$Part;LConstraintHouse$Part;)V"⟩
def dkwX25_share_1 : List UInt8 := [184, 0, 30, 182, 0, 36, 177]
abbrev dktX25_share_1 : List UInt8 := dkwX25_share_1 ++ []
def dkwX25_share_0 : List UInt8 := [45, 43, 180, 0, 13, 44, 180, 0, 27, 103, 184, 0, 22, 43, 180, 0, 27, 44, 180, 0, 13, 103]
abbrev dktX25_share_0 : List UInt8 := dkwX25_share_0 ++ dktX25_share_1
theorem dksX25_share_0 : cX25_share.data.toList.drop 0 = dktX25_share_0 := by decide +kernel
theorem dksX25_share_1 : cX25_share.data.toList.drop 22 = dktX25_share_1 := dk_seg dksX25_share_0 22 rfl rfl
theorem dX25_share_0 : decode cX25_share 0 = .ok (.aload_n 3, 1) := dk_45 (dk_at dksX25_share_0 0 rfl rfl)
theorem dX25_share_1 : decode cX25_share 1 = .ok (.aload_n 1, 1) := dk_43 (dk_at dksX25_share_0 1 rfl rfl)
theorem dX25_share_2 : decode cX25_share 2 = .ok (.getfield 13, 3) := dk_180 0 13 (dk_at dksX25_share_0 2 rfl rfl)
theorem dX25_share_5 : decode cX25_share 5 = .ok (.aload_n 2, 1) := dk_44 (dk_at dksX25_share_0 5 rfl rfl)
theorem dX25_share_6 : decode cX25_share 6 = .ok (.getfield 27, 3) := dk_180 0 27 (dk_at dksX25_share_0 6 rfl rfl)
theorem dX25_share_9 : decode cX25_share 9 = .ok (.dsub, 1) := dk_103 (dk_at dksX25_share_0 9 rfl rfl)
theorem dX25_share_10 : decode cX25_share 10 = .ok (.invokestatic 22, 3) := dk_184 0 22 (dk_at dksX25_share_0 10 rfl rfl)
theorem dX25_share_13 : decode cX25_share 13 = .ok (.aload_n 1, 1) := dk_43 (dk_at dksX25_share_0 13 rfl rfl)
theorem dX25_share_14 : decode cX25_share 14 = .ok (.getfield 27, 3) := dk_180 0 27 (dk_at dksX25_share_0 14 rfl rfl)
theorem dX25_share_17 : decode cX25_share 17 = .ok (.aload_n 2, 1) := dk_44 (dk_at dksX25_share_0 17 rfl rfl)
theorem dX25_share_18 : decode cX25_share 18 = .ok (.getfield 13, 3) := dk_180 0 13 (dk_at dksX25_share_0 18 rfl rfl)
theorem dX25_share_21 : decode cX25_share 21 = .ok (.dsub, 1) := dk_103 (dk_at dksX25_share_0 21 rfl rfl)
theorem dX25_share_22 : decode cX25_share 22 = .ok (.invokestatic 30, 3) := dk_184 0 30 (dk_at dksX25_share_1 0 rfl rfl)
theorem dX25_share_25 : decode cX25_share 25 = .ok (.invokevirtual 36, 3) := dk_182 0 36 (dk_at dksX25_share_1 3 rfl rfl)
theorem dX25_share_28 : decode cX25_share 28 = .ok (.return_, 1) := dk_177 (dk_at dksX25_share_1 6 rfl rfl)
abbrev cX25_hand : ByteArray := prog_40_method_4_code
def yX25_hand : MethodName := ⟨RX25, "hand", "()V"⟩
def dkwX25_hand_0 : List UInt8 := [42, 76, 43, 42, 42, 180, 0, 7, 42, 180, 0, 19, 185, 0, 39, 4, 0, 177]
abbrev dktX25_hand_0 : List UInt8 := dkwX25_hand_0 ++ []
theorem dksX25_hand_0 : cX25_hand.data.toList.drop 0 = dktX25_hand_0 := by decide +kernel
theorem dX25_hand_0 : decode cX25_hand 0 = .ok (.aload_n 0, 1) := dk_42 (dk_at dksX25_hand_0 0 rfl rfl)
theorem dX25_hand_1 : decode cX25_hand 1 = .ok (.astore_n 1, 1) := dk_76 (dk_at dksX25_hand_0 1 rfl rfl)
theorem dX25_hand_2 : decode cX25_hand 2 = .ok (.aload_n 1, 1) := dk_43 (dk_at dksX25_hand_0 2 rfl rfl)
theorem dX25_hand_3 : decode cX25_hand 3 = .ok (.aload_n 0, 1) := dk_42 (dk_at dksX25_hand_0 3 rfl rfl)
theorem dX25_hand_4 : decode cX25_hand 4 = .ok (.aload_n 0, 1) := dk_42 (dk_at dksX25_hand_0 4 rfl rfl)
theorem dX25_hand_5 : decode cX25_hand 5 = .ok (.getfield 7, 3) := dk_180 0 7 (dk_at dksX25_hand_0 5 rfl rfl)
theorem dX25_hand_8 : decode cX25_hand 8 = .ok (.aload_n 0, 1) := dk_42 (dk_at dksX25_hand_0 8 rfl rfl)
theorem dX25_hand_9 : decode cX25_hand 9 = .ok (.getfield 19, 3) := dk_180 0 19 (dk_at dksX25_hand_0 9 rfl rfl)
theorem dX25_hand_12 : decode cX25_hand 12 = .ok (.invokeinterface 39 4, 5) := by decide +kernel
theorem dX25_hand_17 : decode cX25_hand 17 = .ok (.return_, 1) := dk_177 (dk_at dksX25_hand_0 17 rfl rfl)
theorem q296 : (Jvm.Cond.initialized "ConstraintHouse$Sum") ∈ lw_all := lw_g (lw_at lw_m1 36 rfl) rfl
theorem q1351 : (Jvm.Cond.fieldLink "ConstraintHouse$Sum" (13 : Nat) "ConstraintHouse$Part" "low" "D") ∈ lw_all := lw_g (lw_at lw_m5 131 rfl) rfl
theorem q1393 : (Jvm.Cond.fieldLink "ConstraintHouse$Sum" (27 : Nat) "ConstraintHouse$Part" "high" "D") ∈ lw_all := lw_g (lw_at lw_m5 173 rfl) rfl
theorem q1581 : (Jvm.Cond.selects "ConstraintHouse$Sum" ({ cls := "ConstraintHouse$Part", name := "sort", desc := "()I" } : Jvm.MethodName) ({ cls := "ConstraintHouse$Pair", name := "sort", desc := "()I" } : Jvm.MethodName)) ∈ lw_all := lw_g (lw_at lw_m6 121 rfl) rfl
theorem q1672 : (Jvm.Cond.instantiable "ConstraintHouse$Sum" (7 : Nat)) ∈ lw_all := lw_g (lw_at lw_m6 212 rfl) rfl
theorem q1674 : (Jvm.Cond.instanceMethod ({ cls := "ConstraintHouse$Sum", name := "<init>", desc := "(LConstraintHouse$Part;LConstraintHouse$Part;)V" } : Jvm.MethodName)) ∈ lw_all := lw_g (lw_at lw_m6 214 rfl) rfl
theorem q1675 : (Jvm.Cond.code ({ cls := "ConstraintHouse$Sum", name := "<init>", desc := "(LConstraintHouse$Part;LConstraintHouse$Part;)V" } : Jvm.MethodName) prog_40_method_1_code (3 : Nat) (Option.none : Option Jvm.ClassFile.FieldType)) ∈ lw_all := lw_g (lw_at lw_m6 215 rfl) rfl
theorem q1676 : (Jvm.Cond.methodLink "ConstraintHouse$Sum" (1 : Nat) ({ cls := "ConstraintHouse$Pair", name := "<init>", desc := "(LConstraintHouse$Part;LConstraintHouse$Part;)V" } : Jvm.MethodName)) ∈ lw_all := lw_g (lw_at lw_m6 216 rfl) rfl
theorem q1687 : (Jvm.Cond.fieldLink "ConstraintHouse$Sum" (7 : Nat) "ConstraintHouse$Sum" "x" "LConstraintHouse$Part;") ∈ lw_all := lw_g (lw_at lw_m6 227 rfl) rfl
theorem q1688 : (Jvm.Cond.sameField "ConstraintHouse$Sum" "ConstraintHouse$Pair" "x" "LConstraintHouse$Part;") ∈ lw_all := lw_g (lw_at lw_m6 228 rfl) rfl
theorem q1694 : (Jvm.Cond.fieldLink "ConstraintHouse$Sum" (19 : Nat) "ConstraintHouse$Sum" "y" "LConstraintHouse$Part;") ∈ lw_all := lw_g (lw_at lw_m6 234 rfl) rfl
theorem q1695 : (Jvm.Cond.sameField "ConstraintHouse$Sum" "ConstraintHouse$Pair" "y" "LConstraintHouse$Part;") ∈ lw_all := lw_g (lw_at lw_m6 235 rfl) rfl
theorem q1702 : (Jvm.Cond.laysFinal "ConstraintHouse$Sum" "ConstraintHouse$Pair" "x" "LConstraintHouse$Part;") ∈ lw_all := lw_g (lw_at lw_m7 2 rfl) rfl
theorem q1704 : (Jvm.Cond.laysFinal "ConstraintHouse$Sum" "ConstraintHouse$Pair" "y" "LConstraintHouse$Part;") ∈ lw_all := lw_g (lw_at lw_m7 4 rfl) rfl
theorem q1706 : (Jvm.Cond.lays "ConstraintHouse$Sum" "ConstraintHouse$Part" "low" "D") ∈ lw_all := lw_g (lw_at lw_m7 6 rfl) rfl
theorem q1707 : (Jvm.Cond.lays "ConstraintHouse$Sum" "ConstraintHouse$Part" "high" "D") ∈ lw_all := lw_g (lw_at lw_m7 7 rfl) rfl
theorem q1708 : (Jvm.Cond.lays "ConstraintHouse$Sum" "ConstraintHouse$Part" "no" "Z") ∈ lw_all := lw_g (lw_at lw_m7 8 rfl) rfl
theorem q1709 : (Jvm.Cond.lays "ConstraintHouse$Sum" "ConstraintHouse$Part" "yes" "Z") ∈ lw_all := lw_g (lw_at lw_m7 9 rfl) rfl
theorem q1710 : (Jvm.Cond.lays "ConstraintHouse$Sum" "ConstraintHouse$Part" "letters" "I") ∈ lw_all := lw_g (lw_at lw_m7 10 rfl) rfl
theorem q1711 : (Jvm.Cond.superclass "ConstraintHouse$Sum" "ConstraintHouse$Pair") ∈ lw_all := lw_g (lw_at lw_m7 11 rfl) rfl
theorem q2543 : (Jvm.Cond.selects "ConstraintHouse$Sum" ({ cls := "ConstraintHouse$Narrows", name := "forwards", desc := "(LConstraintHouse$Solver;)V" } : Jvm.MethodName) ({ cls := "ConstraintHouse$Pair", name := "forwards", desc := "(LConstraintHouse$Solver;)V" } : Jvm.MethodName)) ∈ lw_all := lw_g (lw_at lw_m10 123 rfl) rfl
theorem q2728 : (Jvm.Cond.selects "ConstraintHouse$Sum" ({ cls := "ConstraintHouse$Pair", name := "be", desc := "(DD)V" } : Jvm.MethodName) ({ cls := "ConstraintHouse$Part", name := "be", desc := "(DD)V" } : Jvm.MethodName)) ∈ lw_all := lw_g (lw_at lw_m11 68 rfl) rfl
theorem q2762 : (Jvm.Cond.selects "ConstraintHouse$Sum" ({ cls := "ConstraintHouse$Pair", name := "reckon", desc := "()V" } : Jvm.MethodName) ({ cls := "ConstraintHouse$Sum", name := "reckon", desc := "()V" } : Jvm.MethodName)) ∈ lw_all := lw_g (lw_at lw_m11 102 rfl) rfl
theorem q2763 : (Jvm.Cond.instanceMethod ({ cls := "ConstraintHouse$Sum", name := "reckon", desc := "()V" } : Jvm.MethodName)) ∈ lw_all := lw_g (lw_at lw_m11 103 rfl) rfl
theorem q2764 : (Jvm.Cond.code ({ cls := "ConstraintHouse$Sum", name := "reckon", desc := "()V" } : Jvm.MethodName) prog_40_method_2_code (1 : Nat) (Option.none : Option Jvm.ClassFile.FieldType)) ∈ lw_all := lw_g (lw_at lw_m11 104 rfl) rfl
theorem q2765 : (Jvm.Cond.methodLink "ConstraintHouse$Sum" (22 : Nat) ({ cls := "ConstraintHouse$Bounds", name := "low", desc := "(D)D" } : Jvm.MethodName)) ∈ lw_all := lw_g (lw_at lw_m11 105 rfl) rfl
theorem q2766 : (Jvm.Cond.methodLink "ConstraintHouse$Sum" (30 : Nat) ({ cls := "ConstraintHouse$Bounds", name := "high", desc := "(D)D" } : Jvm.MethodName)) ∈ lw_all := lw_g (lw_at lw_m11 106 rfl) rfl
theorem q2767 : (Jvm.Cond.methodLink "ConstraintHouse$Sum" (32 : Nat) ({ cls := "ConstraintHouse$Sum", name := "be", desc := "(DD)V" } : Jvm.MethodName)) ∈ lw_all := lw_g (lw_at lw_m11 107 rfl) rfl
theorem q2768 : (Jvm.Cond.sameMethod "ConstraintHouse$Sum" "ConstraintHouse$Part" "be" "(DD)V") ∈ lw_all := lw_g (lw_at lw_m11 108 rfl) rfl
theorem q2769 : (Jvm.Cond.selects "ConstraintHouse$Sum" ({ cls := "ConstraintHouse$Sum", name := "be", desc := "(DD)V" } : Jvm.MethodName) ({ cls := "ConstraintHouse$Part", name := "be", desc := "(DD)V" } : Jvm.MethodName)) ∈ lw_all := lw_g (lw_at lw_m11 109 rfl) rfl
theorem q2831 : (Jvm.Cond.selects "ConstraintHouse$Sum" ({ cls := "ConstraintHouse$Part", name := "hasMeet", desc := "(LConstraintHouse$Part;)Z" } : Jvm.MethodName) ({ cls := "ConstraintHouse$Part", name := "hasMeet", desc := "(LConstraintHouse$Part;)Z" } : Jvm.MethodName)) ∈ lw_all := lw_g (lw_at lw_m11 171 rfl) rfl
theorem q2882 : (Jvm.Cond.selects "ConstraintHouse$Sum" ({ cls := "ConstraintHouse$Part", name := "meets", desc := "(ZZ)V" } : Jvm.MethodName) ({ cls := "ConstraintHouse$Part", name := "meets", desc := "(ZZ)V" } : Jvm.MethodName)) ∈ lw_all := lw_g (lw_at lw_m11 222 rfl) rfl
theorem q2918 : (Jvm.Cond.selects "ConstraintHouse$Sum" ({ cls := "ConstraintHouse$Part", name := "meets", desc := "(LConstraintHouse$Part;)V" } : Jvm.MethodName) ({ cls := "ConstraintHouse$Part", name := "meets", desc := "(LConstraintHouse$Part;)V" } : Jvm.MethodName)) ∈ lw_all := lw_g (lw_at lw_m12 18 rfl) rfl
theorem q2940 : (Jvm.Cond.selects "ConstraintHouse$Sum" ({ cls := "ConstraintHouse$Part", name := "meet", desc := "(DD)V" } : Jvm.MethodName) ({ cls := "ConstraintHouse$Part", name := "meet", desc := "(DD)V" } : Jvm.MethodName)) ∈ lw_all := lw_g (lw_at lw_m12 40 rfl) rfl
theorem q2963 : (Jvm.Cond.selects "ConstraintHouse$Sum" ({ cls := "ConstraintHouse$Part", name := "meets", desc := "(I)V" } : Jvm.MethodName) ({ cls := "ConstraintHouse$Part", name := "meets", desc := "(I)V" } : Jvm.MethodName)) ∈ lw_all := lw_g (lw_at lw_m12 63 rfl) rfl
theorem q2997 : (Jvm.Cond.selects "ConstraintHouse$Sum" ({ cls := "ConstraintHouse$Part", name := "lose", desc := "(D)V" } : Jvm.MethodName) ({ cls := "ConstraintHouse$Part", name := "lose", desc := "(D)V" } : Jvm.MethodName)) ∈ lw_all := lw_g (lw_at lw_m12 97 rfl) rfl
theorem q3070 : (Jvm.Cond.selects "ConstraintHouse$Sum" ({ cls := "ConstraintHouse$Part", name := "lose", desc := "([I)V" } : Jvm.MethodName) ({ cls := "ConstraintHouse$Part", name := "lose", desc := "([I)V" } : Jvm.MethodName)) ∈ lw_all := lw_g (lw_at lw_m12 170 rfl) rfl
theorem q3134 : (Jvm.Cond.castable "ConstraintHouse$Sum" "ConstraintHouse$Turns") ∈ lw_tbl := lw_at lw_m12 234 rfl
theorem q3135 : (Jvm.Cond.selects "ConstraintHouse$Sum" ({ cls := "ConstraintHouse$Turns", name := "share", desc := "(LConstraintHouse$Part;LConstraintHouse$Part;LConstraintHouse$Part;)V" } : Jvm.MethodName) ({ cls := "ConstraintHouse$Sum", name := "share", desc := "(LConstraintHouse$Part;LConstraintHouse$Part;LConstraintHouse$Part;)V" } : Jvm.MethodName)) ∈ lw_all := lw_g (lw_at lw_m12 235 rfl) rfl
theorem q3136 : (Jvm.Cond.unhidden "ConstraintHouse$Sum" "share" "(LConstraintHouse$Part;LConstraintHouse$Part;LConstraintHouse$Part;)V") ∈ lw_tbl := lw_at lw_m12 236 rfl
theorem q3137 : (Jvm.Cond.instanceMethod ({ cls := "ConstraintHouse$Sum", name := "share", desc := "(LConstraintHouse$Part;LConstraintHouse$Part;LConstraintHouse$Part;)V" } : Jvm.MethodName)) ∈ lw_all := lw_g (lw_at lw_m12 237 rfl) rfl
theorem q3138 : (Jvm.Cond.publicMethod ({ cls := "ConstraintHouse$Sum", name := "share", desc := "(LConstraintHouse$Part;LConstraintHouse$Part;LConstraintHouse$Part;)V" } : Jvm.MethodName)) ∈ lw_tbl := lw_at lw_m12 238 rfl
theorem q3139 : (Jvm.Cond.code ({ cls := "ConstraintHouse$Sum", name := "share", desc := "(LConstraintHouse$Part;LConstraintHouse$Part;LConstraintHouse$Part;)V" } : Jvm.MethodName) prog_40_method_3_code (4 : Nat) (Option.none : Option Jvm.ClassFile.FieldType)) ∈ lw_all := lw_g (lw_at lw_m12 239 rfl) rfl
theorem q3140 : (Jvm.Cond.methodLink "ConstraintHouse$Sum" (36 : Nat) ({ cls := "ConstraintHouse$Part", name := "meet", desc := "(DD)V" } : Jvm.MethodName)) ∈ lw_all := lw_g (lw_at lw_m13 0 rfl) rfl
theorem q3141 : (Jvm.Cond.unhidden "ConstraintHouse$Sum" "shares" "(LConstraintHouse$Part;LConstraintHouse$Part;LConstraintHouse$Part;)V") ∈ lw_tbl := lw_at lw_m13 1 rfl
theorem q3151 : (Jvm.Cond.selects "ConstraintHouse$Sum" ({ cls := "ConstraintHouse$Pair", name := "hand", desc := "()V" } : Jvm.MethodName) ({ cls := "ConstraintHouse$Sum", name := "hand", desc := "()V" } : Jvm.MethodName)) ∈ lw_all := lw_g (lw_at lw_m13 11 rfl) rfl
theorem q3152 : (Jvm.Cond.instanceMethod ({ cls := "ConstraintHouse$Sum", name := "hand", desc := "()V" } : Jvm.MethodName)) ∈ lw_all := lw_g (lw_at lw_m13 12 rfl) rfl
theorem q3153 : (Jvm.Cond.code ({ cls := "ConstraintHouse$Sum", name := "hand", desc := "()V" } : Jvm.MethodName) prog_40_method_4_code (2 : Nat) (Option.none : Option Jvm.ClassFile.FieldType)) ∈ lw_all := lw_g (lw_at lw_m13 13 rfl) rfl
theorem q3154 : (Jvm.Cond.interfaceEntry "ConstraintHouse$Sum" (39 : Nat)) ∈ lw_tbl := lw_at lw_m13 14 rfl
theorem q3155 : (Jvm.Cond.methodLink "ConstraintHouse$Sum" (39 : Nat) ({ cls := "ConstraintHouse$Turns", name := "shares", desc := "(LConstraintHouse$Part;LConstraintHouse$Part;LConstraintHouse$Part;)V" } : Jvm.MethodName)) ∈ lw_all := lw_g (lw_at lw_m13 15 rfl) rfl
theorem q3259 : (Jvm.Cond.selects "ConstraintHouse$Sum" ({ cls := "ConstraintHouse$Part", name := "backwards", desc := "(LConstraintHouse$Solver;)V" } : Jvm.MethodName) ({ cls := "ConstraintHouse$Part", name := "backwards", desc := "(LConstraintHouse$Solver;)V" } : Jvm.MethodName)) ∈ lw_all := lw_g (lw_at lw_m13 119 rfl) rfl
theorem q3277 : (Jvm.Cond.selects "ConstraintHouse$Sum" ({ cls := "ConstraintHouse$Part", name := "enter", desc := "(LConstraintHouse$Solver;)V" } : Jvm.MethodName) ({ cls := "ConstraintHouse$Pair", name := "enter", desc := "(LConstraintHouse$Solver;)V" } : Jvm.MethodName)) ∈ lw_all := lw_g (lw_at lw_m13 137 rfl) rfl
theorem q4832 : (Jvm.Cond.castable "ConstraintHouse$Sum" "java/lang/Object") ∈ lw_tbl := lw_at lw_m20 12 rfl
theorem q4867 : (Jvm.Cond.castable "ConstraintHouse$Sum" "ConstraintHouse$Part") ∈ lw_tbl := lw_at lw_m20 47 rfl
theorem in_X25 : ∀ w ∈ wsX250, w ∈ lw_all := lw_in wsX250 [1702, 1704, 1706, 1707, 1708, 1709, 1710] (by decide +kernel) (by decide +kernel)
/-! ConstraintHouse$Difference -/
set_option maxRecDepth 100000
def RX26 : String := "ConstraintHouse$Difference"
def TX26 : u_T := fun k => match k with
  | 0 => ("ConstraintHouse$Pair", "x", "LConstraintHouse$Part;", true)
  | 1 => ("ConstraintHouse$Pair", "y", "LConstraintHouse$Part;", true)
  | 2 => ("ConstraintHouse$Part", "low", "D", false)
  | 3 => ("ConstraintHouse$Part", "high", "D", false)
  | 4 => ("ConstraintHouse$Part", "no", "Z", false)
  | 5 => ("ConstraintHouse$Part", "yes", "Z", false)
  | _ => ("ConstraintHouse$Part", "letters", "I", false)
def tyX26 : Nat → FieldType := fun k => match k with
  | 0 => .object "ConstraintHouse$Part"
  | 1 => .object "ConstraintHouse$Part"
  | 2 => .double
  | 3 => .double
  | 4 => .boolean
  | 5 => .boolean
  | _ => .int
abbrev wsX260 : List Cond := u_ws RX26 TX26 7
theorem nmX26 : ∀ a, a < 7 → ∀ b, b < 7 → a ≠ b → (TX26 a).2.1 ≠ (TX26 b).2.1 := by decide +kernel
theorem tyX26_ok : ∀ k, k < 7 → parseFieldDescriptor (TX26 k).2.2.1 = some (tyX26 k) := by decide +kernel
abbrev cX26_init : ByteArray := prog_9_method_1_code
def yX26_init : MethodName := ⟨RX26, "<init>", "(LConstraintHouse$Part;LConstraintHouse$Part;)V"⟩
def dkwX26_init_0 : List UInt8 := [42, 43, 44, 183, 0, 1, 177]
abbrev dktX26_init_0 : List UInt8 := dkwX26_init_0 ++ []
theorem dksX26_init_0 : cX26_init.data.toList.drop 0 = dktX26_init_0 := by decide +kernel
theorem dX26_init_0 : decode cX26_init 0 = .ok (.aload_n 0, 1) := dk_42 (dk_at dksX26_init_0 0 rfl rfl)
theorem dX26_init_1 : decode cX26_init 1 = .ok (.aload_n 1, 1) := dk_43 (dk_at dksX26_init_0 1 rfl rfl)
theorem dX26_init_2 : decode cX26_init 2 = .ok (.aload_n 2, 1) := dk_44 (dk_at dksX26_init_0 2 rfl rfl)
theorem dX26_init_3 : decode cX26_init 3 = .ok (.invokespecial 1, 3) := dk_183 0 1 (dk_at dksX26_init_0 3 rfl rfl)
theorem dX26_init_6 : decode cX26_init 6 = .ok (.return_, 1) := dk_177 (dk_at dksX26_init_0 6 rfl rfl)
abbrev cX26_reckon : ByteArray := prog_9_method_2_code
def yX26_reckon : MethodName := ⟨RX26, "reckon", "()V"⟩
def dkwX26_reckon_1 : List UInt8 := [180, 0, 22, 42, 180, 0, 19, 180, 0, 13, 103, 184, 0, 30, 182, 0, 32, 177]
abbrev dktX26_reckon_1 : List UInt8 := dkwX26_reckon_1 ++ []
def dkwX26_reckon_0 : List UInt8 := [42, 42, 180, 0, 7, 180, 0, 13, 42, 180, 0, 19, 180, 0, 22, 103, 184, 0, 25, 42, 180, 0, 7]
abbrev dktX26_reckon_0 : List UInt8 := dkwX26_reckon_0 ++ dktX26_reckon_1
theorem dksX26_reckon_0 : cX26_reckon.data.toList.drop 0 = dktX26_reckon_0 := by decide +kernel
theorem dksX26_reckon_1 : cX26_reckon.data.toList.drop 23 = dktX26_reckon_1 := dk_seg dksX26_reckon_0 23 rfl rfl
theorem dX26_reckon_0 : decode cX26_reckon 0 = .ok (.aload_n 0, 1) := dk_42 (dk_at dksX26_reckon_0 0 rfl rfl)
theorem dX26_reckon_1 : decode cX26_reckon 1 = .ok (.aload_n 0, 1) := dk_42 (dk_at dksX26_reckon_0 1 rfl rfl)
theorem dX26_reckon_2 : decode cX26_reckon 2 = .ok (.getfield 7, 3) := dk_180 0 7 (dk_at dksX26_reckon_0 2 rfl rfl)
theorem dX26_reckon_5 : decode cX26_reckon 5 = .ok (.getfield 13, 3) := dk_180 0 13 (dk_at dksX26_reckon_0 5 rfl rfl)
theorem dX26_reckon_8 : decode cX26_reckon 8 = .ok (.aload_n 0, 1) := dk_42 (dk_at dksX26_reckon_0 8 rfl rfl)
theorem dX26_reckon_9 : decode cX26_reckon 9 = .ok (.getfield 19, 3) := dk_180 0 19 (dk_at dksX26_reckon_0 9 rfl rfl)
theorem dX26_reckon_12 : decode cX26_reckon 12 = .ok (.getfield 22, 3) := dk_180 0 22 (dk_at dksX26_reckon_0 12 rfl rfl)
theorem dX26_reckon_15 : decode cX26_reckon 15 = .ok (.dsub, 1) := dk_103 (dk_at dksX26_reckon_0 15 rfl rfl)
theorem dX26_reckon_16 : decode cX26_reckon 16 = .ok (.invokestatic 25, 3) := dk_184 0 25 (dk_at dksX26_reckon_0 16 rfl rfl)
theorem dX26_reckon_19 : decode cX26_reckon 19 = .ok (.aload_n 0, 1) := dk_42 (dk_at dksX26_reckon_0 19 rfl rfl)
theorem dX26_reckon_20 : decode cX26_reckon 20 = .ok (.getfield 7, 3) := dk_180 0 7 (dk_at dksX26_reckon_0 20 rfl rfl)
theorem dX26_reckon_23 : decode cX26_reckon 23 = .ok (.getfield 22, 3) := dk_180 0 22 (dk_at dksX26_reckon_1 0 rfl rfl)
theorem dX26_reckon_26 : decode cX26_reckon 26 = .ok (.aload_n 0, 1) := dk_42 (dk_at dksX26_reckon_1 3 rfl rfl)
theorem dX26_reckon_27 : decode cX26_reckon 27 = .ok (.getfield 19, 3) := dk_180 0 19 (dk_at dksX26_reckon_1 4 rfl rfl)
theorem dX26_reckon_30 : decode cX26_reckon 30 = .ok (.getfield 13, 3) := dk_180 0 13 (dk_at dksX26_reckon_1 7 rfl rfl)
theorem dX26_reckon_33 : decode cX26_reckon 33 = .ok (.dsub, 1) := dk_103 (dk_at dksX26_reckon_1 10 rfl rfl)
theorem dX26_reckon_34 : decode cX26_reckon 34 = .ok (.invokestatic 30, 3) := dk_184 0 30 (dk_at dksX26_reckon_1 11 rfl rfl)
theorem dX26_reckon_37 : decode cX26_reckon 37 = .ok (.invokevirtual 32, 3) := dk_182 0 32 (dk_at dksX26_reckon_1 14 rfl rfl)
theorem dX26_reckon_40 : decode cX26_reckon 40 = .ok (.return_, 1) := dk_177 (dk_at dksX26_reckon_1 17 rfl rfl)
abbrev cX26_hand : ByteArray := prog_9_method_3_code
def yX26_hand : MethodName := ⟨RX26, "hand", "()V"⟩
def dkwX26_hand_3 : List UInt8 := [182, 0, 38, 177]
abbrev dktX26_hand_3 : List UInt8 := dkwX26_hand_3 ++ []
def dkwX26_hand_2 : List UInt8 := [42, 180, 0, 37, 103, 184, 0, 25, 42, 180, 0, 7, 180, 0, 22, 42, 180, 0, 36, 103, 184, 0, 30]
abbrev dktX26_hand_2 : List UInt8 := dkwX26_hand_2 ++ dktX26_hand_3
def dkwX26_hand_1 : List UInt8 := [180, 0, 19, 180, 0, 22, 99, 184, 0, 30, 182, 0, 38, 42, 180, 0, 19, 42, 180, 0, 7, 180, 0, 13]
abbrev dktX26_hand_1 : List UInt8 := dkwX26_hand_1 ++ dktX26_hand_2
def dkwX26_hand_0 : List UInt8 := [42, 180, 0, 7, 42, 180, 0, 36, 42, 180, 0, 19, 180, 0, 13, 99, 184, 0, 25, 42, 180, 0, 37, 42]
abbrev dktX26_hand_0 : List UInt8 := dkwX26_hand_0 ++ dktX26_hand_1
theorem dksX26_hand_0 : cX26_hand.data.toList.drop 0 = dktX26_hand_0 := by decide +kernel
theorem dksX26_hand_1 : cX26_hand.data.toList.drop 24 = dktX26_hand_1 := dk_seg dksX26_hand_0 24 rfl rfl
theorem dksX26_hand_2 : cX26_hand.data.toList.drop 48 = dktX26_hand_2 := dk_seg dksX26_hand_1 24 rfl rfl
theorem dksX26_hand_3 : cX26_hand.data.toList.drop 71 = dktX26_hand_3 := dk_seg dksX26_hand_2 23 rfl rfl
theorem dX26_hand_0 : decode cX26_hand 0 = .ok (.aload_n 0, 1) := dk_42 (dk_at dksX26_hand_0 0 rfl rfl)
theorem dX26_hand_1 : decode cX26_hand 1 = .ok (.getfield 7, 3) := dk_180 0 7 (dk_at dksX26_hand_0 1 rfl rfl)
theorem dX26_hand_4 : decode cX26_hand 4 = .ok (.aload_n 0, 1) := dk_42 (dk_at dksX26_hand_0 4 rfl rfl)
theorem dX26_hand_5 : decode cX26_hand 5 = .ok (.getfield 36, 3) := dk_180 0 36 (dk_at dksX26_hand_0 5 rfl rfl)
theorem dX26_hand_8 : decode cX26_hand 8 = .ok (.aload_n 0, 1) := dk_42 (dk_at dksX26_hand_0 8 rfl rfl)
theorem dX26_hand_9 : decode cX26_hand 9 = .ok (.getfield 19, 3) := dk_180 0 19 (dk_at dksX26_hand_0 9 rfl rfl)
theorem dX26_hand_12 : decode cX26_hand 12 = .ok (.getfield 13, 3) := dk_180 0 13 (dk_at dksX26_hand_0 12 rfl rfl)
theorem dX26_hand_15 : decode cX26_hand 15 = .ok (.dadd, 1) := dk_99 (dk_at dksX26_hand_0 15 rfl rfl)
theorem dX26_hand_16 : decode cX26_hand 16 = .ok (.invokestatic 25, 3) := dk_184 0 25 (dk_at dksX26_hand_0 16 rfl rfl)
theorem dX26_hand_19 : decode cX26_hand 19 = .ok (.aload_n 0, 1) := dk_42 (dk_at dksX26_hand_0 19 rfl rfl)
theorem dX26_hand_20 : decode cX26_hand 20 = .ok (.getfield 37, 3) := dk_180 0 37 (dk_at dksX26_hand_0 20 rfl rfl)
theorem dX26_hand_23 : decode cX26_hand 23 = .ok (.aload_n 0, 1) := dk_42 (dk_at dksX26_hand_0 23 rfl rfl)
theorem dX26_hand_24 : decode cX26_hand 24 = .ok (.getfield 19, 3) := dk_180 0 19 (dk_at dksX26_hand_1 0 rfl rfl)
theorem dX26_hand_27 : decode cX26_hand 27 = .ok (.getfield 22, 3) := dk_180 0 22 (dk_at dksX26_hand_1 3 rfl rfl)
theorem dX26_hand_30 : decode cX26_hand 30 = .ok (.dadd, 1) := dk_99 (dk_at dksX26_hand_1 6 rfl rfl)
theorem dX26_hand_31 : decode cX26_hand 31 = .ok (.invokestatic 30, 3) := dk_184 0 30 (dk_at dksX26_hand_1 7 rfl rfl)
theorem dX26_hand_34 : decode cX26_hand 34 = .ok (.invokevirtual 38, 3) := dk_182 0 38 (dk_at dksX26_hand_1 10 rfl rfl)
theorem dX26_hand_37 : decode cX26_hand 37 = .ok (.aload_n 0, 1) := dk_42 (dk_at dksX26_hand_1 13 rfl rfl)
theorem dX26_hand_38 : decode cX26_hand 38 = .ok (.getfield 19, 3) := dk_180 0 19 (dk_at dksX26_hand_1 14 rfl rfl)
theorem dX26_hand_41 : decode cX26_hand 41 = .ok (.aload_n 0, 1) := dk_42 (dk_at dksX26_hand_1 17 rfl rfl)
theorem dX26_hand_42 : decode cX26_hand 42 = .ok (.getfield 7, 3) := dk_180 0 7 (dk_at dksX26_hand_1 18 rfl rfl)
theorem dX26_hand_45 : decode cX26_hand 45 = .ok (.getfield 13, 3) := dk_180 0 13 (dk_at dksX26_hand_1 21 rfl rfl)
theorem dX26_hand_48 : decode cX26_hand 48 = .ok (.aload_n 0, 1) := dk_42 (dk_at dksX26_hand_2 0 rfl rfl)
theorem dX26_hand_49 : decode cX26_hand 49 = .ok (.getfield 37, 3) := dk_180 0 37 (dk_at dksX26_hand_2 1 rfl rfl)
theorem dX26_hand_52 : decode cX26_hand 52 = .ok (.dsub, 1) := dk_103 (dk_at dksX26_hand_2 4 rfl rfl)
theorem dX26_hand_53 : decode cX26_hand 53 = .ok (.invokestatic 25, 3) := dk_184 0 25 (dk_at dksX26_hand_2 5 rfl rfl)
theorem dX26_hand_56 : decode cX26_hand 56 = .ok (.aload_n 0, 1) := dk_42 (dk_at dksX26_hand_2 8 rfl rfl)
theorem dX26_hand_57 : decode cX26_hand 57 = .ok (.getfield 7, 3) := dk_180 0 7 (dk_at dksX26_hand_2 9 rfl rfl)
theorem dX26_hand_60 : decode cX26_hand 60 = .ok (.getfield 22, 3) := dk_180 0 22 (dk_at dksX26_hand_2 12 rfl rfl)
theorem dX26_hand_63 : decode cX26_hand 63 = .ok (.aload_n 0, 1) := dk_42 (dk_at dksX26_hand_2 15 rfl rfl)
theorem dX26_hand_64 : decode cX26_hand 64 = .ok (.getfield 36, 3) := dk_180 0 36 (dk_at dksX26_hand_2 16 rfl rfl)
theorem dX26_hand_67 : decode cX26_hand 67 = .ok (.dsub, 1) := dk_103 (dk_at dksX26_hand_2 19 rfl rfl)
theorem dX26_hand_68 : decode cX26_hand 68 = .ok (.invokestatic 30, 3) := dk_184 0 30 (dk_at dksX26_hand_2 20 rfl rfl)
theorem dX26_hand_71 : decode cX26_hand 71 = .ok (.invokevirtual 38, 3) := dk_182 0 38 (dk_at dksX26_hand_3 0 rfl rfl)
theorem dX26_hand_74 : decode cX26_hand 74 = .ok (.return_, 1) := dk_177 (dk_at dksX26_hand_3 3 rfl rfl)
theorem q297 : (Jvm.Cond.initialized "ConstraintHouse$Difference") ∈ lw_all := lw_g (lw_at lw_m1 37 rfl) rfl
theorem q1348 : (Jvm.Cond.fieldLink "ConstraintHouse$Difference" (13 : Nat) "ConstraintHouse$Part" "low" "D") ∈ lw_all := lw_g (lw_at lw_m5 128 rfl) rfl
theorem q1363 : (Jvm.Cond.fieldLink "ConstraintHouse$Difference" (36 : Nat) "ConstraintHouse$Difference" "low" "D") ∈ lw_all := lw_g (lw_at lw_m5 143 rfl) rfl
theorem q1364 : (Jvm.Cond.sameField "ConstraintHouse$Difference" "ConstraintHouse$Part" "low" "D") ∈ lw_all := lw_g (lw_at lw_m5 144 rfl) rfl
theorem q1387 : (Jvm.Cond.fieldLink "ConstraintHouse$Difference" (22 : Nat) "ConstraintHouse$Part" "high" "D") ∈ lw_all := lw_g (lw_at lw_m5 167 rfl) rfl
theorem q1405 : (Jvm.Cond.fieldLink "ConstraintHouse$Difference" (37 : Nat) "ConstraintHouse$Difference" "high" "D") ∈ lw_all := lw_g (lw_at lw_m5 185 rfl) rfl
theorem q1406 : (Jvm.Cond.sameField "ConstraintHouse$Difference" "ConstraintHouse$Part" "high" "D") ∈ lw_all := lw_g (lw_at lw_m5 186 rfl) rfl
theorem q1568 : (Jvm.Cond.selects "ConstraintHouse$Difference" ({ cls := "ConstraintHouse$Part", name := "sort", desc := "()I" } : Jvm.MethodName) ({ cls := "ConstraintHouse$Pair", name := "sort", desc := "()I" } : Jvm.MethodName)) ∈ lw_all := lw_g (lw_at lw_m6 108 rfl) rfl
theorem q1681 : (Jvm.Cond.fieldLink "ConstraintHouse$Difference" (7 : Nat) "ConstraintHouse$Difference" "x" "LConstraintHouse$Part;") ∈ lw_all := lw_g (lw_at lw_m6 221 rfl) rfl
theorem q1682 : (Jvm.Cond.sameField "ConstraintHouse$Difference" "ConstraintHouse$Pair" "x" "LConstraintHouse$Part;") ∈ lw_all := lw_g (lw_at lw_m6 222 rfl) rfl
theorem q1692 : (Jvm.Cond.fieldLink "ConstraintHouse$Difference" (19 : Nat) "ConstraintHouse$Difference" "y" "LConstraintHouse$Part;") ∈ lw_all := lw_g (lw_at lw_m6 232 rfl) rfl
theorem q1693 : (Jvm.Cond.sameField "ConstraintHouse$Difference" "ConstraintHouse$Pair" "y" "LConstraintHouse$Part;") ∈ lw_all := lw_g (lw_at lw_m6 233 rfl) rfl
theorem q1713 : (Jvm.Cond.instantiable "ConstraintHouse$Difference" (7 : Nat)) ∈ lw_all := lw_g (lw_at lw_m7 13 rfl) rfl
theorem q1715 : (Jvm.Cond.instanceMethod ({ cls := "ConstraintHouse$Difference", name := "<init>", desc := "(LConstraintHouse$Part;LConstraintHouse$Part;)V" } : Jvm.MethodName)) ∈ lw_all := lw_g (lw_at lw_m7 15 rfl) rfl
theorem q1716 : (Jvm.Cond.code ({ cls := "ConstraintHouse$Difference", name := "<init>", desc := "(LConstraintHouse$Part;LConstraintHouse$Part;)V" } : Jvm.MethodName) prog_9_method_1_code (3 : Nat) (Option.none : Option Jvm.ClassFile.FieldType)) ∈ lw_all := lw_g (lw_at lw_m7 16 rfl) rfl
theorem q1717 : (Jvm.Cond.methodLink "ConstraintHouse$Difference" (1 : Nat) ({ cls := "ConstraintHouse$Pair", name := "<init>", desc := "(LConstraintHouse$Part;LConstraintHouse$Part;)V" } : Jvm.MethodName)) ∈ lw_all := lw_g (lw_at lw_m7 17 rfl) rfl
theorem q1718 : (Jvm.Cond.laysFinal "ConstraintHouse$Difference" "ConstraintHouse$Pair" "x" "LConstraintHouse$Part;") ∈ lw_all := lw_g (lw_at lw_m7 18 rfl) rfl
theorem q1719 : (Jvm.Cond.laysFinal "ConstraintHouse$Difference" "ConstraintHouse$Pair" "y" "LConstraintHouse$Part;") ∈ lw_all := lw_g (lw_at lw_m7 19 rfl) rfl
theorem q1720 : (Jvm.Cond.lays "ConstraintHouse$Difference" "ConstraintHouse$Part" "low" "D") ∈ lw_all := lw_g (lw_at lw_m7 20 rfl) rfl
theorem q1721 : (Jvm.Cond.lays "ConstraintHouse$Difference" "ConstraintHouse$Part" "high" "D") ∈ lw_all := lw_g (lw_at lw_m7 21 rfl) rfl
theorem q1722 : (Jvm.Cond.lays "ConstraintHouse$Difference" "ConstraintHouse$Part" "no" "Z") ∈ lw_all := lw_g (lw_at lw_m7 22 rfl) rfl
theorem q1723 : (Jvm.Cond.lays "ConstraintHouse$Difference" "ConstraintHouse$Part" "yes" "Z") ∈ lw_all := lw_g (lw_at lw_m7 23 rfl) rfl
theorem q1724 : (Jvm.Cond.lays "ConstraintHouse$Difference" "ConstraintHouse$Part" "letters" "I") ∈ lw_all := lw_g (lw_at lw_m7 24 rfl) rfl
theorem q1725 : (Jvm.Cond.superclass "ConstraintHouse$Difference" "ConstraintHouse$Pair") ∈ lw_all := lw_g (lw_at lw_m7 25 rfl) rfl
theorem q2499 : (Jvm.Cond.selects "ConstraintHouse$Difference" ({ cls := "ConstraintHouse$Narrows", name := "forwards", desc := "(LConstraintHouse$Solver;)V" } : Jvm.MethodName) ({ cls := "ConstraintHouse$Pair", name := "forwards", desc := "(LConstraintHouse$Solver;)V" } : Jvm.MethodName)) ∈ lw_all := lw_g (lw_at lw_m10 79 rfl) rfl
theorem q2681 : (Jvm.Cond.selects "ConstraintHouse$Difference" ({ cls := "ConstraintHouse$Pair", name := "reckon", desc := "()V" } : Jvm.MethodName) ({ cls := "ConstraintHouse$Difference", name := "reckon", desc := "()V" } : Jvm.MethodName)) ∈ lw_all := lw_g (lw_at lw_m11 21 rfl) rfl
theorem q2682 : (Jvm.Cond.instanceMethod ({ cls := "ConstraintHouse$Difference", name := "reckon", desc := "()V" } : Jvm.MethodName)) ∈ lw_all := lw_g (lw_at lw_m11 22 rfl) rfl
theorem q2683 : (Jvm.Cond.code ({ cls := "ConstraintHouse$Difference", name := "reckon", desc := "()V" } : Jvm.MethodName) prog_9_method_2_code (1 : Nat) (Option.none : Option Jvm.ClassFile.FieldType)) ∈ lw_all := lw_g (lw_at lw_m11 23 rfl) rfl
theorem q2684 : (Jvm.Cond.methodLink "ConstraintHouse$Difference" (25 : Nat) ({ cls := "ConstraintHouse$Bounds", name := "low", desc := "(D)D" } : Jvm.MethodName)) ∈ lw_all := lw_g (lw_at lw_m11 24 rfl) rfl
theorem q2685 : (Jvm.Cond.methodLink "ConstraintHouse$Difference" (30 : Nat) ({ cls := "ConstraintHouse$Bounds", name := "high", desc := "(D)D" } : Jvm.MethodName)) ∈ lw_all := lw_g (lw_at lw_m11 25 rfl) rfl
theorem q2686 : (Jvm.Cond.methodLink "ConstraintHouse$Difference" (32 : Nat) ({ cls := "ConstraintHouse$Difference", name := "be", desc := "(DD)V" } : Jvm.MethodName)) ∈ lw_all := lw_g (lw_at lw_m11 26 rfl) rfl
theorem q2687 : (Jvm.Cond.sameMethod "ConstraintHouse$Difference" "ConstraintHouse$Part" "be" "(DD)V") ∈ lw_all := lw_g (lw_at lw_m11 27 rfl) rfl
theorem q2688 : (Jvm.Cond.selects "ConstraintHouse$Difference" ({ cls := "ConstraintHouse$Difference", name := "be", desc := "(DD)V" } : Jvm.MethodName) ({ cls := "ConstraintHouse$Part", name := "be", desc := "(DD)V" } : Jvm.MethodName)) ∈ lw_all := lw_g (lw_at lw_m11 28 rfl) rfl
theorem q2724 : (Jvm.Cond.selects "ConstraintHouse$Difference" ({ cls := "ConstraintHouse$Pair", name := "be", desc := "(DD)V" } : Jvm.MethodName) ({ cls := "ConstraintHouse$Part", name := "be", desc := "(DD)V" } : Jvm.MethodName)) ∈ lw_all := lw_g (lw_at lw_m11 64 rfl) rfl
theorem q2818 : (Jvm.Cond.selects "ConstraintHouse$Difference" ({ cls := "ConstraintHouse$Part", name := "hasMeet", desc := "(LConstraintHouse$Part;)Z" } : Jvm.MethodName) ({ cls := "ConstraintHouse$Part", name := "hasMeet", desc := "(LConstraintHouse$Part;)Z" } : Jvm.MethodName)) ∈ lw_all := lw_g (lw_at lw_m11 158 rfl) rfl
theorem q2869 : (Jvm.Cond.selects "ConstraintHouse$Difference" ({ cls := "ConstraintHouse$Part", name := "meets", desc := "(ZZ)V" } : Jvm.MethodName) ({ cls := "ConstraintHouse$Part", name := "meets", desc := "(ZZ)V" } : Jvm.MethodName)) ∈ lw_all := lw_g (lw_at lw_m11 209 rfl) rfl
theorem q2905 : (Jvm.Cond.selects "ConstraintHouse$Difference" ({ cls := "ConstraintHouse$Part", name := "meets", desc := "(LConstraintHouse$Part;)V" } : Jvm.MethodName) ({ cls := "ConstraintHouse$Part", name := "meets", desc := "(LConstraintHouse$Part;)V" } : Jvm.MethodName)) ∈ lw_all := lw_g (lw_at lw_m12 5 rfl) rfl
theorem q2927 : (Jvm.Cond.selects "ConstraintHouse$Difference" ({ cls := "ConstraintHouse$Part", name := "meet", desc := "(DD)V" } : Jvm.MethodName) ({ cls := "ConstraintHouse$Part", name := "meet", desc := "(DD)V" } : Jvm.MethodName)) ∈ lw_all := lw_g (lw_at lw_m12 27 rfl) rfl
theorem q2950 : (Jvm.Cond.selects "ConstraintHouse$Difference" ({ cls := "ConstraintHouse$Part", name := "meets", desc := "(I)V" } : Jvm.MethodName) ({ cls := "ConstraintHouse$Part", name := "meets", desc := "(I)V" } : Jvm.MethodName)) ∈ lw_all := lw_g (lw_at lw_m12 50 rfl) rfl
theorem q2976 : (Jvm.Cond.selects "ConstraintHouse$Difference" ({ cls := "ConstraintHouse$Part", name := "lose", desc := "(D)V" } : Jvm.MethodName) ({ cls := "ConstraintHouse$Part", name := "lose", desc := "(D)V" } : Jvm.MethodName)) ∈ lw_all := lw_g (lw_at lw_m12 76 rfl) rfl
theorem q3048 : (Jvm.Cond.selects "ConstraintHouse$Difference" ({ cls := "ConstraintHouse$Part", name := "lose", desc := "([I)V" } : Jvm.MethodName) ({ cls := "ConstraintHouse$Part", name := "lose", desc := "([I)V" } : Jvm.MethodName)) ∈ lw_all := lw_g (lw_at lw_m12 148 rfl) rfl
theorem q3093 : (Jvm.Cond.selects "ConstraintHouse$Difference" ({ cls := "ConstraintHouse$Pair", name := "hand", desc := "()V" } : Jvm.MethodName) ({ cls := "ConstraintHouse$Difference", name := "hand", desc := "()V" } : Jvm.MethodName)) ∈ lw_all := lw_g (lw_at lw_m12 193 rfl) rfl
theorem q3094 : (Jvm.Cond.instanceMethod ({ cls := "ConstraintHouse$Difference", name := "hand", desc := "()V" } : Jvm.MethodName)) ∈ lw_all := lw_g (lw_at lw_m12 194 rfl) rfl
theorem q3095 : (Jvm.Cond.code ({ cls := "ConstraintHouse$Difference", name := "hand", desc := "()V" } : Jvm.MethodName) prog_9_method_3_code (1 : Nat) (Option.none : Option Jvm.ClassFile.FieldType)) ∈ lw_all := lw_g (lw_at lw_m12 195 rfl) rfl
theorem q3096 : (Jvm.Cond.methodLink "ConstraintHouse$Difference" (38 : Nat) ({ cls := "ConstraintHouse$Part", name := "meet", desc := "(DD)V" } : Jvm.MethodName)) ∈ lw_all := lw_g (lw_at lw_m12 196 rfl) rfl
theorem q3168 : (Jvm.Cond.selects "ConstraintHouse$Difference" ({ cls := "ConstraintHouse$Part", name := "backwards", desc := "(LConstraintHouse$Solver;)V" } : Jvm.MethodName) ({ cls := "ConstraintHouse$Part", name := "backwards", desc := "(LConstraintHouse$Solver;)V" } : Jvm.MethodName)) ∈ lw_all := lw_g (lw_at lw_m13 28 rfl) rfl
theorem q3264 : (Jvm.Cond.selects "ConstraintHouse$Difference" ({ cls := "ConstraintHouse$Part", name := "enter", desc := "(LConstraintHouse$Solver;)V" } : Jvm.MethodName) ({ cls := "ConstraintHouse$Pair", name := "enter", desc := "(LConstraintHouse$Solver;)V" } : Jvm.MethodName)) ∈ lw_all := lw_g (lw_at lw_m13 124 rfl) rfl
theorem q4833 : (Jvm.Cond.castable "ConstraintHouse$Difference" "java/lang/Object") ∈ lw_tbl := lw_at lw_m20 13 rfl
theorem q4868 : (Jvm.Cond.castable "ConstraintHouse$Difference" "ConstraintHouse$Part") ∈ lw_tbl := lw_at lw_m20 48 rfl
theorem in_X26 : ∀ w ∈ wsX260, w ∈ lw_all := lw_in wsX260 [1718, 1719, 1720, 1721, 1722, 1723, 1724] (by decide +kernel) (by decide +kernel)
/-! ConstraintHouse$Scaled -/
set_option maxRecDepth 100000
def RX27 : String := "ConstraintHouse$Scaled"
abbrev cX27_init : ByteArray := prog_33_method_1_code
def yX27_init : MethodName := ⟨RX27, "<init>", "(LConstraintHouse$Part;LConstraintHouse$Part;)V"⟩
def dkwX27_init_0 : List UInt8 := [42, 43, 44, 183, 0, 1, 177]
abbrev dktX27_init_0 : List UInt8 := dkwX27_init_0 ++ []
theorem dksX27_init_0 : cX27_init.data.toList.drop 0 = dktX27_init_0 := by decide +kernel
theorem dX27_init_0 : decode cX27_init 0 = .ok (.aload_n 0, 1) := dk_42 (dk_at dksX27_init_0 0 rfl rfl)
theorem dX27_init_1 : decode cX27_init 1 = .ok (.aload_n 1, 1) := dk_43 (dk_at dksX27_init_0 1 rfl rfl)
theorem dX27_init_2 : decode cX27_init 2 = .ok (.aload_n 2, 1) := dk_44 (dk_at dksX27_init_0 2 rfl rfl)
theorem dX27_init_3 : decode cX27_init 3 = .ok (.invokespecial 1, 3) := dk_183 0 1 (dk_at dksX27_init_0 3 rfl rfl)
theorem dX27_init_6 : decode cX27_init 6 = .ok (.return_, 1) := dk_177 (dk_at dksX27_init_0 6 rfl rfl)
abbrev cX27_times : ByteArray := prog_33_method_2_code
def yX27_times : MethodName := ⟨RX27, "times", "(DDDD)V"⟩
def dkwX27_times_2 : List UInt8 := [182, 0, 26, 177]
abbrev dktX27_times_2 : List UInt8 := dkwX27_times_2 ++ []
def dkwX27_times_1 : List UInt8 := [184, 0, 16, 41, 24, 5, 184, 0, 16, 41, 24, 7, 184, 0, 16, 182, 0, 22, 42, 24, 9, 24, 11]
abbrev dktX27_times_1 : List UInt8 := dkwX27_times_1 ++ dktX27_times_2
def dkwX27_times_0 : List UInt8 := [42, 180, 0, 7, 57, 9, 42, 180, 0, 13, 57, 11, 42, 39, 24, 5, 184, 0, 16, 39, 24, 7]
abbrev dktX27_times_0 : List UInt8 := dkwX27_times_0 ++ dktX27_times_1
theorem dksX27_times_0 : cX27_times.data.toList.drop 0 = dktX27_times_0 := by decide +kernel
theorem dksX27_times_1 : cX27_times.data.toList.drop 22 = dktX27_times_1 := dk_seg dksX27_times_0 22 rfl rfl
theorem dksX27_times_2 : cX27_times.data.toList.drop 45 = dktX27_times_2 := dk_seg dksX27_times_1 23 rfl rfl
theorem dX27_times_0 : decode cX27_times 0 = .ok (.aload_n 0, 1) := dk_42 (dk_at dksX27_times_0 0 rfl rfl)
theorem dX27_times_1 : decode cX27_times 1 = .ok (.getfield 7, 3) := dk_180 0 7 (dk_at dksX27_times_0 1 rfl rfl)
theorem dX27_times_4 : decode cX27_times 4 = .ok (.dstore 9, 2) := dk_57 9 (dk_at dksX27_times_0 4 rfl rfl)
theorem dX27_times_6 : decode cX27_times 6 = .ok (.aload_n 0, 1) := dk_42 (dk_at dksX27_times_0 6 rfl rfl)
theorem dX27_times_7 : decode cX27_times 7 = .ok (.getfield 13, 3) := dk_180 0 13 (dk_at dksX27_times_0 7 rfl rfl)
theorem dX27_times_10 : decode cX27_times 10 = .ok (.dstore 11, 2) := dk_57 11 (dk_at dksX27_times_0 10 rfl rfl)
theorem dX27_times_12 : decode cX27_times 12 = .ok (.aload_n 0, 1) := dk_42 (dk_at dksX27_times_0 12 rfl rfl)
theorem dX27_times_13 : decode cX27_times 13 = .ok (.dload_n 1, 1) := dk_39 (dk_at dksX27_times_0 13 rfl rfl)
theorem dX27_times_14 : decode cX27_times 14 = .ok (.dload 5, 2) := dk_24 5 (dk_at dksX27_times_0 14 rfl rfl)
theorem dX27_times_16 : decode cX27_times 16 = .ok (.invokestatic 16, 3) := dk_184 0 16 (dk_at dksX27_times_0 16 rfl rfl)
theorem dX27_times_19 : decode cX27_times 19 = .ok (.dload_n 1, 1) := dk_39 (dk_at dksX27_times_0 19 rfl rfl)
theorem dX27_times_20 : decode cX27_times 20 = .ok (.dload 7, 2) := dk_24 7 (dk_at dksX27_times_0 20 rfl rfl)
theorem dX27_times_22 : decode cX27_times 22 = .ok (.invokestatic 16, 3) := dk_184 0 16 (dk_at dksX27_times_1 0 rfl rfl)
theorem dX27_times_25 : decode cX27_times 25 = .ok (.dload_n 3, 1) := dk_41 (dk_at dksX27_times_1 3 rfl rfl)
theorem dX27_times_26 : decode cX27_times 26 = .ok (.dload 5, 2) := dk_24 5 (dk_at dksX27_times_1 4 rfl rfl)
theorem dX27_times_28 : decode cX27_times 28 = .ok (.invokestatic 16, 3) := dk_184 0 16 (dk_at dksX27_times_1 6 rfl rfl)
theorem dX27_times_31 : decode cX27_times 31 = .ok (.dload_n 3, 1) := dk_41 (dk_at dksX27_times_1 9 rfl rfl)
theorem dX27_times_32 : decode cX27_times 32 = .ok (.dload 7, 2) := dk_24 7 (dk_at dksX27_times_1 10 rfl rfl)
theorem dX27_times_34 : decode cX27_times 34 = .ok (.invokestatic 16, 3) := dk_184 0 16 (dk_at dksX27_times_1 12 rfl rfl)
theorem dX27_times_37 : decode cX27_times 37 = .ok (.invokevirtual 22, 3) := dk_182 0 22 (dk_at dksX27_times_1 15 rfl rfl)
theorem dX27_times_40 : decode cX27_times 40 = .ok (.aload_n 0, 1) := dk_42 (dk_at dksX27_times_1 18 rfl rfl)
theorem dX27_times_41 : decode cX27_times 41 = .ok (.dload 9, 2) := dk_24 9 (dk_at dksX27_times_1 19 rfl rfl)
theorem dX27_times_43 : decode cX27_times 43 = .ok (.dload 11, 2) := dk_24 11 (dk_at dksX27_times_1 21 rfl rfl)
theorem dX27_times_45 : decode cX27_times 45 = .ok (.invokevirtual 26, 3) := dk_182 0 26 (dk_at dksX27_times_2 0 rfl rfl)
theorem dX27_times_48 : decode cX27_times 48 = .ok (.return_, 1) := dk_177 (dk_at dksX27_times_2 3 rfl rfl)
abbrev cX27_keep : ByteArray := prog_33_method_4_code
def yX27_keep : MethodName := ⟨RX27, "keep", "(DD)V"⟩
def dkwX27_keep_0 : List UInt8 := [42, 42, 180, 0, 7, 181, 0, 42, 42, 42, 180, 0, 13, 181, 0, 45, 42, 39, 41, 182, 0, 36, 177]
abbrev dktX27_keep_0 : List UInt8 := dkwX27_keep_0 ++ []
theorem dksX27_keep_0 : cX27_keep.data.toList.drop 0 = dktX27_keep_0 := by decide +kernel
theorem dX27_keep_0 : decode cX27_keep 0 = .ok (.aload_n 0, 1) := dk_42 (dk_at dksX27_keep_0 0 rfl rfl)
theorem dX27_keep_1 : decode cX27_keep 1 = .ok (.aload_n 0, 1) := dk_42 (dk_at dksX27_keep_0 1 rfl rfl)
theorem dX27_keep_2 : decode cX27_keep 2 = .ok (.getfield 7, 3) := dk_180 0 7 (dk_at dksX27_keep_0 2 rfl rfl)
theorem dX27_keep_5 : decode cX27_keep 5 = .ok (.putfield 42, 3) := dk_181 0 42 (dk_at dksX27_keep_0 5 rfl rfl)
theorem dX27_keep_8 : decode cX27_keep 8 = .ok (.aload_n 0, 1) := dk_42 (dk_at dksX27_keep_0 8 rfl rfl)
theorem dX27_keep_9 : decode cX27_keep 9 = .ok (.aload_n 0, 1) := dk_42 (dk_at dksX27_keep_0 9 rfl rfl)
theorem dX27_keep_10 : decode cX27_keep 10 = .ok (.getfield 13, 3) := dk_180 0 13 (dk_at dksX27_keep_0 10 rfl rfl)
theorem dX27_keep_13 : decode cX27_keep 13 = .ok (.putfield 45, 3) := dk_181 0 45 (dk_at dksX27_keep_0 13 rfl rfl)
theorem dX27_keep_16 : decode cX27_keep 16 = .ok (.aload_n 0, 1) := dk_42 (dk_at dksX27_keep_0 16 rfl rfl)
theorem dX27_keep_17 : decode cX27_keep 17 = .ok (.dload_n 1, 1) := dk_39 (dk_at dksX27_keep_0 17 rfl rfl)
theorem dX27_keep_18 : decode cX27_keep 18 = .ok (.dload_n 3, 1) := dk_41 (dk_at dksX27_keep_0 18 rfl rfl)
theorem dX27_keep_19 : decode cX27_keep 19 = .ok (.invokevirtual 36, 3) := dk_182 0 36 (dk_at dksX27_keep_0 19 rfl rfl)
theorem dX27_keep_22 : decode cX27_keep 22 = .ok (.return_, 1) := dk_177 (dk_at dksX27_keep_0 22 rfl rfl)
abbrev cX27_take : ByteArray := prog_33_method_5_code
def yX27_take : MethodName := ⟨RX27, "take", "()V"⟩
def dkwX27_take_0 : List UInt8 := [42, 42, 180, 0, 42, 42, 180, 0, 45, 182, 0, 36, 177]
abbrev dktX27_take_0 : List UInt8 := dkwX27_take_0 ++ []
theorem dksX27_take_0 : cX27_take.data.toList.drop 0 = dktX27_take_0 := by decide +kernel
theorem dX27_take_0 : decode cX27_take 0 = .ok (.aload_n 0, 1) := dk_42 (dk_at dksX27_take_0 0 rfl rfl)
theorem dX27_take_1 : decode cX27_take 1 = .ok (.aload_n 0, 1) := dk_42 (dk_at dksX27_take_0 1 rfl rfl)
theorem dX27_take_2 : decode cX27_take 2 = .ok (.getfield 42, 3) := dk_180 0 42 (dk_at dksX27_take_0 2 rfl rfl)
theorem dX27_take_5 : decode cX27_take 5 = .ok (.aload_n 0, 1) := dk_42 (dk_at dksX27_take_0 5 rfl rfl)
theorem dX27_take_6 : decode cX27_take 6 = .ok (.getfield 45, 3) := dk_180 0 45 (dk_at dksX27_take_0 6 rfl rfl)
theorem dX27_take_9 : decode cX27_take 9 = .ok (.invokevirtual 36, 3) := dk_182 0 36 (dk_at dksX27_take_0 9 rfl rfl)
theorem dX27_take_12 : decode cX27_take 12 = .ok (.return_, 1) := dk_177 (dk_at dksX27_take_0 12 rfl rfl)
abbrev cX27_over : ByteArray := prog_33_method_3_code
def yX27_over : MethodName := ⟨RX27, "over", "(DDDD)V"⟩
def dkwX27_over_3 : List UInt8 := [24, 11, 182, 0, 26, 177]
abbrev dktX27_over_3 : List UInt8 := dkwX27_over_3 ++ []
def dkwX27_over_2 : List UInt8 := [24, 7, 184, 0, 39, 41, 24, 5, 184, 0, 39, 41, 24, 7, 184, 0, 39, 182, 0, 22, 42, 24, 9]
abbrev dktX27_over_2 : List UInt8 := dkwX27_over_2 ++ dktX27_over_3
def dkwX27_over_1 : List UInt8 := [155, 0, 16, 42, 20, 0, 32, 20, 0, 34, 182, 0, 36, 167, 0, 31, 42, 39, 24, 5, 184, 0, 39, 39]
abbrev dktX27_over_1 : List UInt8 := dkwX27_over_1 ++ dktX27_over_2
def dkwX27_over_0 : List UInt8 := [42, 180, 0, 7, 57, 9, 42, 180, 0, 13, 57, 11, 24, 5, 14, 152, 157, 0, 23, 24, 7, 14, 151]
abbrev dktX27_over_0 : List UInt8 := dkwX27_over_0 ++ dktX27_over_1
theorem dksX27_over_0 : cX27_over.data.toList.drop 0 = dktX27_over_0 := by decide +kernel
theorem dksX27_over_1 : cX27_over.data.toList.drop 23 = dktX27_over_1 := dk_seg dksX27_over_0 23 rfl rfl
theorem dksX27_over_2 : cX27_over.data.toList.drop 47 = dktX27_over_2 := dk_seg dksX27_over_1 24 rfl rfl
theorem dksX27_over_3 : cX27_over.data.toList.drop 70 = dktX27_over_3 := dk_seg dksX27_over_2 23 rfl rfl
theorem dX27_over_0 : decode cX27_over 0 = .ok (.aload_n 0, 1) := dk_42 (dk_at dksX27_over_0 0 rfl rfl)
theorem dX27_over_1 : decode cX27_over 1 = .ok (.getfield 7, 3) := dk_180 0 7 (dk_at dksX27_over_0 1 rfl rfl)
theorem dX27_over_4 : decode cX27_over 4 = .ok (.dstore 9, 2) := dk_57 9 (dk_at dksX27_over_0 4 rfl rfl)
theorem dX27_over_6 : decode cX27_over 6 = .ok (.aload_n 0, 1) := dk_42 (dk_at dksX27_over_0 6 rfl rfl)
theorem dX27_over_7 : decode cX27_over 7 = .ok (.getfield 13, 3) := dk_180 0 13 (dk_at dksX27_over_0 7 rfl rfl)
theorem dX27_over_10 : decode cX27_over 10 = .ok (.dstore 11, 2) := dk_57 11 (dk_at dksX27_over_0 10 rfl rfl)
theorem dX27_over_12 : decode cX27_over 12 = .ok (.dload 5, 2) := dk_24 5 (dk_at dksX27_over_0 12 rfl rfl)
theorem dX27_over_14 : decode cX27_over 14 = .ok (.dconst 0, 1) := dk_14 (dk_at dksX27_over_0 14 rfl rfl)
theorem dX27_over_15 : decode cX27_over 15 = .ok (.dcmp .g, 1) := dk_152 (dk_at dksX27_over_0 15 rfl rfl)
theorem dX27_over_16 : decode cX27_over 16 = .ok (.ifCond .gt 23, 3) := dk_157 0 23 (dk_at dksX27_over_0 16 rfl rfl)
theorem dX27_over_19 : decode cX27_over 19 = .ok (.dload 7, 2) := dk_24 7 (dk_at dksX27_over_0 19 rfl rfl)
theorem dX27_over_21 : decode cX27_over 21 = .ok (.dconst 0, 1) := dk_14 (dk_at dksX27_over_0 21 rfl rfl)
theorem dX27_over_22 : decode cX27_over 22 = .ok (.dcmp .l, 1) := dk_151 (dk_at dksX27_over_0 22 rfl rfl)
theorem dX27_over_23 : decode cX27_over 23 = .ok (.ifCond .lt 16, 3) := dk_155 0 16 (dk_at dksX27_over_1 0 rfl rfl)
theorem dX27_over_26 : decode cX27_over 26 = .ok (.aload_n 0, 1) := dk_42 (dk_at dksX27_over_1 3 rfl rfl)
theorem dX27_over_27 : decode cX27_over 27 = .ok (.ldc2_w 32, 3) := dk_20 0 32 (dk_at dksX27_over_1 4 rfl rfl)
theorem dX27_over_30 : decode cX27_over 30 = .ok (.ldc2_w 34, 3) := dk_20 0 34 (dk_at dksX27_over_1 7 rfl rfl)
theorem dX27_over_33 : decode cX27_over 33 = .ok (.invokevirtual 36, 3) := dk_182 0 36 (dk_at dksX27_over_1 10 rfl rfl)
theorem dX27_over_36 : decode cX27_over 36 = .ok (.goto 31, 3) := dk_167 0 31 (dk_at dksX27_over_1 13 rfl rfl)
theorem dX27_over_39 : decode cX27_over 39 = .ok (.aload_n 0, 1) := dk_42 (dk_at dksX27_over_1 16 rfl rfl)
theorem dX27_over_40 : decode cX27_over 40 = .ok (.dload_n 1, 1) := dk_39 (dk_at dksX27_over_1 17 rfl rfl)
theorem dX27_over_41 : decode cX27_over 41 = .ok (.dload 5, 2) := dk_24 5 (dk_at dksX27_over_1 18 rfl rfl)
theorem dX27_over_43 : decode cX27_over 43 = .ok (.invokestatic 39, 3) := dk_184 0 39 (dk_at dksX27_over_1 20 rfl rfl)
theorem dX27_over_46 : decode cX27_over 46 = .ok (.dload_n 1, 1) := dk_39 (dk_at dksX27_over_1 23 rfl rfl)
theorem dX27_over_47 : decode cX27_over 47 = .ok (.dload 7, 2) := dk_24 7 (dk_at dksX27_over_2 0 rfl rfl)
theorem dX27_over_49 : decode cX27_over 49 = .ok (.invokestatic 39, 3) := dk_184 0 39 (dk_at dksX27_over_2 2 rfl rfl)
theorem dX27_over_52 : decode cX27_over 52 = .ok (.dload_n 3, 1) := dk_41 (dk_at dksX27_over_2 5 rfl rfl)
theorem dX27_over_53 : decode cX27_over 53 = .ok (.dload 5, 2) := dk_24 5 (dk_at dksX27_over_2 6 rfl rfl)
theorem dX27_over_55 : decode cX27_over 55 = .ok (.invokestatic 39, 3) := dk_184 0 39 (dk_at dksX27_over_2 8 rfl rfl)
theorem dX27_over_58 : decode cX27_over 58 = .ok (.dload_n 3, 1) := dk_41 (dk_at dksX27_over_2 11 rfl rfl)
theorem dX27_over_59 : decode cX27_over 59 = .ok (.dload 7, 2) := dk_24 7 (dk_at dksX27_over_2 12 rfl rfl)
theorem dX27_over_61 : decode cX27_over 61 = .ok (.invokestatic 39, 3) := dk_184 0 39 (dk_at dksX27_over_2 14 rfl rfl)
theorem dX27_over_64 : decode cX27_over 64 = .ok (.invokevirtual 22, 3) := dk_182 0 22 (dk_at dksX27_over_2 17 rfl rfl)
theorem dX27_over_67 : decode cX27_over 67 = .ok (.aload_n 0, 1) := dk_42 (dk_at dksX27_over_2 20 rfl rfl)
theorem dX27_over_68 : decode cX27_over 68 = .ok (.dload 9, 2) := dk_24 9 (dk_at dksX27_over_2 21 rfl rfl)
theorem dX27_over_70 : decode cX27_over 70 = .ok (.dload 11, 2) := dk_24 11 (dk_at dksX27_over_3 0 rfl rfl)
theorem dX27_over_72 : decode cX27_over 72 = .ok (.invokevirtual 26, 3) := dk_182 0 26 (dk_at dksX27_over_3 2 rfl rfl)
theorem dX27_over_75 : decode cX27_over 75 = .ok (.return_, 1) := dk_177 (dk_at dksX27_over_3 5 rfl rfl)
abbrev cX27_to : ByteArray := prog_33_method_6_code
def yX27_to : MethodName := ⟨RX27, "to", "(LConstraintHouse$Part;)V"⟩
def dkwX27_to_0 : List UInt8 := [43, 42, 180, 0, 42, 42, 180, 0, 45, 182, 0, 48, 177]
abbrev dktX27_to_0 : List UInt8 := dkwX27_to_0 ++ []
theorem dksX27_to_0 : cX27_to.data.toList.drop 0 = dktX27_to_0 := by decide +kernel
theorem dX27_to_0 : decode cX27_to 0 = .ok (.aload_n 1, 1) := dk_43 (dk_at dksX27_to_0 0 rfl rfl)
theorem dX27_to_1 : decode cX27_to 1 = .ok (.aload_n 0, 1) := dk_42 (dk_at dksX27_to_0 1 rfl rfl)
theorem dX27_to_2 : decode cX27_to 2 = .ok (.getfield 42, 3) := dk_180 0 42 (dk_at dksX27_to_0 2 rfl rfl)
theorem dX27_to_5 : decode cX27_to 5 = .ok (.aload_n 0, 1) := dk_42 (dk_at dksX27_to_0 5 rfl rfl)
theorem dX27_to_6 : decode cX27_to 6 = .ok (.getfield 45, 3) := dk_180 0 45 (dk_at dksX27_to_0 6 rfl rfl)
theorem dX27_to_9 : decode cX27_to 9 = .ok (.invokevirtual 48, 3) := dk_182 0 48 (dk_at dksX27_to_0 9 rfl rfl)
theorem dX27_to_12 : decode cX27_to 12 = .ok (.return_, 1) := dk_177 (dk_at dksX27_to_0 12 rfl rfl)
theorem q298 : (Jvm.Cond.initialized "ConstraintHouse$Scaled") ∈ lw_all := lw_g (lw_at lw_m1 38 rfl) rfl
theorem q1345 : (Jvm.Cond.fieldLink "ConstraintHouse$Scaled" (7 : Nat) "ConstraintHouse$Scaled" "low" "D") ∈ lw_all := lw_g (lw_at lw_m5 125 rfl) rfl
theorem q1346 : (Jvm.Cond.sameField "ConstraintHouse$Scaled" "ConstraintHouse$Part" "low" "D") ∈ lw_all := lw_g (lw_at lw_m5 126 rfl) rfl
theorem q1384 : (Jvm.Cond.fieldLink "ConstraintHouse$Scaled" (13 : Nat) "ConstraintHouse$Scaled" "high" "D") ∈ lw_all := lw_g (lw_at lw_m5 164 rfl) rfl
theorem q1385 : (Jvm.Cond.sameField "ConstraintHouse$Scaled" "ConstraintHouse$Part" "high" "D") ∈ lw_all := lw_g (lw_at lw_m5 165 rfl) rfl
theorem q1732 : (Jvm.Cond.instanceMethod ({ cls := "ConstraintHouse$Scaled", name := "<init>", desc := "(LConstraintHouse$Part;LConstraintHouse$Part;)V" } : Jvm.MethodName)) ∈ lw_all := lw_g (lw_at lw_m7 32 rfl) rfl
theorem q1733 : (Jvm.Cond.code ({ cls := "ConstraintHouse$Scaled", name := "<init>", desc := "(LConstraintHouse$Part;LConstraintHouse$Part;)V" } : Jvm.MethodName) prog_33_method_1_code (3 : Nat) (Option.none : Option Jvm.ClassFile.FieldType)) ∈ lw_all := lw_g (lw_at lw_m7 33 rfl) rfl
theorem q1734 : (Jvm.Cond.methodLink "ConstraintHouse$Scaled" (1 : Nat) ({ cls := "ConstraintHouse$Pair", name := "<init>", desc := "(LConstraintHouse$Part;LConstraintHouse$Part;)V" } : Jvm.MethodName)) ∈ lw_all := lw_g (lw_at lw_m7 34 rfl) rfl
theorem q1735 : (Jvm.Cond.fieldLink "ConstraintHouse$Scaled" (42 : Nat) "ConstraintHouse$Scaled" "from" "D") ∈ lw_all := lw_g (lw_at lw_m7 35 rfl) rfl
theorem q1736 : (Jvm.Cond.fieldLink "ConstraintHouse$Scaled" (45 : Nat) "ConstraintHouse$Scaled" "to" "D") ∈ lw_all := lw_g (lw_at lw_m7 36 rfl) rfl
theorem q1738 : (Jvm.Cond.soleField "ConstraintHouse$Scaled" "from") ∈ lw_all := lw_g (lw_at lw_m7 38 rfl) rfl
theorem q1740 : (Jvm.Cond.soleField "ConstraintHouse$Scaled" "to") ∈ lw_all := lw_g (lw_at lw_m7 40 rfl) rfl
theorem q2704 : (Jvm.Cond.declares ({ cls := "ConstraintHouse$Scaled", name := "times", desc := "(DDDD)V" } : Jvm.MethodName)) ∈ lw_tbl := lw_at lw_m11 44 rfl
theorem q2706 : (Jvm.Cond.instanceMethod ({ cls := "ConstraintHouse$Scaled", name := "times", desc := "(DDDD)V" } : Jvm.MethodName)) ∈ lw_all := lw_g (lw_at lw_m11 46 rfl) rfl
theorem q2707 : (Jvm.Cond.code ({ cls := "ConstraintHouse$Scaled", name := "times", desc := "(DDDD)V" } : Jvm.MethodName) prog_33_method_2_code (13 : Nat) (Option.none : Option Jvm.ClassFile.FieldType)) ∈ lw_all := lw_g (lw_at lw_m11 47 rfl) rfl
theorem q2708 : (Jvm.Cond.methodLink "ConstraintHouse$Scaled" (16 : Nat) ({ cls := "ConstraintHouse$Bounds", name := "product", desc := "(DD)D" } : Jvm.MethodName)) ∈ lw_all := lw_g (lw_at lw_m11 48 rfl) rfl
theorem q2711 : (Jvm.Cond.methodLink "ConstraintHouse$Scaled" (22 : Nat) ({ cls := "ConstraintHouse$Scaled", name := "hull", desc := "(DDDD)V" } : Jvm.MethodName)) ∈ lw_all := lw_g (lw_at lw_m11 51 rfl) rfl
theorem q2712 : (Jvm.Cond.sameMethod "ConstraintHouse$Scaled" "ConstraintHouse$Pair" "hull" "(DDDD)V") ∈ lw_all := lw_g (lw_at lw_m11 52 rfl) rfl
theorem q2729 : (Jvm.Cond.methodLink "ConstraintHouse$Scaled" (26 : Nat) ({ cls := "ConstraintHouse$Scaled", name := "keep", desc := "(DD)V" } : Jvm.MethodName)) ∈ lw_all := lw_g (lw_at lw_m11 69 rfl) rfl
theorem q2730 : (Jvm.Cond.privateMethod ({ cls := "ConstraintHouse$Scaled", name := "keep", desc := "(DD)V" } : Jvm.MethodName)) ∈ lw_tbl := lw_at lw_m11 70 rfl
theorem q2731 : (Jvm.Cond.instanceMethod ({ cls := "ConstraintHouse$Scaled", name := "keep", desc := "(DD)V" } : Jvm.MethodName)) ∈ lw_all := lw_g (lw_at lw_m11 71 rfl) rfl
theorem q2732 : (Jvm.Cond.code ({ cls := "ConstraintHouse$Scaled", name := "keep", desc := "(DD)V" } : Jvm.MethodName) prog_33_method_4_code (5 : Nat) (Option.none : Option Jvm.ClassFile.FieldType)) ∈ lw_all := lw_g (lw_at lw_m11 72 rfl) rfl
theorem q2733 : (Jvm.Cond.methodLink "ConstraintHouse$Scaled" (36 : Nat) ({ cls := "ConstraintHouse$Scaled", name := "be", desc := "(DD)V" } : Jvm.MethodName)) ∈ lw_all := lw_g (lw_at lw_m11 73 rfl) rfl
theorem q2734 : (Jvm.Cond.sameMethod "ConstraintHouse$Scaled" "ConstraintHouse$Part" "be" "(DD)V") ∈ lw_all := lw_g (lw_at lw_m11 74 rfl) rfl
theorem q2739 : (Jvm.Cond.declares ({ cls := "ConstraintHouse$Scaled", name := "take", desc := "()V" } : Jvm.MethodName)) ∈ lw_tbl := lw_at lw_m11 79 rfl
theorem q2741 : (Jvm.Cond.instanceMethod ({ cls := "ConstraintHouse$Scaled", name := "take", desc := "()V" } : Jvm.MethodName)) ∈ lw_all := lw_g (lw_at lw_m11 81 rfl) rfl
theorem q2742 : (Jvm.Cond.code ({ cls := "ConstraintHouse$Scaled", name := "take", desc := "()V" } : Jvm.MethodName) prog_33_method_5_code (1 : Nat) (Option.none : Option Jvm.ClassFile.FieldType)) ∈ lw_all := lw_g (lw_at lw_m11 82 rfl) rfl
theorem q2748 : (Jvm.Cond.declares ({ cls := "ConstraintHouse$Scaled", name := "over", desc := "(DDDD)V" } : Jvm.MethodName)) ∈ lw_tbl := lw_at lw_m11 88 rfl
theorem q2750 : (Jvm.Cond.instanceMethod ({ cls := "ConstraintHouse$Scaled", name := "over", desc := "(DDDD)V" } : Jvm.MethodName)) ∈ lw_all := lw_g (lw_at lw_m11 90 rfl) rfl
theorem q2751 : (Jvm.Cond.code ({ cls := "ConstraintHouse$Scaled", name := "over", desc := "(DDDD)V" } : Jvm.MethodName) prog_33_method_3_code (13 : Nat) (Option.none : Option Jvm.ClassFile.FieldType)) ∈ lw_all := lw_g (lw_at lw_m11 91 rfl) rfl
theorem q2752 : (Jvm.Cond.constantDouble "ConstraintHouse$Scaled" (32 : Nat) (18442240474082181120 : UInt64)) ∈ lw_all := lw_g (lw_at lw_m11 92 rfl) rfl
theorem q2753 : (Jvm.Cond.constantDouble "ConstraintHouse$Scaled" (34 : Nat) (9218868437227405312 : UInt64)) ∈ lw_all := lw_g (lw_at lw_m11 93 rfl) rfl
theorem q2754 : (Jvm.Cond.methodLink "ConstraintHouse$Scaled" (39 : Nat) ({ cls := "ConstraintHouse$Bounds", name := "quotient", desc := "(DD)D" } : Jvm.MethodName)) ∈ lw_all := lw_g (lw_at lw_m11 94 rfl) rfl
theorem q3129 : (Jvm.Cond.declares ({ cls := "ConstraintHouse$Scaled", name := "to", desc := "(LConstraintHouse$Part;)V" } : Jvm.MethodName)) ∈ lw_tbl := lw_at lw_m12 229 rfl
theorem q3131 : (Jvm.Cond.instanceMethod ({ cls := "ConstraintHouse$Scaled", name := "to", desc := "(LConstraintHouse$Part;)V" } : Jvm.MethodName)) ∈ lw_all := lw_g (lw_at lw_m12 231 rfl) rfl
theorem q3132 : (Jvm.Cond.code ({ cls := "ConstraintHouse$Scaled", name := "to", desc := "(LConstraintHouse$Part;)V" } : Jvm.MethodName) prog_33_method_6_code (2 : Nat) (Option.none : Option Jvm.ClassFile.FieldType)) ∈ lw_all := lw_g (lw_at lw_m12 232 rfl) rfl
theorem q3133 : (Jvm.Cond.methodLink "ConstraintHouse$Scaled" (48 : Nat) ({ cls := "ConstraintHouse$Part", name := "meet", desc := "(DD)V" } : Jvm.MethodName)) ∈ lw_all := lw_g (lw_at lw_m12 233 rfl) rfl
theorem q4791 : (Jvm.Cond.sameMethod "ConstraintHouse$Scaled" "ConstraintHouse$Scaled" "keep" "(DD)V") ∈ lw_all := lw_g (lw_at lw_m19 211 rfl) rfl
/-! ConstraintHouse$Product -/
set_option maxRecDepth 100000
def RX28 : String := "ConstraintHouse$Product"
def TX28 : u_T := fun k => match k with
  | 0 => ("ConstraintHouse$Scaled", "from", "D", false)
  | 1 => ("ConstraintHouse$Scaled", "to", "D", false)
  | 2 => ("ConstraintHouse$Pair", "x", "LConstraintHouse$Part;", true)
  | 3 => ("ConstraintHouse$Pair", "y", "LConstraintHouse$Part;", true)
  | 4 => ("ConstraintHouse$Part", "low", "D", false)
  | 5 => ("ConstraintHouse$Part", "high", "D", false)
  | 6 => ("ConstraintHouse$Part", "no", "Z", false)
  | 7 => ("ConstraintHouse$Part", "yes", "Z", false)
  | _ => ("ConstraintHouse$Part", "letters", "I", false)
def tyX28 : Nat → FieldType := fun k => match k with
  | 0 => .double
  | 1 => .double
  | 2 => .object "ConstraintHouse$Part"
  | 3 => .object "ConstraintHouse$Part"
  | 4 => .double
  | 5 => .double
  | 6 => .boolean
  | 7 => .boolean
  | _ => .int
abbrev wsX280 : List Cond := u_ws RX28 TX28 9
theorem nmX28 : ∀ a, a < 9 → ∀ b, b < 9 → a ≠ b → (TX28 a).2.1 ≠ (TX28 b).2.1 := by decide +kernel
theorem tyX28_ok : ∀ k, k < 9 → parseFieldDescriptor (TX28 k).2.2.1 = some (tyX28 k) := by decide +kernel
abbrev cX28_init : ByteArray := prog_26_method_1_code
def yX28_init : MethodName := ⟨RX28, "<init>", "(LConstraintHouse$Part;LConstraintHouse$Part;)V"⟩
def dkwX28_init_0 : List UInt8 := [42, 43, 44, 183, 0, 1, 177]
abbrev dktX28_init_0 : List UInt8 := dkwX28_init_0 ++ []
theorem dksX28_init_0 : cX28_init.data.toList.drop 0 = dktX28_init_0 := by decide +kernel
theorem dX28_init_0 : decode cX28_init 0 = .ok (.aload_n 0, 1) := dk_42 (dk_at dksX28_init_0 0 rfl rfl)
theorem dX28_init_1 : decode cX28_init 1 = .ok (.aload_n 1, 1) := dk_43 (dk_at dksX28_init_0 1 rfl rfl)
theorem dX28_init_2 : decode cX28_init 2 = .ok (.aload_n 2, 1) := dk_44 (dk_at dksX28_init_0 2 rfl rfl)
theorem dX28_init_3 : decode cX28_init 3 = .ok (.invokespecial 1, 3) := dk_183 0 1 (dk_at dksX28_init_0 3 rfl rfl)
theorem dX28_init_6 : decode cX28_init 6 = .ok (.return_, 1) := dk_177 (dk_at dksX28_init_0 6 rfl rfl)
abbrev cX28_reckon : ByteArray := prog_26_method_2_code
def yX28_reckon : MethodName := ⟨RX28, "reckon", "()V"⟩
def dkwX28_reckon_1 : List UInt8 := [180, 0, 22, 180, 0, 19, 182, 0, 25, 42, 182, 0, 29, 177]
abbrev dktX28_reckon_1 : List UInt8 := dkwX28_reckon_1 ++ []
def dkwX28_reckon_0 : List UInt8 := [42, 42, 180, 0, 7, 180, 0, 13, 42, 180, 0, 7, 180, 0, 19, 42, 180, 0, 22, 180, 0, 13, 42]
abbrev dktX28_reckon_0 : List UInt8 := dkwX28_reckon_0 ++ dktX28_reckon_1
theorem dksX28_reckon_0 : cX28_reckon.data.toList.drop 0 = dktX28_reckon_0 := by decide +kernel
theorem dksX28_reckon_1 : cX28_reckon.data.toList.drop 23 = dktX28_reckon_1 := dk_seg dksX28_reckon_0 23 rfl rfl
theorem dX28_reckon_0 : decode cX28_reckon 0 = .ok (.aload_n 0, 1) := dk_42 (dk_at dksX28_reckon_0 0 rfl rfl)
theorem dX28_reckon_1 : decode cX28_reckon 1 = .ok (.aload_n 0, 1) := dk_42 (dk_at dksX28_reckon_0 1 rfl rfl)
theorem dX28_reckon_2 : decode cX28_reckon 2 = .ok (.getfield 7, 3) := dk_180 0 7 (dk_at dksX28_reckon_0 2 rfl rfl)
theorem dX28_reckon_5 : decode cX28_reckon 5 = .ok (.getfield 13, 3) := dk_180 0 13 (dk_at dksX28_reckon_0 5 rfl rfl)
theorem dX28_reckon_8 : decode cX28_reckon 8 = .ok (.aload_n 0, 1) := dk_42 (dk_at dksX28_reckon_0 8 rfl rfl)
theorem dX28_reckon_9 : decode cX28_reckon 9 = .ok (.getfield 7, 3) := dk_180 0 7 (dk_at dksX28_reckon_0 9 rfl rfl)
theorem dX28_reckon_12 : decode cX28_reckon 12 = .ok (.getfield 19, 3) := dk_180 0 19 (dk_at dksX28_reckon_0 12 rfl rfl)
theorem dX28_reckon_15 : decode cX28_reckon 15 = .ok (.aload_n 0, 1) := dk_42 (dk_at dksX28_reckon_0 15 rfl rfl)
theorem dX28_reckon_16 : decode cX28_reckon 16 = .ok (.getfield 22, 3) := dk_180 0 22 (dk_at dksX28_reckon_0 16 rfl rfl)
theorem dX28_reckon_19 : decode cX28_reckon 19 = .ok (.getfield 13, 3) := dk_180 0 13 (dk_at dksX28_reckon_0 19 rfl rfl)
theorem dX28_reckon_22 : decode cX28_reckon 22 = .ok (.aload_n 0, 1) := dk_42 (dk_at dksX28_reckon_0 22 rfl rfl)
theorem dX28_reckon_23 : decode cX28_reckon 23 = .ok (.getfield 22, 3) := dk_180 0 22 (dk_at dksX28_reckon_1 0 rfl rfl)
theorem dX28_reckon_26 : decode cX28_reckon 26 = .ok (.getfield 19, 3) := dk_180 0 19 (dk_at dksX28_reckon_1 3 rfl rfl)
theorem dX28_reckon_29 : decode cX28_reckon 29 = .ok (.invokevirtual 25, 3) := dk_182 0 25 (dk_at dksX28_reckon_1 6 rfl rfl)
theorem dX28_reckon_32 : decode cX28_reckon 32 = .ok (.aload_n 0, 1) := dk_42 (dk_at dksX28_reckon_1 9 rfl rfl)
theorem dX28_reckon_33 : decode cX28_reckon 33 = .ok (.invokevirtual 29, 3) := dk_182 0 29 (dk_at dksX28_reckon_1 10 rfl rfl)
theorem dX28_reckon_36 : decode cX28_reckon 36 = .ok (.return_, 1) := dk_177 (dk_at dksX28_reckon_1 13 rfl rfl)
abbrev cX28_hand : ByteArray := prog_26_method_4_code
def yX28_hand : MethodName := ⟨RX28, "hand", "()V"⟩
def dkwX28_hand_2 : List UInt8 := [177, 42, 76, 43, 42, 42, 180, 0, 7, 42, 180, 0, 22, 185, 0, 42, 4, 0, 177]
abbrev dktX28_hand_2 : List UInt8 := dkwX28_hand_2 ++ []
def dkwX28_hand_1 : List UInt8 := [42, 180, 0, 22, 180, 0, 13, 14, 152, 157, 0, 16, 42, 180, 0, 22, 180, 0, 19, 14, 151, 155, 0, 4]
abbrev dktX28_hand_1 : List UInt8 := dkwX28_hand_1 ++ dktX28_hand_2
def dkwX28_hand_0 : List UInt8 := [42, 180, 0, 7, 180, 0, 13, 14, 152, 157, 0, 40, 42, 180, 0, 7, 180, 0, 19, 14, 151, 155, 0, 28]
abbrev dktX28_hand_0 : List UInt8 := dkwX28_hand_0 ++ dktX28_hand_1
theorem dksX28_hand_0 : cX28_hand.data.toList.drop 0 = dktX28_hand_0 := by decide +kernel
theorem dksX28_hand_1 : cX28_hand.data.toList.drop 24 = dktX28_hand_1 := dk_seg dksX28_hand_0 24 rfl rfl
theorem dksX28_hand_2 : cX28_hand.data.toList.drop 48 = dktX28_hand_2 := dk_seg dksX28_hand_1 24 rfl rfl
theorem dX28_hand_0 : decode cX28_hand 0 = .ok (.aload_n 0, 1) := dk_42 (dk_at dksX28_hand_0 0 rfl rfl)
theorem dX28_hand_1 : decode cX28_hand 1 = .ok (.getfield 7, 3) := dk_180 0 7 (dk_at dksX28_hand_0 1 rfl rfl)
theorem dX28_hand_4 : decode cX28_hand 4 = .ok (.getfield 13, 3) := dk_180 0 13 (dk_at dksX28_hand_0 4 rfl rfl)
theorem dX28_hand_7 : decode cX28_hand 7 = .ok (.dconst 0, 1) := dk_14 (dk_at dksX28_hand_0 7 rfl rfl)
theorem dX28_hand_8 : decode cX28_hand 8 = .ok (.dcmp .g, 1) := dk_152 (dk_at dksX28_hand_0 8 rfl rfl)
theorem dX28_hand_9 : decode cX28_hand 9 = .ok (.ifCond .gt 40, 3) := dk_157 0 40 (dk_at dksX28_hand_0 9 rfl rfl)
theorem dX28_hand_12 : decode cX28_hand 12 = .ok (.aload_n 0, 1) := dk_42 (dk_at dksX28_hand_0 12 rfl rfl)
theorem dX28_hand_13 : decode cX28_hand 13 = .ok (.getfield 7, 3) := dk_180 0 7 (dk_at dksX28_hand_0 13 rfl rfl)
theorem dX28_hand_16 : decode cX28_hand 16 = .ok (.getfield 19, 3) := dk_180 0 19 (dk_at dksX28_hand_0 16 rfl rfl)
theorem dX28_hand_19 : decode cX28_hand 19 = .ok (.dconst 0, 1) := dk_14 (dk_at dksX28_hand_0 19 rfl rfl)
theorem dX28_hand_20 : decode cX28_hand 20 = .ok (.dcmp .l, 1) := dk_151 (dk_at dksX28_hand_0 20 rfl rfl)
theorem dX28_hand_21 : decode cX28_hand 21 = .ok (.ifCond .lt 28, 3) := dk_155 0 28 (dk_at dksX28_hand_0 21 rfl rfl)
theorem dX28_hand_24 : decode cX28_hand 24 = .ok (.aload_n 0, 1) := dk_42 (dk_at dksX28_hand_1 0 rfl rfl)
theorem dX28_hand_25 : decode cX28_hand 25 = .ok (.getfield 22, 3) := dk_180 0 22 (dk_at dksX28_hand_1 1 rfl rfl)
theorem dX28_hand_28 : decode cX28_hand 28 = .ok (.getfield 13, 3) := dk_180 0 13 (dk_at dksX28_hand_1 4 rfl rfl)
theorem dX28_hand_31 : decode cX28_hand 31 = .ok (.dconst 0, 1) := dk_14 (dk_at dksX28_hand_1 7 rfl rfl)
theorem dX28_hand_32 : decode cX28_hand 32 = .ok (.dcmp .g, 1) := dk_152 (dk_at dksX28_hand_1 8 rfl rfl)
theorem dX28_hand_33 : decode cX28_hand 33 = .ok (.ifCond .gt 16, 3) := dk_157 0 16 (dk_at dksX28_hand_1 9 rfl rfl)
theorem dX28_hand_36 : decode cX28_hand 36 = .ok (.aload_n 0, 1) := dk_42 (dk_at dksX28_hand_1 12 rfl rfl)
theorem dX28_hand_37 : decode cX28_hand 37 = .ok (.getfield 22, 3) := dk_180 0 22 (dk_at dksX28_hand_1 13 rfl rfl)
theorem dX28_hand_40 : decode cX28_hand 40 = .ok (.getfield 19, 3) := dk_180 0 19 (dk_at dksX28_hand_1 16 rfl rfl)
theorem dX28_hand_43 : decode cX28_hand 43 = .ok (.dconst 0, 1) := dk_14 (dk_at dksX28_hand_1 19 rfl rfl)
theorem dX28_hand_44 : decode cX28_hand 44 = .ok (.dcmp .l, 1) := dk_151 (dk_at dksX28_hand_1 20 rfl rfl)
theorem dX28_hand_45 : decode cX28_hand 45 = .ok (.ifCond .lt 4, 3) := dk_155 0 4 (dk_at dksX28_hand_1 21 rfl rfl)
theorem dX28_hand_48 : decode cX28_hand 48 = .ok (.return_, 1) := dk_177 (dk_at dksX28_hand_2 0 rfl rfl)
theorem dX28_hand_49 : decode cX28_hand 49 = .ok (.aload_n 0, 1) := dk_42 (dk_at dksX28_hand_2 1 rfl rfl)
theorem dX28_hand_50 : decode cX28_hand 50 = .ok (.astore_n 1, 1) := dk_76 (dk_at dksX28_hand_2 2 rfl rfl)
theorem dX28_hand_51 : decode cX28_hand 51 = .ok (.aload_n 1, 1) := dk_43 (dk_at dksX28_hand_2 3 rfl rfl)
theorem dX28_hand_52 : decode cX28_hand 52 = .ok (.aload_n 0, 1) := dk_42 (dk_at dksX28_hand_2 4 rfl rfl)
theorem dX28_hand_53 : decode cX28_hand 53 = .ok (.aload_n 0, 1) := dk_42 (dk_at dksX28_hand_2 5 rfl rfl)
theorem dX28_hand_54 : decode cX28_hand 54 = .ok (.getfield 7, 3) := dk_180 0 7 (dk_at dksX28_hand_2 6 rfl rfl)
theorem dX28_hand_57 : decode cX28_hand 57 = .ok (.aload_n 0, 1) := dk_42 (dk_at dksX28_hand_2 9 rfl rfl)
theorem dX28_hand_58 : decode cX28_hand 58 = .ok (.getfield 22, 3) := dk_180 0 22 (dk_at dksX28_hand_2 10 rfl rfl)
theorem dX28_hand_61 : decode cX28_hand 61 = .ok (.invokeinterface 42 4, 5) := by decide +kernel
theorem dX28_hand_66 : decode cX28_hand 66 = .ok (.return_, 1) := dk_177 (dk_at dksX28_hand_2 18 rfl rfl)
abbrev cX28_share : ByteArray := prog_26_method_3_code
def yX28_share : MethodName := ⟨RX28, "share", "(LConstraintHouse$Part;LConstraintHouse$Part;LConstraintHouse$Part;)V"⟩
def dkwX28_share_1 : List UInt8 := [182, 0, 38, 177]
abbrev dktX28_share_1 : List UInt8 := dkwX28_share_1 ++ []
def dkwX28_share_0 : List UInt8 := [42, 42, 180, 0, 33, 42, 180, 0, 34, 44, 180, 0, 13, 44, 180, 0, 19, 182, 0, 35, 42, 45]
abbrev dktX28_share_0 : List UInt8 := dkwX28_share_0 ++ dktX28_share_1
theorem dksX28_share_0 : cX28_share.data.toList.drop 0 = dktX28_share_0 := by decide +kernel
theorem dksX28_share_1 : cX28_share.data.toList.drop 22 = dktX28_share_1 := dk_seg dksX28_share_0 22 rfl rfl
theorem dX28_share_0 : decode cX28_share 0 = .ok (.aload_n 0, 1) := dk_42 (dk_at dksX28_share_0 0 rfl rfl)
theorem dX28_share_1 : decode cX28_share 1 = .ok (.aload_n 0, 1) := dk_42 (dk_at dksX28_share_0 1 rfl rfl)
theorem dX28_share_2 : decode cX28_share 2 = .ok (.getfield 33, 3) := dk_180 0 33 (dk_at dksX28_share_0 2 rfl rfl)
theorem dX28_share_5 : decode cX28_share 5 = .ok (.aload_n 0, 1) := dk_42 (dk_at dksX28_share_0 5 rfl rfl)
theorem dX28_share_6 : decode cX28_share 6 = .ok (.getfield 34, 3) := dk_180 0 34 (dk_at dksX28_share_0 6 rfl rfl)
theorem dX28_share_9 : decode cX28_share 9 = .ok (.aload_n 2, 1) := dk_44 (dk_at dksX28_share_0 9 rfl rfl)
theorem dX28_share_10 : decode cX28_share 10 = .ok (.getfield 13, 3) := dk_180 0 13 (dk_at dksX28_share_0 10 rfl rfl)
theorem dX28_share_13 : decode cX28_share 13 = .ok (.aload_n 2, 1) := dk_44 (dk_at dksX28_share_0 13 rfl rfl)
theorem dX28_share_14 : decode cX28_share 14 = .ok (.getfield 19, 3) := dk_180 0 19 (dk_at dksX28_share_0 14 rfl rfl)
theorem dX28_share_17 : decode cX28_share 17 = .ok (.invokevirtual 35, 3) := dk_182 0 35 (dk_at dksX28_share_0 17 rfl rfl)
theorem dX28_share_20 : decode cX28_share 20 = .ok (.aload_n 0, 1) := dk_42 (dk_at dksX28_share_0 20 rfl rfl)
theorem dX28_share_21 : decode cX28_share 21 = .ok (.aload_n 3, 1) := dk_45 (dk_at dksX28_share_0 21 rfl rfl)
theorem dX28_share_22 : decode cX28_share 22 = .ok (.invokevirtual 38, 3) := dk_182 0 38 (dk_at dksX28_share_1 0 rfl rfl)
theorem dX28_share_25 : decode cX28_share 25 = .ok (.return_, 1) := dk_177 (dk_at dksX28_share_1 3 rfl rfl)
theorem q299 : (Jvm.Cond.initialized "ConstraintHouse$Product") ∈ lw_all := lw_g (lw_at lw_m1 39 rfl) rfl
theorem q1349 : (Jvm.Cond.fieldLink "ConstraintHouse$Product" (13 : Nat) "ConstraintHouse$Part" "low" "D") ∈ lw_all := lw_g (lw_at lw_m5 129 rfl) rfl
theorem q1359 : (Jvm.Cond.fieldLink "ConstraintHouse$Product" (33 : Nat) "ConstraintHouse$Product" "low" "D") ∈ lw_all := lw_g (lw_at lw_m5 139 rfl) rfl
theorem q1360 : (Jvm.Cond.sameField "ConstraintHouse$Product" "ConstraintHouse$Part" "low" "D") ∈ lw_all := lw_g (lw_at lw_m5 140 rfl) rfl
theorem q1388 : (Jvm.Cond.fieldLink "ConstraintHouse$Product" (19 : Nat) "ConstraintHouse$Part" "high" "D") ∈ lw_all := lw_g (lw_at lw_m5 168 rfl) rfl
theorem q1399 : (Jvm.Cond.fieldLink "ConstraintHouse$Product" (34 : Nat) "ConstraintHouse$Product" "high" "D") ∈ lw_all := lw_g (lw_at lw_m5 179 rfl) rfl
theorem q1400 : (Jvm.Cond.sameField "ConstraintHouse$Product" "ConstraintHouse$Part" "high" "D") ∈ lw_all := lw_g (lw_at lw_m5 180 rfl) rfl
theorem q1576 : (Jvm.Cond.selects "ConstraintHouse$Product" ({ cls := "ConstraintHouse$Part", name := "sort", desc := "()I" } : Jvm.MethodName) ({ cls := "ConstraintHouse$Pair", name := "sort", desc := "()I" } : Jvm.MethodName)) ∈ lw_all := lw_g (lw_at lw_m6 116 rfl) rfl
theorem q1683 : (Jvm.Cond.fieldLink "ConstraintHouse$Product" (7 : Nat) "ConstraintHouse$Product" "x" "LConstraintHouse$Part;") ∈ lw_all := lw_g (lw_at lw_m6 223 rfl) rfl
theorem q1684 : (Jvm.Cond.sameField "ConstraintHouse$Product" "ConstraintHouse$Pair" "x" "LConstraintHouse$Part;") ∈ lw_all := lw_g (lw_at lw_m6 224 rfl) rfl
theorem q1698 : (Jvm.Cond.fieldLink "ConstraintHouse$Product" (22 : Nat) "ConstraintHouse$Product" "y" "LConstraintHouse$Part;") ∈ lw_all := lw_g (lw_at lw_m6 238 rfl) rfl
theorem q1699 : (Jvm.Cond.sameField "ConstraintHouse$Product" "ConstraintHouse$Pair" "y" "LConstraintHouse$Part;") ∈ lw_all := lw_g (lw_at lw_m6 239 rfl) rfl
theorem q1727 : (Jvm.Cond.instantiable "ConstraintHouse$Product" (9 : Nat)) ∈ lw_all := lw_g (lw_at lw_m7 27 rfl) rfl
theorem q1729 : (Jvm.Cond.instanceMethod ({ cls := "ConstraintHouse$Product", name := "<init>", desc := "(LConstraintHouse$Part;LConstraintHouse$Part;)V" } : Jvm.MethodName)) ∈ lw_all := lw_g (lw_at lw_m7 29 rfl) rfl
theorem q1730 : (Jvm.Cond.code ({ cls := "ConstraintHouse$Product", name := "<init>", desc := "(LConstraintHouse$Part;LConstraintHouse$Part;)V" } : Jvm.MethodName) prog_26_method_1_code (3 : Nat) (Option.none : Option Jvm.ClassFile.FieldType)) ∈ lw_all := lw_g (lw_at lw_m7 30 rfl) rfl
theorem q1731 : (Jvm.Cond.methodLink "ConstraintHouse$Product" (1 : Nat) ({ cls := "ConstraintHouse$Scaled", name := "<init>", desc := "(LConstraintHouse$Part;LConstraintHouse$Part;)V" } : Jvm.MethodName)) ∈ lw_all := lw_g (lw_at lw_m7 31 rfl) rfl
theorem q1737 : (Jvm.Cond.lays "ConstraintHouse$Product" "ConstraintHouse$Scaled" "from" "D") ∈ lw_all := lw_g (lw_at lw_m7 37 rfl) rfl
theorem q1739 : (Jvm.Cond.lays "ConstraintHouse$Product" "ConstraintHouse$Scaled" "to" "D") ∈ lw_all := lw_g (lw_at lw_m7 39 rfl) rfl
theorem q1741 : (Jvm.Cond.laysFinal "ConstraintHouse$Product" "ConstraintHouse$Pair" "x" "LConstraintHouse$Part;") ∈ lw_all := lw_g (lw_at lw_m7 41 rfl) rfl
theorem q1742 : (Jvm.Cond.laysFinal "ConstraintHouse$Product" "ConstraintHouse$Pair" "y" "LConstraintHouse$Part;") ∈ lw_all := lw_g (lw_at lw_m7 42 rfl) rfl
theorem q1743 : (Jvm.Cond.lays "ConstraintHouse$Product" "ConstraintHouse$Part" "low" "D") ∈ lw_all := lw_g (lw_at lw_m7 43 rfl) rfl
theorem q1744 : (Jvm.Cond.lays "ConstraintHouse$Product" "ConstraintHouse$Part" "high" "D") ∈ lw_all := lw_g (lw_at lw_m7 44 rfl) rfl
theorem q1745 : (Jvm.Cond.lays "ConstraintHouse$Product" "ConstraintHouse$Part" "no" "Z") ∈ lw_all := lw_g (lw_at lw_m7 45 rfl) rfl
theorem q1746 : (Jvm.Cond.lays "ConstraintHouse$Product" "ConstraintHouse$Part" "yes" "Z") ∈ lw_all := lw_g (lw_at lw_m7 46 rfl) rfl
theorem q1747 : (Jvm.Cond.lays "ConstraintHouse$Product" "ConstraintHouse$Part" "letters" "I") ∈ lw_all := lw_g (lw_at lw_m7 47 rfl) rfl
theorem q1748 : (Jvm.Cond.superclass "ConstraintHouse$Product" "ConstraintHouse$Scaled") ∈ lw_all := lw_g (lw_at lw_m7 48 rfl) rfl
theorem q2538 : (Jvm.Cond.selects "ConstraintHouse$Product" ({ cls := "ConstraintHouse$Narrows", name := "forwards", desc := "(LConstraintHouse$Solver;)V" } : Jvm.MethodName) ({ cls := "ConstraintHouse$Pair", name := "forwards", desc := "(LConstraintHouse$Solver;)V" } : Jvm.MethodName)) ∈ lw_all := lw_g (lw_at lw_m10 118 rfl) rfl
theorem q2699 : (Jvm.Cond.selects "ConstraintHouse$Product" ({ cls := "ConstraintHouse$Pair", name := "reckon", desc := "()V" } : Jvm.MethodName) ({ cls := "ConstraintHouse$Product", name := "reckon", desc := "()V" } : Jvm.MethodName)) ∈ lw_all := lw_g (lw_at lw_m11 39 rfl) rfl
theorem q2700 : (Jvm.Cond.instanceMethod ({ cls := "ConstraintHouse$Product", name := "reckon", desc := "()V" } : Jvm.MethodName)) ∈ lw_all := lw_g (lw_at lw_m11 40 rfl) rfl
theorem q2701 : (Jvm.Cond.code ({ cls := "ConstraintHouse$Product", name := "reckon", desc := "()V" } : Jvm.MethodName) prog_26_method_2_code (1 : Nat) (Option.none : Option Jvm.ClassFile.FieldType)) ∈ lw_all := lw_g (lw_at lw_m11 41 rfl) rfl
theorem q2702 : (Jvm.Cond.methodLink "ConstraintHouse$Product" (25 : Nat) ({ cls := "ConstraintHouse$Product", name := "times", desc := "(DDDD)V" } : Jvm.MethodName)) ∈ lw_all := lw_g (lw_at lw_m11 42 rfl) rfl
theorem q2703 : (Jvm.Cond.sameMethod "ConstraintHouse$Product" "ConstraintHouse$Scaled" "times" "(DDDD)V") ∈ lw_all := lw_g (lw_at lw_m11 43 rfl) rfl
theorem q2705 : (Jvm.Cond.selects "ConstraintHouse$Product" ({ cls := "ConstraintHouse$Product", name := "times", desc := "(DDDD)V" } : Jvm.MethodName) ({ cls := "ConstraintHouse$Scaled", name := "times", desc := "(DDDD)V" } : Jvm.MethodName)) ∈ lw_all := lw_g (lw_at lw_m11 45 rfl) rfl
theorem q2714 : (Jvm.Cond.selects "ConstraintHouse$Product" ({ cls := "ConstraintHouse$Scaled", name := "hull", desc := "(DDDD)V" } : Jvm.MethodName) ({ cls := "ConstraintHouse$Pair", name := "hull", desc := "(DDDD)V" } : Jvm.MethodName)) ∈ lw_all := lw_g (lw_at lw_m11 54 rfl) rfl
theorem q2726 : (Jvm.Cond.selects "ConstraintHouse$Product" ({ cls := "ConstraintHouse$Pair", name := "be", desc := "(DD)V" } : Jvm.MethodName) ({ cls := "ConstraintHouse$Part", name := "be", desc := "(DD)V" } : Jvm.MethodName)) ∈ lw_all := lw_g (lw_at lw_m11 66 rfl) rfl
theorem q2735 : (Jvm.Cond.selects "ConstraintHouse$Product" ({ cls := "ConstraintHouse$Scaled", name := "be", desc := "(DD)V" } : Jvm.MethodName) ({ cls := "ConstraintHouse$Part", name := "be", desc := "(DD)V" } : Jvm.MethodName)) ∈ lw_all := lw_g (lw_at lw_m11 75 rfl) rfl
theorem q2737 : (Jvm.Cond.methodLink "ConstraintHouse$Product" (29 : Nat) ({ cls := "ConstraintHouse$Product", name := "take", desc := "()V" } : Jvm.MethodName)) ∈ lw_all := lw_g (lw_at lw_m11 77 rfl) rfl
theorem q2738 : (Jvm.Cond.sameMethod "ConstraintHouse$Product" "ConstraintHouse$Scaled" "take" "()V") ∈ lw_all := lw_g (lw_at lw_m11 78 rfl) rfl
theorem q2740 : (Jvm.Cond.selects "ConstraintHouse$Product" ({ cls := "ConstraintHouse$Product", name := "take", desc := "()V" } : Jvm.MethodName) ({ cls := "ConstraintHouse$Scaled", name := "take", desc := "()V" } : Jvm.MethodName)) ∈ lw_all := lw_g (lw_at lw_m11 80 rfl) rfl
theorem q2826 : (Jvm.Cond.selects "ConstraintHouse$Product" ({ cls := "ConstraintHouse$Part", name := "hasMeet", desc := "(LConstraintHouse$Part;)Z" } : Jvm.MethodName) ({ cls := "ConstraintHouse$Part", name := "hasMeet", desc := "(LConstraintHouse$Part;)Z" } : Jvm.MethodName)) ∈ lw_all := lw_g (lw_at lw_m11 166 rfl) rfl
theorem q2877 : (Jvm.Cond.selects "ConstraintHouse$Product" ({ cls := "ConstraintHouse$Part", name := "meets", desc := "(ZZ)V" } : Jvm.MethodName) ({ cls := "ConstraintHouse$Part", name := "meets", desc := "(ZZ)V" } : Jvm.MethodName)) ∈ lw_all := lw_g (lw_at lw_m11 217 rfl) rfl
theorem q2913 : (Jvm.Cond.selects "ConstraintHouse$Product" ({ cls := "ConstraintHouse$Part", name := "meets", desc := "(LConstraintHouse$Part;)V" } : Jvm.MethodName) ({ cls := "ConstraintHouse$Part", name := "meets", desc := "(LConstraintHouse$Part;)V" } : Jvm.MethodName)) ∈ lw_all := lw_g (lw_at lw_m12 13 rfl) rfl
theorem q2935 : (Jvm.Cond.selects "ConstraintHouse$Product" ({ cls := "ConstraintHouse$Part", name := "meet", desc := "(DD)V" } : Jvm.MethodName) ({ cls := "ConstraintHouse$Part", name := "meet", desc := "(DD)V" } : Jvm.MethodName)) ∈ lw_all := lw_g (lw_at lw_m12 35 rfl) rfl
theorem q2958 : (Jvm.Cond.selects "ConstraintHouse$Product" ({ cls := "ConstraintHouse$Part", name := "meets", desc := "(I)V" } : Jvm.MethodName) ({ cls := "ConstraintHouse$Part", name := "meets", desc := "(I)V" } : Jvm.MethodName)) ∈ lw_all := lw_g (lw_at lw_m12 58 rfl) rfl
theorem q2992 : (Jvm.Cond.selects "ConstraintHouse$Product" ({ cls := "ConstraintHouse$Part", name := "lose", desc := "(D)V" } : Jvm.MethodName) ({ cls := "ConstraintHouse$Part", name := "lose", desc := "(D)V" } : Jvm.MethodName)) ∈ lw_all := lw_g (lw_at lw_m12 92 rfl) rfl
theorem q3065 : (Jvm.Cond.selects "ConstraintHouse$Product" ({ cls := "ConstraintHouse$Part", name := "lose", desc := "([I)V" } : Jvm.MethodName) ({ cls := "ConstraintHouse$Part", name := "lose", desc := "([I)V" } : Jvm.MethodName)) ∈ lw_all := lw_g (lw_at lw_m12 165 rfl) rfl
theorem q3103 : (Jvm.Cond.selects "ConstraintHouse$Product" ({ cls := "ConstraintHouse$Pair", name := "hand", desc := "()V" } : Jvm.MethodName) ({ cls := "ConstraintHouse$Product", name := "hand", desc := "()V" } : Jvm.MethodName)) ∈ lw_all := lw_g (lw_at lw_m12 203 rfl) rfl
theorem q3104 : (Jvm.Cond.instanceMethod ({ cls := "ConstraintHouse$Product", name := "hand", desc := "()V" } : Jvm.MethodName)) ∈ lw_all := lw_g (lw_at lw_m12 204 rfl) rfl
theorem q3105 : (Jvm.Cond.code ({ cls := "ConstraintHouse$Product", name := "hand", desc := "()V" } : Jvm.MethodName) prog_26_method_4_code (2 : Nat) (Option.none : Option Jvm.ClassFile.FieldType)) ∈ lw_all := lw_g (lw_at lw_m12 205 rfl) rfl
theorem q3106 : (Jvm.Cond.interfaceEntry "ConstraintHouse$Product" (42 : Nat)) ∈ lw_tbl := lw_at lw_m12 206 rfl
theorem q3107 : (Jvm.Cond.methodLink "ConstraintHouse$Product" (42 : Nat) ({ cls := "ConstraintHouse$Turns", name := "shares", desc := "(LConstraintHouse$Part;LConstraintHouse$Part;LConstraintHouse$Part;)V" } : Jvm.MethodName)) ∈ lw_all := lw_g (lw_at lw_m12 207 rfl) rfl
theorem q3110 : (Jvm.Cond.castable "ConstraintHouse$Product" "ConstraintHouse$Turns") ∈ lw_tbl := lw_at lw_m12 210 rfl
theorem q3111 : (Jvm.Cond.unhidden "ConstraintHouse$Product" "shares" "(LConstraintHouse$Part;LConstraintHouse$Part;LConstraintHouse$Part;)V") ∈ lw_tbl := lw_at lw_m12 211 rfl
theorem q3119 : (Jvm.Cond.selects "ConstraintHouse$Product" ({ cls := "ConstraintHouse$Turns", name := "share", desc := "(LConstraintHouse$Part;LConstraintHouse$Part;LConstraintHouse$Part;)V" } : Jvm.MethodName) ({ cls := "ConstraintHouse$Product", name := "share", desc := "(LConstraintHouse$Part;LConstraintHouse$Part;LConstraintHouse$Part;)V" } : Jvm.MethodName)) ∈ lw_all := lw_g (lw_at lw_m12 219 rfl) rfl
theorem q3120 : (Jvm.Cond.unhidden "ConstraintHouse$Product" "share" "(LConstraintHouse$Part;LConstraintHouse$Part;LConstraintHouse$Part;)V") ∈ lw_tbl := lw_at lw_m12 220 rfl
theorem q3121 : (Jvm.Cond.instanceMethod ({ cls := "ConstraintHouse$Product", name := "share", desc := "(LConstraintHouse$Part;LConstraintHouse$Part;LConstraintHouse$Part;)V" } : Jvm.MethodName)) ∈ lw_all := lw_g (lw_at lw_m12 221 rfl) rfl
theorem q3122 : (Jvm.Cond.publicMethod ({ cls := "ConstraintHouse$Product", name := "share", desc := "(LConstraintHouse$Part;LConstraintHouse$Part;LConstraintHouse$Part;)V" } : Jvm.MethodName)) ∈ lw_tbl := lw_at lw_m12 222 rfl
theorem q3123 : (Jvm.Cond.code ({ cls := "ConstraintHouse$Product", name := "share", desc := "(LConstraintHouse$Part;LConstraintHouse$Part;LConstraintHouse$Part;)V" } : Jvm.MethodName) prog_26_method_3_code (4 : Nat) (Option.none : Option Jvm.ClassFile.FieldType)) ∈ lw_all := lw_g (lw_at lw_m12 223 rfl) rfl
theorem q3124 : (Jvm.Cond.methodLink "ConstraintHouse$Product" (35 : Nat) ({ cls := "ConstraintHouse$Product", name := "over", desc := "(DDDD)V" } : Jvm.MethodName)) ∈ lw_all := lw_g (lw_at lw_m12 224 rfl) rfl
theorem q3125 : (Jvm.Cond.sameMethod "ConstraintHouse$Product" "ConstraintHouse$Scaled" "over" "(DDDD)V") ∈ lw_all := lw_g (lw_at lw_m12 225 rfl) rfl
theorem q3126 : (Jvm.Cond.selects "ConstraintHouse$Product" ({ cls := "ConstraintHouse$Product", name := "over", desc := "(DDDD)V" } : Jvm.MethodName) ({ cls := "ConstraintHouse$Scaled", name := "over", desc := "(DDDD)V" } : Jvm.MethodName)) ∈ lw_all := lw_g (lw_at lw_m12 226 rfl) rfl
theorem q3127 : (Jvm.Cond.methodLink "ConstraintHouse$Product" (38 : Nat) ({ cls := "ConstraintHouse$Product", name := "to", desc := "(LConstraintHouse$Part;)V" } : Jvm.MethodName)) ∈ lw_all := lw_g (lw_at lw_m12 227 rfl) rfl
theorem q3128 : (Jvm.Cond.sameMethod "ConstraintHouse$Product" "ConstraintHouse$Scaled" "to" "(LConstraintHouse$Part;)V") ∈ lw_all := lw_g (lw_at lw_m12 228 rfl) rfl
theorem q3130 : (Jvm.Cond.selects "ConstraintHouse$Product" ({ cls := "ConstraintHouse$Product", name := "to", desc := "(LConstraintHouse$Part;)V" } : Jvm.MethodName) ({ cls := "ConstraintHouse$Scaled", name := "to", desc := "(LConstraintHouse$Part;)V" } : Jvm.MethodName)) ∈ lw_all := lw_g (lw_at lw_m12 230 rfl) rfl
theorem q3254 : (Jvm.Cond.selects "ConstraintHouse$Product" ({ cls := "ConstraintHouse$Part", name := "backwards", desc := "(LConstraintHouse$Solver;)V" } : Jvm.MethodName) ({ cls := "ConstraintHouse$Part", name := "backwards", desc := "(LConstraintHouse$Solver;)V" } : Jvm.MethodName)) ∈ lw_all := lw_g (lw_at lw_m13 114 rfl) rfl
theorem q3272 : (Jvm.Cond.selects "ConstraintHouse$Product" ({ cls := "ConstraintHouse$Part", name := "enter", desc := "(LConstraintHouse$Solver;)V" } : Jvm.MethodName) ({ cls := "ConstraintHouse$Pair", name := "enter", desc := "(LConstraintHouse$Solver;)V" } : Jvm.MethodName)) ∈ lw_all := lw_g (lw_at lw_m13 132 rfl) rfl
theorem q4834 : (Jvm.Cond.castable "ConstraintHouse$Product" "java/lang/Object") ∈ lw_tbl := lw_at lw_m20 14 rfl
theorem q4869 : (Jvm.Cond.castable "ConstraintHouse$Product" "ConstraintHouse$Part") ∈ lw_tbl := lw_at lw_m20 49 rfl
theorem in_X28 : ∀ w ∈ wsX280, w ∈ lw_all := lw_in wsX280 [1737, 1739, 1741, 1742, 1743, 1744, 1745, 1746, 1747] (by decide +kernel) (by decide +kernel)
/-! ConstraintHouse$Quotient -/
set_option maxRecDepth 100000
def RX29 : String := "ConstraintHouse$Quotient"
def TX29 : u_T := fun k => match k with
  | 0 => ("ConstraintHouse$Scaled", "from", "D", false)
  | 1 => ("ConstraintHouse$Scaled", "to", "D", false)
  | 2 => ("ConstraintHouse$Pair", "x", "LConstraintHouse$Part;", true)
  | 3 => ("ConstraintHouse$Pair", "y", "LConstraintHouse$Part;", true)
  | 4 => ("ConstraintHouse$Part", "low", "D", false)
  | 5 => ("ConstraintHouse$Part", "high", "D", false)
  | 6 => ("ConstraintHouse$Part", "no", "Z", false)
  | 7 => ("ConstraintHouse$Part", "yes", "Z", false)
  | _ => ("ConstraintHouse$Part", "letters", "I", false)
def tyX29 : Nat → FieldType := fun k => match k with
  | 0 => .double
  | 1 => .double
  | 2 => .object "ConstraintHouse$Part"
  | 3 => .object "ConstraintHouse$Part"
  | 4 => .double
  | 5 => .double
  | 6 => .boolean
  | 7 => .boolean
  | _ => .int
abbrev wsX290 : List Cond := u_ws RX29 TX29 9
theorem nmX29 : ∀ a, a < 9 → ∀ b, b < 9 → a ≠ b → (TX29 a).2.1 ≠ (TX29 b).2.1 := by decide +kernel
theorem tyX29_ok : ∀ k, k < 9 → parseFieldDescriptor (TX29 k).2.2.1 = some (tyX29 k) := by decide +kernel
abbrev cX29_init : ByteArray := prog_27_method_1_code
def yX29_init : MethodName := ⟨RX29, "<init>", "(LConstraintHouse$Part;LConstraintHouse$Part;)V"⟩
def dkwX29_init_0 : List UInt8 := [42, 43, 44, 183, 0, 1, 177]
abbrev dktX29_init_0 : List UInt8 := dkwX29_init_0 ++ []
theorem dksX29_init_0 : cX29_init.data.toList.drop 0 = dktX29_init_0 := by decide +kernel
theorem dX29_init_0 : decode cX29_init 0 = .ok (.aload_n 0, 1) := dk_42 (dk_at dksX29_init_0 0 rfl rfl)
theorem dX29_init_1 : decode cX29_init 1 = .ok (.aload_n 1, 1) := dk_43 (dk_at dksX29_init_0 1 rfl rfl)
theorem dX29_init_2 : decode cX29_init 2 = .ok (.aload_n 2, 1) := dk_44 (dk_at dksX29_init_0 2 rfl rfl)
theorem dX29_init_3 : decode cX29_init 3 = .ok (.invokespecial 1, 3) := dk_183 0 1 (dk_at dksX29_init_0 3 rfl rfl)
theorem dX29_init_6 : decode cX29_init 6 = .ok (.return_, 1) := dk_177 (dk_at dksX29_init_0 6 rfl rfl)
abbrev cX29_reckon : ByteArray := prog_27_method_2_code
def yX29_reckon : MethodName := ⟨RX29, "reckon", "()V"⟩
def dkwX29_reckon_1 : List UInt8 := [180, 0, 22, 180, 0, 19, 182, 0, 25, 42, 182, 0, 29, 177]
abbrev dktX29_reckon_1 : List UInt8 := dkwX29_reckon_1 ++ []
def dkwX29_reckon_0 : List UInt8 := [42, 42, 180, 0, 7, 180, 0, 13, 42, 180, 0, 7, 180, 0, 19, 42, 180, 0, 22, 180, 0, 13, 42]
abbrev dktX29_reckon_0 : List UInt8 := dkwX29_reckon_0 ++ dktX29_reckon_1
theorem dksX29_reckon_0 : cX29_reckon.data.toList.drop 0 = dktX29_reckon_0 := by decide +kernel
theorem dksX29_reckon_1 : cX29_reckon.data.toList.drop 23 = dktX29_reckon_1 := dk_seg dksX29_reckon_0 23 rfl rfl
theorem dX29_reckon_0 : decode cX29_reckon 0 = .ok (.aload_n 0, 1) := dk_42 (dk_at dksX29_reckon_0 0 rfl rfl)
theorem dX29_reckon_1 : decode cX29_reckon 1 = .ok (.aload_n 0, 1) := dk_42 (dk_at dksX29_reckon_0 1 rfl rfl)
theorem dX29_reckon_2 : decode cX29_reckon 2 = .ok (.getfield 7, 3) := dk_180 0 7 (dk_at dksX29_reckon_0 2 rfl rfl)
theorem dX29_reckon_5 : decode cX29_reckon 5 = .ok (.getfield 13, 3) := dk_180 0 13 (dk_at dksX29_reckon_0 5 rfl rfl)
theorem dX29_reckon_8 : decode cX29_reckon 8 = .ok (.aload_n 0, 1) := dk_42 (dk_at dksX29_reckon_0 8 rfl rfl)
theorem dX29_reckon_9 : decode cX29_reckon 9 = .ok (.getfield 7, 3) := dk_180 0 7 (dk_at dksX29_reckon_0 9 rfl rfl)
theorem dX29_reckon_12 : decode cX29_reckon 12 = .ok (.getfield 19, 3) := dk_180 0 19 (dk_at dksX29_reckon_0 12 rfl rfl)
theorem dX29_reckon_15 : decode cX29_reckon 15 = .ok (.aload_n 0, 1) := dk_42 (dk_at dksX29_reckon_0 15 rfl rfl)
theorem dX29_reckon_16 : decode cX29_reckon 16 = .ok (.getfield 22, 3) := dk_180 0 22 (dk_at dksX29_reckon_0 16 rfl rfl)
theorem dX29_reckon_19 : decode cX29_reckon 19 = .ok (.getfield 13, 3) := dk_180 0 13 (dk_at dksX29_reckon_0 19 rfl rfl)
theorem dX29_reckon_22 : decode cX29_reckon 22 = .ok (.aload_n 0, 1) := dk_42 (dk_at dksX29_reckon_0 22 rfl rfl)
theorem dX29_reckon_23 : decode cX29_reckon 23 = .ok (.getfield 22, 3) := dk_180 0 22 (dk_at dksX29_reckon_1 0 rfl rfl)
theorem dX29_reckon_26 : decode cX29_reckon 26 = .ok (.getfield 19, 3) := dk_180 0 19 (dk_at dksX29_reckon_1 3 rfl rfl)
theorem dX29_reckon_29 : decode cX29_reckon 29 = .ok (.invokevirtual 25, 3) := dk_182 0 25 (dk_at dksX29_reckon_1 6 rfl rfl)
theorem dX29_reckon_32 : decode cX29_reckon 32 = .ok (.aload_n 0, 1) := dk_42 (dk_at dksX29_reckon_1 9 rfl rfl)
theorem dX29_reckon_33 : decode cX29_reckon 33 = .ok (.invokevirtual 29, 3) := dk_182 0 29 (dk_at dksX29_reckon_1 10 rfl rfl)
theorem dX29_reckon_36 : decode cX29_reckon 36 = .ok (.return_, 1) := dk_177 (dk_at dksX29_reckon_1 13 rfl rfl)
abbrev cX29_hand : ByteArray := prog_27_method_3_code
def yX29_hand : MethodName := ⟨RX29, "hand", "()V"⟩
def dkwX29_hand_3 : List UInt8 := [180, 0, 19, 42, 180, 0, 33, 42, 180, 0, 34, 182, 0, 25, 42, 42, 180, 0, 22, 182, 0, 38, 177]
abbrev dktX29_hand_3 : List UInt8 := dkwX29_hand_3 ++ []
def dkwX29_hand_2 : List UInt8 := [182, 0, 35, 42, 42, 180, 0, 7, 182, 0, 38, 42, 42, 180, 0, 7, 180, 0, 13, 42, 180, 0, 7]
abbrev dktX29_hand_2 : List UInt8 := dkwX29_hand_2 ++ dktX29_hand_3
def dkwX29_hand_1 : List UInt8 := [177, 42, 42, 180, 0, 33, 42, 180, 0, 34, 42, 180, 0, 22, 180, 0, 13, 42, 180, 0, 22, 180, 0, 19]
abbrev dktX29_hand_1 : List UInt8 := dkwX29_hand_1 ++ dktX29_hand_2
def dkwX29_hand_0 : List UInt8 := [42, 180, 0, 22, 180, 0, 13, 14, 152, 157, 0, 16, 42, 180, 0, 22, 180, 0, 19, 14, 151, 155, 0, 4]
abbrev dktX29_hand_0 : List UInt8 := dkwX29_hand_0 ++ dktX29_hand_1
theorem dksX29_hand_0 : cX29_hand.data.toList.drop 0 = dktX29_hand_0 := by decide +kernel
theorem dksX29_hand_1 : cX29_hand.data.toList.drop 24 = dktX29_hand_1 := dk_seg dksX29_hand_0 24 rfl rfl
theorem dksX29_hand_2 : cX29_hand.data.toList.drop 48 = dktX29_hand_2 := dk_seg dksX29_hand_1 24 rfl rfl
theorem dksX29_hand_3 : cX29_hand.data.toList.drop 71 = dktX29_hand_3 := dk_seg dksX29_hand_2 23 rfl rfl
theorem dX29_hand_0 : decode cX29_hand 0 = .ok (.aload_n 0, 1) := dk_42 (dk_at dksX29_hand_0 0 rfl rfl)
theorem dX29_hand_1 : decode cX29_hand 1 = .ok (.getfield 22, 3) := dk_180 0 22 (dk_at dksX29_hand_0 1 rfl rfl)
theorem dX29_hand_4 : decode cX29_hand 4 = .ok (.getfield 13, 3) := dk_180 0 13 (dk_at dksX29_hand_0 4 rfl rfl)
theorem dX29_hand_7 : decode cX29_hand 7 = .ok (.dconst 0, 1) := dk_14 (dk_at dksX29_hand_0 7 rfl rfl)
theorem dX29_hand_8 : decode cX29_hand 8 = .ok (.dcmp .g, 1) := dk_152 (dk_at dksX29_hand_0 8 rfl rfl)
theorem dX29_hand_9 : decode cX29_hand 9 = .ok (.ifCond .gt 16, 3) := dk_157 0 16 (dk_at dksX29_hand_0 9 rfl rfl)
theorem dX29_hand_12 : decode cX29_hand 12 = .ok (.aload_n 0, 1) := dk_42 (dk_at dksX29_hand_0 12 rfl rfl)
theorem dX29_hand_13 : decode cX29_hand 13 = .ok (.getfield 22, 3) := dk_180 0 22 (dk_at dksX29_hand_0 13 rfl rfl)
theorem dX29_hand_16 : decode cX29_hand 16 = .ok (.getfield 19, 3) := dk_180 0 19 (dk_at dksX29_hand_0 16 rfl rfl)
theorem dX29_hand_19 : decode cX29_hand 19 = .ok (.dconst 0, 1) := dk_14 (dk_at dksX29_hand_0 19 rfl rfl)
theorem dX29_hand_20 : decode cX29_hand 20 = .ok (.dcmp .l, 1) := dk_151 (dk_at dksX29_hand_0 20 rfl rfl)
theorem dX29_hand_21 : decode cX29_hand 21 = .ok (.ifCond .lt 4, 3) := dk_155 0 4 (dk_at dksX29_hand_0 21 rfl rfl)
theorem dX29_hand_24 : decode cX29_hand 24 = .ok (.return_, 1) := dk_177 (dk_at dksX29_hand_1 0 rfl rfl)
theorem dX29_hand_25 : decode cX29_hand 25 = .ok (.aload_n 0, 1) := dk_42 (dk_at dksX29_hand_1 1 rfl rfl)
theorem dX29_hand_26 : decode cX29_hand 26 = .ok (.aload_n 0, 1) := dk_42 (dk_at dksX29_hand_1 2 rfl rfl)
theorem dX29_hand_27 : decode cX29_hand 27 = .ok (.getfield 33, 3) := dk_180 0 33 (dk_at dksX29_hand_1 3 rfl rfl)
theorem dX29_hand_30 : decode cX29_hand 30 = .ok (.aload_n 0, 1) := dk_42 (dk_at dksX29_hand_1 6 rfl rfl)
theorem dX29_hand_31 : decode cX29_hand 31 = .ok (.getfield 34, 3) := dk_180 0 34 (dk_at dksX29_hand_1 7 rfl rfl)
theorem dX29_hand_34 : decode cX29_hand 34 = .ok (.aload_n 0, 1) := dk_42 (dk_at dksX29_hand_1 10 rfl rfl)
theorem dX29_hand_35 : decode cX29_hand 35 = .ok (.getfield 22, 3) := dk_180 0 22 (dk_at dksX29_hand_1 11 rfl rfl)
theorem dX29_hand_38 : decode cX29_hand 38 = .ok (.getfield 13, 3) := dk_180 0 13 (dk_at dksX29_hand_1 14 rfl rfl)
theorem dX29_hand_41 : decode cX29_hand 41 = .ok (.aload_n 0, 1) := dk_42 (dk_at dksX29_hand_1 17 rfl rfl)
theorem dX29_hand_42 : decode cX29_hand 42 = .ok (.getfield 22, 3) := dk_180 0 22 (dk_at dksX29_hand_1 18 rfl rfl)
theorem dX29_hand_45 : decode cX29_hand 45 = .ok (.getfield 19, 3) := dk_180 0 19 (dk_at dksX29_hand_1 21 rfl rfl)
theorem dX29_hand_48 : decode cX29_hand 48 = .ok (.invokevirtual 35, 3) := dk_182 0 35 (dk_at dksX29_hand_2 0 rfl rfl)
theorem dX29_hand_51 : decode cX29_hand 51 = .ok (.aload_n 0, 1) := dk_42 (dk_at dksX29_hand_2 3 rfl rfl)
theorem dX29_hand_52 : decode cX29_hand 52 = .ok (.aload_n 0, 1) := dk_42 (dk_at dksX29_hand_2 4 rfl rfl)
theorem dX29_hand_53 : decode cX29_hand 53 = .ok (.getfield 7, 3) := dk_180 0 7 (dk_at dksX29_hand_2 5 rfl rfl)
theorem dX29_hand_56 : decode cX29_hand 56 = .ok (.invokevirtual 38, 3) := dk_182 0 38 (dk_at dksX29_hand_2 8 rfl rfl)
theorem dX29_hand_59 : decode cX29_hand 59 = .ok (.aload_n 0, 1) := dk_42 (dk_at dksX29_hand_2 11 rfl rfl)
theorem dX29_hand_60 : decode cX29_hand 60 = .ok (.aload_n 0, 1) := dk_42 (dk_at dksX29_hand_2 12 rfl rfl)
theorem dX29_hand_61 : decode cX29_hand 61 = .ok (.getfield 7, 3) := dk_180 0 7 (dk_at dksX29_hand_2 13 rfl rfl)
theorem dX29_hand_64 : decode cX29_hand 64 = .ok (.getfield 13, 3) := dk_180 0 13 (dk_at dksX29_hand_2 16 rfl rfl)
theorem dX29_hand_67 : decode cX29_hand 67 = .ok (.aload_n 0, 1) := dk_42 (dk_at dksX29_hand_2 19 rfl rfl)
theorem dX29_hand_68 : decode cX29_hand 68 = .ok (.getfield 7, 3) := dk_180 0 7 (dk_at dksX29_hand_2 20 rfl rfl)
theorem dX29_hand_71 : decode cX29_hand 71 = .ok (.getfield 19, 3) := dk_180 0 19 (dk_at dksX29_hand_3 0 rfl rfl)
theorem dX29_hand_74 : decode cX29_hand 74 = .ok (.aload_n 0, 1) := dk_42 (dk_at dksX29_hand_3 3 rfl rfl)
theorem dX29_hand_75 : decode cX29_hand 75 = .ok (.getfield 33, 3) := dk_180 0 33 (dk_at dksX29_hand_3 4 rfl rfl)
theorem dX29_hand_78 : decode cX29_hand 78 = .ok (.aload_n 0, 1) := dk_42 (dk_at dksX29_hand_3 7 rfl rfl)
theorem dX29_hand_79 : decode cX29_hand 79 = .ok (.getfield 34, 3) := dk_180 0 34 (dk_at dksX29_hand_3 8 rfl rfl)
theorem dX29_hand_82 : decode cX29_hand 82 = .ok (.invokevirtual 25, 3) := dk_182 0 25 (dk_at dksX29_hand_3 11 rfl rfl)
theorem dX29_hand_85 : decode cX29_hand 85 = .ok (.aload_n 0, 1) := dk_42 (dk_at dksX29_hand_3 14 rfl rfl)
theorem dX29_hand_86 : decode cX29_hand 86 = .ok (.aload_n 0, 1) := dk_42 (dk_at dksX29_hand_3 15 rfl rfl)
theorem dX29_hand_87 : decode cX29_hand 87 = .ok (.getfield 22, 3) := dk_180 0 22 (dk_at dksX29_hand_3 16 rfl rfl)
theorem dX29_hand_90 : decode cX29_hand 90 = .ok (.invokevirtual 38, 3) := dk_182 0 38 (dk_at dksX29_hand_3 19 rfl rfl)
theorem dX29_hand_93 : decode cX29_hand 93 = .ok (.return_, 1) := dk_177 (dk_at dksX29_hand_3 22 rfl rfl)
theorem q300 : (Jvm.Cond.initialized "ConstraintHouse$Quotient") ∈ lw_all := lw_g (lw_at lw_m1 40 rfl) rfl
theorem q1350 : (Jvm.Cond.fieldLink "ConstraintHouse$Quotient" (13 : Nat) "ConstraintHouse$Part" "low" "D") ∈ lw_all := lw_g (lw_at lw_m5 130 rfl) rfl
theorem q1372 : (Jvm.Cond.fieldLink "ConstraintHouse$Quotient" (33 : Nat) "ConstraintHouse$Quotient" "low" "D") ∈ lw_all := lw_g (lw_at lw_m5 152 rfl) rfl
theorem q1373 : (Jvm.Cond.sameField "ConstraintHouse$Quotient" "ConstraintHouse$Part" "low" "D") ∈ lw_all := lw_g (lw_at lw_m5 153 rfl) rfl
theorem q1389 : (Jvm.Cond.fieldLink "ConstraintHouse$Quotient" (19 : Nat) "ConstraintHouse$Part" "high" "D") ∈ lw_all := lw_g (lw_at lw_m5 169 rfl) rfl
theorem q1407 : (Jvm.Cond.fieldLink "ConstraintHouse$Quotient" (34 : Nat) "ConstraintHouse$Quotient" "high" "D") ∈ lw_all := lw_g (lw_at lw_m5 187 rfl) rfl
theorem q1408 : (Jvm.Cond.sameField "ConstraintHouse$Quotient" "ConstraintHouse$Part" "high" "D") ∈ lw_all := lw_g (lw_at lw_m5 188 rfl) rfl
theorem q1577 : (Jvm.Cond.selects "ConstraintHouse$Quotient" ({ cls := "ConstraintHouse$Part", name := "sort", desc := "()I" } : Jvm.MethodName) ({ cls := "ConstraintHouse$Pair", name := "sort", desc := "()I" } : Jvm.MethodName)) ∈ lw_all := lw_g (lw_at lw_m6 117 rfl) rfl
theorem q1685 : (Jvm.Cond.fieldLink "ConstraintHouse$Quotient" (7 : Nat) "ConstraintHouse$Quotient" "x" "LConstraintHouse$Part;") ∈ lw_all := lw_g (lw_at lw_m6 225 rfl) rfl
theorem q1686 : (Jvm.Cond.sameField "ConstraintHouse$Quotient" "ConstraintHouse$Pair" "x" "LConstraintHouse$Part;") ∈ lw_all := lw_g (lw_at lw_m6 226 rfl) rfl
theorem q1700 : (Jvm.Cond.fieldLink "ConstraintHouse$Quotient" (22 : Nat) "ConstraintHouse$Quotient" "y" "LConstraintHouse$Part;") ∈ lw_all := lw_g (lw_at lw_m7 0 rfl) rfl
theorem q1701 : (Jvm.Cond.sameField "ConstraintHouse$Quotient" "ConstraintHouse$Pair" "y" "LConstraintHouse$Part;") ∈ lw_all := lw_g (lw_at lw_m7 1 rfl) rfl
theorem q1750 : (Jvm.Cond.instantiable "ConstraintHouse$Quotient" (9 : Nat)) ∈ lw_all := lw_g (lw_at lw_m7 50 rfl) rfl
theorem q1752 : (Jvm.Cond.instanceMethod ({ cls := "ConstraintHouse$Quotient", name := "<init>", desc := "(LConstraintHouse$Part;LConstraintHouse$Part;)V" } : Jvm.MethodName)) ∈ lw_all := lw_g (lw_at lw_m7 52 rfl) rfl
theorem q1753 : (Jvm.Cond.code ({ cls := "ConstraintHouse$Quotient", name := "<init>", desc := "(LConstraintHouse$Part;LConstraintHouse$Part;)V" } : Jvm.MethodName) prog_27_method_1_code (3 : Nat) (Option.none : Option Jvm.ClassFile.FieldType)) ∈ lw_all := lw_g (lw_at lw_m7 53 rfl) rfl
theorem q1754 : (Jvm.Cond.methodLink "ConstraintHouse$Quotient" (1 : Nat) ({ cls := "ConstraintHouse$Scaled", name := "<init>", desc := "(LConstraintHouse$Part;LConstraintHouse$Part;)V" } : Jvm.MethodName)) ∈ lw_all := lw_g (lw_at lw_m7 54 rfl) rfl
theorem q1755 : (Jvm.Cond.lays "ConstraintHouse$Quotient" "ConstraintHouse$Scaled" "from" "D") ∈ lw_all := lw_g (lw_at lw_m7 55 rfl) rfl
theorem q1756 : (Jvm.Cond.lays "ConstraintHouse$Quotient" "ConstraintHouse$Scaled" "to" "D") ∈ lw_all := lw_g (lw_at lw_m7 56 rfl) rfl
theorem q1757 : (Jvm.Cond.laysFinal "ConstraintHouse$Quotient" "ConstraintHouse$Pair" "x" "LConstraintHouse$Part;") ∈ lw_all := lw_g (lw_at lw_m7 57 rfl) rfl
theorem q1758 : (Jvm.Cond.laysFinal "ConstraintHouse$Quotient" "ConstraintHouse$Pair" "y" "LConstraintHouse$Part;") ∈ lw_all := lw_g (lw_at lw_m7 58 rfl) rfl
theorem q1759 : (Jvm.Cond.lays "ConstraintHouse$Quotient" "ConstraintHouse$Part" "low" "D") ∈ lw_all := lw_g (lw_at lw_m7 59 rfl) rfl
theorem q1760 : (Jvm.Cond.lays "ConstraintHouse$Quotient" "ConstraintHouse$Part" "high" "D") ∈ lw_all := lw_g (lw_at lw_m7 60 rfl) rfl
theorem q1761 : (Jvm.Cond.lays "ConstraintHouse$Quotient" "ConstraintHouse$Part" "no" "Z") ∈ lw_all := lw_g (lw_at lw_m7 61 rfl) rfl
theorem q1762 : (Jvm.Cond.lays "ConstraintHouse$Quotient" "ConstraintHouse$Part" "yes" "Z") ∈ lw_all := lw_g (lw_at lw_m7 62 rfl) rfl
theorem q1763 : (Jvm.Cond.lays "ConstraintHouse$Quotient" "ConstraintHouse$Part" "letters" "I") ∈ lw_all := lw_g (lw_at lw_m7 63 rfl) rfl
theorem q1764 : (Jvm.Cond.superclass "ConstraintHouse$Quotient" "ConstraintHouse$Scaled") ∈ lw_all := lw_g (lw_at lw_m7 64 rfl) rfl
theorem q2539 : (Jvm.Cond.selects "ConstraintHouse$Quotient" ({ cls := "ConstraintHouse$Narrows", name := "forwards", desc := "(LConstraintHouse$Solver;)V" } : Jvm.MethodName) ({ cls := "ConstraintHouse$Pair", name := "forwards", desc := "(LConstraintHouse$Solver;)V" } : Jvm.MethodName)) ∈ lw_all := lw_g (lw_at lw_m10 119 rfl) rfl
theorem q2715 : (Jvm.Cond.selects "ConstraintHouse$Quotient" ({ cls := "ConstraintHouse$Scaled", name := "hull", desc := "(DDDD)V" } : Jvm.MethodName) ({ cls := "ConstraintHouse$Pair", name := "hull", desc := "(DDDD)V" } : Jvm.MethodName)) ∈ lw_all := lw_g (lw_at lw_m11 55 rfl) rfl
theorem q2727 : (Jvm.Cond.selects "ConstraintHouse$Quotient" ({ cls := "ConstraintHouse$Pair", name := "be", desc := "(DD)V" } : Jvm.MethodName) ({ cls := "ConstraintHouse$Part", name := "be", desc := "(DD)V" } : Jvm.MethodName)) ∈ lw_all := lw_g (lw_at lw_m11 67 rfl) rfl
theorem q2736 : (Jvm.Cond.selects "ConstraintHouse$Quotient" ({ cls := "ConstraintHouse$Scaled", name := "be", desc := "(DD)V" } : Jvm.MethodName) ({ cls := "ConstraintHouse$Part", name := "be", desc := "(DD)V" } : Jvm.MethodName)) ∈ lw_all := lw_g (lw_at lw_m11 76 rfl) rfl
theorem q2743 : (Jvm.Cond.selects "ConstraintHouse$Quotient" ({ cls := "ConstraintHouse$Pair", name := "reckon", desc := "()V" } : Jvm.MethodName) ({ cls := "ConstraintHouse$Quotient", name := "reckon", desc := "()V" } : Jvm.MethodName)) ∈ lw_all := lw_g (lw_at lw_m11 83 rfl) rfl
theorem q2744 : (Jvm.Cond.instanceMethod ({ cls := "ConstraintHouse$Quotient", name := "reckon", desc := "()V" } : Jvm.MethodName)) ∈ lw_all := lw_g (lw_at lw_m11 84 rfl) rfl
theorem q2745 : (Jvm.Cond.code ({ cls := "ConstraintHouse$Quotient", name := "reckon", desc := "()V" } : Jvm.MethodName) prog_27_method_2_code (1 : Nat) (Option.none : Option Jvm.ClassFile.FieldType)) ∈ lw_all := lw_g (lw_at lw_m11 85 rfl) rfl
theorem q2746 : (Jvm.Cond.methodLink "ConstraintHouse$Quotient" (25 : Nat) ({ cls := "ConstraintHouse$Quotient", name := "over", desc := "(DDDD)V" } : Jvm.MethodName)) ∈ lw_all := lw_g (lw_at lw_m11 86 rfl) rfl
theorem q2747 : (Jvm.Cond.sameMethod "ConstraintHouse$Quotient" "ConstraintHouse$Scaled" "over" "(DDDD)V") ∈ lw_all := lw_g (lw_at lw_m11 87 rfl) rfl
theorem q2749 : (Jvm.Cond.selects "ConstraintHouse$Quotient" ({ cls := "ConstraintHouse$Quotient", name := "over", desc := "(DDDD)V" } : Jvm.MethodName) ({ cls := "ConstraintHouse$Scaled", name := "over", desc := "(DDDD)V" } : Jvm.MethodName)) ∈ lw_all := lw_g (lw_at lw_m11 89 rfl) rfl
theorem q2759 : (Jvm.Cond.methodLink "ConstraintHouse$Quotient" (29 : Nat) ({ cls := "ConstraintHouse$Quotient", name := "take", desc := "()V" } : Jvm.MethodName)) ∈ lw_all := lw_g (lw_at lw_m11 99 rfl) rfl
theorem q2760 : (Jvm.Cond.sameMethod "ConstraintHouse$Quotient" "ConstraintHouse$Scaled" "take" "()V") ∈ lw_all := lw_g (lw_at lw_m11 100 rfl) rfl
theorem q2761 : (Jvm.Cond.selects "ConstraintHouse$Quotient" ({ cls := "ConstraintHouse$Quotient", name := "take", desc := "()V" } : Jvm.MethodName) ({ cls := "ConstraintHouse$Scaled", name := "take", desc := "()V" } : Jvm.MethodName)) ∈ lw_all := lw_g (lw_at lw_m11 101 rfl) rfl
theorem q2827 : (Jvm.Cond.selects "ConstraintHouse$Quotient" ({ cls := "ConstraintHouse$Part", name := "hasMeet", desc := "(LConstraintHouse$Part;)Z" } : Jvm.MethodName) ({ cls := "ConstraintHouse$Part", name := "hasMeet", desc := "(LConstraintHouse$Part;)Z" } : Jvm.MethodName)) ∈ lw_all := lw_g (lw_at lw_m11 167 rfl) rfl
theorem q2878 : (Jvm.Cond.selects "ConstraintHouse$Quotient" ({ cls := "ConstraintHouse$Part", name := "meets", desc := "(ZZ)V" } : Jvm.MethodName) ({ cls := "ConstraintHouse$Part", name := "meets", desc := "(ZZ)V" } : Jvm.MethodName)) ∈ lw_all := lw_g (lw_at lw_m11 218 rfl) rfl
theorem q2914 : (Jvm.Cond.selects "ConstraintHouse$Quotient" ({ cls := "ConstraintHouse$Part", name := "meets", desc := "(LConstraintHouse$Part;)V" } : Jvm.MethodName) ({ cls := "ConstraintHouse$Part", name := "meets", desc := "(LConstraintHouse$Part;)V" } : Jvm.MethodName)) ∈ lw_all := lw_g (lw_at lw_m12 14 rfl) rfl
theorem q2936 : (Jvm.Cond.selects "ConstraintHouse$Quotient" ({ cls := "ConstraintHouse$Part", name := "meet", desc := "(DD)V" } : Jvm.MethodName) ({ cls := "ConstraintHouse$Part", name := "meet", desc := "(DD)V" } : Jvm.MethodName)) ∈ lw_all := lw_g (lw_at lw_m12 36 rfl) rfl
theorem q2959 : (Jvm.Cond.selects "ConstraintHouse$Quotient" ({ cls := "ConstraintHouse$Part", name := "meets", desc := "(I)V" } : Jvm.MethodName) ({ cls := "ConstraintHouse$Part", name := "meets", desc := "(I)V" } : Jvm.MethodName)) ∈ lw_all := lw_g (lw_at lw_m12 59 rfl) rfl
theorem q2993 : (Jvm.Cond.selects "ConstraintHouse$Quotient" ({ cls := "ConstraintHouse$Part", name := "lose", desc := "(D)V" } : Jvm.MethodName) ({ cls := "ConstraintHouse$Part", name := "lose", desc := "(D)V" } : Jvm.MethodName)) ∈ lw_all := lw_g (lw_at lw_m12 93 rfl) rfl
theorem q3066 : (Jvm.Cond.selects "ConstraintHouse$Quotient" ({ cls := "ConstraintHouse$Part", name := "lose", desc := "([I)V" } : Jvm.MethodName) ({ cls := "ConstraintHouse$Part", name := "lose", desc := "([I)V" } : Jvm.MethodName)) ∈ lw_all := lw_g (lw_at lw_m12 166 rfl) rfl
theorem q3142 : (Jvm.Cond.selects "ConstraintHouse$Quotient" ({ cls := "ConstraintHouse$Pair", name := "hand", desc := "()V" } : Jvm.MethodName) ({ cls := "ConstraintHouse$Quotient", name := "hand", desc := "()V" } : Jvm.MethodName)) ∈ lw_all := lw_g (lw_at lw_m13 2 rfl) rfl
theorem q3143 : (Jvm.Cond.instanceMethod ({ cls := "ConstraintHouse$Quotient", name := "hand", desc := "()V" } : Jvm.MethodName)) ∈ lw_all := lw_g (lw_at lw_m13 3 rfl) rfl
theorem q3144 : (Jvm.Cond.code ({ cls := "ConstraintHouse$Quotient", name := "hand", desc := "()V" } : Jvm.MethodName) prog_27_method_3_code (1 : Nat) (Option.none : Option Jvm.ClassFile.FieldType)) ∈ lw_all := lw_g (lw_at lw_m13 4 rfl) rfl
theorem q3145 : (Jvm.Cond.methodLink "ConstraintHouse$Quotient" (35 : Nat) ({ cls := "ConstraintHouse$Quotient", name := "times", desc := "(DDDD)V" } : Jvm.MethodName)) ∈ lw_all := lw_g (lw_at lw_m13 5 rfl) rfl
theorem q3146 : (Jvm.Cond.sameMethod "ConstraintHouse$Quotient" "ConstraintHouse$Scaled" "times" "(DDDD)V") ∈ lw_all := lw_g (lw_at lw_m13 6 rfl) rfl
theorem q3147 : (Jvm.Cond.selects "ConstraintHouse$Quotient" ({ cls := "ConstraintHouse$Quotient", name := "times", desc := "(DDDD)V" } : Jvm.MethodName) ({ cls := "ConstraintHouse$Scaled", name := "times", desc := "(DDDD)V" } : Jvm.MethodName)) ∈ lw_all := lw_g (lw_at lw_m13 7 rfl) rfl
theorem q3148 : (Jvm.Cond.methodLink "ConstraintHouse$Quotient" (38 : Nat) ({ cls := "ConstraintHouse$Quotient", name := "to", desc := "(LConstraintHouse$Part;)V" } : Jvm.MethodName)) ∈ lw_all := lw_g (lw_at lw_m13 8 rfl) rfl
theorem q3149 : (Jvm.Cond.sameMethod "ConstraintHouse$Quotient" "ConstraintHouse$Scaled" "to" "(LConstraintHouse$Part;)V") ∈ lw_all := lw_g (lw_at lw_m13 9 rfl) rfl
theorem q3150 : (Jvm.Cond.selects "ConstraintHouse$Quotient" ({ cls := "ConstraintHouse$Quotient", name := "to", desc := "(LConstraintHouse$Part;)V" } : Jvm.MethodName) ({ cls := "ConstraintHouse$Scaled", name := "to", desc := "(LConstraintHouse$Part;)V" } : Jvm.MethodName)) ∈ lw_all := lw_g (lw_at lw_m13 10 rfl) rfl
theorem q3255 : (Jvm.Cond.selects "ConstraintHouse$Quotient" ({ cls := "ConstraintHouse$Part", name := "backwards", desc := "(LConstraintHouse$Solver;)V" } : Jvm.MethodName) ({ cls := "ConstraintHouse$Part", name := "backwards", desc := "(LConstraintHouse$Solver;)V" } : Jvm.MethodName)) ∈ lw_all := lw_g (lw_at lw_m13 115 rfl) rfl
theorem q3273 : (Jvm.Cond.selects "ConstraintHouse$Quotient" ({ cls := "ConstraintHouse$Part", name := "enter", desc := "(LConstraintHouse$Solver;)V" } : Jvm.MethodName) ({ cls := "ConstraintHouse$Pair", name := "enter", desc := "(LConstraintHouse$Solver;)V" } : Jvm.MethodName)) ∈ lw_all := lw_g (lw_at lw_m13 133 rfl) rfl
theorem q4835 : (Jvm.Cond.castable "ConstraintHouse$Quotient" "java/lang/Object") ∈ lw_tbl := lw_at lw_m20 15 rfl
theorem q4870 : (Jvm.Cond.castable "ConstraintHouse$Quotient" "ConstraintHouse$Part") ∈ lw_tbl := lw_at lw_m20 50 rfl
theorem in_X29 : ∀ w ∈ wsX290, w ∈ lw_all := lw_in wsX290 [1755, 1756, 1757, 1758, 1759, 1760, 1761, 1762, 1763] (by decide +kernel) (by decide +kernel)
/-! ConstraintHouse$Extreme -/
set_option maxRecDepth 100000
def RX30 : String := "ConstraintHouse$Extreme"
def TX30 : u_T := fun k => match k with
  | 0 => ("ConstraintHouse$Pair", "x", "LConstraintHouse$Part;", true)
  | 1 => ("ConstraintHouse$Pair", "y", "LConstraintHouse$Part;", true)
  | 2 => ("ConstraintHouse$Part", "low", "D", false)
  | 3 => ("ConstraintHouse$Part", "high", "D", false)
  | 4 => ("ConstraintHouse$Part", "no", "Z", false)
  | 5 => ("ConstraintHouse$Part", "yes", "Z", false)
  | 6 => ("ConstraintHouse$Part", "letters", "I", false)
  | _ => ("ConstraintHouse$Extreme", "least", "Z", true)
def tyX30 : Nat → FieldType := fun k => match k with
  | 0 => .object "ConstraintHouse$Part"
  | 1 => .object "ConstraintHouse$Part"
  | 2 => .double
  | 3 => .double
  | 4 => .boolean
  | 5 => .boolean
  | 6 => .int
  | _ => .boolean
abbrev wsX300 : List Cond := u_ws RX30 TX30 8
theorem nmX30 : ∀ a, a < 8 → ∀ b, b < 8 → a ≠ b → (TX30 a).2.1 ≠ (TX30 b).2.1 := by decide +kernel
theorem tyX30_ok : ∀ k, k < 8 → parseFieldDescriptor (TX30 k).2.2.1 = some (tyX30 k) := by decide +kernel
abbrev cX30_init : ByteArray := prog_11_method_1_code
def yX30_init : MethodName := ⟨RX30, "<init>", "(LConstraintHouse$Part;LConstraintHouse$Part;Z)V"⟩
def dkwX30_init_0 : List UInt8 := [42, 43, 44, 183, 0, 1, 42, 29, 181, 0, 7, 177]
abbrev dktX30_init_0 : List UInt8 := dkwX30_init_0 ++ []
theorem dksX30_init_0 : cX30_init.data.toList.drop 0 = dktX30_init_0 := by decide +kernel
theorem dX30_init_0 : decode cX30_init 0 = .ok (.aload_n 0, 1) := dk_42 (dk_at dksX30_init_0 0 rfl rfl)
theorem dX30_init_1 : decode cX30_init 1 = .ok (.aload_n 1, 1) := dk_43 (dk_at dksX30_init_0 1 rfl rfl)
theorem dX30_init_2 : decode cX30_init 2 = .ok (.aload_n 2, 1) := dk_44 (dk_at dksX30_init_0 2 rfl rfl)
theorem dX30_init_3 : decode cX30_init 3 = .ok (.invokespecial 1, 3) := dk_183 0 1 (dk_at dksX30_init_0 3 rfl rfl)
theorem dX30_init_6 : decode cX30_init 6 = .ok (.aload_n 0, 1) := dk_42 (dk_at dksX30_init_0 6 rfl rfl)
theorem dX30_init_7 : decode cX30_init 7 = .ok (.iload_n 3, 1) := dk_29 (dk_at dksX30_init_0 7 rfl rfl)
theorem dX30_init_8 : decode cX30_init 8 = .ok (.putfield 7, 3) := dk_181 0 7 (dk_at dksX30_init_0 8 rfl rfl)
theorem dX30_init_11 : decode cX30_init 11 = .ok (.return_, 1) := dk_177 (dk_at dksX30_init_0 11 rfl rfl)
abbrev cX30_reckon : ByteArray := prog_11_method_2_code
def yX30_reckon : MethodName := ⟨RX30, "reckon", "()V"⟩
def dkwX30_reckon_3 : List UInt8 := [180, 0, 13, 180, 0, 32, 42, 180, 0, 23, 180, 0, 32, 184, 0, 39, 182, 0, 35, 177]
abbrev dktX30_reckon_3 : List UInt8 := dkwX30_reckon_3 ++ []
def dkwX30_reckon_2 : List UInt8 := [167, 0, 41, 42, 42, 180, 0, 13, 180, 0, 17, 42, 180, 0, 23, 180, 0, 17, 184, 0, 39, 42]
abbrev dktX30_reckon_2 : List UInt8 := dkwX30_reckon_2 ++ dktX30_reckon_3
def dkwX30_reckon_1 : List UInt8 := [184, 0, 26, 42, 180, 0, 13, 180, 0, 32, 42, 180, 0, 23, 180, 0, 32, 184, 0, 26, 182, 0, 35]
abbrev dktX30_reckon_1 : List UInt8 := dkwX30_reckon_1 ++ dktX30_reckon_2
def dkwX30_reckon_0 : List UInt8 := [42, 180, 0, 7, 153, 0, 44, 42, 42, 180, 0, 13, 180, 0, 17, 42, 180, 0, 23, 180, 0, 17]
abbrev dktX30_reckon_0 : List UInt8 := dkwX30_reckon_0 ++ dktX30_reckon_1
theorem dksX30_reckon_0 : cX30_reckon.data.toList.drop 0 = dktX30_reckon_0 := by decide +kernel
theorem dksX30_reckon_1 : cX30_reckon.data.toList.drop 22 = dktX30_reckon_1 := dk_seg dksX30_reckon_0 22 rfl rfl
theorem dksX30_reckon_2 : cX30_reckon.data.toList.drop 45 = dktX30_reckon_2 := dk_seg dksX30_reckon_1 23 rfl rfl
theorem dksX30_reckon_3 : cX30_reckon.data.toList.drop 67 = dktX30_reckon_3 := dk_seg dksX30_reckon_2 22 rfl rfl
theorem dX30_reckon_0 : decode cX30_reckon 0 = .ok (.aload_n 0, 1) := dk_42 (dk_at dksX30_reckon_0 0 rfl rfl)
theorem dX30_reckon_1 : decode cX30_reckon 1 = .ok (.getfield 7, 3) := dk_180 0 7 (dk_at dksX30_reckon_0 1 rfl rfl)
theorem dX30_reckon_4 : decode cX30_reckon 4 = .ok (.ifCond .eq 44, 3) := dk_153 0 44 (dk_at dksX30_reckon_0 4 rfl rfl)
theorem dX30_reckon_7 : decode cX30_reckon 7 = .ok (.aload_n 0, 1) := dk_42 (dk_at dksX30_reckon_0 7 rfl rfl)
theorem dX30_reckon_8 : decode cX30_reckon 8 = .ok (.aload_n 0, 1) := dk_42 (dk_at dksX30_reckon_0 8 rfl rfl)
theorem dX30_reckon_9 : decode cX30_reckon 9 = .ok (.getfield 13, 3) := dk_180 0 13 (dk_at dksX30_reckon_0 9 rfl rfl)
theorem dX30_reckon_12 : decode cX30_reckon 12 = .ok (.getfield 17, 3) := dk_180 0 17 (dk_at dksX30_reckon_0 12 rfl rfl)
theorem dX30_reckon_15 : decode cX30_reckon 15 = .ok (.aload_n 0, 1) := dk_42 (dk_at dksX30_reckon_0 15 rfl rfl)
theorem dX30_reckon_16 : decode cX30_reckon 16 = .ok (.getfield 23, 3) := dk_180 0 23 (dk_at dksX30_reckon_0 16 rfl rfl)
theorem dX30_reckon_19 : decode cX30_reckon 19 = .ok (.getfield 17, 3) := dk_180 0 17 (dk_at dksX30_reckon_0 19 rfl rfl)
theorem dX30_reckon_22 : decode cX30_reckon 22 = .ok (.invokestatic 26, 3) := dk_184 0 26 (dk_at dksX30_reckon_1 0 rfl rfl)
theorem dX30_reckon_25 : decode cX30_reckon 25 = .ok (.aload_n 0, 1) := dk_42 (dk_at dksX30_reckon_1 3 rfl rfl)
theorem dX30_reckon_26 : decode cX30_reckon 26 = .ok (.getfield 13, 3) := dk_180 0 13 (dk_at dksX30_reckon_1 4 rfl rfl)
theorem dX30_reckon_29 : decode cX30_reckon 29 = .ok (.getfield 32, 3) := dk_180 0 32 (dk_at dksX30_reckon_1 7 rfl rfl)
theorem dX30_reckon_32 : decode cX30_reckon 32 = .ok (.aload_n 0, 1) := dk_42 (dk_at dksX30_reckon_1 10 rfl rfl)
theorem dX30_reckon_33 : decode cX30_reckon 33 = .ok (.getfield 23, 3) := dk_180 0 23 (dk_at dksX30_reckon_1 11 rfl rfl)
theorem dX30_reckon_36 : decode cX30_reckon 36 = .ok (.getfield 32, 3) := dk_180 0 32 (dk_at dksX30_reckon_1 14 rfl rfl)
theorem dX30_reckon_39 : decode cX30_reckon 39 = .ok (.invokestatic 26, 3) := dk_184 0 26 (dk_at dksX30_reckon_1 17 rfl rfl)
theorem dX30_reckon_42 : decode cX30_reckon 42 = .ok (.invokevirtual 35, 3) := dk_182 0 35 (dk_at dksX30_reckon_1 20 rfl rfl)
theorem dX30_reckon_45 : decode cX30_reckon 45 = .ok (.goto 41, 3) := dk_167 0 41 (dk_at dksX30_reckon_2 0 rfl rfl)
theorem dX30_reckon_48 : decode cX30_reckon 48 = .ok (.aload_n 0, 1) := dk_42 (dk_at dksX30_reckon_2 3 rfl rfl)
theorem dX30_reckon_49 : decode cX30_reckon 49 = .ok (.aload_n 0, 1) := dk_42 (dk_at dksX30_reckon_2 4 rfl rfl)
theorem dX30_reckon_50 : decode cX30_reckon 50 = .ok (.getfield 13, 3) := dk_180 0 13 (dk_at dksX30_reckon_2 5 rfl rfl)
theorem dX30_reckon_53 : decode cX30_reckon 53 = .ok (.getfield 17, 3) := dk_180 0 17 (dk_at dksX30_reckon_2 8 rfl rfl)
theorem dX30_reckon_56 : decode cX30_reckon 56 = .ok (.aload_n 0, 1) := dk_42 (dk_at dksX30_reckon_2 11 rfl rfl)
theorem dX30_reckon_57 : decode cX30_reckon 57 = .ok (.getfield 23, 3) := dk_180 0 23 (dk_at dksX30_reckon_2 12 rfl rfl)
theorem dX30_reckon_60 : decode cX30_reckon 60 = .ok (.getfield 17, 3) := dk_180 0 17 (dk_at dksX30_reckon_2 15 rfl rfl)
theorem dX30_reckon_63 : decode cX30_reckon 63 = .ok (.invokestatic 39, 3) := dk_184 0 39 (dk_at dksX30_reckon_2 18 rfl rfl)
theorem dX30_reckon_66 : decode cX30_reckon 66 = .ok (.aload_n 0, 1) := dk_42 (dk_at dksX30_reckon_2 21 rfl rfl)
theorem dX30_reckon_67 : decode cX30_reckon 67 = .ok (.getfield 13, 3) := dk_180 0 13 (dk_at dksX30_reckon_3 0 rfl rfl)
theorem dX30_reckon_70 : decode cX30_reckon 70 = .ok (.getfield 32, 3) := dk_180 0 32 (dk_at dksX30_reckon_3 3 rfl rfl)
theorem dX30_reckon_73 : decode cX30_reckon 73 = .ok (.aload_n 0, 1) := dk_42 (dk_at dksX30_reckon_3 6 rfl rfl)
theorem dX30_reckon_74 : decode cX30_reckon 74 = .ok (.getfield 23, 3) := dk_180 0 23 (dk_at dksX30_reckon_3 7 rfl rfl)
theorem dX30_reckon_77 : decode cX30_reckon 77 = .ok (.getfield 32, 3) := dk_180 0 32 (dk_at dksX30_reckon_3 10 rfl rfl)
theorem dX30_reckon_80 : decode cX30_reckon 80 = .ok (.invokestatic 39, 3) := dk_184 0 39 (dk_at dksX30_reckon_3 13 rfl rfl)
theorem dX30_reckon_83 : decode cX30_reckon 83 = .ok (.invokevirtual 35, 3) := dk_182 0 35 (dk_at dksX30_reckon_3 16 rfl rfl)
theorem dX30_reckon_86 : decode cX30_reckon 86 = .ok (.return_, 1) := dk_177 (dk_at dksX30_reckon_3 19 rfl rfl)
abbrev cX30_hand : ByteArray := prog_11_method_3_code
def yX30_hand : MethodName := ⟨RX30, "hand", "()V"⟩
def dkwX30_hand_7 : List UInt8 := [42, 180, 0, 42, 152, 156, 0, 17, 42, 180, 0, 23, 42, 180, 0, 42, 20, 0, 43, 182, 0, 45, 177]
abbrev dktX30_hand_7 : List UInt8 := dkwX30_hand_7 ++ []
def dkwX30_hand_6 : List UInt8 := [156, 0, 17, 42, 180, 0, 13, 42, 180, 0, 42, 20, 0, 43, 182, 0, 45, 42, 180, 0, 13, 180, 0, 32]
abbrev dktX30_hand_6 : List UInt8 := dkwX30_hand_6 ++ dktX30_hand_7
def dkwX30_hand_5 : List UInt8 := [20, 0, 49, 42, 180, 0, 48, 182, 0, 45, 42, 180, 0, 23, 180, 0, 32, 42, 180, 0, 42, 152]
abbrev dktX30_hand_5 : List UInt8 := dkwX30_hand_5 ++ dktX30_hand_6
def dkwX30_hand_4 : List UInt8 := [182, 0, 45, 177, 42, 180, 0, 13, 20, 0, 49, 42, 180, 0, 48, 182, 0, 45, 42, 180, 0, 23]
abbrev dktX30_hand_4 : List UInt8 := dkwX30_hand_4 ++ dktX30_hand_5
def dkwX30_hand_3 : List UInt8 := [180, 0, 17, 42, 180, 0, 48, 151, 158, 0, 17, 42, 180, 0, 23, 20, 0, 49, 42, 180, 0, 48]
abbrev dktX30_hand_3 : List UInt8 := dkwX30_hand_3 ++ dktX30_hand_4
def dkwX30_hand_2 : List UInt8 := [151, 158, 0, 17, 42, 180, 0, 13, 20, 0, 49, 42, 180, 0, 48, 182, 0, 45, 42, 180, 0, 13]
abbrev dktX30_hand_2 : List UInt8 := dkwX30_hand_2 ++ dktX30_hand_3
def dkwX30_hand_1 : List UInt8 := [180, 0, 23, 42, 180, 0, 42, 20, 0, 43, 182, 0, 45, 42, 180, 0, 23, 180, 0, 17, 42, 180, 0, 48]
abbrev dktX30_hand_1 : List UInt8 := dkwX30_hand_1 ++ dktX30_hand_2
def dkwX30_hand_0 : List UInt8 := [42, 180, 0, 7, 153, 0, 90, 42, 180, 0, 13, 42, 180, 0, 42, 20, 0, 43, 182, 0, 45, 42]
abbrev dktX30_hand_0 : List UInt8 := dkwX30_hand_0 ++ dktX30_hand_1
theorem dksX30_hand_0 : cX30_hand.data.toList.drop 0 = dktX30_hand_0 := by decide +kernel
theorem dksX30_hand_1 : cX30_hand.data.toList.drop 22 = dktX30_hand_1 := dk_seg dksX30_hand_0 22 rfl rfl
theorem dksX30_hand_2 : cX30_hand.data.toList.drop 46 = dktX30_hand_2 := dk_seg dksX30_hand_1 24 rfl rfl
theorem dksX30_hand_3 : cX30_hand.data.toList.drop 68 = dktX30_hand_3 := dk_seg dksX30_hand_2 22 rfl rfl
theorem dksX30_hand_4 : cX30_hand.data.toList.drop 90 = dktX30_hand_4 := dk_seg dksX30_hand_3 22 rfl rfl
theorem dksX30_hand_5 : cX30_hand.data.toList.drop 112 = dktX30_hand_5 := dk_seg dksX30_hand_4 22 rfl rfl
theorem dksX30_hand_6 : cX30_hand.data.toList.drop 134 = dktX30_hand_6 := dk_seg dksX30_hand_5 22 rfl rfl
theorem dksX30_hand_7 : cX30_hand.data.toList.drop 158 = dktX30_hand_7 := dk_seg dksX30_hand_6 24 rfl rfl
theorem dX30_hand_0 : decode cX30_hand 0 = .ok (.aload_n 0, 1) := dk_42 (dk_at dksX30_hand_0 0 rfl rfl)
theorem dX30_hand_1 : decode cX30_hand 1 = .ok (.getfield 7, 3) := dk_180 0 7 (dk_at dksX30_hand_0 1 rfl rfl)
theorem dX30_hand_4 : decode cX30_hand 4 = .ok (.ifCond .eq 90, 3) := dk_153 0 90 (dk_at dksX30_hand_0 4 rfl rfl)
theorem dX30_hand_7 : decode cX30_hand 7 = .ok (.aload_n 0, 1) := dk_42 (dk_at dksX30_hand_0 7 rfl rfl)
theorem dX30_hand_8 : decode cX30_hand 8 = .ok (.getfield 13, 3) := dk_180 0 13 (dk_at dksX30_hand_0 8 rfl rfl)
theorem dX30_hand_11 : decode cX30_hand 11 = .ok (.aload_n 0, 1) := dk_42 (dk_at dksX30_hand_0 11 rfl rfl)
theorem dX30_hand_12 : decode cX30_hand 12 = .ok (.getfield 42, 3) := dk_180 0 42 (dk_at dksX30_hand_0 12 rfl rfl)
theorem dX30_hand_15 : decode cX30_hand 15 = .ok (.ldc2_w 43, 3) := dk_20 0 43 (dk_at dksX30_hand_0 15 rfl rfl)
theorem dX30_hand_18 : decode cX30_hand 18 = .ok (.invokevirtual 45, 3) := dk_182 0 45 (dk_at dksX30_hand_0 18 rfl rfl)
theorem dX30_hand_21 : decode cX30_hand 21 = .ok (.aload_n 0, 1) := dk_42 (dk_at dksX30_hand_0 21 rfl rfl)
theorem dX30_hand_22 : decode cX30_hand 22 = .ok (.getfield 23, 3) := dk_180 0 23 (dk_at dksX30_hand_1 0 rfl rfl)
theorem dX30_hand_25 : decode cX30_hand 25 = .ok (.aload_n 0, 1) := dk_42 (dk_at dksX30_hand_1 3 rfl rfl)
theorem dX30_hand_26 : decode cX30_hand 26 = .ok (.getfield 42, 3) := dk_180 0 42 (dk_at dksX30_hand_1 4 rfl rfl)
theorem dX30_hand_29 : decode cX30_hand 29 = .ok (.ldc2_w 43, 3) := dk_20 0 43 (dk_at dksX30_hand_1 7 rfl rfl)
theorem dX30_hand_32 : decode cX30_hand 32 = .ok (.invokevirtual 45, 3) := dk_182 0 45 (dk_at dksX30_hand_1 10 rfl rfl)
theorem dX30_hand_35 : decode cX30_hand 35 = .ok (.aload_n 0, 1) := dk_42 (dk_at dksX30_hand_1 13 rfl rfl)
theorem dX30_hand_36 : decode cX30_hand 36 = .ok (.getfield 23, 3) := dk_180 0 23 (dk_at dksX30_hand_1 14 rfl rfl)
theorem dX30_hand_39 : decode cX30_hand 39 = .ok (.getfield 17, 3) := dk_180 0 17 (dk_at dksX30_hand_1 17 rfl rfl)
theorem dX30_hand_42 : decode cX30_hand 42 = .ok (.aload_n 0, 1) := dk_42 (dk_at dksX30_hand_1 20 rfl rfl)
theorem dX30_hand_43 : decode cX30_hand 43 = .ok (.getfield 48, 3) := dk_180 0 48 (dk_at dksX30_hand_1 21 rfl rfl)
theorem dX30_hand_46 : decode cX30_hand 46 = .ok (.dcmp .l, 1) := dk_151 (dk_at dksX30_hand_2 0 rfl rfl)
theorem dX30_hand_47 : decode cX30_hand 47 = .ok (.ifCond .le 17, 3) := dk_158 0 17 (dk_at dksX30_hand_2 1 rfl rfl)
theorem dX30_hand_50 : decode cX30_hand 50 = .ok (.aload_n 0, 1) := dk_42 (dk_at dksX30_hand_2 4 rfl rfl)
theorem dX30_hand_51 : decode cX30_hand 51 = .ok (.getfield 13, 3) := dk_180 0 13 (dk_at dksX30_hand_2 5 rfl rfl)
theorem dX30_hand_54 : decode cX30_hand 54 = .ok (.ldc2_w 49, 3) := dk_20 0 49 (dk_at dksX30_hand_2 8 rfl rfl)
theorem dX30_hand_57 : decode cX30_hand 57 = .ok (.aload_n 0, 1) := dk_42 (dk_at dksX30_hand_2 11 rfl rfl)
theorem dX30_hand_58 : decode cX30_hand 58 = .ok (.getfield 48, 3) := dk_180 0 48 (dk_at dksX30_hand_2 12 rfl rfl)
theorem dX30_hand_61 : decode cX30_hand 61 = .ok (.invokevirtual 45, 3) := dk_182 0 45 (dk_at dksX30_hand_2 15 rfl rfl)
theorem dX30_hand_64 : decode cX30_hand 64 = .ok (.aload_n 0, 1) := dk_42 (dk_at dksX30_hand_2 18 rfl rfl)
theorem dX30_hand_65 : decode cX30_hand 65 = .ok (.getfield 13, 3) := dk_180 0 13 (dk_at dksX30_hand_2 19 rfl rfl)
theorem dX30_hand_68 : decode cX30_hand 68 = .ok (.getfield 17, 3) := dk_180 0 17 (dk_at dksX30_hand_3 0 rfl rfl)
theorem dX30_hand_71 : decode cX30_hand 71 = .ok (.aload_n 0, 1) := dk_42 (dk_at dksX30_hand_3 3 rfl rfl)
theorem dX30_hand_72 : decode cX30_hand 72 = .ok (.getfield 48, 3) := dk_180 0 48 (dk_at dksX30_hand_3 4 rfl rfl)
theorem dX30_hand_75 : decode cX30_hand 75 = .ok (.dcmp .l, 1) := dk_151 (dk_at dksX30_hand_3 7 rfl rfl)
theorem dX30_hand_76 : decode cX30_hand 76 = .ok (.ifCond .le 17, 3) := dk_158 0 17 (dk_at dksX30_hand_3 8 rfl rfl)
theorem dX30_hand_79 : decode cX30_hand 79 = .ok (.aload_n 0, 1) := dk_42 (dk_at dksX30_hand_3 11 rfl rfl)
theorem dX30_hand_80 : decode cX30_hand 80 = .ok (.getfield 23, 3) := dk_180 0 23 (dk_at dksX30_hand_3 12 rfl rfl)
theorem dX30_hand_83 : decode cX30_hand 83 = .ok (.ldc2_w 49, 3) := dk_20 0 49 (dk_at dksX30_hand_3 15 rfl rfl)
theorem dX30_hand_86 : decode cX30_hand 86 = .ok (.aload_n 0, 1) := dk_42 (dk_at dksX30_hand_3 18 rfl rfl)
theorem dX30_hand_87 : decode cX30_hand 87 = .ok (.getfield 48, 3) := dk_180 0 48 (dk_at dksX30_hand_3 19 rfl rfl)
theorem dX30_hand_90 : decode cX30_hand 90 = .ok (.invokevirtual 45, 3) := dk_182 0 45 (dk_at dksX30_hand_4 0 rfl rfl)
theorem dX30_hand_93 : decode cX30_hand 93 = .ok (.return_, 1) := dk_177 (dk_at dksX30_hand_4 3 rfl rfl)
theorem dX30_hand_94 : decode cX30_hand 94 = .ok (.aload_n 0, 1) := dk_42 (dk_at dksX30_hand_4 4 rfl rfl)
theorem dX30_hand_95 : decode cX30_hand 95 = .ok (.getfield 13, 3) := dk_180 0 13 (dk_at dksX30_hand_4 5 rfl rfl)
theorem dX30_hand_98 : decode cX30_hand 98 = .ok (.ldc2_w 49, 3) := dk_20 0 49 (dk_at dksX30_hand_4 8 rfl rfl)
theorem dX30_hand_101 : decode cX30_hand 101 = .ok (.aload_n 0, 1) := dk_42 (dk_at dksX30_hand_4 11 rfl rfl)
theorem dX30_hand_102 : decode cX30_hand 102 = .ok (.getfield 48, 3) := dk_180 0 48 (dk_at dksX30_hand_4 12 rfl rfl)
theorem dX30_hand_105 : decode cX30_hand 105 = .ok (.invokevirtual 45, 3) := dk_182 0 45 (dk_at dksX30_hand_4 15 rfl rfl)
theorem dX30_hand_108 : decode cX30_hand 108 = .ok (.aload_n 0, 1) := dk_42 (dk_at dksX30_hand_4 18 rfl rfl)
theorem dX30_hand_109 : decode cX30_hand 109 = .ok (.getfield 23, 3) := dk_180 0 23 (dk_at dksX30_hand_4 19 rfl rfl)
theorem dX30_hand_112 : decode cX30_hand 112 = .ok (.ldc2_w 49, 3) := dk_20 0 49 (dk_at dksX30_hand_5 0 rfl rfl)
theorem dX30_hand_115 : decode cX30_hand 115 = .ok (.aload_n 0, 1) := dk_42 (dk_at dksX30_hand_5 3 rfl rfl)
theorem dX30_hand_116 : decode cX30_hand 116 = .ok (.getfield 48, 3) := dk_180 0 48 (dk_at dksX30_hand_5 4 rfl rfl)
theorem dX30_hand_119 : decode cX30_hand 119 = .ok (.invokevirtual 45, 3) := dk_182 0 45 (dk_at dksX30_hand_5 7 rfl rfl)
theorem dX30_hand_122 : decode cX30_hand 122 = .ok (.aload_n 0, 1) := dk_42 (dk_at dksX30_hand_5 10 rfl rfl)
theorem dX30_hand_123 : decode cX30_hand 123 = .ok (.getfield 23, 3) := dk_180 0 23 (dk_at dksX30_hand_5 11 rfl rfl)
theorem dX30_hand_126 : decode cX30_hand 126 = .ok (.getfield 32, 3) := dk_180 0 32 (dk_at dksX30_hand_5 14 rfl rfl)
theorem dX30_hand_129 : decode cX30_hand 129 = .ok (.aload_n 0, 1) := dk_42 (dk_at dksX30_hand_5 17 rfl rfl)
theorem dX30_hand_130 : decode cX30_hand 130 = .ok (.getfield 42, 3) := dk_180 0 42 (dk_at dksX30_hand_5 18 rfl rfl)
theorem dX30_hand_133 : decode cX30_hand 133 = .ok (.dcmp .g, 1) := dk_152 (dk_at dksX30_hand_5 21 rfl rfl)
theorem dX30_hand_134 : decode cX30_hand 134 = .ok (.ifCond .ge 17, 3) := dk_156 0 17 (dk_at dksX30_hand_6 0 rfl rfl)
theorem dX30_hand_137 : decode cX30_hand 137 = .ok (.aload_n 0, 1) := dk_42 (dk_at dksX30_hand_6 3 rfl rfl)
theorem dX30_hand_138 : decode cX30_hand 138 = .ok (.getfield 13, 3) := dk_180 0 13 (dk_at dksX30_hand_6 4 rfl rfl)
theorem dX30_hand_141 : decode cX30_hand 141 = .ok (.aload_n 0, 1) := dk_42 (dk_at dksX30_hand_6 7 rfl rfl)
theorem dX30_hand_142 : decode cX30_hand 142 = .ok (.getfield 42, 3) := dk_180 0 42 (dk_at dksX30_hand_6 8 rfl rfl)
theorem dX30_hand_145 : decode cX30_hand 145 = .ok (.ldc2_w 43, 3) := dk_20 0 43 (dk_at dksX30_hand_6 11 rfl rfl)
theorem dX30_hand_148 : decode cX30_hand 148 = .ok (.invokevirtual 45, 3) := dk_182 0 45 (dk_at dksX30_hand_6 14 rfl rfl)
theorem dX30_hand_151 : decode cX30_hand 151 = .ok (.aload_n 0, 1) := dk_42 (dk_at dksX30_hand_6 17 rfl rfl)
theorem dX30_hand_152 : decode cX30_hand 152 = .ok (.getfield 13, 3) := dk_180 0 13 (dk_at dksX30_hand_6 18 rfl rfl)
theorem dX30_hand_155 : decode cX30_hand 155 = .ok (.getfield 32, 3) := dk_180 0 32 (dk_at dksX30_hand_6 21 rfl rfl)
theorem dX30_hand_158 : decode cX30_hand 158 = .ok (.aload_n 0, 1) := dk_42 (dk_at dksX30_hand_7 0 rfl rfl)
theorem dX30_hand_159 : decode cX30_hand 159 = .ok (.getfield 42, 3) := dk_180 0 42 (dk_at dksX30_hand_7 1 rfl rfl)
theorem dX30_hand_162 : decode cX30_hand 162 = .ok (.dcmp .g, 1) := dk_152 (dk_at dksX30_hand_7 4 rfl rfl)
theorem dX30_hand_163 : decode cX30_hand 163 = .ok (.ifCond .ge 17, 3) := dk_156 0 17 (dk_at dksX30_hand_7 5 rfl rfl)
theorem dX30_hand_166 : decode cX30_hand 166 = .ok (.aload_n 0, 1) := dk_42 (dk_at dksX30_hand_7 8 rfl rfl)
theorem dX30_hand_167 : decode cX30_hand 167 = .ok (.getfield 23, 3) := dk_180 0 23 (dk_at dksX30_hand_7 9 rfl rfl)
theorem dX30_hand_170 : decode cX30_hand 170 = .ok (.aload_n 0, 1) := dk_42 (dk_at dksX30_hand_7 12 rfl rfl)
theorem dX30_hand_171 : decode cX30_hand 171 = .ok (.getfield 42, 3) := dk_180 0 42 (dk_at dksX30_hand_7 13 rfl rfl)
theorem dX30_hand_174 : decode cX30_hand 174 = .ok (.ldc2_w 43, 3) := dk_20 0 43 (dk_at dksX30_hand_7 16 rfl rfl)
theorem dX30_hand_177 : decode cX30_hand 177 = .ok (.invokevirtual 45, 3) := dk_182 0 45 (dk_at dksX30_hand_7 19 rfl rfl)
theorem dX30_hand_180 : decode cX30_hand 180 = .ok (.return_, 1) := dk_177 (dk_at dksX30_hand_7 22 rfl rfl)
theorem q301 : (Jvm.Cond.initialized "ConstraintHouse$Extreme") ∈ lw_all := lw_g (lw_at lw_m1 41 rfl) rfl
theorem q1355 : (Jvm.Cond.fieldLink "ConstraintHouse$Extreme" (17 : Nat) "ConstraintHouse$Part" "low" "D") ∈ lw_all := lw_g (lw_at lw_m5 135 rfl) rfl
theorem q1366 : (Jvm.Cond.fieldLink "ConstraintHouse$Extreme" (42 : Nat) "ConstraintHouse$Extreme" "low" "D") ∈ lw_all := lw_g (lw_at lw_m5 146 rfl) rfl
theorem q1367 : (Jvm.Cond.sameField "ConstraintHouse$Extreme" "ConstraintHouse$Part" "low" "D") ∈ lw_all := lw_g (lw_at lw_m5 147 rfl) rfl
theorem q1395 : (Jvm.Cond.fieldLink "ConstraintHouse$Extreme" (32 : Nat) "ConstraintHouse$Part" "high" "D") ∈ lw_all := lw_g (lw_at lw_m5 175 rfl) rfl
theorem q1410 : (Jvm.Cond.fieldLink "ConstraintHouse$Extreme" (48 : Nat) "ConstraintHouse$Extreme" "high" "D") ∈ lw_all := lw_g (lw_at lw_m5 190 rfl) rfl
theorem q1411 : (Jvm.Cond.sameField "ConstraintHouse$Extreme" "ConstraintHouse$Part" "high" "D") ∈ lw_all := lw_g (lw_at lw_m5 191 rfl) rfl
theorem q1569 : (Jvm.Cond.selects "ConstraintHouse$Extreme" ({ cls := "ConstraintHouse$Part", name := "sort", desc := "()I" } : Jvm.MethodName) ({ cls := "ConstraintHouse$Pair", name := "sort", desc := "()I" } : Jvm.MethodName)) ∈ lw_all := lw_g (lw_at lw_m6 109 rfl) rfl
theorem q1689 : (Jvm.Cond.fieldLink "ConstraintHouse$Extreme" (13 : Nat) "ConstraintHouse$Extreme" "x" "LConstraintHouse$Part;") ∈ lw_all := lw_g (lw_at lw_m6 229 rfl) rfl
theorem q1690 : (Jvm.Cond.sameField "ConstraintHouse$Extreme" "ConstraintHouse$Pair" "x" "LConstraintHouse$Part;") ∈ lw_all := lw_g (lw_at lw_m6 230 rfl) rfl
theorem q1696 : (Jvm.Cond.fieldLink "ConstraintHouse$Extreme" (23 : Nat) "ConstraintHouse$Extreme" "y" "LConstraintHouse$Part;") ∈ lw_all := lw_g (lw_at lw_m6 236 rfl) rfl
theorem q1697 : (Jvm.Cond.sameField "ConstraintHouse$Extreme" "ConstraintHouse$Pair" "y" "LConstraintHouse$Part;") ∈ lw_all := lw_g (lw_at lw_m6 237 rfl) rfl
theorem q1766 : (Jvm.Cond.instantiable "ConstraintHouse$Extreme" (8 : Nat)) ∈ lw_all := lw_g (lw_at lw_m7 66 rfl) rfl
theorem q1768 : (Jvm.Cond.instanceMethod ({ cls := "ConstraintHouse$Extreme", name := "<init>", desc := "(LConstraintHouse$Part;LConstraintHouse$Part;Z)V" } : Jvm.MethodName)) ∈ lw_all := lw_g (lw_at lw_m7 68 rfl) rfl
theorem q1769 : (Jvm.Cond.code ({ cls := "ConstraintHouse$Extreme", name := "<init>", desc := "(LConstraintHouse$Part;LConstraintHouse$Part;Z)V" } : Jvm.MethodName) prog_11_method_1_code (4 : Nat) (Option.none : Option Jvm.ClassFile.FieldType)) ∈ lw_all := lw_g (lw_at lw_m7 69 rfl) rfl
theorem q1770 : (Jvm.Cond.methodLink "ConstraintHouse$Extreme" (1 : Nat) ({ cls := "ConstraintHouse$Pair", name := "<init>", desc := "(LConstraintHouse$Part;LConstraintHouse$Part;)V" } : Jvm.MethodName)) ∈ lw_all := lw_g (lw_at lw_m7 70 rfl) rfl
theorem q1771 : (Jvm.Cond.fieldLink "ConstraintHouse$Extreme" (7 : Nat) "ConstraintHouse$Extreme" "least" "Z") ∈ lw_all := lw_g (lw_at lw_m7 71 rfl) rfl
theorem q1772 : (Jvm.Cond.laysFinal "ConstraintHouse$Extreme" "ConstraintHouse$Extreme" "least" "Z") ∈ lw_all := lw_g (lw_at lw_m7 72 rfl) rfl
theorem q1773 : (Jvm.Cond.soleField "ConstraintHouse$Extreme" "least") ∈ lw_all := lw_g (lw_at lw_m7 73 rfl) rfl
theorem q1774 : (Jvm.Cond.laysFinal "ConstraintHouse$Extreme" "ConstraintHouse$Pair" "x" "LConstraintHouse$Part;") ∈ lw_all := lw_g (lw_at lw_m7 74 rfl) rfl
theorem q1775 : (Jvm.Cond.laysFinal "ConstraintHouse$Extreme" "ConstraintHouse$Pair" "y" "LConstraintHouse$Part;") ∈ lw_all := lw_g (lw_at lw_m7 75 rfl) rfl
theorem q1776 : (Jvm.Cond.lays "ConstraintHouse$Extreme" "ConstraintHouse$Part" "low" "D") ∈ lw_all := lw_g (lw_at lw_m7 76 rfl) rfl
theorem q1777 : (Jvm.Cond.lays "ConstraintHouse$Extreme" "ConstraintHouse$Part" "high" "D") ∈ lw_all := lw_g (lw_at lw_m7 77 rfl) rfl
theorem q1778 : (Jvm.Cond.lays "ConstraintHouse$Extreme" "ConstraintHouse$Part" "no" "Z") ∈ lw_all := lw_g (lw_at lw_m7 78 rfl) rfl
theorem q1779 : (Jvm.Cond.lays "ConstraintHouse$Extreme" "ConstraintHouse$Part" "yes" "Z") ∈ lw_all := lw_g (lw_at lw_m7 79 rfl) rfl
theorem q1780 : (Jvm.Cond.lays "ConstraintHouse$Extreme" "ConstraintHouse$Part" "letters" "I") ∈ lw_all := lw_g (lw_at lw_m7 80 rfl) rfl
theorem q1781 : (Jvm.Cond.superclass "ConstraintHouse$Extreme" "ConstraintHouse$Pair") ∈ lw_all := lw_g (lw_at lw_m7 81 rfl) rfl
theorem q2502 : (Jvm.Cond.selects "ConstraintHouse$Extreme" ({ cls := "ConstraintHouse$Narrows", name := "forwards", desc := "(LConstraintHouse$Solver;)V" } : Jvm.MethodName) ({ cls := "ConstraintHouse$Pair", name := "forwards", desc := "(LConstraintHouse$Solver;)V" } : Jvm.MethodName)) ∈ lw_all := lw_g (lw_at lw_m10 82 rfl) rfl
theorem q2689 : (Jvm.Cond.selects "ConstraintHouse$Extreme" ({ cls := "ConstraintHouse$Pair", name := "reckon", desc := "()V" } : Jvm.MethodName) ({ cls := "ConstraintHouse$Extreme", name := "reckon", desc := "()V" } : Jvm.MethodName)) ∈ lw_all := lw_g (lw_at lw_m11 29 rfl) rfl
theorem q2690 : (Jvm.Cond.instanceMethod ({ cls := "ConstraintHouse$Extreme", name := "reckon", desc := "()V" } : Jvm.MethodName)) ∈ lw_all := lw_g (lw_at lw_m11 30 rfl) rfl
theorem q2691 : (Jvm.Cond.code ({ cls := "ConstraintHouse$Extreme", name := "reckon", desc := "()V" } : Jvm.MethodName) prog_11_method_2_code (1 : Nat) (Option.none : Option Jvm.ClassFile.FieldType)) ∈ lw_all := lw_g (lw_at lw_m11 31 rfl) rfl
theorem q2692 : (Jvm.Cond.methodLink "ConstraintHouse$Extreme" (26 : Nat) ({ cls := "java/lang/Math", name := "min", desc := "(DD)D" } : Jvm.MethodName)) ∈ lw_all := lw_g (lw_at lw_m11 32 rfl) rfl
theorem q2695 : (Jvm.Cond.methodLink "ConstraintHouse$Extreme" (35 : Nat) ({ cls := "ConstraintHouse$Extreme", name := "be", desc := "(DD)V" } : Jvm.MethodName)) ∈ lw_all := lw_g (lw_at lw_m11 35 rfl) rfl
theorem q2696 : (Jvm.Cond.sameMethod "ConstraintHouse$Extreme" "ConstraintHouse$Part" "be" "(DD)V") ∈ lw_all := lw_g (lw_at lw_m11 36 rfl) rfl
theorem q2697 : (Jvm.Cond.selects "ConstraintHouse$Extreme" ({ cls := "ConstraintHouse$Extreme", name := "be", desc := "(DD)V" } : Jvm.MethodName) ({ cls := "ConstraintHouse$Part", name := "be", desc := "(DD)V" } : Jvm.MethodName)) ∈ lw_all := lw_g (lw_at lw_m11 37 rfl) rfl
theorem q2698 : (Jvm.Cond.methodLink "ConstraintHouse$Extreme" (39 : Nat) ({ cls := "java/lang/Math", name := "max", desc := "(DD)D" } : Jvm.MethodName)) ∈ lw_all := lw_g (lw_at lw_m11 38 rfl) rfl
theorem q2725 : (Jvm.Cond.selects "ConstraintHouse$Extreme" ({ cls := "ConstraintHouse$Pair", name := "be", desc := "(DD)V" } : Jvm.MethodName) ({ cls := "ConstraintHouse$Part", name := "be", desc := "(DD)V" } : Jvm.MethodName)) ∈ lw_all := lw_g (lw_at lw_m11 65 rfl) rfl
theorem q2819 : (Jvm.Cond.selects "ConstraintHouse$Extreme" ({ cls := "ConstraintHouse$Part", name := "hasMeet", desc := "(LConstraintHouse$Part;)Z" } : Jvm.MethodName) ({ cls := "ConstraintHouse$Part", name := "hasMeet", desc := "(LConstraintHouse$Part;)Z" } : Jvm.MethodName)) ∈ lw_all := lw_g (lw_at lw_m11 159 rfl) rfl
theorem q2870 : (Jvm.Cond.selects "ConstraintHouse$Extreme" ({ cls := "ConstraintHouse$Part", name := "meets", desc := "(ZZ)V" } : Jvm.MethodName) ({ cls := "ConstraintHouse$Part", name := "meets", desc := "(ZZ)V" } : Jvm.MethodName)) ∈ lw_all := lw_g (lw_at lw_m11 210 rfl) rfl
theorem q2906 : (Jvm.Cond.selects "ConstraintHouse$Extreme" ({ cls := "ConstraintHouse$Part", name := "meets", desc := "(LConstraintHouse$Part;)V" } : Jvm.MethodName) ({ cls := "ConstraintHouse$Part", name := "meets", desc := "(LConstraintHouse$Part;)V" } : Jvm.MethodName)) ∈ lw_all := lw_g (lw_at lw_m12 6 rfl) rfl
theorem q2928 : (Jvm.Cond.selects "ConstraintHouse$Extreme" ({ cls := "ConstraintHouse$Part", name := "meet", desc := "(DD)V" } : Jvm.MethodName) ({ cls := "ConstraintHouse$Part", name := "meet", desc := "(DD)V" } : Jvm.MethodName)) ∈ lw_all := lw_g (lw_at lw_m12 28 rfl) rfl
theorem q2951 : (Jvm.Cond.selects "ConstraintHouse$Extreme" ({ cls := "ConstraintHouse$Part", name := "meets", desc := "(I)V" } : Jvm.MethodName) ({ cls := "ConstraintHouse$Part", name := "meets", desc := "(I)V" } : Jvm.MethodName)) ∈ lw_all := lw_g (lw_at lw_m12 51 rfl) rfl
theorem q2977 : (Jvm.Cond.selects "ConstraintHouse$Extreme" ({ cls := "ConstraintHouse$Part", name := "lose", desc := "(D)V" } : Jvm.MethodName) ({ cls := "ConstraintHouse$Part", name := "lose", desc := "(D)V" } : Jvm.MethodName)) ∈ lw_all := lw_g (lw_at lw_m12 77 rfl) rfl
theorem q3049 : (Jvm.Cond.selects "ConstraintHouse$Extreme" ({ cls := "ConstraintHouse$Part", name := "lose", desc := "([I)V" } : Jvm.MethodName) ({ cls := "ConstraintHouse$Part", name := "lose", desc := "([I)V" } : Jvm.MethodName)) ∈ lw_all := lw_g (lw_at lw_m12 149 rfl) rfl
theorem q3097 : (Jvm.Cond.selects "ConstraintHouse$Extreme" ({ cls := "ConstraintHouse$Pair", name := "hand", desc := "()V" } : Jvm.MethodName) ({ cls := "ConstraintHouse$Extreme", name := "hand", desc := "()V" } : Jvm.MethodName)) ∈ lw_all := lw_g (lw_at lw_m12 197 rfl) rfl
theorem q3098 : (Jvm.Cond.instanceMethod ({ cls := "ConstraintHouse$Extreme", name := "hand", desc := "()V" } : Jvm.MethodName)) ∈ lw_all := lw_g (lw_at lw_m12 198 rfl) rfl
theorem q3099 : (Jvm.Cond.code ({ cls := "ConstraintHouse$Extreme", name := "hand", desc := "()V" } : Jvm.MethodName) prog_11_method_3_code (1 : Nat) (Option.none : Option Jvm.ClassFile.FieldType)) ∈ lw_all := lw_g (lw_at lw_m12 199 rfl) rfl
theorem q3100 : (Jvm.Cond.constantDouble "ConstraintHouse$Extreme" (43 : Nat) (9218868437227405312 : UInt64)) ∈ lw_all := lw_g (lw_at lw_m12 200 rfl) rfl
theorem q3101 : (Jvm.Cond.methodLink "ConstraintHouse$Extreme" (45 : Nat) ({ cls := "ConstraintHouse$Part", name := "meet", desc := "(DD)V" } : Jvm.MethodName)) ∈ lw_all := lw_g (lw_at lw_m12 201 rfl) rfl
theorem q3102 : (Jvm.Cond.constantDouble "ConstraintHouse$Extreme" (49 : Nat) (18442240474082181120 : UInt64)) ∈ lw_all := lw_g (lw_at lw_m12 202 rfl) rfl
theorem q3169 : (Jvm.Cond.selects "ConstraintHouse$Extreme" ({ cls := "ConstraintHouse$Part", name := "backwards", desc := "(LConstraintHouse$Solver;)V" } : Jvm.MethodName) ({ cls := "ConstraintHouse$Part", name := "backwards", desc := "(LConstraintHouse$Solver;)V" } : Jvm.MethodName)) ∈ lw_all := lw_g (lw_at lw_m13 29 rfl) rfl
theorem q3265 : (Jvm.Cond.selects "ConstraintHouse$Extreme" ({ cls := "ConstraintHouse$Part", name := "enter", desc := "(LConstraintHouse$Solver;)V" } : Jvm.MethodName) ({ cls := "ConstraintHouse$Pair", name := "enter", desc := "(LConstraintHouse$Solver;)V" } : Jvm.MethodName)) ∈ lw_all := lw_g (lw_at lw_m13 125 rfl) rfl
theorem q4836 : (Jvm.Cond.castable "ConstraintHouse$Extreme" "java/lang/Object") ∈ lw_tbl := lw_at lw_m20 16 rfl
theorem q4871 : (Jvm.Cond.castable "ConstraintHouse$Extreme" "ConstraintHouse$Part") ∈ lw_tbl := lw_at lw_m20 51 rfl
theorem in_X30 : ∀ w ∈ wsX300, w ∈ lw_all := lw_in wsX300 [1774, 1775, 1776, 1777, 1778, 1779, 1780, 1772] (by decide +kernel) (by decide +kernel)
/-! ConstraintHouse$Judged -/
set_option maxRecDepth 100000
def RX31 : String := "ConstraintHouse$Judged"
abbrev cX31_sort : ByteArray := prog_13_method_2_code
def yX31_sort : MethodName := ⟨RX31, "sort", "()I"⟩
theorem dX31_sort_0 : decode cX31_sort 0 = .ok (.iconst 1, 1) := by decide +kernel
theorem dX31_sort_1 : decode cX31_sort 1 = .ok (.ireturn, 1) := by decide +kernel
abbrev cX31_init : ByteArray := prog_13_method_1_code
def yX31_init : MethodName := ⟨RX31, "<init>", "()V"⟩
theorem dX31_init_0 : decode cX31_init 0 = .ok (.aload_n 0, 1) := by decide +kernel
theorem dX31_init_1 : decode cX31_init 1 = .ok (.invokespecial 1, 3) := by decide +kernel
theorem dX31_init_4 : decode cX31_init 4 = .ok (.return_, 1) := by decide +kernel
abbrev cX31_enter : ByteArray := prog_13_method_3_code
def yX31_enter : MethodName := ⟨RX31, "enter", "(LConstraintHouse$Solver;)V"⟩
def dkwX31_enter_0 : List UInt8 := [42, 180, 0, 7, 153, 0, 11, 42, 180, 0, 13, 153, 0, 4, 177, 42, 43, 183, 0, 16, 177]
abbrev dktX31_enter_0 : List UInt8 := dkwX31_enter_0 ++ []
theorem dksX31_enter_0 : cX31_enter.data.toList.drop 0 = dktX31_enter_0 := by decide +kernel
theorem dX31_enter_0 : decode cX31_enter 0 = .ok (.aload_n 0, 1) := dk_42 (dk_at dksX31_enter_0 0 rfl rfl)
theorem dX31_enter_1 : decode cX31_enter 1 = .ok (.getfield 7, 3) := dk_180 0 7 (dk_at dksX31_enter_0 1 rfl rfl)
theorem dX31_enter_4 : decode cX31_enter 4 = .ok (.ifCond .eq 11, 3) := dk_153 0 11 (dk_at dksX31_enter_0 4 rfl rfl)
theorem dX31_enter_7 : decode cX31_enter 7 = .ok (.aload_n 0, 1) := dk_42 (dk_at dksX31_enter_0 7 rfl rfl)
theorem dX31_enter_8 : decode cX31_enter 8 = .ok (.getfield 13, 3) := dk_180 0 13 (dk_at dksX31_enter_0 8 rfl rfl)
theorem dX31_enter_11 : decode cX31_enter 11 = .ok (.ifCond .eq 4, 3) := dk_153 0 4 (dk_at dksX31_enter_0 11 rfl rfl)
theorem dX31_enter_14 : decode cX31_enter 14 = .ok (.return_, 1) := dk_177 (dk_at dksX31_enter_0 14 rfl rfl)
theorem dX31_enter_15 : decode cX31_enter 15 = .ok (.aload_n 0, 1) := dk_42 (dk_at dksX31_enter_0 15 rfl rfl)
theorem dX31_enter_16 : decode cX31_enter 16 = .ok (.aload_n 1, 1) := dk_43 (dk_at dksX31_enter_0 16 rfl rfl)
theorem dX31_enter_17 : decode cX31_enter 17 = .ok (.invokespecial 16, 3) := dk_183 0 16 (dk_at dksX31_enter_0 17 rfl rfl)
theorem dX31_enter_20 : decode cX31_enter 20 = .ok (.return_, 1) := dk_177 (dk_at dksX31_enter_0 20 rfl rfl)
theorem q302 : (Jvm.Cond.initialized "ConstraintHouse$Judged") ∈ lw_all := lw_g (lw_at lw_m1 42 rfl) rfl
theorem q1424 : (Jvm.Cond.fieldLink "ConstraintHouse$Judged" (7 : Nat) "ConstraintHouse$Judged" "no" "Z") ∈ lw_all := lw_g (lw_at lw_m5 204 rfl) rfl
theorem q1425 : (Jvm.Cond.sameField "ConstraintHouse$Judged" "ConstraintHouse$Part" "no" "Z") ∈ lw_all := lw_g (lw_at lw_m5 205 rfl) rfl
theorem q1444 : (Jvm.Cond.fieldLink "ConstraintHouse$Judged" (13 : Nat) "ConstraintHouse$Judged" "yes" "Z") ∈ lw_all := lw_g (lw_at lw_m5 224 rfl) rfl
theorem q1445 : (Jvm.Cond.sameField "ConstraintHouse$Judged" "ConstraintHouse$Part" "yes" "Z") ∈ lw_all := lw_g (lw_at lw_m5 225 rfl) rfl
theorem q1534 : (Jvm.Cond.instanceMethod ({ cls := "ConstraintHouse$Judged", name := "sort", desc := "()I" } : Jvm.MethodName)) ∈ lw_all := lw_g (lw_at lw_m6 74 rfl) rfl
theorem q1535 : (Jvm.Cond.code ({ cls := "ConstraintHouse$Judged", name := "sort", desc := "()I" } : Jvm.MethodName) prog_13_method_2_code (1 : Nat) (Option.some Jvm.ClassFile.FieldType.int)) ∈ lw_all := lw_g (lw_at lw_m6 75 rfl) rfl
theorem q1791 : (Jvm.Cond.instanceMethod ({ cls := "ConstraintHouse$Judged", name := "<init>", desc := "()V" } : Jvm.MethodName)) ∈ lw_all := lw_g (lw_at lw_m7 91 rfl) rfl
theorem q1792 : (Jvm.Cond.code ({ cls := "ConstraintHouse$Judged", name := "<init>", desc := "()V" } : Jvm.MethodName) prog_13_method_1_code (1 : Nat) (Option.none : Option Jvm.ClassFile.FieldType)) ∈ lw_all := lw_g (lw_at lw_m7 92 rfl) rfl
theorem q1793 : (Jvm.Cond.methodLinkNest "ConstraintHouse$Judged" (1 : Nat) ({ cls := "ConstraintHouse$Part", name := "<init>", desc := "()V" } : Jvm.MethodName) "ConstraintHouse") ∈ lw_tbl := lw_at lw_m7 93 rfl
theorem q3024 : (Jvm.Cond.instanceMethod ({ cls := "ConstraintHouse$Judged", name := "enter", desc := "(LConstraintHouse$Solver;)V" } : Jvm.MethodName)) ∈ lw_all := lw_g (lw_at lw_m12 124 rfl) rfl
theorem q3025 : (Jvm.Cond.code ({ cls := "ConstraintHouse$Judged", name := "enter", desc := "(LConstraintHouse$Solver;)V" } : Jvm.MethodName) prog_13_method_3_code (2 : Nat) (Option.none : Option Jvm.ClassFile.FieldType)) ∈ lw_all := lw_g (lw_at lw_m12 125 rfl) rfl
theorem q3026 : (Jvm.Cond.methodLink "ConstraintHouse$Judged" (16 : Nat) ({ cls := "ConstraintHouse$Part", name := "enter", desc := "(LConstraintHouse$Solver;)V" } : Jvm.MethodName)) ∈ lw_all := lw_g (lw_at lw_m12 126 rfl) rfl
theorem q3027 : (Jvm.Cond.superclass "ConstraintHouse$Judged" "ConstraintHouse$Part") ∈ lw_all := lw_g (lw_at lw_m12 127 rfl) rfl
/-! ConstraintHouse$Relation -/
set_option maxRecDepth 100000
def RX32 : String := "ConstraintHouse$Relation"
abbrev cX32_init : ByteArray := prog_30_method_1_code
def yX32_init : MethodName := ⟨RX32, "<init>", "(LConstraintHouse$Part;LConstraintHouse$Part;)V"⟩
def dkwX32_init_0 : List UInt8 := [42, 183, 0, 3, 42, 43, 181, 0, 9, 42, 44, 181, 0, 15, 177]
abbrev dktX32_init_0 : List UInt8 := dkwX32_init_0 ++ []
theorem dksX32_init_0 : cX32_init.data.toList.drop 0 = dktX32_init_0 := by decide +kernel
theorem dX32_init_0 : decode cX32_init 0 = .ok (.aload_n 0, 1) := dk_42 (dk_at dksX32_init_0 0 rfl rfl)
theorem dX32_init_1 : decode cX32_init 1 = .ok (.invokespecial 3, 3) := dk_183 0 3 (dk_at dksX32_init_0 1 rfl rfl)
theorem dX32_init_4 : decode cX32_init 4 = .ok (.aload_n 0, 1) := dk_42 (dk_at dksX32_init_0 4 rfl rfl)
theorem dX32_init_5 : decode cX32_init 5 = .ok (.aload_n 1, 1) := dk_43 (dk_at dksX32_init_0 5 rfl rfl)
theorem dX32_init_6 : decode cX32_init 6 = .ok (.putfield 9, 3) := dk_181 0 9 (dk_at dksX32_init_0 6 rfl rfl)
theorem dX32_init_9 : decode cX32_init 9 = .ok (.aload_n 0, 1) := dk_42 (dk_at dksX32_init_0 9 rfl rfl)
theorem dX32_init_10 : decode cX32_init 10 = .ok (.aload_n 2, 1) := dk_44 (dk_at dksX32_init_0 10 rfl rfl)
theorem dX32_init_11 : decode cX32_init 11 = .ok (.putfield 15, 3) := dk_181 0 15 (dk_at dksX32_init_0 11 rfl rfl)
theorem dX32_init_14 : decode cX32_init 14 = .ok (.return_, 1) := dk_177 (dk_at dksX32_init_0 14 rfl rfl)
abbrev cX32_forwards : ByteArray := prog_30_method_4_code
def yX32_forwards : MethodName := ⟨RX32, "forwards", "(LConstraintHouse$Solver;)V"⟩
def dkwX32_forwards_0 : List UInt8 := [42, 180, 0, 9, 43, 182, 0, 18, 42, 180, 0, 15, 43, 182, 0, 18, 42, 182, 0, 24, 177]
abbrev dktX32_forwards_0 : List UInt8 := dkwX32_forwards_0 ++ []
theorem dksX32_forwards_0 : cX32_forwards.data.toList.drop 0 = dktX32_forwards_0 := by decide +kernel
theorem dX32_forwards_0 : decode cX32_forwards 0 = .ok (.aload_n 0, 1) := dk_42 (dk_at dksX32_forwards_0 0 rfl rfl)
theorem dX32_forwards_1 : decode cX32_forwards 1 = .ok (.getfield 9, 3) := dk_180 0 9 (dk_at dksX32_forwards_0 1 rfl rfl)
theorem dX32_forwards_4 : decode cX32_forwards 4 = .ok (.aload_n 1, 1) := dk_43 (dk_at dksX32_forwards_0 4 rfl rfl)
theorem dX32_forwards_5 : decode cX32_forwards 5 = .ok (.invokevirtual 18, 3) := dk_182 0 18 (dk_at dksX32_forwards_0 5 rfl rfl)
theorem dX32_forwards_8 : decode cX32_forwards 8 = .ok (.aload_n 0, 1) := dk_42 (dk_at dksX32_forwards_0 8 rfl rfl)
theorem dX32_forwards_9 : decode cX32_forwards 9 = .ok (.getfield 15, 3) := dk_180 0 15 (dk_at dksX32_forwards_0 9 rfl rfl)
theorem dX32_forwards_12 : decode cX32_forwards 12 = .ok (.aload_n 1, 1) := dk_43 (dk_at dksX32_forwards_0 12 rfl rfl)
theorem dX32_forwards_13 : decode cX32_forwards 13 = .ok (.invokevirtual 18, 3) := dk_182 0 18 (dk_at dksX32_forwards_0 13 rfl rfl)
theorem dX32_forwards_16 : decode cX32_forwards 16 = .ok (.aload_n 0, 1) := dk_42 (dk_at dksX32_forwards_0 16 rfl rfl)
theorem dX32_forwards_17 : decode cX32_forwards 17 = .ok (.invokevirtual 24, 3) := dk_182 0 24 (dk_at dksX32_forwards_0 17 rfl rfl)
theorem dX32_forwards_20 : decode cX32_forwards 20 = .ok (.return_, 1) := dk_177 (dk_at dksX32_forwards_0 20 rfl rfl)
abbrev cX32_enter : ByteArray := prog_30_method_5_code
def yX32_enter : MethodName := ⟨RX32, "enter", "(LConstraintHouse$Solver;)V"⟩
def dkwX32_enter_2 : List UInt8 := [180, 0, 15, 43, 182, 0, 44, 177]
abbrev dktX32_enter_2 : List UInt8 := dkwX32_enter_2 ++ []
def dkwX32_enter_1 : List UInt8 := [43, 89, 180, 0, 34, 4, 96, 181, 0, 34, 42, 182, 0, 41, 42, 180, 0, 9, 43, 182, 0, 44, 42]
abbrev dktX32_enter_1 : List UInt8 := dkwX32_enter_1 ++ dktX32_enter_2
def dkwX32_enter_0 : List UInt8 := [42, 180, 0, 27, 153, 0, 11, 42, 180, 0, 31, 153, 0, 4, 177, 43, 180, 0, 34, 18, 40, 162, 0, 13]
abbrev dktX32_enter_0 : List UInt8 := dkwX32_enter_0 ++ dktX32_enter_1
theorem dksX32_enter_0 : cX32_enter.data.toList.drop 0 = dktX32_enter_0 := by decide +kernel
theorem dksX32_enter_1 : cX32_enter.data.toList.drop 24 = dktX32_enter_1 := dk_seg dksX32_enter_0 24 rfl rfl
theorem dksX32_enter_2 : cX32_enter.data.toList.drop 47 = dktX32_enter_2 := dk_seg dksX32_enter_1 23 rfl rfl
theorem dX32_enter_0 : decode cX32_enter 0 = .ok (.aload_n 0, 1) := dk_42 (dk_at dksX32_enter_0 0 rfl rfl)
theorem dX32_enter_1 : decode cX32_enter 1 = .ok (.getfield 27, 3) := dk_180 0 27 (dk_at dksX32_enter_0 1 rfl rfl)
theorem dX32_enter_4 : decode cX32_enter 4 = .ok (.ifCond .eq 11, 3) := dk_153 0 11 (dk_at dksX32_enter_0 4 rfl rfl)
theorem dX32_enter_7 : decode cX32_enter 7 = .ok (.aload_n 0, 1) := dk_42 (dk_at dksX32_enter_0 7 rfl rfl)
theorem dX32_enter_8 : decode cX32_enter 8 = .ok (.getfield 31, 3) := dk_180 0 31 (dk_at dksX32_enter_0 8 rfl rfl)
theorem dX32_enter_11 : decode cX32_enter 11 = .ok (.ifCond .eq 4, 3) := dk_153 0 4 (dk_at dksX32_enter_0 11 rfl rfl)
theorem dX32_enter_14 : decode cX32_enter 14 = .ok (.return_, 1) := dk_177 (dk_at dksX32_enter_0 14 rfl rfl)
theorem dX32_enter_15 : decode cX32_enter 15 = .ok (.aload_n 1, 1) := dk_43 (dk_at dksX32_enter_0 15 rfl rfl)
theorem dX32_enter_16 : decode cX32_enter 16 = .ok (.getfield 34, 3) := dk_180 0 34 (dk_at dksX32_enter_0 16 rfl rfl)
theorem dX32_enter_19 : decode cX32_enter 19 = .ok (.ldc 40, 2) := dk_18 40 (dk_at dksX32_enter_0 19 rfl rfl)
theorem dX32_enter_21 : decode cX32_enter 21 = .ok (.if_icmp .ge 13, 3) := dk_162 0 13 (dk_at dksX32_enter_0 21 rfl rfl)
theorem dX32_enter_24 : decode cX32_enter 24 = .ok (.aload_n 1, 1) := dk_43 (dk_at dksX32_enter_1 0 rfl rfl)
theorem dX32_enter_25 : decode cX32_enter 25 = .ok (.dup, 1) := dk_89 (dk_at dksX32_enter_1 1 rfl rfl)
theorem dX32_enter_26 : decode cX32_enter 26 = .ok (.getfield 34, 3) := dk_180 0 34 (dk_at dksX32_enter_1 2 rfl rfl)
theorem dX32_enter_29 : decode cX32_enter 29 = .ok (.iconst 1, 1) := dk_4 (dk_at dksX32_enter_1 5 rfl rfl)
theorem dX32_enter_30 : decode cX32_enter 30 = .ok (.iadd, 1) := dk_96 (dk_at dksX32_enter_1 6 rfl rfl)
theorem dX32_enter_31 : decode cX32_enter 31 = .ok (.putfield 34, 3) := dk_181 0 34 (dk_at dksX32_enter_1 7 rfl rfl)
theorem dX32_enter_34 : decode cX32_enter 34 = .ok (.aload_n 0, 1) := dk_42 (dk_at dksX32_enter_1 10 rfl rfl)
theorem dX32_enter_35 : decode cX32_enter 35 = .ok (.invokevirtual 41, 3) := dk_182 0 41 (dk_at dksX32_enter_1 11 rfl rfl)
theorem dX32_enter_38 : decode cX32_enter 38 = .ok (.aload_n 0, 1) := dk_42 (dk_at dksX32_enter_1 14 rfl rfl)
theorem dX32_enter_39 : decode cX32_enter 39 = .ok (.getfield 9, 3) := dk_180 0 9 (dk_at dksX32_enter_1 15 rfl rfl)
theorem dX32_enter_42 : decode cX32_enter 42 = .ok (.aload_n 1, 1) := dk_43 (dk_at dksX32_enter_1 18 rfl rfl)
theorem dX32_enter_43 : decode cX32_enter 43 = .ok (.invokevirtual 44, 3) := dk_182 0 44 (dk_at dksX32_enter_1 19 rfl rfl)
theorem dX32_enter_46 : decode cX32_enter 46 = .ok (.aload_n 0, 1) := dk_42 (dk_at dksX32_enter_1 22 rfl rfl)
theorem dX32_enter_47 : decode cX32_enter 47 = .ok (.getfield 15, 3) := dk_180 0 15 (dk_at dksX32_enter_2 0 rfl rfl)
theorem dX32_enter_50 : decode cX32_enter 50 = .ok (.aload_n 1, 1) := dk_43 (dk_at dksX32_enter_2 3 rfl rfl)
theorem dX32_enter_51 : decode cX32_enter 51 = .ok (.invokevirtual 44, 3) := dk_182 0 44 (dk_at dksX32_enter_2 4 rfl rfl)
theorem dX32_enter_54 : decode cX32_enter 54 = .ok (.return_, 1) := dk_177 (dk_at dksX32_enter_2 7 rfl rfl)
theorem q303 : (Jvm.Cond.initialized "ConstraintHouse$Relation") ∈ lw_all := lw_g (lw_at lw_m1 43 rfl) rfl
theorem q477 : (Jvm.Cond.fieldLink "ConstraintHouse$Relation" (34 : Nat) "ConstraintHouse$Solver" "entered" "I") ∈ lw_all := lw_g (lw_at lw_m1 217 rfl) rfl
theorem q1434 : (Jvm.Cond.fieldLink "ConstraintHouse$Relation" (27 : Nat) "ConstraintHouse$Relation" "no" "Z") ∈ lw_all := lw_g (lw_at lw_m5 214 rfl) rfl
theorem q1435 : (Jvm.Cond.sameField "ConstraintHouse$Relation" "ConstraintHouse$Part" "no" "Z") ∈ lw_all := lw_g (lw_at lw_m5 215 rfl) rfl
theorem q1456 : (Jvm.Cond.fieldLink "ConstraintHouse$Relation" (31 : Nat) "ConstraintHouse$Relation" "yes" "Z") ∈ lw_all := lw_g (lw_at lw_m5 236 rfl) rfl
theorem q1457 : (Jvm.Cond.sameField "ConstraintHouse$Relation" "ConstraintHouse$Part" "yes" "Z") ∈ lw_all := lw_g (lw_at lw_m5 237 rfl) rfl
theorem q1788 : (Jvm.Cond.instanceMethod ({ cls := "ConstraintHouse$Relation", name := "<init>", desc := "(LConstraintHouse$Part;LConstraintHouse$Part;)V" } : Jvm.MethodName)) ∈ lw_all := lw_g (lw_at lw_m7 88 rfl) rfl
theorem q1789 : (Jvm.Cond.code ({ cls := "ConstraintHouse$Relation", name := "<init>", desc := "(LConstraintHouse$Part;LConstraintHouse$Part;)V" } : Jvm.MethodName) prog_30_method_1_code (3 : Nat) (Option.none : Option Jvm.ClassFile.FieldType)) ∈ lw_all := lw_g (lw_at lw_m7 89 rfl) rfl
theorem q1790 : (Jvm.Cond.methodLinkNest "ConstraintHouse$Relation" (3 : Nat) ({ cls := "ConstraintHouse$Judged", name := "<init>", desc := "()V" } : Jvm.MethodName) "ConstraintHouse") ∈ lw_tbl := lw_at lw_m7 90 rfl
theorem q1795 : (Jvm.Cond.fieldLink "ConstraintHouse$Relation" (9 : Nat) "ConstraintHouse$Relation" "x" "LConstraintHouse$Part;") ∈ lw_all := lw_g (lw_at lw_m7 95 rfl) rfl
theorem q1802 : (Jvm.Cond.fieldLink "ConstraintHouse$Relation" (15 : Nat) "ConstraintHouse$Relation" "y" "LConstraintHouse$Part;") ∈ lw_all := lw_g (lw_at lw_m7 102 rfl) rfl
theorem q1812 : (Jvm.Cond.soleField "ConstraintHouse$Relation" "x") ∈ lw_all := lw_g (lw_at lw_m7 112 rfl) rfl
theorem q1814 : (Jvm.Cond.soleField "ConstraintHouse$Relation" "y") ∈ lw_all := lw_g (lw_at lw_m7 114 rfl) rfl
theorem q2476 : (Jvm.Cond.instanceMethod ({ cls := "ConstraintHouse$Relation", name := "forwards", desc := "(LConstraintHouse$Solver;)V" } : Jvm.MethodName)) ∈ lw_all := lw_g (lw_at lw_m10 56 rfl) rfl
theorem q2477 : (Jvm.Cond.code ({ cls := "ConstraintHouse$Relation", name := "forwards", desc := "(LConstraintHouse$Solver;)V" } : Jvm.MethodName) prog_30_method_4_code (2 : Nat) (Option.none : Option Jvm.ClassFile.FieldType)) ∈ lw_all := lw_g (lw_at lw_m10 57 rfl) rfl
theorem q2805 : (Jvm.Cond.methodLink "ConstraintHouse$Relation" (24 : Nat) ({ cls := "ConstraintHouse$Relation", name := "judge", desc := "()V" } : Jvm.MethodName)) ∈ lw_all := lw_g (lw_at lw_m11 145 rfl) rfl
theorem q2806 : (Jvm.Cond.declares ({ cls := "ConstraintHouse$Relation", name := "judge", desc := "()V" } : Jvm.MethodName)) ∈ lw_tbl := lw_at lw_m11 146 rfl
theorem q2807 : (Jvm.Cond.sameMethod "ConstraintHouse$Relation" "ConstraintHouse$Relation" "judge" "()V") ∈ lw_all := lw_g (lw_at lw_m11 147 rfl) rfl
theorem q2889 : (Jvm.Cond.instanceMethod ({ cls := "ConstraintHouse$Relation", name := "enter", desc := "(LConstraintHouse$Solver;)V" } : Jvm.MethodName)) ∈ lw_all := lw_g (lw_at lw_m11 229 rfl) rfl
theorem q2890 : (Jvm.Cond.code ({ cls := "ConstraintHouse$Relation", name := "enter", desc := "(LConstraintHouse$Solver;)V" } : Jvm.MethodName) prog_30_method_5_code (2 : Nat) (Option.none : Option Jvm.ClassFile.FieldType)) ∈ lw_all := lw_g (lw_at lw_m11 230 rfl) rfl
theorem q2891 : (Jvm.Cond.constant "ConstraintHouse$Relation" (40 : Nat) (2000000000 : Int32)) ∈ lw_all := lw_g (lw_at lw_m11 231 rfl) rfl
theorem q2892 : (Jvm.Cond.methodLink "ConstraintHouse$Relation" (41 : Nat) ({ cls := "ConstraintHouse$Relation", name := "hand", desc := "()V" } : Jvm.MethodName)) ∈ lw_all := lw_g (lw_at lw_m11 232 rfl) rfl
theorem q2893 : (Jvm.Cond.declares ({ cls := "ConstraintHouse$Relation", name := "hand", desc := "()V" } : Jvm.MethodName)) ∈ lw_tbl := lw_at lw_m11 233 rfl
theorem q2894 : (Jvm.Cond.sameMethod "ConstraintHouse$Relation" "ConstraintHouse$Relation" "hand" "()V") ∈ lw_all := lw_g (lw_at lw_m11 234 rfl) rfl
theorem q3023 : (Jvm.Cond.methodLink "ConstraintHouse$Relation" (44 : Nat) ({ cls := "ConstraintHouse$Part", name := "enter", desc := "(LConstraintHouse$Solver;)V" } : Jvm.MethodName)) ∈ lw_all := lw_g (lw_at lw_m12 123 rfl) rfl
/-! ConstraintHouse$Alike -/
set_option maxRecDepth 100000
def RX33 : String := "ConstraintHouse$Alike"
def TX33 : u_T := fun k => match k with
  | 0 => ("ConstraintHouse$Relation", "x", "LConstraintHouse$Part;", true)
  | 1 => ("ConstraintHouse$Relation", "y", "LConstraintHouse$Part;", true)
  | 2 => ("ConstraintHouse$Part", "low", "D", false)
  | 3 => ("ConstraintHouse$Part", "high", "D", false)
  | 4 => ("ConstraintHouse$Part", "no", "Z", false)
  | 5 => ("ConstraintHouse$Part", "yes", "Z", false)
  | 6 => ("ConstraintHouse$Part", "letters", "I", false)
  | _ => ("ConstraintHouse$Alike", "contrary", "Z", true)
def tyX33 : Nat → FieldType := fun k => match k with
  | 0 => .object "ConstraintHouse$Part"
  | 1 => .object "ConstraintHouse$Part"
  | 2 => .double
  | 3 => .double
  | 4 => .boolean
  | 5 => .boolean
  | 6 => .int
  | _ => .boolean
abbrev wsX330 : List Cond := u_ws RX33 TX33 8
theorem nmX33 : ∀ a, a < 8 → ∀ b, b < 8 → a ≠ b → (TX33 a).2.1 ≠ (TX33 b).2.1 := by decide +kernel
theorem tyX33_ok : ∀ k, k < 8 → parseFieldDescriptor (TX33 k).2.2.1 = some (tyX33 k) := by decide +kernel
abbrev cX33_init : ByteArray := prog_4_method_1_code
def yX33_init : MethodName := ⟨RX33, "<init>", "(LConstraintHouse$Part;LConstraintHouse$Part;Z)V"⟩
def dkwX33_init_0 : List UInt8 := [42, 43, 44, 183, 0, 1, 42, 29, 181, 0, 7, 177]
abbrev dktX33_init_0 : List UInt8 := dkwX33_init_0 ++ []
theorem dksX33_init_0 : cX33_init.data.toList.drop 0 = dktX33_init_0 := by decide +kernel
theorem dX33_init_0 : decode cX33_init 0 = .ok (.aload_n 0, 1) := dk_42 (dk_at dksX33_init_0 0 rfl rfl)
theorem dX33_init_1 : decode cX33_init 1 = .ok (.aload_n 1, 1) := dk_43 (dk_at dksX33_init_0 1 rfl rfl)
theorem dX33_init_2 : decode cX33_init 2 = .ok (.aload_n 2, 1) := dk_44 (dk_at dksX33_init_0 2 rfl rfl)
theorem dX33_init_3 : decode cX33_init 3 = .ok (.invokespecial 1, 3) := dk_183 0 1 (dk_at dksX33_init_0 3 rfl rfl)
theorem dX33_init_6 : decode cX33_init 6 = .ok (.aload_n 0, 1) := dk_42 (dk_at dksX33_init_0 6 rfl rfl)
theorem dX33_init_7 : decode cX33_init 7 = .ok (.iload_n 3, 1) := dk_29 (dk_at dksX33_init_0 7 rfl rfl)
theorem dX33_init_8 : decode cX33_init 8 = .ok (.putfield 7, 3) := dk_181 0 7 (dk_at dksX33_init_0 8 rfl rfl)
theorem dX33_init_11 : decode cX33_init 11 = .ok (.return_, 1) := dk_177 (dk_at dksX33_init_0 11 rfl rfl)
abbrev cX33_judge : ByteArray := prog_4_method_3_code
def yX33_judge : MethodName := ⟨RX33, "judge", "()V"⟩
def dkwX33_judge_3 : List UInt8 := [153, 0, 15, 28, 154, 0, 7, 4, 167, 0, 8, 3, 167, 0, 4, 27, 182, 0, 56, 177]
abbrev dktX33_judge_3 : List UInt8 := dkwX33_judge_3 ++ []
def dkwX33_judge_2 : List UInt8 := [180, 0, 7, 153, 0, 7, 27, 167, 0, 12, 28, 154, 0, 7, 4, 167, 0, 4, 3, 42, 180, 0, 7]
abbrev dktX33_judge_2 : List UInt8 := dkwX33_judge_2 ++ dktX33_judge_3
def dkwX33_judge_1 : List UInt8 := [153, 0, 18, 42, 42, 180, 0, 46, 182, 0, 53, 153, 0, 7, 4, 167, 0, 4, 3, 61, 42, 42]
abbrev dktX33_judge_1 : List UInt8 := dkwX33_judge_1 ++ dktX33_judge_2
def dkwX33_judge_0 : List UInt8 := [42, 180, 0, 42, 42, 180, 0, 46, 182, 0, 49, 60, 27, 153, 0, 29, 42, 42, 180, 0, 42, 182, 0, 53]
abbrev dktX33_judge_0 : List UInt8 := dkwX33_judge_0 ++ dktX33_judge_1
theorem dksX33_judge_0 : cX33_judge.data.toList.drop 0 = dktX33_judge_0 := by decide +kernel
theorem dksX33_judge_1 : cX33_judge.data.toList.drop 24 = dktX33_judge_1 := dk_seg dksX33_judge_0 24 rfl rfl
theorem dksX33_judge_2 : cX33_judge.data.toList.drop 46 = dktX33_judge_2 := dk_seg dksX33_judge_1 22 rfl rfl
theorem dksX33_judge_3 : cX33_judge.data.toList.drop 69 = dktX33_judge_3 := dk_seg dksX33_judge_2 23 rfl rfl
theorem dX33_judge_0 : decode cX33_judge 0 = .ok (.aload_n 0, 1) := dk_42 (dk_at dksX33_judge_0 0 rfl rfl)
theorem dX33_judge_1 : decode cX33_judge 1 = .ok (.getfield 42, 3) := dk_180 0 42 (dk_at dksX33_judge_0 1 rfl rfl)
theorem dX33_judge_4 : decode cX33_judge 4 = .ok (.aload_n 0, 1) := dk_42 (dk_at dksX33_judge_0 4 rfl rfl)
theorem dX33_judge_5 : decode cX33_judge 5 = .ok (.getfield 46, 3) := dk_180 0 46 (dk_at dksX33_judge_0 5 rfl rfl)
theorem dX33_judge_8 : decode cX33_judge 8 = .ok (.invokevirtual 49, 3) := dk_182 0 49 (dk_at dksX33_judge_0 8 rfl rfl)
theorem dX33_judge_11 : decode cX33_judge 11 = .ok (.istore_n 1, 1) := dk_60 (dk_at dksX33_judge_0 11 rfl rfl)
theorem dX33_judge_12 : decode cX33_judge 12 = .ok (.iload_n 1, 1) := dk_27 (dk_at dksX33_judge_0 12 rfl rfl)
theorem dX33_judge_13 : decode cX33_judge 13 = .ok (.ifCond .eq 29, 3) := dk_153 0 29 (dk_at dksX33_judge_0 13 rfl rfl)
theorem dX33_judge_16 : decode cX33_judge 16 = .ok (.aload_n 0, 1) := dk_42 (dk_at dksX33_judge_0 16 rfl rfl)
theorem dX33_judge_17 : decode cX33_judge 17 = .ok (.aload_n 0, 1) := dk_42 (dk_at dksX33_judge_0 17 rfl rfl)
theorem dX33_judge_18 : decode cX33_judge 18 = .ok (.getfield 42, 3) := dk_180 0 42 (dk_at dksX33_judge_0 18 rfl rfl)
theorem dX33_judge_21 : decode cX33_judge 21 = .ok (.invokevirtual 53, 3) := dk_182 0 53 (dk_at dksX33_judge_0 21 rfl rfl)
theorem dX33_judge_24 : decode cX33_judge 24 = .ok (.ifCond .eq 18, 3) := dk_153 0 18 (dk_at dksX33_judge_1 0 rfl rfl)
theorem dX33_judge_27 : decode cX33_judge 27 = .ok (.aload_n 0, 1) := dk_42 (dk_at dksX33_judge_1 3 rfl rfl)
theorem dX33_judge_28 : decode cX33_judge 28 = .ok (.aload_n 0, 1) := dk_42 (dk_at dksX33_judge_1 4 rfl rfl)
theorem dX33_judge_29 : decode cX33_judge 29 = .ok (.getfield 46, 3) := dk_180 0 46 (dk_at dksX33_judge_1 5 rfl rfl)
theorem dX33_judge_32 : decode cX33_judge 32 = .ok (.invokevirtual 53, 3) := dk_182 0 53 (dk_at dksX33_judge_1 8 rfl rfl)
theorem dX33_judge_35 : decode cX33_judge 35 = .ok (.ifCond .eq 7, 3) := dk_153 0 7 (dk_at dksX33_judge_1 11 rfl rfl)
theorem dX33_judge_38 : decode cX33_judge 38 = .ok (.iconst 1, 1) := dk_4 (dk_at dksX33_judge_1 14 rfl rfl)
theorem dX33_judge_39 : decode cX33_judge 39 = .ok (.goto 4, 3) := dk_167 0 4 (dk_at dksX33_judge_1 15 rfl rfl)
theorem dX33_judge_42 : decode cX33_judge 42 = .ok (.iconst 0, 1) := dk_3 (dk_at dksX33_judge_1 18 rfl rfl)
theorem dX33_judge_43 : decode cX33_judge 43 = .ok (.istore_n 2, 1) := dk_61 (dk_at dksX33_judge_1 19 rfl rfl)
theorem dX33_judge_44 : decode cX33_judge 44 = .ok (.aload_n 0, 1) := dk_42 (dk_at dksX33_judge_1 20 rfl rfl)
theorem dX33_judge_45 : decode cX33_judge 45 = .ok (.aload_n 0, 1) := dk_42 (dk_at dksX33_judge_1 21 rfl rfl)
theorem dX33_judge_46 : decode cX33_judge 46 = .ok (.getfield 7, 3) := dk_180 0 7 (dk_at dksX33_judge_2 0 rfl rfl)
theorem dX33_judge_49 : decode cX33_judge 49 = .ok (.ifCond .eq 7, 3) := dk_153 0 7 (dk_at dksX33_judge_2 3 rfl rfl)
theorem dX33_judge_52 : decode cX33_judge 52 = .ok (.iload_n 1, 1) := dk_27 (dk_at dksX33_judge_2 6 rfl rfl)
theorem dX33_judge_53 : decode cX33_judge 53 = .ok (.goto 12, 3) := dk_167 0 12 (dk_at dksX33_judge_2 7 rfl rfl)
theorem dX33_judge_56 : decode cX33_judge 56 = .ok (.iload_n 2, 1) := dk_28 (dk_at dksX33_judge_2 10 rfl rfl)
theorem dX33_judge_57 : decode cX33_judge 57 = .ok (.ifCond .ne 7, 3) := dk_154 0 7 (dk_at dksX33_judge_2 11 rfl rfl)
theorem dX33_judge_60 : decode cX33_judge 60 = .ok (.iconst 1, 1) := dk_4 (dk_at dksX33_judge_2 14 rfl rfl)
theorem dX33_judge_61 : decode cX33_judge 61 = .ok (.goto 4, 3) := dk_167 0 4 (dk_at dksX33_judge_2 15 rfl rfl)
theorem dX33_judge_64 : decode cX33_judge 64 = .ok (.iconst 0, 1) := dk_3 (dk_at dksX33_judge_2 18 rfl rfl)
theorem dX33_judge_65 : decode cX33_judge 65 = .ok (.aload_n 0, 1) := dk_42 (dk_at dksX33_judge_2 19 rfl rfl)
theorem dX33_judge_66 : decode cX33_judge 66 = .ok (.getfield 7, 3) := dk_180 0 7 (dk_at dksX33_judge_2 20 rfl rfl)
theorem dX33_judge_69 : decode cX33_judge 69 = .ok (.ifCond .eq 15, 3) := dk_153 0 15 (dk_at dksX33_judge_3 0 rfl rfl)
theorem dX33_judge_72 : decode cX33_judge 72 = .ok (.iload_n 2, 1) := dk_28 (dk_at dksX33_judge_3 3 rfl rfl)
theorem dX33_judge_73 : decode cX33_judge 73 = .ok (.ifCond .ne 7, 3) := dk_154 0 7 (dk_at dksX33_judge_3 4 rfl rfl)
theorem dX33_judge_76 : decode cX33_judge 76 = .ok (.iconst 1, 1) := dk_4 (dk_at dksX33_judge_3 7 rfl rfl)
theorem dX33_judge_77 : decode cX33_judge 77 = .ok (.goto 8, 3) := dk_167 0 8 (dk_at dksX33_judge_3 8 rfl rfl)
theorem dX33_judge_80 : decode cX33_judge 80 = .ok (.iconst 0, 1) := dk_3 (dk_at dksX33_judge_3 11 rfl rfl)
theorem dX33_judge_81 : decode cX33_judge 81 = .ok (.goto 4, 3) := dk_167 0 4 (dk_at dksX33_judge_3 12 rfl rfl)
theorem dX33_judge_84 : decode cX33_judge 84 = .ok (.iload_n 1, 1) := dk_27 (dk_at dksX33_judge_3 15 rfl rfl)
theorem dX33_judge_85 : decode cX33_judge 85 = .ok (.invokevirtual 56, 3) := dk_182 0 56 (dk_at dksX33_judge_3 16 rfl rfl)
theorem dX33_judge_88 : decode cX33_judge 88 = .ok (.return_, 1) := dk_177 (dk_at dksX33_judge_3 19 rfl rfl)
abbrev cX33_isOne : ByteArray := prog_4_method_2_code
def yX33_isOne : MethodName := ⟨RX33, "isOne", "(LConstraintHouse$Part;)Z"⟩
def dkwX33_isOne_2 : List UInt8 := [3, 167, 0, 19, 43, 180, 0, 32, 184, 0, 36, 4, 160, 0, 7, 4, 167, 0, 4, 3, 172]
abbrev dktX33_isOne_2 : List UInt8 := dkwX33_isOne_2 ++ []
def dkwX33_isOne_1 : List UInt8 := [172, 43, 182, 0, 13, 4, 160, 0, 22, 43, 180, 0, 26, 43, 180, 0, 29, 159, 0, 7, 4, 167, 0, 23]
abbrev dktX33_isOne_1 : List UInt8 := dkwX33_isOne_1 ++ dktX33_isOne_2
def dkwX33_isOne_0 : List UInt8 := [43, 182, 0, 13, 154, 0, 21, 43, 180, 0, 19, 43, 180, 0, 23, 151, 154, 0, 7, 4, 167, 0, 4, 3]
abbrev dktX33_isOne_0 : List UInt8 := dkwX33_isOne_0 ++ dktX33_isOne_1
theorem dksX33_isOne_0 : cX33_isOne.data.toList.drop 0 = dktX33_isOne_0 := by decide +kernel
theorem dksX33_isOne_1 : cX33_isOne.data.toList.drop 24 = dktX33_isOne_1 := dk_seg dksX33_isOne_0 24 rfl rfl
theorem dksX33_isOne_2 : cX33_isOne.data.toList.drop 48 = dktX33_isOne_2 := dk_seg dksX33_isOne_1 24 rfl rfl
theorem dX33_isOne_0 : decode cX33_isOne 0 = .ok (.aload_n 1, 1) := dk_43 (dk_at dksX33_isOne_0 0 rfl rfl)
theorem dX33_isOne_1 : decode cX33_isOne 1 = .ok (.invokevirtual 13, 3) := dk_182 0 13 (dk_at dksX33_isOne_0 1 rfl rfl)
theorem dX33_isOne_4 : decode cX33_isOne 4 = .ok (.ifCond .ne 21, 3) := dk_154 0 21 (dk_at dksX33_isOne_0 4 rfl rfl)
theorem dX33_isOne_7 : decode cX33_isOne 7 = .ok (.aload_n 1, 1) := dk_43 (dk_at dksX33_isOne_0 7 rfl rfl)
theorem dX33_isOne_8 : decode cX33_isOne 8 = .ok (.getfield 19, 3) := dk_180 0 19 (dk_at dksX33_isOne_0 8 rfl rfl)
theorem dX33_isOne_11 : decode cX33_isOne 11 = .ok (.aload_n 1, 1) := dk_43 (dk_at dksX33_isOne_0 11 rfl rfl)
theorem dX33_isOne_12 : decode cX33_isOne 12 = .ok (.getfield 23, 3) := dk_180 0 23 (dk_at dksX33_isOne_0 12 rfl rfl)
theorem dX33_isOne_15 : decode cX33_isOne 15 = .ok (.dcmp .l, 1) := dk_151 (dk_at dksX33_isOne_0 15 rfl rfl)
theorem dX33_isOne_16 : decode cX33_isOne 16 = .ok (.ifCond .ne 7, 3) := dk_154 0 7 (dk_at dksX33_isOne_0 16 rfl rfl)
theorem dX33_isOne_19 : decode cX33_isOne 19 = .ok (.iconst 1, 1) := dk_4 (dk_at dksX33_isOne_0 19 rfl rfl)
theorem dX33_isOne_20 : decode cX33_isOne 20 = .ok (.goto 4, 3) := dk_167 0 4 (dk_at dksX33_isOne_0 20 rfl rfl)
theorem dX33_isOne_23 : decode cX33_isOne 23 = .ok (.iconst 0, 1) := dk_3 (dk_at dksX33_isOne_0 23 rfl rfl)
theorem dX33_isOne_24 : decode cX33_isOne 24 = .ok (.ireturn, 1) := dk_172 (dk_at dksX33_isOne_1 0 rfl rfl)
theorem dX33_isOne_25 : decode cX33_isOne 25 = .ok (.aload_n 1, 1) := dk_43 (dk_at dksX33_isOne_1 1 rfl rfl)
theorem dX33_isOne_26 : decode cX33_isOne 26 = .ok (.invokevirtual 13, 3) := dk_182 0 13 (dk_at dksX33_isOne_1 2 rfl rfl)
theorem dX33_isOne_29 : decode cX33_isOne 29 = .ok (.iconst 1, 1) := dk_4 (dk_at dksX33_isOne_1 5 rfl rfl)
theorem dX33_isOne_30 : decode cX33_isOne 30 = .ok (.if_icmp .ne 22, 3) := dk_160 0 22 (dk_at dksX33_isOne_1 6 rfl rfl)
theorem dX33_isOne_33 : decode cX33_isOne 33 = .ok (.aload_n 1, 1) := dk_43 (dk_at dksX33_isOne_1 9 rfl rfl)
theorem dX33_isOne_34 : decode cX33_isOne 34 = .ok (.getfield 26, 3) := dk_180 0 26 (dk_at dksX33_isOne_1 10 rfl rfl)
theorem dX33_isOne_37 : decode cX33_isOne 37 = .ok (.aload_n 1, 1) := dk_43 (dk_at dksX33_isOne_1 13 rfl rfl)
theorem dX33_isOne_38 : decode cX33_isOne 38 = .ok (.getfield 29, 3) := dk_180 0 29 (dk_at dksX33_isOne_1 14 rfl rfl)
theorem dX33_isOne_41 : decode cX33_isOne 41 = .ok (.if_icmp .eq 7, 3) := dk_159 0 7 (dk_at dksX33_isOne_1 17 rfl rfl)
theorem dX33_isOne_44 : decode cX33_isOne 44 = .ok (.iconst 1, 1) := dk_4 (dk_at dksX33_isOne_1 20 rfl rfl)
theorem dX33_isOne_45 : decode cX33_isOne 45 = .ok (.goto 23, 3) := dk_167 0 23 (dk_at dksX33_isOne_1 21 rfl rfl)
theorem dX33_isOne_48 : decode cX33_isOne 48 = .ok (.iconst 0, 1) := dk_3 (dk_at dksX33_isOne_2 0 rfl rfl)
theorem dX33_isOne_49 : decode cX33_isOne 49 = .ok (.goto 19, 3) := dk_167 0 19 (dk_at dksX33_isOne_2 1 rfl rfl)
theorem dX33_isOne_52 : decode cX33_isOne 52 = .ok (.aload_n 1, 1) := dk_43 (dk_at dksX33_isOne_2 4 rfl rfl)
theorem dX33_isOne_53 : decode cX33_isOne 53 = .ok (.getfield 32, 3) := dk_180 0 32 (dk_at dksX33_isOne_2 5 rfl rfl)
theorem dX33_isOne_56 : decode cX33_isOne 56 = .ok (.invokestatic 36, 3) := dk_184 0 36 (dk_at dksX33_isOne_2 8 rfl rfl)
theorem dX33_isOne_59 : decode cX33_isOne 59 = .ok (.iconst 1, 1) := dk_4 (dk_at dksX33_isOne_2 11 rfl rfl)
theorem dX33_isOne_60 : decode cX33_isOne 60 = .ok (.if_icmp .ne 7, 3) := dk_160 0 7 (dk_at dksX33_isOne_2 12 rfl rfl)
theorem dX33_isOne_63 : decode cX33_isOne 63 = .ok (.iconst 1, 1) := dk_4 (dk_at dksX33_isOne_2 15 rfl rfl)
theorem dX33_isOne_64 : decode cX33_isOne 64 = .ok (.goto 4, 3) := dk_167 0 4 (dk_at dksX33_isOne_2 16 rfl rfl)
theorem dX33_isOne_67 : decode cX33_isOne 67 = .ok (.iconst 0, 1) := dk_3 (dk_at dksX33_isOne_2 19 rfl rfl)
theorem dX33_isOne_68 : decode cX33_isOne 68 = .ok (.ireturn, 1) := dk_172 (dk_at dksX33_isOne_2 20 rfl rfl)
abbrev cX33_hand : ByteArray := prog_4_method_4_code
def yX33_hand : MethodName := ⟨RX33, "hand", "()V"⟩
def dkwX33_hand_3 : List UInt8 := [180, 0, 46, 42, 180, 0, 42, 182, 0, 65, 177]
abbrev dktX33_hand_3 : List UInt8 := dkwX33_hand_3 ++ []
def dkwX33_hand_2 : List UInt8 := [180, 0, 42, 42, 180, 0, 46, 182, 0, 65, 42, 42, 180, 0, 42, 182, 0, 53, 153, 0, 15, 42, 42]
abbrev dktX33_hand_2 : List UInt8 := dkwX33_hand_2 ++ dktX33_hand_3
def dkwX33_hand_1 : List UInt8 := [180, 0, 46, 42, 180, 0, 42, 182, 0, 61, 177, 42, 42, 180, 0, 46, 182, 0, 53, 153, 0, 15, 42, 42]
abbrev dktX33_hand_1 : List UInt8 := dkwX33_hand_1 ++ dktX33_hand_2
def dkwX33_hand_0 : List UInt8 := [42, 180, 0, 60, 42, 180, 0, 7, 159, 0, 26, 42, 180, 0, 42, 42, 180, 0, 46, 182, 0, 61, 42]
abbrev dktX33_hand_0 : List UInt8 := dkwX33_hand_0 ++ dktX33_hand_1
theorem dksX33_hand_0 : cX33_hand.data.toList.drop 0 = dktX33_hand_0 := by decide +kernel
theorem dksX33_hand_1 : cX33_hand.data.toList.drop 23 = dktX33_hand_1 := dk_seg dksX33_hand_0 23 rfl rfl
theorem dksX33_hand_2 : cX33_hand.data.toList.drop 47 = dktX33_hand_2 := dk_seg dksX33_hand_1 24 rfl rfl
theorem dksX33_hand_3 : cX33_hand.data.toList.drop 70 = dktX33_hand_3 := dk_seg dksX33_hand_2 23 rfl rfl
theorem dX33_hand_0 : decode cX33_hand 0 = .ok (.aload_n 0, 1) := dk_42 (dk_at dksX33_hand_0 0 rfl rfl)
theorem dX33_hand_1 : decode cX33_hand 1 = .ok (.getfield 60, 3) := dk_180 0 60 (dk_at dksX33_hand_0 1 rfl rfl)
theorem dX33_hand_4 : decode cX33_hand 4 = .ok (.aload_n 0, 1) := dk_42 (dk_at dksX33_hand_0 4 rfl rfl)
theorem dX33_hand_5 : decode cX33_hand 5 = .ok (.getfield 7, 3) := dk_180 0 7 (dk_at dksX33_hand_0 5 rfl rfl)
theorem dX33_hand_8 : decode cX33_hand 8 = .ok (.if_icmp .eq 26, 3) := dk_159 0 26 (dk_at dksX33_hand_0 8 rfl rfl)
theorem dX33_hand_11 : decode cX33_hand 11 = .ok (.aload_n 0, 1) := dk_42 (dk_at dksX33_hand_0 11 rfl rfl)
theorem dX33_hand_12 : decode cX33_hand 12 = .ok (.getfield 42, 3) := dk_180 0 42 (dk_at dksX33_hand_0 12 rfl rfl)
theorem dX33_hand_15 : decode cX33_hand 15 = .ok (.aload_n 0, 1) := dk_42 (dk_at dksX33_hand_0 15 rfl rfl)
theorem dX33_hand_16 : decode cX33_hand 16 = .ok (.getfield 46, 3) := dk_180 0 46 (dk_at dksX33_hand_0 16 rfl rfl)
theorem dX33_hand_19 : decode cX33_hand 19 = .ok (.invokevirtual 61, 3) := dk_182 0 61 (dk_at dksX33_hand_0 19 rfl rfl)
theorem dX33_hand_22 : decode cX33_hand 22 = .ok (.aload_n 0, 1) := dk_42 (dk_at dksX33_hand_0 22 rfl rfl)
theorem dX33_hand_23 : decode cX33_hand 23 = .ok (.getfield 46, 3) := dk_180 0 46 (dk_at dksX33_hand_1 0 rfl rfl)
theorem dX33_hand_26 : decode cX33_hand 26 = .ok (.aload_n 0, 1) := dk_42 (dk_at dksX33_hand_1 3 rfl rfl)
theorem dX33_hand_27 : decode cX33_hand 27 = .ok (.getfield 42, 3) := dk_180 0 42 (dk_at dksX33_hand_1 4 rfl rfl)
theorem dX33_hand_30 : decode cX33_hand 30 = .ok (.invokevirtual 61, 3) := dk_182 0 61 (dk_at dksX33_hand_1 7 rfl rfl)
theorem dX33_hand_33 : decode cX33_hand 33 = .ok (.return_, 1) := dk_177 (dk_at dksX33_hand_1 10 rfl rfl)
theorem dX33_hand_34 : decode cX33_hand 34 = .ok (.aload_n 0, 1) := dk_42 (dk_at dksX33_hand_1 11 rfl rfl)
theorem dX33_hand_35 : decode cX33_hand 35 = .ok (.aload_n 0, 1) := dk_42 (dk_at dksX33_hand_1 12 rfl rfl)
theorem dX33_hand_36 : decode cX33_hand 36 = .ok (.getfield 46, 3) := dk_180 0 46 (dk_at dksX33_hand_1 13 rfl rfl)
theorem dX33_hand_39 : decode cX33_hand 39 = .ok (.invokevirtual 53, 3) := dk_182 0 53 (dk_at dksX33_hand_1 16 rfl rfl)
theorem dX33_hand_42 : decode cX33_hand 42 = .ok (.ifCond .eq 15, 3) := dk_153 0 15 (dk_at dksX33_hand_1 19 rfl rfl)
theorem dX33_hand_45 : decode cX33_hand 45 = .ok (.aload_n 0, 1) := dk_42 (dk_at dksX33_hand_1 22 rfl rfl)
theorem dX33_hand_46 : decode cX33_hand 46 = .ok (.aload_n 0, 1) := dk_42 (dk_at dksX33_hand_1 23 rfl rfl)
theorem dX33_hand_47 : decode cX33_hand 47 = .ok (.getfield 42, 3) := dk_180 0 42 (dk_at dksX33_hand_2 0 rfl rfl)
theorem dX33_hand_50 : decode cX33_hand 50 = .ok (.aload_n 0, 1) := dk_42 (dk_at dksX33_hand_2 3 rfl rfl)
theorem dX33_hand_51 : decode cX33_hand 51 = .ok (.getfield 46, 3) := dk_180 0 46 (dk_at dksX33_hand_2 4 rfl rfl)
theorem dX33_hand_54 : decode cX33_hand 54 = .ok (.invokevirtual 65, 3) := dk_182 0 65 (dk_at dksX33_hand_2 7 rfl rfl)
theorem dX33_hand_57 : decode cX33_hand 57 = .ok (.aload_n 0, 1) := dk_42 (dk_at dksX33_hand_2 10 rfl rfl)
theorem dX33_hand_58 : decode cX33_hand 58 = .ok (.aload_n 0, 1) := dk_42 (dk_at dksX33_hand_2 11 rfl rfl)
theorem dX33_hand_59 : decode cX33_hand 59 = .ok (.getfield 42, 3) := dk_180 0 42 (dk_at dksX33_hand_2 12 rfl rfl)
theorem dX33_hand_62 : decode cX33_hand 62 = .ok (.invokevirtual 53, 3) := dk_182 0 53 (dk_at dksX33_hand_2 15 rfl rfl)
theorem dX33_hand_65 : decode cX33_hand 65 = .ok (.ifCond .eq 15, 3) := dk_153 0 15 (dk_at dksX33_hand_2 18 rfl rfl)
theorem dX33_hand_68 : decode cX33_hand 68 = .ok (.aload_n 0, 1) := dk_42 (dk_at dksX33_hand_2 21 rfl rfl)
theorem dX33_hand_69 : decode cX33_hand 69 = .ok (.aload_n 0, 1) := dk_42 (dk_at dksX33_hand_2 22 rfl rfl)
theorem dX33_hand_70 : decode cX33_hand 70 = .ok (.getfield 46, 3) := dk_180 0 46 (dk_at dksX33_hand_3 0 rfl rfl)
theorem dX33_hand_73 : decode cX33_hand 73 = .ok (.aload_n 0, 1) := dk_42 (dk_at dksX33_hand_3 3 rfl rfl)
theorem dX33_hand_74 : decode cX33_hand 74 = .ok (.getfield 42, 3) := dk_180 0 42 (dk_at dksX33_hand_3 4 rfl rfl)
theorem dX33_hand_77 : decode cX33_hand 77 = .ok (.invokevirtual 65, 3) := dk_182 0 65 (dk_at dksX33_hand_3 7 rfl rfl)
theorem dX33_hand_80 : decode cX33_hand 80 = .ok (.return_, 1) := dk_177 (dk_at dksX33_hand_3 10 rfl rfl)
abbrev cX33_loses : ByteArray := prog_4_method_5_code
def yX33_loses : MethodName := ⟨RX33, "loses", "(LConstraintHouse$Part;LConstraintHouse$Part;)V"⟩
def dkwX33_loses_2 : List UInt8 := [167, 0, 4, 3, 182, 0, 72, 167, 0, 13, 43, 44, 180, 0, 32, 2, 130, 182, 0, 74, 177]
abbrev dktX33_loses_2 : List UInt8 := dkwX33_loses_2 ++ []
def dkwX33_loses_1 : List UInt8 := [160, 0, 34, 43, 44, 180, 0, 26, 154, 0, 7, 4, 167, 0, 4, 3, 44, 180, 0, 29, 154, 0, 7, 4]
abbrev dktX33_loses_1 : List UInt8 := dkwX33_loses_1 ++ dktX33_loses_2
def dkwX33_loses_0 : List UInt8 := [43, 182, 0, 13, 154, 0, 14, 43, 44, 180, 0, 19, 182, 0, 68, 167, 0, 52, 43, 182, 0, 13, 4]
abbrev dktX33_loses_0 : List UInt8 := dkwX33_loses_0 ++ dktX33_loses_1
theorem dksX33_loses_0 : cX33_loses.data.toList.drop 0 = dktX33_loses_0 := by decide +kernel
theorem dksX33_loses_1 : cX33_loses.data.toList.drop 23 = dktX33_loses_1 := dk_seg dksX33_loses_0 23 rfl rfl
theorem dksX33_loses_2 : cX33_loses.data.toList.drop 47 = dktX33_loses_2 := dk_seg dksX33_loses_1 24 rfl rfl
theorem dX33_loses_0 : decode cX33_loses 0 = .ok (.aload_n 1, 1) := dk_43 (dk_at dksX33_loses_0 0 rfl rfl)
theorem dX33_loses_1 : decode cX33_loses 1 = .ok (.invokevirtual 13, 3) := dk_182 0 13 (dk_at dksX33_loses_0 1 rfl rfl)
theorem dX33_loses_4 : decode cX33_loses 4 = .ok (.ifCond .ne 14, 3) := dk_154 0 14 (dk_at dksX33_loses_0 4 rfl rfl)
theorem dX33_loses_7 : decode cX33_loses 7 = .ok (.aload_n 1, 1) := dk_43 (dk_at dksX33_loses_0 7 rfl rfl)
theorem dX33_loses_8 : decode cX33_loses 8 = .ok (.aload_n 2, 1) := dk_44 (dk_at dksX33_loses_0 8 rfl rfl)
theorem dX33_loses_9 : decode cX33_loses 9 = .ok (.getfield 19, 3) := dk_180 0 19 (dk_at dksX33_loses_0 9 rfl rfl)
theorem dX33_loses_12 : decode cX33_loses 12 = .ok (.invokevirtual 68, 3) := dk_182 0 68 (dk_at dksX33_loses_0 12 rfl rfl)
theorem dX33_loses_15 : decode cX33_loses 15 = .ok (.goto 52, 3) := dk_167 0 52 (dk_at dksX33_loses_0 15 rfl rfl)
theorem dX33_loses_18 : decode cX33_loses 18 = .ok (.aload_n 1, 1) := dk_43 (dk_at dksX33_loses_0 18 rfl rfl)
theorem dX33_loses_19 : decode cX33_loses 19 = .ok (.invokevirtual 13, 3) := dk_182 0 13 (dk_at dksX33_loses_0 19 rfl rfl)
theorem dX33_loses_22 : decode cX33_loses 22 = .ok (.iconst 1, 1) := dk_4 (dk_at dksX33_loses_0 22 rfl rfl)
theorem dX33_loses_23 : decode cX33_loses 23 = .ok (.if_icmp .ne 34, 3) := dk_160 0 34 (dk_at dksX33_loses_1 0 rfl rfl)
theorem dX33_loses_26 : decode cX33_loses 26 = .ok (.aload_n 1, 1) := dk_43 (dk_at dksX33_loses_1 3 rfl rfl)
theorem dX33_loses_27 : decode cX33_loses 27 = .ok (.aload_n 2, 1) := dk_44 (dk_at dksX33_loses_1 4 rfl rfl)
theorem dX33_loses_28 : decode cX33_loses 28 = .ok (.getfield 26, 3) := dk_180 0 26 (dk_at dksX33_loses_1 5 rfl rfl)
theorem dX33_loses_31 : decode cX33_loses 31 = .ok (.ifCond .ne 7, 3) := dk_154 0 7 (dk_at dksX33_loses_1 8 rfl rfl)
theorem dX33_loses_34 : decode cX33_loses 34 = .ok (.iconst 1, 1) := dk_4 (dk_at dksX33_loses_1 11 rfl rfl)
theorem dX33_loses_35 : decode cX33_loses 35 = .ok (.goto 4, 3) := dk_167 0 4 (dk_at dksX33_loses_1 12 rfl rfl)
theorem dX33_loses_38 : decode cX33_loses 38 = .ok (.iconst 0, 1) := dk_3 (dk_at dksX33_loses_1 15 rfl rfl)
theorem dX33_loses_39 : decode cX33_loses 39 = .ok (.aload_n 2, 1) := dk_44 (dk_at dksX33_loses_1 16 rfl rfl)
theorem dX33_loses_40 : decode cX33_loses 40 = .ok (.getfield 29, 3) := dk_180 0 29 (dk_at dksX33_loses_1 17 rfl rfl)
theorem dX33_loses_43 : decode cX33_loses 43 = .ok (.ifCond .ne 7, 3) := dk_154 0 7 (dk_at dksX33_loses_1 20 rfl rfl)
theorem dX33_loses_46 : decode cX33_loses 46 = .ok (.iconst 1, 1) := dk_4 (dk_at dksX33_loses_1 23 rfl rfl)
theorem dX33_loses_47 : decode cX33_loses 47 = .ok (.goto 4, 3) := dk_167 0 4 (dk_at dksX33_loses_2 0 rfl rfl)
theorem dX33_loses_50 : decode cX33_loses 50 = .ok (.iconst 0, 1) := dk_3 (dk_at dksX33_loses_2 3 rfl rfl)
theorem dX33_loses_51 : decode cX33_loses 51 = .ok (.invokevirtual 72, 3) := dk_182 0 72 (dk_at dksX33_loses_2 4 rfl rfl)
theorem dX33_loses_54 : decode cX33_loses 54 = .ok (.goto 13, 3) := dk_167 0 13 (dk_at dksX33_loses_2 7 rfl rfl)
theorem dX33_loses_57 : decode cX33_loses 57 = .ok (.aload_n 1, 1) := dk_43 (dk_at dksX33_loses_2 10 rfl rfl)
theorem dX33_loses_58 : decode cX33_loses 58 = .ok (.aload_n 2, 1) := dk_44 (dk_at dksX33_loses_2 11 rfl rfl)
theorem dX33_loses_59 : decode cX33_loses 59 = .ok (.getfield 32, 3) := dk_180 0 32 (dk_at dksX33_loses_2 12 rfl rfl)
theorem dX33_loses_62 : decode cX33_loses 62 = .ok (.iconst (-1), 1) := dk_2 (dk_at dksX33_loses_2 15 rfl rfl)
theorem dX33_loses_63 : decode cX33_loses 63 = .ok (.ixor, 1) := dk_130 (dk_at dksX33_loses_2 16 rfl rfl)
theorem dX33_loses_64 : decode cX33_loses 64 = .ok (.invokevirtual 74, 3) := dk_182 0 74 (dk_at dksX33_loses_2 17 rfl rfl)
theorem dX33_loses_67 : decode cX33_loses 67 = .ok (.return_, 1) := dk_177 (dk_at dksX33_loses_2 20 rfl rfl)
theorem q304 : (Jvm.Cond.initialized "ConstraintHouse$Alike") ∈ lw_all := lw_g (lw_at lw_m1 44 rfl) rfl
theorem q1354 : (Jvm.Cond.fieldLink "ConstraintHouse$Alike" (19 : Nat) "ConstraintHouse$Part" "low" "D") ∈ lw_all := lw_g (lw_at lw_m5 134 rfl) rfl
theorem q1390 : (Jvm.Cond.fieldLink "ConstraintHouse$Alike" (23 : Nat) "ConstraintHouse$Part" "high" "D") ∈ lw_all := lw_g (lw_at lw_m5 170 rfl) rfl
theorem q1423 : (Jvm.Cond.fieldLink "ConstraintHouse$Alike" (26 : Nat) "ConstraintHouse$Part" "no" "Z") ∈ lw_all := lw_g (lw_at lw_m5 203 rfl) rfl
theorem q1439 : (Jvm.Cond.fieldLink "ConstraintHouse$Alike" (29 : Nat) "ConstraintHouse$Part" "yes" "Z") ∈ lw_all := lw_g (lw_at lw_m5 219 rfl) rfl
theorem q1447 : (Jvm.Cond.fieldLink "ConstraintHouse$Alike" (60 : Nat) "ConstraintHouse$Alike" "yes" "Z") ∈ lw_all := lw_g (lw_at lw_m5 227 rfl) rfl
theorem q1448 : (Jvm.Cond.sameField "ConstraintHouse$Alike" "ConstraintHouse$Part" "yes" "Z") ∈ lw_all := lw_g (lw_at lw_m5 228 rfl) rfl
theorem q1461 : (Jvm.Cond.fieldLink "ConstraintHouse$Alike" (32 : Nat) "ConstraintHouse$Part" "letters" "I") ∈ lw_all := lw_g (lw_at lw_m6 1 rfl) rfl
theorem q1533 : (Jvm.Cond.selects "ConstraintHouse$Alike" ({ cls := "ConstraintHouse$Part", name := "sort", desc := "()I" } : Jvm.MethodName) ({ cls := "ConstraintHouse$Judged", name := "sort", desc := "()I" } : Jvm.MethodName)) ∈ lw_all := lw_g (lw_at lw_m6 73 rfl) rfl
theorem q1783 : (Jvm.Cond.instantiable "ConstraintHouse$Alike" (8 : Nat)) ∈ lw_all := lw_g (lw_at lw_m7 83 rfl) rfl
theorem q1785 : (Jvm.Cond.instanceMethod ({ cls := "ConstraintHouse$Alike", name := "<init>", desc := "(LConstraintHouse$Part;LConstraintHouse$Part;Z)V" } : Jvm.MethodName)) ∈ lw_all := lw_g (lw_at lw_m7 85 rfl) rfl
theorem q1786 : (Jvm.Cond.code ({ cls := "ConstraintHouse$Alike", name := "<init>", desc := "(LConstraintHouse$Part;LConstraintHouse$Part;Z)V" } : Jvm.MethodName) prog_4_method_1_code (4 : Nat) (Option.none : Option Jvm.ClassFile.FieldType)) ∈ lw_all := lw_g (lw_at lw_m7 86 rfl) rfl
theorem q1787 : (Jvm.Cond.methodLink "ConstraintHouse$Alike" (1 : Nat) ({ cls := "ConstraintHouse$Relation", name := "<init>", desc := "(LConstraintHouse$Part;LConstraintHouse$Part;)V" } : Jvm.MethodName)) ∈ lw_all := lw_g (lw_at lw_m7 87 rfl) rfl
theorem q1794 : (Jvm.Cond.fieldLink "ConstraintHouse$Alike" (7 : Nat) "ConstraintHouse$Alike" "contrary" "Z") ∈ lw_all := lw_g (lw_at lw_m7 94 rfl) rfl
theorem q1800 : (Jvm.Cond.fieldLink "ConstraintHouse$Alike" (42 : Nat) "ConstraintHouse$Alike" "x" "LConstraintHouse$Part;") ∈ lw_all := lw_g (lw_at lw_m7 100 rfl) rfl
theorem q1801 : (Jvm.Cond.sameField "ConstraintHouse$Alike" "ConstraintHouse$Relation" "x" "LConstraintHouse$Part;") ∈ lw_all := lw_g (lw_at lw_m7 101 rfl) rfl
theorem q1807 : (Jvm.Cond.fieldLink "ConstraintHouse$Alike" (46 : Nat) "ConstraintHouse$Alike" "y" "LConstraintHouse$Part;") ∈ lw_all := lw_g (lw_at lw_m7 107 rfl) rfl
theorem q1808 : (Jvm.Cond.sameField "ConstraintHouse$Alike" "ConstraintHouse$Relation" "y" "LConstraintHouse$Part;") ∈ lw_all := lw_g (lw_at lw_m7 108 rfl) rfl
theorem q1809 : (Jvm.Cond.laysFinal "ConstraintHouse$Alike" "ConstraintHouse$Alike" "contrary" "Z") ∈ lw_all := lw_g (lw_at lw_m7 109 rfl) rfl
theorem q1810 : (Jvm.Cond.soleField "ConstraintHouse$Alike" "contrary") ∈ lw_all := lw_g (lw_at lw_m7 110 rfl) rfl
theorem q1811 : (Jvm.Cond.laysFinal "ConstraintHouse$Alike" "ConstraintHouse$Relation" "x" "LConstraintHouse$Part;") ∈ lw_all := lw_g (lw_at lw_m7 111 rfl) rfl
theorem q1813 : (Jvm.Cond.laysFinal "ConstraintHouse$Alike" "ConstraintHouse$Relation" "y" "LConstraintHouse$Part;") ∈ lw_all := lw_g (lw_at lw_m7 113 rfl) rfl
theorem q1815 : (Jvm.Cond.lays "ConstraintHouse$Alike" "ConstraintHouse$Part" "low" "D") ∈ lw_all := lw_g (lw_at lw_m7 115 rfl) rfl
theorem q1816 : (Jvm.Cond.lays "ConstraintHouse$Alike" "ConstraintHouse$Part" "high" "D") ∈ lw_all := lw_g (lw_at lw_m7 116 rfl) rfl
theorem q1817 : (Jvm.Cond.lays "ConstraintHouse$Alike" "ConstraintHouse$Part" "no" "Z") ∈ lw_all := lw_g (lw_at lw_m7 117 rfl) rfl
theorem q1818 : (Jvm.Cond.lays "ConstraintHouse$Alike" "ConstraintHouse$Part" "yes" "Z") ∈ lw_all := lw_g (lw_at lw_m7 118 rfl) rfl
theorem q1819 : (Jvm.Cond.lays "ConstraintHouse$Alike" "ConstraintHouse$Part" "letters" "I") ∈ lw_all := lw_g (lw_at lw_m7 119 rfl) rfl
theorem q1820 : (Jvm.Cond.superclass "ConstraintHouse$Alike" "ConstraintHouse$Relation") ∈ lw_all := lw_g (lw_at lw_m7 120 rfl) rfl
theorem q2475 : (Jvm.Cond.selects "ConstraintHouse$Alike" ({ cls := "ConstraintHouse$Narrows", name := "forwards", desc := "(LConstraintHouse$Solver;)V" } : Jvm.MethodName) ({ cls := "ConstraintHouse$Relation", name := "forwards", desc := "(LConstraintHouse$Solver;)V" } : Jvm.MethodName)) ∈ lw_all := lw_g (lw_at lw_m10 55 rfl) rfl
theorem q2808 : (Jvm.Cond.selects "ConstraintHouse$Alike" ({ cls := "ConstraintHouse$Relation", name := "judge", desc := "()V" } : Jvm.MethodName) ({ cls := "ConstraintHouse$Alike", name := "judge", desc := "()V" } : Jvm.MethodName)) ∈ lw_all := lw_g (lw_at lw_m11 148 rfl) rfl
theorem q2809 : (Jvm.Cond.instanceMethod ({ cls := "ConstraintHouse$Alike", name := "judge", desc := "()V" } : Jvm.MethodName)) ∈ lw_all := lw_g (lw_at lw_m11 149 rfl) rfl
theorem q2810 : (Jvm.Cond.code ({ cls := "ConstraintHouse$Alike", name := "judge", desc := "()V" } : Jvm.MethodName) prog_4_method_3_code (3 : Nat) (Option.none : Option Jvm.ClassFile.FieldType)) ∈ lw_all := lw_g (lw_at lw_m11 150 rfl) rfl
theorem q2811 : (Jvm.Cond.methodLink "ConstraintHouse$Alike" (49 : Nat) ({ cls := "ConstraintHouse$Part", name := "hasMeet", desc := "(LConstraintHouse$Part;)Z" } : Jvm.MethodName)) ∈ lw_all := lw_g (lw_at lw_m11 151 rfl) rfl
theorem q2814 : (Jvm.Cond.selects "ConstraintHouse$Alike" ({ cls := "ConstraintHouse$Part", name := "hasMeet", desc := "(LConstraintHouse$Part;)Z" } : Jvm.MethodName) ({ cls := "ConstraintHouse$Part", name := "hasMeet", desc := "(LConstraintHouse$Part;)Z" } : Jvm.MethodName)) ∈ lw_all := lw_g (lw_at lw_m11 154 rfl) rfl
theorem q2836 : (Jvm.Cond.methodLink "ConstraintHouse$Alike" (53 : Nat) ({ cls := "ConstraintHouse$Alike", name := "isOne", desc := "(LConstraintHouse$Part;)Z" } : Jvm.MethodName)) ∈ lw_all := lw_g (lw_at lw_m11 176 rfl) rfl
theorem q2837 : (Jvm.Cond.privateMethod ({ cls := "ConstraintHouse$Alike", name := "isOne", desc := "(LConstraintHouse$Part;)Z" } : Jvm.MethodName)) ∈ lw_tbl := lw_at lw_m11 177 rfl
theorem q2838 : (Jvm.Cond.instanceMethod ({ cls := "ConstraintHouse$Alike", name := "isOne", desc := "(LConstraintHouse$Part;)Z" } : Jvm.MethodName)) ∈ lw_all := lw_g (lw_at lw_m11 178 rfl) rfl
theorem q2839 : (Jvm.Cond.code ({ cls := "ConstraintHouse$Alike", name := "isOne", desc := "(LConstraintHouse$Part;)Z" } : Jvm.MethodName) prog_4_method_2_code (2 : Nat) (Option.some Jvm.ClassFile.FieldType.boolean)) ∈ lw_all := lw_g (lw_at lw_m11 179 rfl) rfl
theorem q2840 : (Jvm.Cond.methodLink "ConstraintHouse$Alike" (13 : Nat) ({ cls := "ConstraintHouse$Part", name := "sort", desc := "()I" } : Jvm.MethodName)) ∈ lw_all := lw_g (lw_at lw_m11 180 rfl) rfl
theorem q2841 : (Jvm.Cond.methodLink "ConstraintHouse$Alike" (36 : Nat) ({ cls := "java/lang/Integer", name := "bitCount", desc := "(I)I" } : Jvm.MethodName)) ∈ lw_all := lw_g (lw_at lw_m11 181 rfl) rfl
theorem q2847 : (Jvm.Cond.methodLink "ConstraintHouse$Alike" (56 : Nat) ({ cls := "ConstraintHouse$Alike", name := "truth", desc := "(ZZ)V" } : Jvm.MethodName)) ∈ lw_all := lw_g (lw_at lw_m11 187 rfl) rfl
theorem q2848 : (Jvm.Cond.sameMethod "ConstraintHouse$Alike" "ConstraintHouse$Part" "truth" "(ZZ)V") ∈ lw_all := lw_g (lw_at lw_m11 188 rfl) rfl
theorem q2849 : (Jvm.Cond.selects "ConstraintHouse$Alike" ({ cls := "ConstraintHouse$Alike", name := "truth", desc := "(ZZ)V" } : Jvm.MethodName) ({ cls := "ConstraintHouse$Part", name := "truth", desc := "(ZZ)V" } : Jvm.MethodName)) ∈ lw_all := lw_g (lw_at lw_m11 189 rfl) rfl
theorem q2865 : (Jvm.Cond.selects "ConstraintHouse$Alike" ({ cls := "ConstraintHouse$Part", name := "meets", desc := "(ZZ)V" } : Jvm.MethodName) ({ cls := "ConstraintHouse$Part", name := "meets", desc := "(ZZ)V" } : Jvm.MethodName)) ∈ lw_all := lw_g (lw_at lw_m11 205 rfl) rfl
theorem q2888 : (Jvm.Cond.selects "ConstraintHouse$Alike" ({ cls := "ConstraintHouse$Part", name := "enter", desc := "(LConstraintHouse$Solver;)V" } : Jvm.MethodName) ({ cls := "ConstraintHouse$Relation", name := "enter", desc := "(LConstraintHouse$Solver;)V" } : Jvm.MethodName)) ∈ lw_all := lw_g (lw_at lw_m11 228 rfl) rfl
theorem q2895 : (Jvm.Cond.selects "ConstraintHouse$Alike" ({ cls := "ConstraintHouse$Relation", name := "hand", desc := "()V" } : Jvm.MethodName) ({ cls := "ConstraintHouse$Alike", name := "hand", desc := "()V" } : Jvm.MethodName)) ∈ lw_all := lw_g (lw_at lw_m11 235 rfl) rfl
theorem q2896 : (Jvm.Cond.instanceMethod ({ cls := "ConstraintHouse$Alike", name := "hand", desc := "()V" } : Jvm.MethodName)) ∈ lw_all := lw_g (lw_at lw_m11 236 rfl) rfl
theorem q2897 : (Jvm.Cond.code ({ cls := "ConstraintHouse$Alike", name := "hand", desc := "()V" } : Jvm.MethodName) prog_4_method_4_code (1 : Nat) (Option.none : Option Jvm.ClassFile.FieldType)) ∈ lw_all := lw_g (lw_at lw_m11 237 rfl) rfl
theorem q2898 : (Jvm.Cond.methodLink "ConstraintHouse$Alike" (61 : Nat) ({ cls := "ConstraintHouse$Part", name := "meets", desc := "(LConstraintHouse$Part;)V" } : Jvm.MethodName)) ∈ lw_all := lw_g (lw_at lw_m11 238 rfl) rfl
theorem q2901 : (Jvm.Cond.selects "ConstraintHouse$Alike" ({ cls := "ConstraintHouse$Part", name := "meets", desc := "(LConstraintHouse$Part;)V" } : Jvm.MethodName) ({ cls := "ConstraintHouse$Part", name := "meets", desc := "(LConstraintHouse$Part;)V" } : Jvm.MethodName)) ∈ lw_all := lw_g (lw_at lw_m12 1 rfl) rfl
theorem q2923 : (Jvm.Cond.selects "ConstraintHouse$Alike" ({ cls := "ConstraintHouse$Part", name := "meet", desc := "(DD)V" } : Jvm.MethodName) ({ cls := "ConstraintHouse$Part", name := "meet", desc := "(DD)V" } : Jvm.MethodName)) ∈ lw_all := lw_g (lw_at lw_m12 23 rfl) rfl
theorem q2946 : (Jvm.Cond.selects "ConstraintHouse$Alike" ({ cls := "ConstraintHouse$Part", name := "meets", desc := "(I)V" } : Jvm.MethodName) ({ cls := "ConstraintHouse$Part", name := "meets", desc := "(I)V" } : Jvm.MethodName)) ∈ lw_all := lw_g (lw_at lw_m12 46 rfl) rfl
theorem q2965 : (Jvm.Cond.methodLink "ConstraintHouse$Alike" (65 : Nat) ({ cls := "ConstraintHouse$Alike", name := "loses", desc := "(LConstraintHouse$Part;LConstraintHouse$Part;)V" } : Jvm.MethodName)) ∈ lw_all := lw_g (lw_at lw_m12 65 rfl) rfl
theorem q2966 : (Jvm.Cond.privateMethod ({ cls := "ConstraintHouse$Alike", name := "loses", desc := "(LConstraintHouse$Part;LConstraintHouse$Part;)V" } : Jvm.MethodName)) ∈ lw_tbl := lw_at lw_m12 66 rfl
theorem q2967 : (Jvm.Cond.instanceMethod ({ cls := "ConstraintHouse$Alike", name := "loses", desc := "(LConstraintHouse$Part;LConstraintHouse$Part;)V" } : Jvm.MethodName)) ∈ lw_all := lw_g (lw_at lw_m12 67 rfl) rfl
theorem q2968 : (Jvm.Cond.code ({ cls := "ConstraintHouse$Alike", name := "loses", desc := "(LConstraintHouse$Part;LConstraintHouse$Part;)V" } : Jvm.MethodName) prog_4_method_5_code (3 : Nat) (Option.none : Option Jvm.ClassFile.FieldType)) ∈ lw_all := lw_g (lw_at lw_m12 68 rfl) rfl
theorem q2969 : (Jvm.Cond.methodLink "ConstraintHouse$Alike" (68 : Nat) ({ cls := "ConstraintHouse$Part", name := "lose", desc := "(D)V" } : Jvm.MethodName)) ∈ lw_all := lw_g (lw_at lw_m12 69 rfl) rfl
theorem q2972 : (Jvm.Cond.selects "ConstraintHouse$Alike" ({ cls := "ConstraintHouse$Part", name := "lose", desc := "(D)V" } : Jvm.MethodName) ({ cls := "ConstraintHouse$Part", name := "lose", desc := "(D)V" } : Jvm.MethodName)) ∈ lw_all := lw_g (lw_at lw_m12 72 rfl) rfl
theorem q2999 : (Jvm.Cond.methodLink "ConstraintHouse$Alike" (72 : Nat) ({ cls := "ConstraintHouse$Part", name := "meets", desc := "(ZZ)V" } : Jvm.MethodName)) ∈ lw_all := lw_g (lw_at lw_m12 99 rfl) rfl
theorem q3000 : (Jvm.Cond.methodLink "ConstraintHouse$Alike" (74 : Nat) ({ cls := "ConstraintHouse$Part", name := "meets", desc := "(I)V" } : Jvm.MethodName)) ∈ lw_all := lw_g (lw_at lw_m12 100 rfl) rfl
theorem q3033 : (Jvm.Cond.selects "ConstraintHouse$Alike" ({ cls := "ConstraintHouse$Part", name := "backwards", desc := "(LConstraintHouse$Solver;)V" } : Jvm.MethodName) ({ cls := "ConstraintHouse$Part", name := "backwards", desc := "(LConstraintHouse$Solver;)V" } : Jvm.MethodName)) ∈ lw_all := lw_g (lw_at lw_m12 133 rfl) rfl
theorem q3044 : (Jvm.Cond.selects "ConstraintHouse$Alike" ({ cls := "ConstraintHouse$Part", name := "lose", desc := "([I)V" } : Jvm.MethodName) ({ cls := "ConstraintHouse$Part", name := "lose", desc := "([I)V" } : Jvm.MethodName)) ∈ lw_all := lw_g (lw_at lw_m12 144 rfl) rfl
theorem q4837 : (Jvm.Cond.castable "ConstraintHouse$Alike" "java/lang/Object") ∈ lw_tbl := lw_at lw_m20 17 rfl
theorem q4872 : (Jvm.Cond.castable "ConstraintHouse$Alike" "ConstraintHouse$Part") ∈ lw_tbl := lw_at lw_m20 52 rfl
theorem in_X33 : ∀ w ∈ wsX330, w ∈ lw_all := lw_in wsX330 [1811, 1813, 1815, 1816, 1817, 1818, 1819, 1809] (by decide +kernel) (by decide +kernel)
/-! ConstraintHouse$Order -/
set_option maxRecDepth 100000
def RX34 : String := "ConstraintHouse$Order"
def TX34 : u_T := fun k => match k with
  | 0 => ("ConstraintHouse$Relation", "x", "LConstraintHouse$Part;", true)
  | 1 => ("ConstraintHouse$Relation", "y", "LConstraintHouse$Part;", true)
  | 2 => ("ConstraintHouse$Part", "low", "D", false)
  | 3 => ("ConstraintHouse$Part", "high", "D", false)
  | 4 => ("ConstraintHouse$Part", "no", "Z", false)
  | 5 => ("ConstraintHouse$Part", "yes", "Z", false)
  | 6 => ("ConstraintHouse$Part", "letters", "I", false)
  | _ => ("ConstraintHouse$Order", "below", "Z", true)
def tyX34 : Nat → FieldType := fun k => match k with
  | 0 => .object "ConstraintHouse$Part"
  | 1 => .object "ConstraintHouse$Part"
  | 2 => .double
  | 3 => .double
  | 4 => .boolean
  | 5 => .boolean
  | 6 => .int
  | _ => .boolean
abbrev wsX340 : List Cond := u_ws RX34 TX34 8
theorem nmX34 : ∀ a, a < 8 → ∀ b, b < 8 → a ≠ b → (TX34 a).2.1 ≠ (TX34 b).2.1 := by decide +kernel
theorem tyX34_ok : ∀ k, k < 8 → parseFieldDescriptor (TX34 k).2.2.1 = some (tyX34 k) := by decide +kernel
abbrev cX34_init : ByteArray := prog_23_method_1_code
def yX34_init : MethodName := ⟨RX34, "<init>", "(LConstraintHouse$Part;LConstraintHouse$Part;Z)V"⟩
def dkwX34_init_0 : List UInt8 := [42, 43, 44, 183, 0, 1, 42, 29, 181, 0, 7, 177]
abbrev dktX34_init_0 : List UInt8 := dkwX34_init_0 ++ []
theorem dksX34_init_0 : cX34_init.data.toList.drop 0 = dktX34_init_0 := by decide +kernel
theorem dX34_init_0 : decode cX34_init 0 = .ok (.aload_n 0, 1) := dk_42 (dk_at dksX34_init_0 0 rfl rfl)
theorem dX34_init_1 : decode cX34_init 1 = .ok (.aload_n 1, 1) := dk_43 (dk_at dksX34_init_0 1 rfl rfl)
theorem dX34_init_2 : decode cX34_init 2 = .ok (.aload_n 2, 1) := dk_44 (dk_at dksX34_init_0 2 rfl rfl)
theorem dX34_init_3 : decode cX34_init 3 = .ok (.invokespecial 1, 3) := dk_183 0 1 (dk_at dksX34_init_0 3 rfl rfl)
theorem dX34_init_6 : decode cX34_init 6 = .ok (.aload_n 0, 1) := dk_42 (dk_at dksX34_init_0 6 rfl rfl)
theorem dX34_init_7 : decode cX34_init 7 = .ok (.iload_n 3, 1) := dk_29 (dk_at dksX34_init_0 7 rfl rfl)
theorem dX34_init_8 : decode cX34_init 8 = .ok (.putfield 7, 3) := dk_181 0 7 (dk_at dksX34_init_0 8 rfl rfl)
theorem dX34_init_11 : decode cX34_init 11 = .ok (.return_, 1) := dk_177 (dk_at dksX34_init_0 11 rfl rfl)
abbrev cX34_judge : ByteArray := prog_23_method_2_code
def yX34_judge : MethodName := ⟨RX34, "judge", "()V"⟩
def dkwX34_judge_5 : List UInt8 := [27, 154, 0, 7, 4, 167, 0, 4, 3, 28, 154, 0, 7, 4, 167, 0, 4, 3, 182, 0, 29, 177]
abbrev dktX34_judge_5 : List UInt8 := dkwX34_judge_5 ++ []
def dkwX34_judge_4 : List UInt8 := [180, 0, 13, 180, 0, 26, 42, 180, 0, 23, 180, 0, 17, 151, 158, 0, 7, 4, 167, 0, 4, 3, 61, 42]
abbrev dktX34_judge_4 : List UInt8 := dkwX34_judge_4 ++ dktX34_judge_5
def dkwX34_judge_3 : List UInt8 := [180, 0, 26, 42, 180, 0, 23, 180, 0, 17, 151, 155, 0, 7, 4, 167, 0, 30, 3, 167, 0, 26, 42]
abbrev dktX34_judge_3 : List UInt8 := dkwX34_judge_3 ++ dktX34_judge_4
def dkwX34_judge_2 : List UInt8 := [180, 0, 26, 152, 157, 0, 7, 4, 167, 0, 4, 3, 60, 42, 180, 0, 7, 153, 0, 29, 42, 180, 0, 13]
abbrev dktX34_judge_2 : List UInt8 := dkwX34_judge_2 ++ dktX34_judge_3
def dkwX34_judge_1 : List UInt8 := [156, 0, 7, 4, 167, 0, 30, 3, 167, 0, 26, 42, 180, 0, 13, 180, 0, 17, 42, 180, 0, 23]
abbrev dktX34_judge_1 : List UInt8 := dkwX34_judge_1 ++ dktX34_judge_2
def dkwX34_judge_0 : List UInt8 := [42, 180, 0, 7, 153, 0, 29, 42, 180, 0, 13, 180, 0, 17, 42, 180, 0, 23, 180, 0, 26, 152]
abbrev dktX34_judge_0 : List UInt8 := dkwX34_judge_0 ++ dktX34_judge_1
theorem dksX34_judge_0 : cX34_judge.data.toList.drop 0 = dktX34_judge_0 := by decide +kernel
theorem dksX34_judge_1 : cX34_judge.data.toList.drop 22 = dktX34_judge_1 := dk_seg dksX34_judge_0 22 rfl rfl
theorem dksX34_judge_2 : cX34_judge.data.toList.drop 44 = dktX34_judge_2 := dk_seg dksX34_judge_1 22 rfl rfl
theorem dksX34_judge_3 : cX34_judge.data.toList.drop 68 = dktX34_judge_3 := dk_seg dksX34_judge_2 24 rfl rfl
theorem dksX34_judge_4 : cX34_judge.data.toList.drop 91 = dktX34_judge_4 := dk_seg dksX34_judge_3 23 rfl rfl
theorem dksX34_judge_5 : cX34_judge.data.toList.drop 115 = dktX34_judge_5 := dk_seg dksX34_judge_4 24 rfl rfl
theorem dX34_judge_0 : decode cX34_judge 0 = .ok (.aload_n 0, 1) := dk_42 (dk_at dksX34_judge_0 0 rfl rfl)
theorem dX34_judge_1 : decode cX34_judge 1 = .ok (.getfield 7, 3) := dk_180 0 7 (dk_at dksX34_judge_0 1 rfl rfl)
theorem dX34_judge_4 : decode cX34_judge 4 = .ok (.ifCond .eq 29, 3) := dk_153 0 29 (dk_at dksX34_judge_0 4 rfl rfl)
theorem dX34_judge_7 : decode cX34_judge 7 = .ok (.aload_n 0, 1) := dk_42 (dk_at dksX34_judge_0 7 rfl rfl)
theorem dX34_judge_8 : decode cX34_judge 8 = .ok (.getfield 13, 3) := dk_180 0 13 (dk_at dksX34_judge_0 8 rfl rfl)
theorem dX34_judge_11 : decode cX34_judge 11 = .ok (.getfield 17, 3) := dk_180 0 17 (dk_at dksX34_judge_0 11 rfl rfl)
theorem dX34_judge_14 : decode cX34_judge 14 = .ok (.aload_n 0, 1) := dk_42 (dk_at dksX34_judge_0 14 rfl rfl)
theorem dX34_judge_15 : decode cX34_judge 15 = .ok (.getfield 23, 3) := dk_180 0 23 (dk_at dksX34_judge_0 15 rfl rfl)
theorem dX34_judge_18 : decode cX34_judge 18 = .ok (.getfield 26, 3) := dk_180 0 26 (dk_at dksX34_judge_0 18 rfl rfl)
theorem dX34_judge_21 : decode cX34_judge 21 = .ok (.dcmp .g, 1) := dk_152 (dk_at dksX34_judge_0 21 rfl rfl)
theorem dX34_judge_22 : decode cX34_judge 22 = .ok (.ifCond .ge 7, 3) := dk_156 0 7 (dk_at dksX34_judge_1 0 rfl rfl)
theorem dX34_judge_25 : decode cX34_judge 25 = .ok (.iconst 1, 1) := dk_4 (dk_at dksX34_judge_1 3 rfl rfl)
theorem dX34_judge_26 : decode cX34_judge 26 = .ok (.goto 30, 3) := dk_167 0 30 (dk_at dksX34_judge_1 4 rfl rfl)
theorem dX34_judge_29 : decode cX34_judge 29 = .ok (.iconst 0, 1) := dk_3 (dk_at dksX34_judge_1 7 rfl rfl)
theorem dX34_judge_30 : decode cX34_judge 30 = .ok (.goto 26, 3) := dk_167 0 26 (dk_at dksX34_judge_1 8 rfl rfl)
theorem dX34_judge_33 : decode cX34_judge 33 = .ok (.aload_n 0, 1) := dk_42 (dk_at dksX34_judge_1 11 rfl rfl)
theorem dX34_judge_34 : decode cX34_judge 34 = .ok (.getfield 13, 3) := dk_180 0 13 (dk_at dksX34_judge_1 12 rfl rfl)
theorem dX34_judge_37 : decode cX34_judge 37 = .ok (.getfield 17, 3) := dk_180 0 17 (dk_at dksX34_judge_1 15 rfl rfl)
theorem dX34_judge_40 : decode cX34_judge 40 = .ok (.aload_n 0, 1) := dk_42 (dk_at dksX34_judge_1 18 rfl rfl)
theorem dX34_judge_41 : decode cX34_judge 41 = .ok (.getfield 23, 3) := dk_180 0 23 (dk_at dksX34_judge_1 19 rfl rfl)
theorem dX34_judge_44 : decode cX34_judge 44 = .ok (.getfield 26, 3) := dk_180 0 26 (dk_at dksX34_judge_2 0 rfl rfl)
theorem dX34_judge_47 : decode cX34_judge 47 = .ok (.dcmp .g, 1) := dk_152 (dk_at dksX34_judge_2 3 rfl rfl)
theorem dX34_judge_48 : decode cX34_judge 48 = .ok (.ifCond .gt 7, 3) := dk_157 0 7 (dk_at dksX34_judge_2 4 rfl rfl)
theorem dX34_judge_51 : decode cX34_judge 51 = .ok (.iconst 1, 1) := dk_4 (dk_at dksX34_judge_2 7 rfl rfl)
theorem dX34_judge_52 : decode cX34_judge 52 = .ok (.goto 4, 3) := dk_167 0 4 (dk_at dksX34_judge_2 8 rfl rfl)
theorem dX34_judge_55 : decode cX34_judge 55 = .ok (.iconst 0, 1) := dk_3 (dk_at dksX34_judge_2 11 rfl rfl)
theorem dX34_judge_56 : decode cX34_judge 56 = .ok (.istore_n 1, 1) := dk_60 (dk_at dksX34_judge_2 12 rfl rfl)
theorem dX34_judge_57 : decode cX34_judge 57 = .ok (.aload_n 0, 1) := dk_42 (dk_at dksX34_judge_2 13 rfl rfl)
theorem dX34_judge_58 : decode cX34_judge 58 = .ok (.getfield 7, 3) := dk_180 0 7 (dk_at dksX34_judge_2 14 rfl rfl)
theorem dX34_judge_61 : decode cX34_judge 61 = .ok (.ifCond .eq 29, 3) := dk_153 0 29 (dk_at dksX34_judge_2 17 rfl rfl)
theorem dX34_judge_64 : decode cX34_judge 64 = .ok (.aload_n 0, 1) := dk_42 (dk_at dksX34_judge_2 20 rfl rfl)
theorem dX34_judge_65 : decode cX34_judge 65 = .ok (.getfield 13, 3) := dk_180 0 13 (dk_at dksX34_judge_2 21 rfl rfl)
theorem dX34_judge_68 : decode cX34_judge 68 = .ok (.getfield 26, 3) := dk_180 0 26 (dk_at dksX34_judge_3 0 rfl rfl)
theorem dX34_judge_71 : decode cX34_judge 71 = .ok (.aload_n 0, 1) := dk_42 (dk_at dksX34_judge_3 3 rfl rfl)
theorem dX34_judge_72 : decode cX34_judge 72 = .ok (.getfield 23, 3) := dk_180 0 23 (dk_at dksX34_judge_3 4 rfl rfl)
theorem dX34_judge_75 : decode cX34_judge 75 = .ok (.getfield 17, 3) := dk_180 0 17 (dk_at dksX34_judge_3 7 rfl rfl)
theorem dX34_judge_78 : decode cX34_judge 78 = .ok (.dcmp .l, 1) := dk_151 (dk_at dksX34_judge_3 10 rfl rfl)
theorem dX34_judge_79 : decode cX34_judge 79 = .ok (.ifCond .lt 7, 3) := dk_155 0 7 (dk_at dksX34_judge_3 11 rfl rfl)
theorem dX34_judge_82 : decode cX34_judge 82 = .ok (.iconst 1, 1) := dk_4 (dk_at dksX34_judge_3 14 rfl rfl)
theorem dX34_judge_83 : decode cX34_judge 83 = .ok (.goto 30, 3) := dk_167 0 30 (dk_at dksX34_judge_3 15 rfl rfl)
theorem dX34_judge_86 : decode cX34_judge 86 = .ok (.iconst 0, 1) := dk_3 (dk_at dksX34_judge_3 18 rfl rfl)
theorem dX34_judge_87 : decode cX34_judge 87 = .ok (.goto 26, 3) := dk_167 0 26 (dk_at dksX34_judge_3 19 rfl rfl)
theorem dX34_judge_90 : decode cX34_judge 90 = .ok (.aload_n 0, 1) := dk_42 (dk_at dksX34_judge_3 22 rfl rfl)
theorem dX34_judge_91 : decode cX34_judge 91 = .ok (.getfield 13, 3) := dk_180 0 13 (dk_at dksX34_judge_4 0 rfl rfl)
theorem dX34_judge_94 : decode cX34_judge 94 = .ok (.getfield 26, 3) := dk_180 0 26 (dk_at dksX34_judge_4 3 rfl rfl)
theorem dX34_judge_97 : decode cX34_judge 97 = .ok (.aload_n 0, 1) := dk_42 (dk_at dksX34_judge_4 6 rfl rfl)
theorem dX34_judge_98 : decode cX34_judge 98 = .ok (.getfield 23, 3) := dk_180 0 23 (dk_at dksX34_judge_4 7 rfl rfl)
theorem dX34_judge_101 : decode cX34_judge 101 = .ok (.getfield 17, 3) := dk_180 0 17 (dk_at dksX34_judge_4 10 rfl rfl)
theorem dX34_judge_104 : decode cX34_judge 104 = .ok (.dcmp .l, 1) := dk_151 (dk_at dksX34_judge_4 13 rfl rfl)
theorem dX34_judge_105 : decode cX34_judge 105 = .ok (.ifCond .le 7, 3) := dk_158 0 7 (dk_at dksX34_judge_4 14 rfl rfl)
theorem dX34_judge_108 : decode cX34_judge 108 = .ok (.iconst 1, 1) := dk_4 (dk_at dksX34_judge_4 17 rfl rfl)
theorem dX34_judge_109 : decode cX34_judge 109 = .ok (.goto 4, 3) := dk_167 0 4 (dk_at dksX34_judge_4 18 rfl rfl)
theorem dX34_judge_112 : decode cX34_judge 112 = .ok (.iconst 0, 1) := dk_3 (dk_at dksX34_judge_4 21 rfl rfl)
theorem dX34_judge_113 : decode cX34_judge 113 = .ok (.istore_n 2, 1) := dk_61 (dk_at dksX34_judge_4 22 rfl rfl)
theorem dX34_judge_114 : decode cX34_judge 114 = .ok (.aload_n 0, 1) := dk_42 (dk_at dksX34_judge_4 23 rfl rfl)
theorem dX34_judge_115 : decode cX34_judge 115 = .ok (.iload_n 1, 1) := dk_27 (dk_at dksX34_judge_5 0 rfl rfl)
theorem dX34_judge_116 : decode cX34_judge 116 = .ok (.ifCond .ne 7, 3) := dk_154 0 7 (dk_at dksX34_judge_5 1 rfl rfl)
theorem dX34_judge_119 : decode cX34_judge 119 = .ok (.iconst 1, 1) := dk_4 (dk_at dksX34_judge_5 4 rfl rfl)
theorem dX34_judge_120 : decode cX34_judge 120 = .ok (.goto 4, 3) := dk_167 0 4 (dk_at dksX34_judge_5 5 rfl rfl)
theorem dX34_judge_123 : decode cX34_judge 123 = .ok (.iconst 0, 1) := dk_3 (dk_at dksX34_judge_5 8 rfl rfl)
theorem dX34_judge_124 : decode cX34_judge 124 = .ok (.iload_n 2, 1) := dk_28 (dk_at dksX34_judge_5 9 rfl rfl)
theorem dX34_judge_125 : decode cX34_judge 125 = .ok (.ifCond .ne 7, 3) := dk_154 0 7 (dk_at dksX34_judge_5 10 rfl rfl)
theorem dX34_judge_128 : decode cX34_judge 128 = .ok (.iconst 1, 1) := dk_4 (dk_at dksX34_judge_5 13 rfl rfl)
theorem dX34_judge_129 : decode cX34_judge 129 = .ok (.goto 4, 3) := dk_167 0 4 (dk_at dksX34_judge_5 14 rfl rfl)
theorem dX34_judge_132 : decode cX34_judge 132 = .ok (.iconst 0, 1) := dk_3 (dk_at dksX34_judge_5 17 rfl rfl)
theorem dX34_judge_133 : decode cX34_judge 133 = .ok (.invokevirtual 29, 3) := dk_182 0 29 (dk_at dksX34_judge_5 18 rfl rfl)
theorem dX34_judge_136 : decode cX34_judge 136 = .ok (.return_, 1) := dk_177 (dk_at dksX34_judge_5 21 rfl rfl)
abbrev cX34_hand : ByteArray := prog_23_method_3_code
def yX34_hand : MethodName := ⟨RX34, "hand", "()V"⟩
def dkwX34_hand_3 : List UInt8 := [180, 0, 17, 182, 0, 38, 177]
abbrev dktX34_hand_3 : List UInt8 := dkwX34_hand_3 ++ []
def dkwX34_hand_2 : List UInt8 := [42, 180, 0, 23, 180, 0, 26, 20, 0, 42, 182, 0, 38, 42, 180, 0, 23, 20, 0, 36, 42, 180, 0, 13]
abbrev dktX34_hand_2 : List UInt8 := dkwX34_hand_2 ++ dktX34_hand_3
def dkwX34_hand_1 : List UInt8 := [42, 180, 0, 23, 42, 180, 0, 13, 180, 0, 26, 20, 0, 42, 182, 0, 38, 167, 0, 37, 42, 180, 0, 13]
abbrev dktX34_hand_1 : List UInt8 := dkwX34_hand_1 ++ dktX34_hand_2
def dkwX34_hand_0 : List UInt8 := [42, 180, 0, 33, 153, 0, 40, 42, 180, 0, 13, 20, 0, 36, 42, 180, 0, 23, 180, 0, 17, 182, 0, 38]
abbrev dktX34_hand_0 : List UInt8 := dkwX34_hand_0 ++ dktX34_hand_1
theorem dksX34_hand_0 : cX34_hand.data.toList.drop 0 = dktX34_hand_0 := by decide +kernel
theorem dksX34_hand_1 : cX34_hand.data.toList.drop 24 = dktX34_hand_1 := dk_seg dksX34_hand_0 24 rfl rfl
theorem dksX34_hand_2 : cX34_hand.data.toList.drop 48 = dktX34_hand_2 := dk_seg dksX34_hand_1 24 rfl rfl
theorem dksX34_hand_3 : cX34_hand.data.toList.drop 72 = dktX34_hand_3 := dk_seg dksX34_hand_2 24 rfl rfl
theorem dX34_hand_0 : decode cX34_hand 0 = .ok (.aload_n 0, 1) := dk_42 (dk_at dksX34_hand_0 0 rfl rfl)
theorem dX34_hand_1 : decode cX34_hand 1 = .ok (.getfield 33, 3) := dk_180 0 33 (dk_at dksX34_hand_0 1 rfl rfl)
theorem dX34_hand_4 : decode cX34_hand 4 = .ok (.ifCond .eq 40, 3) := dk_153 0 40 (dk_at dksX34_hand_0 4 rfl rfl)
theorem dX34_hand_7 : decode cX34_hand 7 = .ok (.aload_n 0, 1) := dk_42 (dk_at dksX34_hand_0 7 rfl rfl)
theorem dX34_hand_8 : decode cX34_hand 8 = .ok (.getfield 13, 3) := dk_180 0 13 (dk_at dksX34_hand_0 8 rfl rfl)
theorem dX34_hand_11 : decode cX34_hand 11 = .ok (.ldc2_w 36, 3) := dk_20 0 36 (dk_at dksX34_hand_0 11 rfl rfl)
theorem dX34_hand_14 : decode cX34_hand 14 = .ok (.aload_n 0, 1) := dk_42 (dk_at dksX34_hand_0 14 rfl rfl)
theorem dX34_hand_15 : decode cX34_hand 15 = .ok (.getfield 23, 3) := dk_180 0 23 (dk_at dksX34_hand_0 15 rfl rfl)
theorem dX34_hand_18 : decode cX34_hand 18 = .ok (.getfield 17, 3) := dk_180 0 17 (dk_at dksX34_hand_0 18 rfl rfl)
theorem dX34_hand_21 : decode cX34_hand 21 = .ok (.invokevirtual 38, 3) := dk_182 0 38 (dk_at dksX34_hand_0 21 rfl rfl)
theorem dX34_hand_24 : decode cX34_hand 24 = .ok (.aload_n 0, 1) := dk_42 (dk_at dksX34_hand_1 0 rfl rfl)
theorem dX34_hand_25 : decode cX34_hand 25 = .ok (.getfield 23, 3) := dk_180 0 23 (dk_at dksX34_hand_1 1 rfl rfl)
theorem dX34_hand_28 : decode cX34_hand 28 = .ok (.aload_n 0, 1) := dk_42 (dk_at dksX34_hand_1 4 rfl rfl)
theorem dX34_hand_29 : decode cX34_hand 29 = .ok (.getfield 13, 3) := dk_180 0 13 (dk_at dksX34_hand_1 5 rfl rfl)
theorem dX34_hand_32 : decode cX34_hand 32 = .ok (.getfield 26, 3) := dk_180 0 26 (dk_at dksX34_hand_1 8 rfl rfl)
theorem dX34_hand_35 : decode cX34_hand 35 = .ok (.ldc2_w 42, 3) := dk_20 0 42 (dk_at dksX34_hand_1 11 rfl rfl)
theorem dX34_hand_38 : decode cX34_hand 38 = .ok (.invokevirtual 38, 3) := dk_182 0 38 (dk_at dksX34_hand_1 14 rfl rfl)
theorem dX34_hand_41 : decode cX34_hand 41 = .ok (.goto 37, 3) := dk_167 0 37 (dk_at dksX34_hand_1 17 rfl rfl)
theorem dX34_hand_44 : decode cX34_hand 44 = .ok (.aload_n 0, 1) := dk_42 (dk_at dksX34_hand_1 20 rfl rfl)
theorem dX34_hand_45 : decode cX34_hand 45 = .ok (.getfield 13, 3) := dk_180 0 13 (dk_at dksX34_hand_1 21 rfl rfl)
theorem dX34_hand_48 : decode cX34_hand 48 = .ok (.aload_n 0, 1) := dk_42 (dk_at dksX34_hand_2 0 rfl rfl)
theorem dX34_hand_49 : decode cX34_hand 49 = .ok (.getfield 23, 3) := dk_180 0 23 (dk_at dksX34_hand_2 1 rfl rfl)
theorem dX34_hand_52 : decode cX34_hand 52 = .ok (.getfield 26, 3) := dk_180 0 26 (dk_at dksX34_hand_2 4 rfl rfl)
theorem dX34_hand_55 : decode cX34_hand 55 = .ok (.ldc2_w 42, 3) := dk_20 0 42 (dk_at dksX34_hand_2 7 rfl rfl)
theorem dX34_hand_58 : decode cX34_hand 58 = .ok (.invokevirtual 38, 3) := dk_182 0 38 (dk_at dksX34_hand_2 10 rfl rfl)
theorem dX34_hand_61 : decode cX34_hand 61 = .ok (.aload_n 0, 1) := dk_42 (dk_at dksX34_hand_2 13 rfl rfl)
theorem dX34_hand_62 : decode cX34_hand 62 = .ok (.getfield 23, 3) := dk_180 0 23 (dk_at dksX34_hand_2 14 rfl rfl)
theorem dX34_hand_65 : decode cX34_hand 65 = .ok (.ldc2_w 36, 3) := dk_20 0 36 (dk_at dksX34_hand_2 17 rfl rfl)
theorem dX34_hand_68 : decode cX34_hand 68 = .ok (.aload_n 0, 1) := dk_42 (dk_at dksX34_hand_2 20 rfl rfl)
theorem dX34_hand_69 : decode cX34_hand 69 = .ok (.getfield 13, 3) := dk_180 0 13 (dk_at dksX34_hand_2 21 rfl rfl)
theorem dX34_hand_72 : decode cX34_hand 72 = .ok (.getfield 17, 3) := dk_180 0 17 (dk_at dksX34_hand_3 0 rfl rfl)
theorem dX34_hand_75 : decode cX34_hand 75 = .ok (.invokevirtual 38, 3) := dk_182 0 38 (dk_at dksX34_hand_3 3 rfl rfl)
theorem dX34_hand_78 : decode cX34_hand 78 = .ok (.return_, 1) := dk_177 (dk_at dksX34_hand_3 6 rfl rfl)
theorem q305 : (Jvm.Cond.initialized "ConstraintHouse$Order") ∈ lw_all := lw_g (lw_at lw_m1 45 rfl) rfl
theorem q1357 : (Jvm.Cond.fieldLink "ConstraintHouse$Order" (26 : Nat) "ConstraintHouse$Part" "low" "D") ∈ lw_all := lw_g (lw_at lw_m5 137 rfl) rfl
theorem q1386 : (Jvm.Cond.fieldLink "ConstraintHouse$Order" (17 : Nat) "ConstraintHouse$Part" "high" "D") ∈ lw_all := lw_g (lw_at lw_m5 166 rfl) rfl
theorem q1440 : (Jvm.Cond.fieldLink "ConstraintHouse$Order" (33 : Nat) "ConstraintHouse$Order" "yes" "Z") ∈ lw_all := lw_g (lw_at lw_m5 220 rfl) rfl
theorem q1441 : (Jvm.Cond.sameField "ConstraintHouse$Order" "ConstraintHouse$Part" "yes" "Z") ∈ lw_all := lw_g (lw_at lw_m5 221 rfl) rfl
theorem q1575 : (Jvm.Cond.selects "ConstraintHouse$Order" ({ cls := "ConstraintHouse$Part", name := "sort", desc := "()I" } : Jvm.MethodName) ({ cls := "ConstraintHouse$Judged", name := "sort", desc := "()I" } : Jvm.MethodName)) ∈ lw_all := lw_g (lw_at lw_m6 115 rfl) rfl
theorem q1796 : (Jvm.Cond.fieldLink "ConstraintHouse$Order" (13 : Nat) "ConstraintHouse$Order" "x" "LConstraintHouse$Part;") ∈ lw_all := lw_g (lw_at lw_m7 96 rfl) rfl
theorem q1797 : (Jvm.Cond.sameField "ConstraintHouse$Order" "ConstraintHouse$Relation" "x" "LConstraintHouse$Part;") ∈ lw_all := lw_g (lw_at lw_m7 97 rfl) rfl
theorem q1803 : (Jvm.Cond.fieldLink "ConstraintHouse$Order" (23 : Nat) "ConstraintHouse$Order" "y" "LConstraintHouse$Part;") ∈ lw_all := lw_g (lw_at lw_m7 103 rfl) rfl
theorem q1804 : (Jvm.Cond.sameField "ConstraintHouse$Order" "ConstraintHouse$Relation" "y" "LConstraintHouse$Part;") ∈ lw_all := lw_g (lw_at lw_m7 104 rfl) rfl
theorem q1822 : (Jvm.Cond.instantiable "ConstraintHouse$Order" (8 : Nat)) ∈ lw_all := lw_g (lw_at lw_m7 122 rfl) rfl
theorem q1824 : (Jvm.Cond.instanceMethod ({ cls := "ConstraintHouse$Order", name := "<init>", desc := "(LConstraintHouse$Part;LConstraintHouse$Part;Z)V" } : Jvm.MethodName)) ∈ lw_all := lw_g (lw_at lw_m7 124 rfl) rfl
theorem q1825 : (Jvm.Cond.code ({ cls := "ConstraintHouse$Order", name := "<init>", desc := "(LConstraintHouse$Part;LConstraintHouse$Part;Z)V" } : Jvm.MethodName) prog_23_method_1_code (4 : Nat) (Option.none : Option Jvm.ClassFile.FieldType)) ∈ lw_all := lw_g (lw_at lw_m7 125 rfl) rfl
theorem q1826 : (Jvm.Cond.methodLink "ConstraintHouse$Order" (1 : Nat) ({ cls := "ConstraintHouse$Relation", name := "<init>", desc := "(LConstraintHouse$Part;LConstraintHouse$Part;)V" } : Jvm.MethodName)) ∈ lw_all := lw_g (lw_at lw_m7 126 rfl) rfl
theorem q1827 : (Jvm.Cond.fieldLink "ConstraintHouse$Order" (7 : Nat) "ConstraintHouse$Order" "below" "Z") ∈ lw_all := lw_g (lw_at lw_m7 127 rfl) rfl
theorem q1828 : (Jvm.Cond.laysFinal "ConstraintHouse$Order" "ConstraintHouse$Order" "below" "Z") ∈ lw_all := lw_g (lw_at lw_m7 128 rfl) rfl
theorem q1829 : (Jvm.Cond.soleField "ConstraintHouse$Order" "below") ∈ lw_all := lw_g (lw_at lw_m7 129 rfl) rfl
theorem q1830 : (Jvm.Cond.laysFinal "ConstraintHouse$Order" "ConstraintHouse$Relation" "x" "LConstraintHouse$Part;") ∈ lw_all := lw_g (lw_at lw_m7 130 rfl) rfl
theorem q1831 : (Jvm.Cond.laysFinal "ConstraintHouse$Order" "ConstraintHouse$Relation" "y" "LConstraintHouse$Part;") ∈ lw_all := lw_g (lw_at lw_m7 131 rfl) rfl
theorem q1832 : (Jvm.Cond.lays "ConstraintHouse$Order" "ConstraintHouse$Part" "low" "D") ∈ lw_all := lw_g (lw_at lw_m7 132 rfl) rfl
theorem q1833 : (Jvm.Cond.lays "ConstraintHouse$Order" "ConstraintHouse$Part" "high" "D") ∈ lw_all := lw_g (lw_at lw_m7 133 rfl) rfl
theorem q1834 : (Jvm.Cond.lays "ConstraintHouse$Order" "ConstraintHouse$Part" "no" "Z") ∈ lw_all := lw_g (lw_at lw_m7 134 rfl) rfl
theorem q1835 : (Jvm.Cond.lays "ConstraintHouse$Order" "ConstraintHouse$Part" "yes" "Z") ∈ lw_all := lw_g (lw_at lw_m7 135 rfl) rfl
theorem q1836 : (Jvm.Cond.lays "ConstraintHouse$Order" "ConstraintHouse$Part" "letters" "I") ∈ lw_all := lw_g (lw_at lw_m7 136 rfl) rfl
theorem q1837 : (Jvm.Cond.superclass "ConstraintHouse$Order" "ConstraintHouse$Relation") ∈ lw_all := lw_g (lw_at lw_m7 137 rfl) rfl
theorem q2537 : (Jvm.Cond.selects "ConstraintHouse$Order" ({ cls := "ConstraintHouse$Narrows", name := "forwards", desc := "(LConstraintHouse$Solver;)V" } : Jvm.MethodName) ({ cls := "ConstraintHouse$Relation", name := "forwards", desc := "(LConstraintHouse$Solver;)V" } : Jvm.MethodName)) ∈ lw_all := lw_g (lw_at lw_m10 117 rfl) rfl
theorem q2825 : (Jvm.Cond.selects "ConstraintHouse$Order" ({ cls := "ConstraintHouse$Part", name := "hasMeet", desc := "(LConstraintHouse$Part;)Z" } : Jvm.MethodName) ({ cls := "ConstraintHouse$Part", name := "hasMeet", desc := "(LConstraintHouse$Part;)Z" } : Jvm.MethodName)) ∈ lw_all := lw_g (lw_at lw_m11 165 rfl) rfl
theorem q2856 : (Jvm.Cond.selects "ConstraintHouse$Order" ({ cls := "ConstraintHouse$Relation", name := "judge", desc := "()V" } : Jvm.MethodName) ({ cls := "ConstraintHouse$Order", name := "judge", desc := "()V" } : Jvm.MethodName)) ∈ lw_all := lw_g (lw_at lw_m11 196 rfl) rfl
theorem q2857 : (Jvm.Cond.instanceMethod ({ cls := "ConstraintHouse$Order", name := "judge", desc := "()V" } : Jvm.MethodName)) ∈ lw_all := lw_g (lw_at lw_m11 197 rfl) rfl
theorem q2858 : (Jvm.Cond.code ({ cls := "ConstraintHouse$Order", name := "judge", desc := "()V" } : Jvm.MethodName) prog_23_method_2_code (3 : Nat) (Option.none : Option Jvm.ClassFile.FieldType)) ∈ lw_all := lw_g (lw_at lw_m11 198 rfl) rfl
theorem q2859 : (Jvm.Cond.methodLink "ConstraintHouse$Order" (29 : Nat) ({ cls := "ConstraintHouse$Order", name := "truth", desc := "(ZZ)V" } : Jvm.MethodName)) ∈ lw_all := lw_g (lw_at lw_m11 199 rfl) rfl
theorem q2860 : (Jvm.Cond.sameMethod "ConstraintHouse$Order" "ConstraintHouse$Part" "truth" "(ZZ)V") ∈ lw_all := lw_g (lw_at lw_m11 200 rfl) rfl
theorem q2861 : (Jvm.Cond.selects "ConstraintHouse$Order" ({ cls := "ConstraintHouse$Order", name := "truth", desc := "(ZZ)V" } : Jvm.MethodName) ({ cls := "ConstraintHouse$Part", name := "truth", desc := "(ZZ)V" } : Jvm.MethodName)) ∈ lw_all := lw_g (lw_at lw_m11 201 rfl) rfl
theorem q2876 : (Jvm.Cond.selects "ConstraintHouse$Order" ({ cls := "ConstraintHouse$Part", name := "meets", desc := "(ZZ)V" } : Jvm.MethodName) ({ cls := "ConstraintHouse$Part", name := "meets", desc := "(ZZ)V" } : Jvm.MethodName)) ∈ lw_all := lw_g (lw_at lw_m11 216 rfl) rfl
theorem q2912 : (Jvm.Cond.selects "ConstraintHouse$Order" ({ cls := "ConstraintHouse$Part", name := "meets", desc := "(LConstraintHouse$Part;)V" } : Jvm.MethodName) ({ cls := "ConstraintHouse$Part", name := "meets", desc := "(LConstraintHouse$Part;)V" } : Jvm.MethodName)) ∈ lw_all := lw_g (lw_at lw_m12 12 rfl) rfl
theorem q2934 : (Jvm.Cond.selects "ConstraintHouse$Order" ({ cls := "ConstraintHouse$Part", name := "meet", desc := "(DD)V" } : Jvm.MethodName) ({ cls := "ConstraintHouse$Part", name := "meet", desc := "(DD)V" } : Jvm.MethodName)) ∈ lw_all := lw_g (lw_at lw_m12 34 rfl) rfl
theorem q2957 : (Jvm.Cond.selects "ConstraintHouse$Order" ({ cls := "ConstraintHouse$Part", name := "meets", desc := "(I)V" } : Jvm.MethodName) ({ cls := "ConstraintHouse$Part", name := "meets", desc := "(I)V" } : Jvm.MethodName)) ∈ lw_all := lw_g (lw_at lw_m12 57 rfl) rfl
theorem q2991 : (Jvm.Cond.selects "ConstraintHouse$Order" ({ cls := "ConstraintHouse$Part", name := "lose", desc := "(D)V" } : Jvm.MethodName) ({ cls := "ConstraintHouse$Part", name := "lose", desc := "(D)V" } : Jvm.MethodName)) ∈ lw_all := lw_g (lw_at lw_m12 91 rfl) rfl
theorem q3017 : (Jvm.Cond.selects "ConstraintHouse$Order" ({ cls := "ConstraintHouse$Relation", name := "hand", desc := "()V" } : Jvm.MethodName) ({ cls := "ConstraintHouse$Order", name := "hand", desc := "()V" } : Jvm.MethodName)) ∈ lw_all := lw_g (lw_at lw_m12 117 rfl) rfl
theorem q3018 : (Jvm.Cond.instanceMethod ({ cls := "ConstraintHouse$Order", name := "hand", desc := "()V" } : Jvm.MethodName)) ∈ lw_all := lw_g (lw_at lw_m12 118 rfl) rfl
theorem q3019 : (Jvm.Cond.code ({ cls := "ConstraintHouse$Order", name := "hand", desc := "()V" } : Jvm.MethodName) prog_23_method_3_code (1 : Nat) (Option.none : Option Jvm.ClassFile.FieldType)) ∈ lw_all := lw_g (lw_at lw_m12 119 rfl) rfl
theorem q3020 : (Jvm.Cond.constantDouble "ConstraintHouse$Order" (36 : Nat) (18442240474082181120 : UInt64)) ∈ lw_all := lw_g (lw_at lw_m12 120 rfl) rfl
theorem q3021 : (Jvm.Cond.methodLink "ConstraintHouse$Order" (38 : Nat) ({ cls := "ConstraintHouse$Part", name := "meet", desc := "(DD)V" } : Jvm.MethodName)) ∈ lw_all := lw_g (lw_at lw_m12 121 rfl) rfl
theorem q3022 : (Jvm.Cond.constantDouble "ConstraintHouse$Order" (42 : Nat) (9218868437227405312 : UInt64)) ∈ lw_all := lw_g (lw_at lw_m12 122 rfl) rfl
theorem q3064 : (Jvm.Cond.selects "ConstraintHouse$Order" ({ cls := "ConstraintHouse$Part", name := "lose", desc := "([I)V" } : Jvm.MethodName) ({ cls := "ConstraintHouse$Part", name := "lose", desc := "([I)V" } : Jvm.MethodName)) ∈ lw_all := lw_g (lw_at lw_m12 164 rfl) rfl
theorem q3253 : (Jvm.Cond.selects "ConstraintHouse$Order" ({ cls := "ConstraintHouse$Part", name := "backwards", desc := "(LConstraintHouse$Solver;)V" } : Jvm.MethodName) ({ cls := "ConstraintHouse$Part", name := "backwards", desc := "(LConstraintHouse$Solver;)V" } : Jvm.MethodName)) ∈ lw_all := lw_g (lw_at lw_m13 113 rfl) rfl
theorem q3271 : (Jvm.Cond.selects "ConstraintHouse$Order" ({ cls := "ConstraintHouse$Part", name := "enter", desc := "(LConstraintHouse$Solver;)V" } : Jvm.MethodName) ({ cls := "ConstraintHouse$Relation", name := "enter", desc := "(LConstraintHouse$Solver;)V" } : Jvm.MethodName)) ∈ lw_all := lw_g (lw_at lw_m13 131 rfl) rfl
theorem q4838 : (Jvm.Cond.castable "ConstraintHouse$Order" "java/lang/Object") ∈ lw_tbl := lw_at lw_m20 18 rfl
theorem q4873 : (Jvm.Cond.castable "ConstraintHouse$Order" "ConstraintHouse$Part") ∈ lw_tbl := lw_at lw_m20 53 rfl
theorem in_X34 : ∀ w ∈ wsX340, w ∈ lw_all := lw_in wsX340 [1830, 1831, 1832, 1833, 1834, 1835, 1836, 1828] (by decide +kernel) (by decide +kernel)
/-! ConstraintHouse$Logic -/
set_option maxRecDepth 100000
def RX35 : String := "ConstraintHouse$Logic"
def TX35 : u_T := fun k => match k with
  | 0 => ("ConstraintHouse$Relation", "x", "LConstraintHouse$Part;", true)
  | 1 => ("ConstraintHouse$Relation", "y", "LConstraintHouse$Part;", true)
  | 2 => ("ConstraintHouse$Part", "low", "D", false)
  | 3 => ("ConstraintHouse$Part", "high", "D", false)
  | 4 => ("ConstraintHouse$Part", "no", "Z", false)
  | 5 => ("ConstraintHouse$Part", "yes", "Z", false)
  | 6 => ("ConstraintHouse$Part", "letters", "I", false)
  | _ => ("ConstraintHouse$Logic", "which", "I", true)
def tyX35 : Nat → FieldType := fun k => match k with
  | 0 => .object "ConstraintHouse$Part"
  | 1 => .object "ConstraintHouse$Part"
  | 2 => .double
  | 3 => .double
  | 4 => .boolean
  | 5 => .boolean
  | 6 => .int
  | _ => .int
abbrev wsX350 : List Cond := u_ws RX35 TX35 8
theorem nmX35 : ∀ a, a < 8 → ∀ b, b < 8 → a ≠ b → (TX35 a).2.1 ≠ (TX35 b).2.1 := by decide +kernel
theorem tyX35_ok : ∀ k, k < 8 → parseFieldDescriptor (TX35 k).2.2.1 = some (tyX35 k) := by decide +kernel
abbrev cX35_init : ByteArray := prog_16_method_1_code
def yX35_init : MethodName := ⟨RX35, "<init>", "(LConstraintHouse$Part;LConstraintHouse$Part;I)V"⟩
def dkwX35_init_0 : List UInt8 := [42, 43, 44, 183, 0, 1, 42, 29, 181, 0, 7, 177]
abbrev dktX35_init_0 : List UInt8 := dkwX35_init_0 ++ []
theorem dksX35_init_0 : cX35_init.data.toList.drop 0 = dktX35_init_0 := by decide +kernel
theorem dX35_init_0 : decode cX35_init 0 = .ok (.aload_n 0, 1) := dk_42 (dk_at dksX35_init_0 0 rfl rfl)
theorem dX35_init_1 : decode cX35_init 1 = .ok (.aload_n 1, 1) := dk_43 (dk_at dksX35_init_0 1 rfl rfl)
theorem dX35_init_2 : decode cX35_init 2 = .ok (.aload_n 2, 1) := dk_44 (dk_at dksX35_init_0 2 rfl rfl)
theorem dX35_init_3 : decode cX35_init 3 = .ok (.invokespecial 1, 3) := dk_183 0 1 (dk_at dksX35_init_0 3 rfl rfl)
theorem dX35_init_6 : decode cX35_init 6 = .ok (.aload_n 0, 1) := dk_42 (dk_at dksX35_init_0 6 rfl rfl)
theorem dX35_init_7 : decode cX35_init 7 = .ok (.iload_n 3, 1) := dk_29 (dk_at dksX35_init_0 7 rfl rfl)
theorem dX35_init_8 : decode cX35_init 8 = .ok (.putfield 7, 3) := dk_181 0 7 (dk_at dksX35_init_0 8 rfl rfl)
theorem dX35_init_11 : decode cX35_init 11 = .ok (.return_, 1) := dk_177 (dk_at dksX35_init_0 11 rfl rfl)
abbrev cX35_judge : ByteArray := prog_16_method_2_code
def yX35_judge : MethodName := ⟨RX35, "judge", "()V"⟩
def dkwX35_judge_8 : List UInt8 := [182, 0, 29, 177]
abbrev dktX35_judge_8 : List UInt8 := dkwX35_judge_8 ++ []
def dkwX35_judge_7 : List UInt8 := [180, 0, 13, 180, 0, 17, 154, 0, 13, 42, 180, 0, 23, 180, 0, 26, 153, 0, 7, 4, 167, 0, 4, 3]
abbrev dktX35_judge_7 : List UInt8 := dkwX35_judge_7 ++ dktX35_judge_8
def dkwX35_judge_6 : List UInt8 := [180, 0, 26, 153, 0, 17, 42, 180, 0, 23, 180, 0, 17, 153, 0, 7, 4, 167, 0, 4, 3, 42]
abbrev dktX35_judge_6 : List UInt8 := dkwX35_judge_6 ++ dktX35_judge_7
def dkwX35_judge_5 : List UInt8 := [180, 0, 26, 153, 0, 7, 4, 167, 0, 4, 3, 182, 0, 29, 167, 0, 57, 42, 42, 180, 0, 13]
abbrev dktX35_judge_5 : List UInt8 := dkwX35_judge_5 ++ dktX35_judge_6
def dkwX35_judge_4 : List UInt8 := [153, 0, 7, 4, 167, 0, 4, 3, 42, 180, 0, 13, 180, 0, 26, 154, 0, 13, 42, 180, 0, 23]
abbrev dktX35_judge_4 : List UInt8 := dkwX35_judge_4 ++ dktX35_judge_5
def dkwX35_judge_3 : List UInt8 := [4, 160, 0, 60, 42, 42, 180, 0, 13, 180, 0, 17, 153, 0, 17, 42, 180, 0, 23, 180, 0, 17]
abbrev dktX35_judge_3 : List UInt8 := dkwX35_judge_3 ++ dktX35_judge_4
def dkwX35_judge_2 : List UInt8 := [180, 0, 23, 180, 0, 26, 153, 0, 7, 4, 167, 0, 4, 3, 182, 0, 29, 167, 0, 122, 42, 180, 0, 7]
abbrev dktX35_judge_2 : List UInt8 := dkwX35_judge_2 ++ dktX35_judge_3
def dkwX35_judge_1 : List UInt8 := [180, 0, 17, 153, 0, 7, 4, 167, 0, 4, 3, 42, 180, 0, 13, 180, 0, 26, 153, 0, 17, 42]
abbrev dktX35_judge_1 : List UInt8 := dkwX35_judge_1 ++ dktX35_judge_2
def dkwX35_judge_0 : List UInt8 := [42, 180, 0, 7, 154, 0, 60, 42, 42, 180, 0, 13, 180, 0, 17, 154, 0, 13, 42, 180, 0, 23]
abbrev dktX35_judge_0 : List UInt8 := dkwX35_judge_0 ++ dktX35_judge_1
theorem dksX35_judge_0 : cX35_judge.data.toList.drop 0 = dktX35_judge_0 := by decide +kernel
theorem dksX35_judge_1 : cX35_judge.data.toList.drop 22 = dktX35_judge_1 := dk_seg dksX35_judge_0 22 rfl rfl
theorem dksX35_judge_2 : cX35_judge.data.toList.drop 44 = dktX35_judge_2 := dk_seg dksX35_judge_1 22 rfl rfl
theorem dksX35_judge_3 : cX35_judge.data.toList.drop 68 = dktX35_judge_3 := dk_seg dksX35_judge_2 24 rfl rfl
theorem dksX35_judge_4 : cX35_judge.data.toList.drop 90 = dktX35_judge_4 := dk_seg dksX35_judge_3 22 rfl rfl
theorem dksX35_judge_5 : cX35_judge.data.toList.drop 112 = dktX35_judge_5 := dk_seg dksX35_judge_4 22 rfl rfl
theorem dksX35_judge_6 : cX35_judge.data.toList.drop 134 = dktX35_judge_6 := dk_seg dksX35_judge_5 22 rfl rfl
theorem dksX35_judge_7 : cX35_judge.data.toList.drop 156 = dktX35_judge_7 := dk_seg dksX35_judge_6 22 rfl rfl
theorem dksX35_judge_8 : cX35_judge.data.toList.drop 180 = dktX35_judge_8 := dk_seg dksX35_judge_7 24 rfl rfl
theorem dX35_judge_0 : decode cX35_judge 0 = .ok (.aload_n 0, 1) := dk_42 (dk_at dksX35_judge_0 0 rfl rfl)
theorem dX35_judge_1 : decode cX35_judge 1 = .ok (.getfield 7, 3) := dk_180 0 7 (dk_at dksX35_judge_0 1 rfl rfl)
theorem dX35_judge_4 : decode cX35_judge 4 = .ok (.ifCond .ne 60, 3) := dk_154 0 60 (dk_at dksX35_judge_0 4 rfl rfl)
theorem dX35_judge_7 : decode cX35_judge 7 = .ok (.aload_n 0, 1) := dk_42 (dk_at dksX35_judge_0 7 rfl rfl)
theorem dX35_judge_8 : decode cX35_judge 8 = .ok (.aload_n 0, 1) := dk_42 (dk_at dksX35_judge_0 8 rfl rfl)
theorem dX35_judge_9 : decode cX35_judge 9 = .ok (.getfield 13, 3) := dk_180 0 13 (dk_at dksX35_judge_0 9 rfl rfl)
theorem dX35_judge_12 : decode cX35_judge 12 = .ok (.getfield 17, 3) := dk_180 0 17 (dk_at dksX35_judge_0 12 rfl rfl)
theorem dX35_judge_15 : decode cX35_judge 15 = .ok (.ifCond .ne 13, 3) := dk_154 0 13 (dk_at dksX35_judge_0 15 rfl rfl)
theorem dX35_judge_18 : decode cX35_judge 18 = .ok (.aload_n 0, 1) := dk_42 (dk_at dksX35_judge_0 18 rfl rfl)
theorem dX35_judge_19 : decode cX35_judge 19 = .ok (.getfield 23, 3) := dk_180 0 23 (dk_at dksX35_judge_0 19 rfl rfl)
theorem dX35_judge_22 : decode cX35_judge 22 = .ok (.getfield 17, 3) := dk_180 0 17 (dk_at dksX35_judge_1 0 rfl rfl)
theorem dX35_judge_25 : decode cX35_judge 25 = .ok (.ifCond .eq 7, 3) := dk_153 0 7 (dk_at dksX35_judge_1 3 rfl rfl)
theorem dX35_judge_28 : decode cX35_judge 28 = .ok (.iconst 1, 1) := dk_4 (dk_at dksX35_judge_1 6 rfl rfl)
theorem dX35_judge_29 : decode cX35_judge 29 = .ok (.goto 4, 3) := dk_167 0 4 (dk_at dksX35_judge_1 7 rfl rfl)
theorem dX35_judge_32 : decode cX35_judge 32 = .ok (.iconst 0, 1) := dk_3 (dk_at dksX35_judge_1 10 rfl rfl)
theorem dX35_judge_33 : decode cX35_judge 33 = .ok (.aload_n 0, 1) := dk_42 (dk_at dksX35_judge_1 11 rfl rfl)
theorem dX35_judge_34 : decode cX35_judge 34 = .ok (.getfield 13, 3) := dk_180 0 13 (dk_at dksX35_judge_1 12 rfl rfl)
theorem dX35_judge_37 : decode cX35_judge 37 = .ok (.getfield 26, 3) := dk_180 0 26 (dk_at dksX35_judge_1 15 rfl rfl)
theorem dX35_judge_40 : decode cX35_judge 40 = .ok (.ifCond .eq 17, 3) := dk_153 0 17 (dk_at dksX35_judge_1 18 rfl rfl)
theorem dX35_judge_43 : decode cX35_judge 43 = .ok (.aload_n 0, 1) := dk_42 (dk_at dksX35_judge_1 21 rfl rfl)
theorem dX35_judge_44 : decode cX35_judge 44 = .ok (.getfield 23, 3) := dk_180 0 23 (dk_at dksX35_judge_2 0 rfl rfl)
theorem dX35_judge_47 : decode cX35_judge 47 = .ok (.getfield 26, 3) := dk_180 0 26 (dk_at dksX35_judge_2 3 rfl rfl)
theorem dX35_judge_50 : decode cX35_judge 50 = .ok (.ifCond .eq 7, 3) := dk_153 0 7 (dk_at dksX35_judge_2 6 rfl rfl)
theorem dX35_judge_53 : decode cX35_judge 53 = .ok (.iconst 1, 1) := dk_4 (dk_at dksX35_judge_2 9 rfl rfl)
theorem dX35_judge_54 : decode cX35_judge 54 = .ok (.goto 4, 3) := dk_167 0 4 (dk_at dksX35_judge_2 10 rfl rfl)
theorem dX35_judge_57 : decode cX35_judge 57 = .ok (.iconst 0, 1) := dk_3 (dk_at dksX35_judge_2 13 rfl rfl)
theorem dX35_judge_58 : decode cX35_judge 58 = .ok (.invokevirtual 29, 3) := dk_182 0 29 (dk_at dksX35_judge_2 14 rfl rfl)
theorem dX35_judge_61 : decode cX35_judge 61 = .ok (.goto 122, 3) := dk_167 0 122 (dk_at dksX35_judge_2 17 rfl rfl)
theorem dX35_judge_64 : decode cX35_judge 64 = .ok (.aload_n 0, 1) := dk_42 (dk_at dksX35_judge_2 20 rfl rfl)
theorem dX35_judge_65 : decode cX35_judge 65 = .ok (.getfield 7, 3) := dk_180 0 7 (dk_at dksX35_judge_2 21 rfl rfl)
theorem dX35_judge_68 : decode cX35_judge 68 = .ok (.iconst 1, 1) := dk_4 (dk_at dksX35_judge_3 0 rfl rfl)
theorem dX35_judge_69 : decode cX35_judge 69 = .ok (.if_icmp .ne 60, 3) := dk_160 0 60 (dk_at dksX35_judge_3 1 rfl rfl)
theorem dX35_judge_72 : decode cX35_judge 72 = .ok (.aload_n 0, 1) := dk_42 (dk_at dksX35_judge_3 4 rfl rfl)
theorem dX35_judge_73 : decode cX35_judge 73 = .ok (.aload_n 0, 1) := dk_42 (dk_at dksX35_judge_3 5 rfl rfl)
theorem dX35_judge_74 : decode cX35_judge 74 = .ok (.getfield 13, 3) := dk_180 0 13 (dk_at dksX35_judge_3 6 rfl rfl)
theorem dX35_judge_77 : decode cX35_judge 77 = .ok (.getfield 17, 3) := dk_180 0 17 (dk_at dksX35_judge_3 9 rfl rfl)
theorem dX35_judge_80 : decode cX35_judge 80 = .ok (.ifCond .eq 17, 3) := dk_153 0 17 (dk_at dksX35_judge_3 12 rfl rfl)
theorem dX35_judge_83 : decode cX35_judge 83 = .ok (.aload_n 0, 1) := dk_42 (dk_at dksX35_judge_3 15 rfl rfl)
theorem dX35_judge_84 : decode cX35_judge 84 = .ok (.getfield 23, 3) := dk_180 0 23 (dk_at dksX35_judge_3 16 rfl rfl)
theorem dX35_judge_87 : decode cX35_judge 87 = .ok (.getfield 17, 3) := dk_180 0 17 (dk_at dksX35_judge_3 19 rfl rfl)
theorem dX35_judge_90 : decode cX35_judge 90 = .ok (.ifCond .eq 7, 3) := dk_153 0 7 (dk_at dksX35_judge_4 0 rfl rfl)
theorem dX35_judge_93 : decode cX35_judge 93 = .ok (.iconst 1, 1) := dk_4 (dk_at dksX35_judge_4 3 rfl rfl)
theorem dX35_judge_94 : decode cX35_judge 94 = .ok (.goto 4, 3) := dk_167 0 4 (dk_at dksX35_judge_4 4 rfl rfl)
theorem dX35_judge_97 : decode cX35_judge 97 = .ok (.iconst 0, 1) := dk_3 (dk_at dksX35_judge_4 7 rfl rfl)
theorem dX35_judge_98 : decode cX35_judge 98 = .ok (.aload_n 0, 1) := dk_42 (dk_at dksX35_judge_4 8 rfl rfl)
theorem dX35_judge_99 : decode cX35_judge 99 = .ok (.getfield 13, 3) := dk_180 0 13 (dk_at dksX35_judge_4 9 rfl rfl)
theorem dX35_judge_102 : decode cX35_judge 102 = .ok (.getfield 26, 3) := dk_180 0 26 (dk_at dksX35_judge_4 12 rfl rfl)
theorem dX35_judge_105 : decode cX35_judge 105 = .ok (.ifCond .ne 13, 3) := dk_154 0 13 (dk_at dksX35_judge_4 15 rfl rfl)
theorem dX35_judge_108 : decode cX35_judge 108 = .ok (.aload_n 0, 1) := dk_42 (dk_at dksX35_judge_4 18 rfl rfl)
theorem dX35_judge_109 : decode cX35_judge 109 = .ok (.getfield 23, 3) := dk_180 0 23 (dk_at dksX35_judge_4 19 rfl rfl)
theorem dX35_judge_112 : decode cX35_judge 112 = .ok (.getfield 26, 3) := dk_180 0 26 (dk_at dksX35_judge_5 0 rfl rfl)
theorem dX35_judge_115 : decode cX35_judge 115 = .ok (.ifCond .eq 7, 3) := dk_153 0 7 (dk_at dksX35_judge_5 3 rfl rfl)
theorem dX35_judge_118 : decode cX35_judge 118 = .ok (.iconst 1, 1) := dk_4 (dk_at dksX35_judge_5 6 rfl rfl)
theorem dX35_judge_119 : decode cX35_judge 119 = .ok (.goto 4, 3) := dk_167 0 4 (dk_at dksX35_judge_5 7 rfl rfl)
theorem dX35_judge_122 : decode cX35_judge 122 = .ok (.iconst 0, 1) := dk_3 (dk_at dksX35_judge_5 10 rfl rfl)
theorem dX35_judge_123 : decode cX35_judge 123 = .ok (.invokevirtual 29, 3) := dk_182 0 29 (dk_at dksX35_judge_5 11 rfl rfl)
theorem dX35_judge_126 : decode cX35_judge 126 = .ok (.goto 57, 3) := dk_167 0 57 (dk_at dksX35_judge_5 14 rfl rfl)
theorem dX35_judge_129 : decode cX35_judge 129 = .ok (.aload_n 0, 1) := dk_42 (dk_at dksX35_judge_5 17 rfl rfl)
theorem dX35_judge_130 : decode cX35_judge 130 = .ok (.aload_n 0, 1) := dk_42 (dk_at dksX35_judge_5 18 rfl rfl)
theorem dX35_judge_131 : decode cX35_judge 131 = .ok (.getfield 13, 3) := dk_180 0 13 (dk_at dksX35_judge_5 19 rfl rfl)
theorem dX35_judge_134 : decode cX35_judge 134 = .ok (.getfield 26, 3) := dk_180 0 26 (dk_at dksX35_judge_6 0 rfl rfl)
theorem dX35_judge_137 : decode cX35_judge 137 = .ok (.ifCond .eq 17, 3) := dk_153 0 17 (dk_at dksX35_judge_6 3 rfl rfl)
theorem dX35_judge_140 : decode cX35_judge 140 = .ok (.aload_n 0, 1) := dk_42 (dk_at dksX35_judge_6 6 rfl rfl)
theorem dX35_judge_141 : decode cX35_judge 141 = .ok (.getfield 23, 3) := dk_180 0 23 (dk_at dksX35_judge_6 7 rfl rfl)
theorem dX35_judge_144 : decode cX35_judge 144 = .ok (.getfield 17, 3) := dk_180 0 17 (dk_at dksX35_judge_6 10 rfl rfl)
theorem dX35_judge_147 : decode cX35_judge 147 = .ok (.ifCond .eq 7, 3) := dk_153 0 7 (dk_at dksX35_judge_6 13 rfl rfl)
theorem dX35_judge_150 : decode cX35_judge 150 = .ok (.iconst 1, 1) := dk_4 (dk_at dksX35_judge_6 16 rfl rfl)
theorem dX35_judge_151 : decode cX35_judge 151 = .ok (.goto 4, 3) := dk_167 0 4 (dk_at dksX35_judge_6 17 rfl rfl)
theorem dX35_judge_154 : decode cX35_judge 154 = .ok (.iconst 0, 1) := dk_3 (dk_at dksX35_judge_6 20 rfl rfl)
theorem dX35_judge_155 : decode cX35_judge 155 = .ok (.aload_n 0, 1) := dk_42 (dk_at dksX35_judge_6 21 rfl rfl)
theorem dX35_judge_156 : decode cX35_judge 156 = .ok (.getfield 13, 3) := dk_180 0 13 (dk_at dksX35_judge_7 0 rfl rfl)
theorem dX35_judge_159 : decode cX35_judge 159 = .ok (.getfield 17, 3) := dk_180 0 17 (dk_at dksX35_judge_7 3 rfl rfl)
theorem dX35_judge_162 : decode cX35_judge 162 = .ok (.ifCond .ne 13, 3) := dk_154 0 13 (dk_at dksX35_judge_7 6 rfl rfl)
theorem dX35_judge_165 : decode cX35_judge 165 = .ok (.aload_n 0, 1) := dk_42 (dk_at dksX35_judge_7 9 rfl rfl)
theorem dX35_judge_166 : decode cX35_judge 166 = .ok (.getfield 23, 3) := dk_180 0 23 (dk_at dksX35_judge_7 10 rfl rfl)
theorem dX35_judge_169 : decode cX35_judge 169 = .ok (.getfield 26, 3) := dk_180 0 26 (dk_at dksX35_judge_7 13 rfl rfl)
theorem dX35_judge_172 : decode cX35_judge 172 = .ok (.ifCond .eq 7, 3) := dk_153 0 7 (dk_at dksX35_judge_7 16 rfl rfl)
theorem dX35_judge_175 : decode cX35_judge 175 = .ok (.iconst 1, 1) := dk_4 (dk_at dksX35_judge_7 19 rfl rfl)
theorem dX35_judge_176 : decode cX35_judge 176 = .ok (.goto 4, 3) := dk_167 0 4 (dk_at dksX35_judge_7 20 rfl rfl)
theorem dX35_judge_179 : decode cX35_judge 179 = .ok (.iconst 0, 1) := dk_3 (dk_at dksX35_judge_7 23 rfl rfl)
theorem dX35_judge_180 : decode cX35_judge 180 = .ok (.invokevirtual 29, 3) := dk_182 0 29 (dk_at dksX35_judge_8 0 rfl rfl)
theorem dX35_judge_183 : decode cX35_judge 183 = .ok (.return_, 1) := dk_177 (dk_at dksX35_judge_8 3 rfl rfl)
abbrev cX35_hand : ByteArray := prog_16_method_3_code
def yX35_hand : MethodName := ⟨RX35, "hand", "()V"⟩
def dkwX35_hand_1 : List UInt8 := [182, 0, 37, 167, 0, 7, 42, 182, 0, 40, 177]
abbrev dktX35_hand_1 : List UInt8 := dkwX35_hand_1 ++ []
def dkwX35_hand_0 : List UInt8 := [42, 180, 0, 7, 154, 0, 10, 42, 182, 0, 33, 167, 0, 22, 42, 180, 0, 7, 4, 160, 0, 10, 42]
abbrev dktX35_hand_0 : List UInt8 := dkwX35_hand_0 ++ dktX35_hand_1
theorem dksX35_hand_0 : cX35_hand.data.toList.drop 0 = dktX35_hand_0 := by decide +kernel
theorem dksX35_hand_1 : cX35_hand.data.toList.drop 23 = dktX35_hand_1 := dk_seg dksX35_hand_0 23 rfl rfl
theorem dX35_hand_0 : decode cX35_hand 0 = .ok (.aload_n 0, 1) := dk_42 (dk_at dksX35_hand_0 0 rfl rfl)
theorem dX35_hand_1 : decode cX35_hand 1 = .ok (.getfield 7, 3) := dk_180 0 7 (dk_at dksX35_hand_0 1 rfl rfl)
theorem dX35_hand_4 : decode cX35_hand 4 = .ok (.ifCond .ne 10, 3) := dk_154 0 10 (dk_at dksX35_hand_0 4 rfl rfl)
theorem dX35_hand_7 : decode cX35_hand 7 = .ok (.aload_n 0, 1) := dk_42 (dk_at dksX35_hand_0 7 rfl rfl)
theorem dX35_hand_8 : decode cX35_hand 8 = .ok (.invokevirtual 33, 3) := dk_182 0 33 (dk_at dksX35_hand_0 8 rfl rfl)
theorem dX35_hand_11 : decode cX35_hand 11 = .ok (.goto 22, 3) := dk_167 0 22 (dk_at dksX35_hand_0 11 rfl rfl)
theorem dX35_hand_14 : decode cX35_hand 14 = .ok (.aload_n 0, 1) := dk_42 (dk_at dksX35_hand_0 14 rfl rfl)
theorem dX35_hand_15 : decode cX35_hand 15 = .ok (.getfield 7, 3) := dk_180 0 7 (dk_at dksX35_hand_0 15 rfl rfl)
theorem dX35_hand_18 : decode cX35_hand 18 = .ok (.iconst 1, 1) := dk_4 (dk_at dksX35_hand_0 18 rfl rfl)
theorem dX35_hand_19 : decode cX35_hand 19 = .ok (.if_icmp .ne 10, 3) := dk_160 0 10 (dk_at dksX35_hand_0 19 rfl rfl)
theorem dX35_hand_22 : decode cX35_hand 22 = .ok (.aload_n 0, 1) := dk_42 (dk_at dksX35_hand_0 22 rfl rfl)
theorem dX35_hand_23 : decode cX35_hand 23 = .ok (.invokevirtual 37, 3) := dk_182 0 37 (dk_at dksX35_hand_1 0 rfl rfl)
theorem dX35_hand_26 : decode cX35_hand 26 = .ok (.goto 7, 3) := dk_167 0 7 (dk_at dksX35_hand_1 3 rfl rfl)
theorem dX35_hand_29 : decode cX35_hand 29 = .ok (.aload_n 0, 1) := dk_42 (dk_at dksX35_hand_1 6 rfl rfl)
theorem dX35_hand_30 : decode cX35_hand 30 = .ok (.invokevirtual 40, 3) := dk_182 0 40 (dk_at dksX35_hand_1 7 rfl rfl)
theorem dX35_hand_33 : decode cX35_hand 33 = .ok (.return_, 1) := dk_177 (dk_at dksX35_hand_1 10 rfl rfl)
abbrev cX35_both : ByteArray := prog_16_method_4_code
def yX35_both : MethodName := ⟨RX35, "both", "()V"⟩
def dkwX35_both_2 : List UInt8 := [180, 0, 23, 180, 0, 17, 154, 0, 12, 42, 180, 0, 13, 4, 3, 182, 0, 44, 177]
abbrev dktX35_both_2 : List UInt8 := dkwX35_both_2 ++ []
def dkwX35_both_1 : List UInt8 := [182, 0, 44, 177, 42, 180, 0, 13, 180, 0, 17, 154, 0, 12, 42, 180, 0, 23, 4, 3, 182, 0, 44, 42]
abbrev dktX35_both_1 : List UInt8 := dkwX35_both_1 ++ dktX35_both_2
def dkwX35_both_0 : List UInt8 := [42, 180, 0, 43, 153, 0, 22, 42, 180, 0, 13, 3, 4, 182, 0, 44, 42, 180, 0, 23, 3, 4]
abbrev dktX35_both_0 : List UInt8 := dkwX35_both_0 ++ dktX35_both_1
theorem dksX35_both_0 : cX35_both.data.toList.drop 0 = dktX35_both_0 := by decide +kernel
theorem dksX35_both_1 : cX35_both.data.toList.drop 22 = dktX35_both_1 := dk_seg dksX35_both_0 22 rfl rfl
theorem dksX35_both_2 : cX35_both.data.toList.drop 46 = dktX35_both_2 := dk_seg dksX35_both_1 24 rfl rfl
theorem dX35_both_0 : decode cX35_both 0 = .ok (.aload_n 0, 1) := dk_42 (dk_at dksX35_both_0 0 rfl rfl)
theorem dX35_both_1 : decode cX35_both 1 = .ok (.getfield 43, 3) := dk_180 0 43 (dk_at dksX35_both_0 1 rfl rfl)
theorem dX35_both_4 : decode cX35_both 4 = .ok (.ifCond .eq 22, 3) := dk_153 0 22 (dk_at dksX35_both_0 4 rfl rfl)
theorem dX35_both_7 : decode cX35_both 7 = .ok (.aload_n 0, 1) := dk_42 (dk_at dksX35_both_0 7 rfl rfl)
theorem dX35_both_8 : decode cX35_both 8 = .ok (.getfield 13, 3) := dk_180 0 13 (dk_at dksX35_both_0 8 rfl rfl)
theorem dX35_both_11 : decode cX35_both 11 = .ok (.iconst 0, 1) := dk_3 (dk_at dksX35_both_0 11 rfl rfl)
theorem dX35_both_12 : decode cX35_both 12 = .ok (.iconst 1, 1) := dk_4 (dk_at dksX35_both_0 12 rfl rfl)
theorem dX35_both_13 : decode cX35_both 13 = .ok (.invokevirtual 44, 3) := dk_182 0 44 (dk_at dksX35_both_0 13 rfl rfl)
theorem dX35_both_16 : decode cX35_both 16 = .ok (.aload_n 0, 1) := dk_42 (dk_at dksX35_both_0 16 rfl rfl)
theorem dX35_both_17 : decode cX35_both 17 = .ok (.getfield 23, 3) := dk_180 0 23 (dk_at dksX35_both_0 17 rfl rfl)
theorem dX35_both_20 : decode cX35_both 20 = .ok (.iconst 0, 1) := dk_3 (dk_at dksX35_both_0 20 rfl rfl)
theorem dX35_both_21 : decode cX35_both 21 = .ok (.iconst 1, 1) := dk_4 (dk_at dksX35_both_0 21 rfl rfl)
theorem dX35_both_22 : decode cX35_both 22 = .ok (.invokevirtual 44, 3) := dk_182 0 44 (dk_at dksX35_both_1 0 rfl rfl)
theorem dX35_both_25 : decode cX35_both 25 = .ok (.return_, 1) := dk_177 (dk_at dksX35_both_1 3 rfl rfl)
theorem dX35_both_26 : decode cX35_both 26 = .ok (.aload_n 0, 1) := dk_42 (dk_at dksX35_both_1 4 rfl rfl)
theorem dX35_both_27 : decode cX35_both 27 = .ok (.getfield 13, 3) := dk_180 0 13 (dk_at dksX35_both_1 5 rfl rfl)
theorem dX35_both_30 : decode cX35_both 30 = .ok (.getfield 17, 3) := dk_180 0 17 (dk_at dksX35_both_1 8 rfl rfl)
theorem dX35_both_33 : decode cX35_both 33 = .ok (.ifCond .ne 12, 3) := dk_154 0 12 (dk_at dksX35_both_1 11 rfl rfl)
theorem dX35_both_36 : decode cX35_both 36 = .ok (.aload_n 0, 1) := dk_42 (dk_at dksX35_both_1 14 rfl rfl)
theorem dX35_both_37 : decode cX35_both 37 = .ok (.getfield 23, 3) := dk_180 0 23 (dk_at dksX35_both_1 15 rfl rfl)
theorem dX35_both_40 : decode cX35_both 40 = .ok (.iconst 1, 1) := dk_4 (dk_at dksX35_both_1 18 rfl rfl)
theorem dX35_both_41 : decode cX35_both 41 = .ok (.iconst 0, 1) := dk_3 (dk_at dksX35_both_1 19 rfl rfl)
theorem dX35_both_42 : decode cX35_both 42 = .ok (.invokevirtual 44, 3) := dk_182 0 44 (dk_at dksX35_both_1 20 rfl rfl)
theorem dX35_both_45 : decode cX35_both 45 = .ok (.aload_n 0, 1) := dk_42 (dk_at dksX35_both_1 23 rfl rfl)
theorem dX35_both_46 : decode cX35_both 46 = .ok (.getfield 23, 3) := dk_180 0 23 (dk_at dksX35_both_2 0 rfl rfl)
theorem dX35_both_49 : decode cX35_both 49 = .ok (.getfield 17, 3) := dk_180 0 17 (dk_at dksX35_both_2 3 rfl rfl)
theorem dX35_both_52 : decode cX35_both 52 = .ok (.ifCond .ne 12, 3) := dk_154 0 12 (dk_at dksX35_both_2 6 rfl rfl)
theorem dX35_both_55 : decode cX35_both 55 = .ok (.aload_n 0, 1) := dk_42 (dk_at dksX35_both_2 9 rfl rfl)
theorem dX35_both_56 : decode cX35_both 56 = .ok (.getfield 13, 3) := dk_180 0 13 (dk_at dksX35_both_2 10 rfl rfl)
theorem dX35_both_59 : decode cX35_both 59 = .ok (.iconst 1, 1) := dk_4 (dk_at dksX35_both_2 13 rfl rfl)
theorem dX35_both_60 : decode cX35_both 60 = .ok (.iconst 0, 1) := dk_3 (dk_at dksX35_both_2 14 rfl rfl)
theorem dX35_both_61 : decode cX35_both 61 = .ok (.invokevirtual 44, 3) := dk_182 0 44 (dk_at dksX35_both_2 15 rfl rfl)
theorem dX35_both_64 : decode cX35_both 64 = .ok (.return_, 1) := dk_177 (dk_at dksX35_both_2 18 rfl rfl)
abbrev cX35_either : ByteArray := prog_16_method_5_code
def yX35_either : MethodName := ⟨RX35, "either", "()V"⟩
def dkwX35_either_2 : List UInt8 := [180, 0, 23, 180, 0, 26, 154, 0, 12, 42, 180, 0, 13, 3, 4, 182, 0, 44, 177]
abbrev dktX35_either_2 : List UInt8 := dkwX35_either_2 ++ []
def dkwX35_either_1 : List UInt8 := [182, 0, 44, 177, 42, 180, 0, 13, 180, 0, 26, 154, 0, 12, 42, 180, 0, 23, 3, 4, 182, 0, 44, 42]
abbrev dktX35_either_1 : List UInt8 := dkwX35_either_1 ++ dktX35_either_2
def dkwX35_either_0 : List UInt8 := [42, 180, 0, 43, 154, 0, 22, 42, 180, 0, 13, 4, 3, 182, 0, 44, 42, 180, 0, 23, 4, 3]
abbrev dktX35_either_0 : List UInt8 := dkwX35_either_0 ++ dktX35_either_1
theorem dksX35_either_0 : cX35_either.data.toList.drop 0 = dktX35_either_0 := by decide +kernel
theorem dksX35_either_1 : cX35_either.data.toList.drop 22 = dktX35_either_1 := dk_seg dksX35_either_0 22 rfl rfl
theorem dksX35_either_2 : cX35_either.data.toList.drop 46 = dktX35_either_2 := dk_seg dksX35_either_1 24 rfl rfl
theorem dX35_either_0 : decode cX35_either 0 = .ok (.aload_n 0, 1) := dk_42 (dk_at dksX35_either_0 0 rfl rfl)
theorem dX35_either_1 : decode cX35_either 1 = .ok (.getfield 43, 3) := dk_180 0 43 (dk_at dksX35_either_0 1 rfl rfl)
theorem dX35_either_4 : decode cX35_either 4 = .ok (.ifCond .ne 22, 3) := dk_154 0 22 (dk_at dksX35_either_0 4 rfl rfl)
theorem dX35_either_7 : decode cX35_either 7 = .ok (.aload_n 0, 1) := dk_42 (dk_at dksX35_either_0 7 rfl rfl)
theorem dX35_either_8 : decode cX35_either 8 = .ok (.getfield 13, 3) := dk_180 0 13 (dk_at dksX35_either_0 8 rfl rfl)
theorem dX35_either_11 : decode cX35_either 11 = .ok (.iconst 1, 1) := dk_4 (dk_at dksX35_either_0 11 rfl rfl)
theorem dX35_either_12 : decode cX35_either 12 = .ok (.iconst 0, 1) := dk_3 (dk_at dksX35_either_0 12 rfl rfl)
theorem dX35_either_13 : decode cX35_either 13 = .ok (.invokevirtual 44, 3) := dk_182 0 44 (dk_at dksX35_either_0 13 rfl rfl)
theorem dX35_either_16 : decode cX35_either 16 = .ok (.aload_n 0, 1) := dk_42 (dk_at dksX35_either_0 16 rfl rfl)
theorem dX35_either_17 : decode cX35_either 17 = .ok (.getfield 23, 3) := dk_180 0 23 (dk_at dksX35_either_0 17 rfl rfl)
theorem dX35_either_20 : decode cX35_either 20 = .ok (.iconst 1, 1) := dk_4 (dk_at dksX35_either_0 20 rfl rfl)
theorem dX35_either_21 : decode cX35_either 21 = .ok (.iconst 0, 1) := dk_3 (dk_at dksX35_either_0 21 rfl rfl)
theorem dX35_either_22 : decode cX35_either 22 = .ok (.invokevirtual 44, 3) := dk_182 0 44 (dk_at dksX35_either_1 0 rfl rfl)
theorem dX35_either_25 : decode cX35_either 25 = .ok (.return_, 1) := dk_177 (dk_at dksX35_either_1 3 rfl rfl)
theorem dX35_either_26 : decode cX35_either 26 = .ok (.aload_n 0, 1) := dk_42 (dk_at dksX35_either_1 4 rfl rfl)
theorem dX35_either_27 : decode cX35_either 27 = .ok (.getfield 13, 3) := dk_180 0 13 (dk_at dksX35_either_1 5 rfl rfl)
theorem dX35_either_30 : decode cX35_either 30 = .ok (.getfield 26, 3) := dk_180 0 26 (dk_at dksX35_either_1 8 rfl rfl)
theorem dX35_either_33 : decode cX35_either 33 = .ok (.ifCond .ne 12, 3) := dk_154 0 12 (dk_at dksX35_either_1 11 rfl rfl)
theorem dX35_either_36 : decode cX35_either 36 = .ok (.aload_n 0, 1) := dk_42 (dk_at dksX35_either_1 14 rfl rfl)
theorem dX35_either_37 : decode cX35_either 37 = .ok (.getfield 23, 3) := dk_180 0 23 (dk_at dksX35_either_1 15 rfl rfl)
theorem dX35_either_40 : decode cX35_either 40 = .ok (.iconst 0, 1) := dk_3 (dk_at dksX35_either_1 18 rfl rfl)
theorem dX35_either_41 : decode cX35_either 41 = .ok (.iconst 1, 1) := dk_4 (dk_at dksX35_either_1 19 rfl rfl)
theorem dX35_either_42 : decode cX35_either 42 = .ok (.invokevirtual 44, 3) := dk_182 0 44 (dk_at dksX35_either_1 20 rfl rfl)
theorem dX35_either_45 : decode cX35_either 45 = .ok (.aload_n 0, 1) := dk_42 (dk_at dksX35_either_1 23 rfl rfl)
theorem dX35_either_46 : decode cX35_either 46 = .ok (.getfield 23, 3) := dk_180 0 23 (dk_at dksX35_either_2 0 rfl rfl)
theorem dX35_either_49 : decode cX35_either 49 = .ok (.getfield 26, 3) := dk_180 0 26 (dk_at dksX35_either_2 3 rfl rfl)
theorem dX35_either_52 : decode cX35_either 52 = .ok (.ifCond .ne 12, 3) := dk_154 0 12 (dk_at dksX35_either_2 6 rfl rfl)
theorem dX35_either_55 : decode cX35_either 55 = .ok (.aload_n 0, 1) := dk_42 (dk_at dksX35_either_2 9 rfl rfl)
theorem dX35_either_56 : decode cX35_either 56 = .ok (.getfield 13, 3) := dk_180 0 13 (dk_at dksX35_either_2 10 rfl rfl)
theorem dX35_either_59 : decode cX35_either 59 = .ok (.iconst 0, 1) := dk_3 (dk_at dksX35_either_2 13 rfl rfl)
theorem dX35_either_60 : decode cX35_either 60 = .ok (.iconst 1, 1) := dk_4 (dk_at dksX35_either_2 14 rfl rfl)
theorem dX35_either_61 : decode cX35_either 61 = .ok (.invokevirtual 44, 3) := dk_182 0 44 (dk_at dksX35_either_2 15 rfl rfl)
theorem dX35_either_64 : decode cX35_either 64 = .ok (.return_, 1) := dk_177 (dk_at dksX35_either_2 18 rfl rfl)
abbrev cX35_follows : ByteArray := prog_16_method_6_code
def yX35_follows : MethodName := ⟨RX35, "follows", "()V"⟩
def dkwX35_follows_2 : List UInt8 := [180, 0, 23, 180, 0, 26, 154, 0, 12, 42, 180, 0, 13, 4, 3, 182, 0, 44, 177]
abbrev dktX35_follows_2 : List UInt8 := dkwX35_follows_2 ++ []
def dkwX35_follows_1 : List UInt8 := [182, 0, 44, 177, 42, 180, 0, 13, 180, 0, 17, 154, 0, 12, 42, 180, 0, 23, 3, 4, 182, 0, 44, 42]
abbrev dktX35_follows_1 : List UInt8 := dkwX35_follows_1 ++ dktX35_follows_2
def dkwX35_follows_0 : List UInt8 := [42, 180, 0, 43, 154, 0, 22, 42, 180, 0, 13, 3, 4, 182, 0, 44, 42, 180, 0, 23, 4, 3]
abbrev dktX35_follows_0 : List UInt8 := dkwX35_follows_0 ++ dktX35_follows_1
theorem dksX35_follows_0 : cX35_follows.data.toList.drop 0 = dktX35_follows_0 := by decide +kernel
theorem dksX35_follows_1 : cX35_follows.data.toList.drop 22 = dktX35_follows_1 := dk_seg dksX35_follows_0 22 rfl rfl
theorem dksX35_follows_2 : cX35_follows.data.toList.drop 46 = dktX35_follows_2 := dk_seg dksX35_follows_1 24 rfl rfl
theorem dX35_follows_0 : decode cX35_follows 0 = .ok (.aload_n 0, 1) := dk_42 (dk_at dksX35_follows_0 0 rfl rfl)
theorem dX35_follows_1 : decode cX35_follows 1 = .ok (.getfield 43, 3) := dk_180 0 43 (dk_at dksX35_follows_0 1 rfl rfl)
theorem dX35_follows_4 : decode cX35_follows 4 = .ok (.ifCond .ne 22, 3) := dk_154 0 22 (dk_at dksX35_follows_0 4 rfl rfl)
theorem dX35_follows_7 : decode cX35_follows 7 = .ok (.aload_n 0, 1) := dk_42 (dk_at dksX35_follows_0 7 rfl rfl)
theorem dX35_follows_8 : decode cX35_follows 8 = .ok (.getfield 13, 3) := dk_180 0 13 (dk_at dksX35_follows_0 8 rfl rfl)
theorem dX35_follows_11 : decode cX35_follows 11 = .ok (.iconst 0, 1) := dk_3 (dk_at dksX35_follows_0 11 rfl rfl)
theorem dX35_follows_12 : decode cX35_follows 12 = .ok (.iconst 1, 1) := dk_4 (dk_at dksX35_follows_0 12 rfl rfl)
theorem dX35_follows_13 : decode cX35_follows 13 = .ok (.invokevirtual 44, 3) := dk_182 0 44 (dk_at dksX35_follows_0 13 rfl rfl)
theorem dX35_follows_16 : decode cX35_follows 16 = .ok (.aload_n 0, 1) := dk_42 (dk_at dksX35_follows_0 16 rfl rfl)
theorem dX35_follows_17 : decode cX35_follows 17 = .ok (.getfield 23, 3) := dk_180 0 23 (dk_at dksX35_follows_0 17 rfl rfl)
theorem dX35_follows_20 : decode cX35_follows 20 = .ok (.iconst 1, 1) := dk_4 (dk_at dksX35_follows_0 20 rfl rfl)
theorem dX35_follows_21 : decode cX35_follows 21 = .ok (.iconst 0, 1) := dk_3 (dk_at dksX35_follows_0 21 rfl rfl)
theorem dX35_follows_22 : decode cX35_follows 22 = .ok (.invokevirtual 44, 3) := dk_182 0 44 (dk_at dksX35_follows_1 0 rfl rfl)
theorem dX35_follows_25 : decode cX35_follows 25 = .ok (.return_, 1) := dk_177 (dk_at dksX35_follows_1 3 rfl rfl)
theorem dX35_follows_26 : decode cX35_follows 26 = .ok (.aload_n 0, 1) := dk_42 (dk_at dksX35_follows_1 4 rfl rfl)
theorem dX35_follows_27 : decode cX35_follows 27 = .ok (.getfield 13, 3) := dk_180 0 13 (dk_at dksX35_follows_1 5 rfl rfl)
theorem dX35_follows_30 : decode cX35_follows 30 = .ok (.getfield 17, 3) := dk_180 0 17 (dk_at dksX35_follows_1 8 rfl rfl)
theorem dX35_follows_33 : decode cX35_follows 33 = .ok (.ifCond .ne 12, 3) := dk_154 0 12 (dk_at dksX35_follows_1 11 rfl rfl)
theorem dX35_follows_36 : decode cX35_follows 36 = .ok (.aload_n 0, 1) := dk_42 (dk_at dksX35_follows_1 14 rfl rfl)
theorem dX35_follows_37 : decode cX35_follows 37 = .ok (.getfield 23, 3) := dk_180 0 23 (dk_at dksX35_follows_1 15 rfl rfl)
theorem dX35_follows_40 : decode cX35_follows 40 = .ok (.iconst 0, 1) := dk_3 (dk_at dksX35_follows_1 18 rfl rfl)
theorem dX35_follows_41 : decode cX35_follows 41 = .ok (.iconst 1, 1) := dk_4 (dk_at dksX35_follows_1 19 rfl rfl)
theorem dX35_follows_42 : decode cX35_follows 42 = .ok (.invokevirtual 44, 3) := dk_182 0 44 (dk_at dksX35_follows_1 20 rfl rfl)
theorem dX35_follows_45 : decode cX35_follows 45 = .ok (.aload_n 0, 1) := dk_42 (dk_at dksX35_follows_1 23 rfl rfl)
theorem dX35_follows_46 : decode cX35_follows 46 = .ok (.getfield 23, 3) := dk_180 0 23 (dk_at dksX35_follows_2 0 rfl rfl)
theorem dX35_follows_49 : decode cX35_follows 49 = .ok (.getfield 26, 3) := dk_180 0 26 (dk_at dksX35_follows_2 3 rfl rfl)
theorem dX35_follows_52 : decode cX35_follows 52 = .ok (.ifCond .ne 12, 3) := dk_154 0 12 (dk_at dksX35_follows_2 6 rfl rfl)
theorem dX35_follows_55 : decode cX35_follows 55 = .ok (.aload_n 0, 1) := dk_42 (dk_at dksX35_follows_2 9 rfl rfl)
theorem dX35_follows_56 : decode cX35_follows 56 = .ok (.getfield 13, 3) := dk_180 0 13 (dk_at dksX35_follows_2 10 rfl rfl)
theorem dX35_follows_59 : decode cX35_follows 59 = .ok (.iconst 1, 1) := dk_4 (dk_at dksX35_follows_2 13 rfl rfl)
theorem dX35_follows_60 : decode cX35_follows 60 = .ok (.iconst 0, 1) := dk_3 (dk_at dksX35_follows_2 14 rfl rfl)
theorem dX35_follows_61 : decode cX35_follows 61 = .ok (.invokevirtual 44, 3) := dk_182 0 44 (dk_at dksX35_follows_2 15 rfl rfl)
theorem dX35_follows_64 : decode cX35_follows 64 = .ok (.return_, 1) := dk_177 (dk_at dksX35_follows_2 18 rfl rfl)
theorem q306 : (Jvm.Cond.initialized "ConstraintHouse$Logic") ∈ lw_all := lw_g (lw_at lw_m1 46 rfl) rfl
theorem q1421 : (Jvm.Cond.fieldLink "ConstraintHouse$Logic" (17 : Nat) "ConstraintHouse$Part" "no" "Z") ∈ lw_all := lw_g (lw_at lw_m5 201 rfl) rfl
theorem q1438 : (Jvm.Cond.fieldLink "ConstraintHouse$Logic" (26 : Nat) "ConstraintHouse$Part" "yes" "Z") ∈ lw_all := lw_g (lw_at lw_m5 218 rfl) rfl
theorem q1449 : (Jvm.Cond.fieldLink "ConstraintHouse$Logic" (43 : Nat) "ConstraintHouse$Logic" "yes" "Z") ∈ lw_all := lw_g (lw_at lw_m5 229 rfl) rfl
theorem q1450 : (Jvm.Cond.sameField "ConstraintHouse$Logic" "ConstraintHouse$Part" "yes" "Z") ∈ lw_all := lw_g (lw_at lw_m5 230 rfl) rfl
theorem q1571 : (Jvm.Cond.selects "ConstraintHouse$Logic" ({ cls := "ConstraintHouse$Part", name := "sort", desc := "()I" } : Jvm.MethodName) ({ cls := "ConstraintHouse$Judged", name := "sort", desc := "()I" } : Jvm.MethodName)) ∈ lw_all := lw_g (lw_at lw_m6 111 rfl) rfl
theorem q1798 : (Jvm.Cond.fieldLink "ConstraintHouse$Logic" (13 : Nat) "ConstraintHouse$Logic" "x" "LConstraintHouse$Part;") ∈ lw_all := lw_g (lw_at lw_m7 98 rfl) rfl
theorem q1799 : (Jvm.Cond.sameField "ConstraintHouse$Logic" "ConstraintHouse$Relation" "x" "LConstraintHouse$Part;") ∈ lw_all := lw_g (lw_at lw_m7 99 rfl) rfl
theorem q1805 : (Jvm.Cond.fieldLink "ConstraintHouse$Logic" (23 : Nat) "ConstraintHouse$Logic" "y" "LConstraintHouse$Part;") ∈ lw_all := lw_g (lw_at lw_m7 105 rfl) rfl
theorem q1806 : (Jvm.Cond.sameField "ConstraintHouse$Logic" "ConstraintHouse$Relation" "y" "LConstraintHouse$Part;") ∈ lw_all := lw_g (lw_at lw_m7 106 rfl) rfl
theorem q1839 : (Jvm.Cond.instantiable "ConstraintHouse$Logic" (8 : Nat)) ∈ lw_all := lw_g (lw_at lw_m7 139 rfl) rfl
theorem q1841 : (Jvm.Cond.instanceMethod ({ cls := "ConstraintHouse$Logic", name := "<init>", desc := "(LConstraintHouse$Part;LConstraintHouse$Part;I)V" } : Jvm.MethodName)) ∈ lw_all := lw_g (lw_at lw_m7 141 rfl) rfl
theorem q1842 : (Jvm.Cond.code ({ cls := "ConstraintHouse$Logic", name := "<init>", desc := "(LConstraintHouse$Part;LConstraintHouse$Part;I)V" } : Jvm.MethodName) prog_16_method_1_code (4 : Nat) (Option.none : Option Jvm.ClassFile.FieldType)) ∈ lw_all := lw_g (lw_at lw_m7 142 rfl) rfl
theorem q1843 : (Jvm.Cond.methodLink "ConstraintHouse$Logic" (1 : Nat) ({ cls := "ConstraintHouse$Relation", name := "<init>", desc := "(LConstraintHouse$Part;LConstraintHouse$Part;)V" } : Jvm.MethodName)) ∈ lw_all := lw_g (lw_at lw_m7 143 rfl) rfl
theorem q1844 : (Jvm.Cond.fieldLink "ConstraintHouse$Logic" (7 : Nat) "ConstraintHouse$Logic" "which" "I") ∈ lw_all := lw_g (lw_at lw_m7 144 rfl) rfl
theorem q1845 : (Jvm.Cond.laysFinal "ConstraintHouse$Logic" "ConstraintHouse$Logic" "which" "I") ∈ lw_all := lw_g (lw_at lw_m7 145 rfl) rfl
theorem q1846 : (Jvm.Cond.soleField "ConstraintHouse$Logic" "which") ∈ lw_all := lw_g (lw_at lw_m7 146 rfl) rfl
theorem q1847 : (Jvm.Cond.laysFinal "ConstraintHouse$Logic" "ConstraintHouse$Relation" "x" "LConstraintHouse$Part;") ∈ lw_all := lw_g (lw_at lw_m7 147 rfl) rfl
theorem q1848 : (Jvm.Cond.laysFinal "ConstraintHouse$Logic" "ConstraintHouse$Relation" "y" "LConstraintHouse$Part;") ∈ lw_all := lw_g (lw_at lw_m7 148 rfl) rfl
theorem q1849 : (Jvm.Cond.lays "ConstraintHouse$Logic" "ConstraintHouse$Part" "low" "D") ∈ lw_all := lw_g (lw_at lw_m7 149 rfl) rfl
theorem q1850 : (Jvm.Cond.lays "ConstraintHouse$Logic" "ConstraintHouse$Part" "high" "D") ∈ lw_all := lw_g (lw_at lw_m7 150 rfl) rfl
theorem q1851 : (Jvm.Cond.lays "ConstraintHouse$Logic" "ConstraintHouse$Part" "no" "Z") ∈ lw_all := lw_g (lw_at lw_m7 151 rfl) rfl
theorem q1852 : (Jvm.Cond.lays "ConstraintHouse$Logic" "ConstraintHouse$Part" "yes" "Z") ∈ lw_all := lw_g (lw_at lw_m7 152 rfl) rfl
theorem q1853 : (Jvm.Cond.lays "ConstraintHouse$Logic" "ConstraintHouse$Part" "letters" "I") ∈ lw_all := lw_g (lw_at lw_m7 153 rfl) rfl
theorem q1854 : (Jvm.Cond.superclass "ConstraintHouse$Logic" "ConstraintHouse$Relation") ∈ lw_all := lw_g (lw_at lw_m7 154 rfl) rfl
theorem q2529 : (Jvm.Cond.selects "ConstraintHouse$Logic" ({ cls := "ConstraintHouse$Narrows", name := "forwards", desc := "(LConstraintHouse$Solver;)V" } : Jvm.MethodName) ({ cls := "ConstraintHouse$Relation", name := "forwards", desc := "(LConstraintHouse$Solver;)V" } : Jvm.MethodName)) ∈ lw_all := lw_g (lw_at lw_m10 109 rfl) rfl
theorem q2821 : (Jvm.Cond.selects "ConstraintHouse$Logic" ({ cls := "ConstraintHouse$Part", name := "hasMeet", desc := "(LConstraintHouse$Part;)Z" } : Jvm.MethodName) ({ cls := "ConstraintHouse$Part", name := "hasMeet", desc := "(LConstraintHouse$Part;)Z" } : Jvm.MethodName)) ∈ lw_all := lw_g (lw_at lw_m11 161 rfl) rfl
theorem q2850 : (Jvm.Cond.selects "ConstraintHouse$Logic" ({ cls := "ConstraintHouse$Relation", name := "judge", desc := "()V" } : Jvm.MethodName) ({ cls := "ConstraintHouse$Logic", name := "judge", desc := "()V" } : Jvm.MethodName)) ∈ lw_all := lw_g (lw_at lw_m11 190 rfl) rfl
theorem q2851 : (Jvm.Cond.instanceMethod ({ cls := "ConstraintHouse$Logic", name := "judge", desc := "()V" } : Jvm.MethodName)) ∈ lw_all := lw_g (lw_at lw_m11 191 rfl) rfl
theorem q2852 : (Jvm.Cond.code ({ cls := "ConstraintHouse$Logic", name := "judge", desc := "()V" } : Jvm.MethodName) prog_16_method_2_code (1 : Nat) (Option.none : Option Jvm.ClassFile.FieldType)) ∈ lw_all := lw_g (lw_at lw_m11 192 rfl) rfl
theorem q2853 : (Jvm.Cond.methodLink "ConstraintHouse$Logic" (29 : Nat) ({ cls := "ConstraintHouse$Logic", name := "truth", desc := "(ZZ)V" } : Jvm.MethodName)) ∈ lw_all := lw_g (lw_at lw_m11 193 rfl) rfl
theorem q2854 : (Jvm.Cond.sameMethod "ConstraintHouse$Logic" "ConstraintHouse$Part" "truth" "(ZZ)V") ∈ lw_all := lw_g (lw_at lw_m11 194 rfl) rfl
theorem q2855 : (Jvm.Cond.selects "ConstraintHouse$Logic" ({ cls := "ConstraintHouse$Logic", name := "truth", desc := "(ZZ)V" } : Jvm.MethodName) ({ cls := "ConstraintHouse$Part", name := "truth", desc := "(ZZ)V" } : Jvm.MethodName)) ∈ lw_all := lw_g (lw_at lw_m11 195 rfl) rfl
theorem q2872 : (Jvm.Cond.selects "ConstraintHouse$Logic" ({ cls := "ConstraintHouse$Part", name := "meets", desc := "(ZZ)V" } : Jvm.MethodName) ({ cls := "ConstraintHouse$Part", name := "meets", desc := "(ZZ)V" } : Jvm.MethodName)) ∈ lw_all := lw_g (lw_at lw_m11 212 rfl) rfl
theorem q2908 : (Jvm.Cond.selects "ConstraintHouse$Logic" ({ cls := "ConstraintHouse$Part", name := "meets", desc := "(LConstraintHouse$Part;)V" } : Jvm.MethodName) ({ cls := "ConstraintHouse$Part", name := "meets", desc := "(LConstraintHouse$Part;)V" } : Jvm.MethodName)) ∈ lw_all := lw_g (lw_at lw_m12 8 rfl) rfl
theorem q2930 : (Jvm.Cond.selects "ConstraintHouse$Logic" ({ cls := "ConstraintHouse$Part", name := "meet", desc := "(DD)V" } : Jvm.MethodName) ({ cls := "ConstraintHouse$Part", name := "meet", desc := "(DD)V" } : Jvm.MethodName)) ∈ lw_all := lw_g (lw_at lw_m12 30 rfl) rfl
theorem q2953 : (Jvm.Cond.selects "ConstraintHouse$Logic" ({ cls := "ConstraintHouse$Part", name := "meets", desc := "(I)V" } : Jvm.MethodName) ({ cls := "ConstraintHouse$Part", name := "meets", desc := "(I)V" } : Jvm.MethodName)) ∈ lw_all := lw_g (lw_at lw_m12 53 rfl) rfl
theorem q2987 : (Jvm.Cond.selects "ConstraintHouse$Logic" ({ cls := "ConstraintHouse$Part", name := "lose", desc := "(D)V" } : Jvm.MethodName) ({ cls := "ConstraintHouse$Part", name := "lose", desc := "(D)V" } : Jvm.MethodName)) ∈ lw_all := lw_g (lw_at lw_m12 87 rfl) rfl
theorem q3001 : (Jvm.Cond.selects "ConstraintHouse$Logic" ({ cls := "ConstraintHouse$Relation", name := "hand", desc := "()V" } : Jvm.MethodName) ({ cls := "ConstraintHouse$Logic", name := "hand", desc := "()V" } : Jvm.MethodName)) ∈ lw_all := lw_g (lw_at lw_m12 101 rfl) rfl
theorem q3002 : (Jvm.Cond.instanceMethod ({ cls := "ConstraintHouse$Logic", name := "hand", desc := "()V" } : Jvm.MethodName)) ∈ lw_all := lw_g (lw_at lw_m12 102 rfl) rfl
theorem q3003 : (Jvm.Cond.code ({ cls := "ConstraintHouse$Logic", name := "hand", desc := "()V" } : Jvm.MethodName) prog_16_method_3_code (1 : Nat) (Option.none : Option Jvm.ClassFile.FieldType)) ∈ lw_all := lw_g (lw_at lw_m12 103 rfl) rfl
theorem q3004 : (Jvm.Cond.methodLink "ConstraintHouse$Logic" (33 : Nat) ({ cls := "ConstraintHouse$Logic", name := "both", desc := "()V" } : Jvm.MethodName)) ∈ lw_all := lw_g (lw_at lw_m12 104 rfl) rfl
theorem q3005 : (Jvm.Cond.privateMethod ({ cls := "ConstraintHouse$Logic", name := "both", desc := "()V" } : Jvm.MethodName)) ∈ lw_tbl := lw_at lw_m12 105 rfl
theorem q3006 : (Jvm.Cond.instanceMethod ({ cls := "ConstraintHouse$Logic", name := "both", desc := "()V" } : Jvm.MethodName)) ∈ lw_all := lw_g (lw_at lw_m12 106 rfl) rfl
theorem q3007 : (Jvm.Cond.code ({ cls := "ConstraintHouse$Logic", name := "both", desc := "()V" } : Jvm.MethodName) prog_16_method_4_code (1 : Nat) (Option.none : Option Jvm.ClassFile.FieldType)) ∈ lw_all := lw_g (lw_at lw_m12 107 rfl) rfl
theorem q3008 : (Jvm.Cond.methodLink "ConstraintHouse$Logic" (44 : Nat) ({ cls := "ConstraintHouse$Part", name := "meets", desc := "(ZZ)V" } : Jvm.MethodName)) ∈ lw_all := lw_g (lw_at lw_m12 108 rfl) rfl
theorem q3009 : (Jvm.Cond.methodLink "ConstraintHouse$Logic" (37 : Nat) ({ cls := "ConstraintHouse$Logic", name := "either", desc := "()V" } : Jvm.MethodName)) ∈ lw_all := lw_g (lw_at lw_m12 109 rfl) rfl
theorem q3010 : (Jvm.Cond.privateMethod ({ cls := "ConstraintHouse$Logic", name := "either", desc := "()V" } : Jvm.MethodName)) ∈ lw_tbl := lw_at lw_m12 110 rfl
theorem q3011 : (Jvm.Cond.instanceMethod ({ cls := "ConstraintHouse$Logic", name := "either", desc := "()V" } : Jvm.MethodName)) ∈ lw_all := lw_g (lw_at lw_m12 111 rfl) rfl
theorem q3012 : (Jvm.Cond.code ({ cls := "ConstraintHouse$Logic", name := "either", desc := "()V" } : Jvm.MethodName) prog_16_method_5_code (1 : Nat) (Option.none : Option Jvm.ClassFile.FieldType)) ∈ lw_all := lw_g (lw_at lw_m12 112 rfl) rfl
theorem q3013 : (Jvm.Cond.methodLink "ConstraintHouse$Logic" (40 : Nat) ({ cls := "ConstraintHouse$Logic", name := "follows", desc := "()V" } : Jvm.MethodName)) ∈ lw_all := lw_g (lw_at lw_m12 113 rfl) rfl
theorem q3014 : (Jvm.Cond.privateMethod ({ cls := "ConstraintHouse$Logic", name := "follows", desc := "()V" } : Jvm.MethodName)) ∈ lw_tbl := lw_at lw_m12 114 rfl
theorem q3015 : (Jvm.Cond.instanceMethod ({ cls := "ConstraintHouse$Logic", name := "follows", desc := "()V" } : Jvm.MethodName)) ∈ lw_all := lw_g (lw_at lw_m12 115 rfl) rfl
theorem q3016 : (Jvm.Cond.code ({ cls := "ConstraintHouse$Logic", name := "follows", desc := "()V" } : Jvm.MethodName) prog_16_method_6_code (1 : Nat) (Option.none : Option Jvm.ClassFile.FieldType)) ∈ lw_all := lw_g (lw_at lw_m12 116 rfl) rfl
theorem q3060 : (Jvm.Cond.selects "ConstraintHouse$Logic" ({ cls := "ConstraintHouse$Part", name := "lose", desc := "([I)V" } : Jvm.MethodName) ({ cls := "ConstraintHouse$Part", name := "lose", desc := "([I)V" } : Jvm.MethodName)) ∈ lw_all := lw_g (lw_at lw_m12 160 rfl) rfl
theorem q3199 : (Jvm.Cond.selects "ConstraintHouse$Logic" ({ cls := "ConstraintHouse$Part", name := "backwards", desc := "(LConstraintHouse$Solver;)V" } : Jvm.MethodName) ({ cls := "ConstraintHouse$Part", name := "backwards", desc := "(LConstraintHouse$Solver;)V" } : Jvm.MethodName)) ∈ lw_all := lw_g (lw_at lw_m13 59 rfl) rfl
theorem q3267 : (Jvm.Cond.selects "ConstraintHouse$Logic" ({ cls := "ConstraintHouse$Part", name := "enter", desc := "(LConstraintHouse$Solver;)V" } : Jvm.MethodName) ({ cls := "ConstraintHouse$Relation", name := "enter", desc := "(LConstraintHouse$Solver;)V" } : Jvm.MethodName)) ∈ lw_all := lw_g (lw_at lw_m13 127 rfl) rfl
theorem q4839 : (Jvm.Cond.castable "ConstraintHouse$Logic" "java/lang/Object") ∈ lw_tbl := lw_at lw_m20 19 rfl
theorem q4874 : (Jvm.Cond.castable "ConstraintHouse$Logic" "ConstraintHouse$Part") ∈ lw_tbl := lw_at lw_m20 54 rfl
theorem in_X35 : ∀ w ∈ wsX350, w ∈ lw_all := lw_in wsX350 [1847, 1848, 1849, 1850, 1851, 1852, 1853, 1845] (by decide +kernel) (by decide +kernel)
/-! ConstraintHouse$Not -/
set_option maxRecDepth 100000
def RX36 : String := "ConstraintHouse$Not"
def TX36 : u_T := fun k => match k with
  | 0 => ("ConstraintHouse$Part", "low", "D", false)
  | 1 => ("ConstraintHouse$Part", "high", "D", false)
  | 2 => ("ConstraintHouse$Part", "no", "Z", false)
  | 3 => ("ConstraintHouse$Part", "yes", "Z", false)
  | 4 => ("ConstraintHouse$Part", "letters", "I", false)
  | _ => ("ConstraintHouse$Not", "x", "LConstraintHouse$Part;", true)
def tyX36 : Nat → FieldType := fun k => match k with
  | 0 => .double
  | 1 => .double
  | 2 => .boolean
  | 3 => .boolean
  | 4 => .int
  | _ => .object "ConstraintHouse$Part"
abbrev wsX360 : List Cond := u_ws RX36 TX36 6
theorem nmX36 : ∀ a, a < 6 → ∀ b, b < 6 → a ≠ b → (TX36 a).2.1 ≠ (TX36 b).2.1 := by decide +kernel
theorem tyX36_ok : ∀ k, k < 6 → parseFieldDescriptor (TX36 k).2.2.1 = some (tyX36 k) := by decide +kernel
abbrev cX36_init : ByteArray := prog_20_method_1_code
def yX36_init : MethodName := ⟨RX36, "<init>", "(LConstraintHouse$Part;)V"⟩
def dkwX36_init_0 : List UInt8 := [42, 183, 0, 1, 42, 43, 181, 0, 7, 177]
abbrev dktX36_init_0 : List UInt8 := dkwX36_init_0 ++ []
theorem dksX36_init_0 : cX36_init.data.toList.drop 0 = dktX36_init_0 := by decide +kernel
theorem dX36_init_0 : decode cX36_init 0 = .ok (.aload_n 0, 1) := dk_42 (dk_at dksX36_init_0 0 rfl rfl)
theorem dX36_init_1 : decode cX36_init 1 = .ok (.invokespecial 1, 3) := dk_183 0 1 (dk_at dksX36_init_0 1 rfl rfl)
theorem dX36_init_4 : decode cX36_init 4 = .ok (.aload_n 0, 1) := dk_42 (dk_at dksX36_init_0 4 rfl rfl)
theorem dX36_init_5 : decode cX36_init 5 = .ok (.aload_n 1, 1) := dk_43 (dk_at dksX36_init_0 5 rfl rfl)
theorem dX36_init_6 : decode cX36_init 6 = .ok (.putfield 7, 3) := dk_181 0 7 (dk_at dksX36_init_0 6 rfl rfl)
theorem dX36_init_9 : decode cX36_init 9 = .ok (.return_, 1) := dk_177 (dk_at dksX36_init_0 9 rfl rfl)
abbrev cX36_forwards : ByteArray := prog_20_method_2_code
def yX36_forwards : MethodName := ⟨RX36, "forwards", "(LConstraintHouse$Solver;)V"⟩
def dkwX36_forwards_1 : List UInt8 := [182, 0, 26, 177]
abbrev dktX36_forwards_1 : List UInt8 := dkwX36_forwards_1 ++ []
def dkwX36_forwards_0 : List UInt8 := [42, 180, 0, 7, 43, 182, 0, 13, 42, 42, 180, 0, 7, 180, 0, 19, 42, 180, 0, 7, 180, 0, 23]
abbrev dktX36_forwards_0 : List UInt8 := dkwX36_forwards_0 ++ dktX36_forwards_1
theorem dksX36_forwards_0 : cX36_forwards.data.toList.drop 0 = dktX36_forwards_0 := by decide +kernel
theorem dksX36_forwards_1 : cX36_forwards.data.toList.drop 23 = dktX36_forwards_1 := dk_seg dksX36_forwards_0 23 rfl rfl
theorem dX36_forwards_0 : decode cX36_forwards 0 = .ok (.aload_n 0, 1) := dk_42 (dk_at dksX36_forwards_0 0 rfl rfl)
theorem dX36_forwards_1 : decode cX36_forwards 1 = .ok (.getfield 7, 3) := dk_180 0 7 (dk_at dksX36_forwards_0 1 rfl rfl)
theorem dX36_forwards_4 : decode cX36_forwards 4 = .ok (.aload_n 1, 1) := dk_43 (dk_at dksX36_forwards_0 4 rfl rfl)
theorem dX36_forwards_5 : decode cX36_forwards 5 = .ok (.invokevirtual 13, 3) := dk_182 0 13 (dk_at dksX36_forwards_0 5 rfl rfl)
theorem dX36_forwards_8 : decode cX36_forwards 8 = .ok (.aload_n 0, 1) := dk_42 (dk_at dksX36_forwards_0 8 rfl rfl)
theorem dX36_forwards_9 : decode cX36_forwards 9 = .ok (.aload_n 0, 1) := dk_42 (dk_at dksX36_forwards_0 9 rfl rfl)
theorem dX36_forwards_10 : decode cX36_forwards 10 = .ok (.getfield 7, 3) := dk_180 0 7 (dk_at dksX36_forwards_0 10 rfl rfl)
theorem dX36_forwards_13 : decode cX36_forwards 13 = .ok (.getfield 19, 3) := dk_180 0 19 (dk_at dksX36_forwards_0 13 rfl rfl)
theorem dX36_forwards_16 : decode cX36_forwards 16 = .ok (.aload_n 0, 1) := dk_42 (dk_at dksX36_forwards_0 16 rfl rfl)
theorem dX36_forwards_17 : decode cX36_forwards 17 = .ok (.getfield 7, 3) := dk_180 0 7 (dk_at dksX36_forwards_0 17 rfl rfl)
theorem dX36_forwards_20 : decode cX36_forwards 20 = .ok (.getfield 23, 3) := dk_180 0 23 (dk_at dksX36_forwards_0 20 rfl rfl)
theorem dX36_forwards_23 : decode cX36_forwards 23 = .ok (.invokevirtual 26, 3) := dk_182 0 26 (dk_at dksX36_forwards_1 0 rfl rfl)
theorem dX36_forwards_26 : decode cX36_forwards 26 = .ok (.return_, 1) := dk_177 (dk_at dksX36_forwards_1 3 rfl rfl)
abbrev cX36_backwards : ByteArray := prog_20_method_3_code
def yX36_backwards : MethodName := ⟨RX36, "backwards", "(LConstraintHouse$Solver;)V"⟩
def dkwX36_backwards_0 : List UInt8 := [42, 180, 0, 7, 42, 180, 0, 30, 42, 180, 0, 31, 182, 0, 32, 42, 180, 0, 7, 43, 182, 0, 35, 177]
abbrev dktX36_backwards_0 : List UInt8 := dkwX36_backwards_0 ++ []
theorem dksX36_backwards_0 : cX36_backwards.data.toList.drop 0 = dktX36_backwards_0 := by decide +kernel
theorem dX36_backwards_0 : decode cX36_backwards 0 = .ok (.aload_n 0, 1) := dk_42 (dk_at dksX36_backwards_0 0 rfl rfl)
theorem dX36_backwards_1 : decode cX36_backwards 1 = .ok (.getfield 7, 3) := dk_180 0 7 (dk_at dksX36_backwards_0 1 rfl rfl)
theorem dX36_backwards_4 : decode cX36_backwards 4 = .ok (.aload_n 0, 1) := dk_42 (dk_at dksX36_backwards_0 4 rfl rfl)
theorem dX36_backwards_5 : decode cX36_backwards 5 = .ok (.getfield 30, 3) := dk_180 0 30 (dk_at dksX36_backwards_0 5 rfl rfl)
theorem dX36_backwards_8 : decode cX36_backwards 8 = .ok (.aload_n 0, 1) := dk_42 (dk_at dksX36_backwards_0 8 rfl rfl)
theorem dX36_backwards_9 : decode cX36_backwards 9 = .ok (.getfield 31, 3) := dk_180 0 31 (dk_at dksX36_backwards_0 9 rfl rfl)
theorem dX36_backwards_12 : decode cX36_backwards 12 = .ok (.invokevirtual 32, 3) := dk_182 0 32 (dk_at dksX36_backwards_0 12 rfl rfl)
theorem dX36_backwards_15 : decode cX36_backwards 15 = .ok (.aload_n 0, 1) := dk_42 (dk_at dksX36_backwards_0 15 rfl rfl)
theorem dX36_backwards_16 : decode cX36_backwards 16 = .ok (.getfield 7, 3) := dk_180 0 7 (dk_at dksX36_backwards_0 16 rfl rfl)
theorem dX36_backwards_19 : decode cX36_backwards 19 = .ok (.aload_n 1, 1) := dk_43 (dk_at dksX36_backwards_0 19 rfl rfl)
theorem dX36_backwards_20 : decode cX36_backwards 20 = .ok (.invokevirtual 35, 3) := dk_182 0 35 (dk_at dksX36_backwards_0 20 rfl rfl)
theorem dX36_backwards_23 : decode cX36_backwards 23 = .ok (.return_, 1) := dk_177 (dk_at dksX36_backwards_0 23 rfl rfl)
theorem q307 : (Jvm.Cond.initialized "ConstraintHouse$Not") ∈ lw_all := lw_g (lw_at lw_m1 47 rfl) rfl
theorem q1422 : (Jvm.Cond.fieldLink "ConstraintHouse$Not" (23 : Nat) "ConstraintHouse$Part" "no" "Z") ∈ lw_all := lw_g (lw_at lw_m5 202 rfl) rfl
theorem q1426 : (Jvm.Cond.fieldLink "ConstraintHouse$Not" (31 : Nat) "ConstraintHouse$Not" "no" "Z") ∈ lw_all := lw_g (lw_at lw_m5 206 rfl) rfl
theorem q1427 : (Jvm.Cond.sameField "ConstraintHouse$Not" "ConstraintHouse$Part" "no" "Z") ∈ lw_all := lw_g (lw_at lw_m5 207 rfl) rfl
theorem q1437 : (Jvm.Cond.fieldLink "ConstraintHouse$Not" (19 : Nat) "ConstraintHouse$Part" "yes" "Z") ∈ lw_all := lw_g (lw_at lw_m5 217 rfl) rfl
theorem q1442 : (Jvm.Cond.fieldLink "ConstraintHouse$Not" (30 : Nat) "ConstraintHouse$Not" "yes" "Z") ∈ lw_all := lw_g (lw_at lw_m5 222 rfl) rfl
theorem q1443 : (Jvm.Cond.sameField "ConstraintHouse$Not" "ConstraintHouse$Part" "yes" "Z") ∈ lw_all := lw_g (lw_at lw_m5 223 rfl) rfl
theorem q1574 : (Jvm.Cond.selects "ConstraintHouse$Not" ({ cls := "ConstraintHouse$Part", name := "sort", desc := "()I" } : Jvm.MethodName) ({ cls := "ConstraintHouse$Judged", name := "sort", desc := "()I" } : Jvm.MethodName)) ∈ lw_all := lw_g (lw_at lw_m6 114 rfl) rfl
theorem q1856 : (Jvm.Cond.instantiable "ConstraintHouse$Not" (6 : Nat)) ∈ lw_all := lw_g (lw_at lw_m7 156 rfl) rfl
theorem q1858 : (Jvm.Cond.instanceMethod ({ cls := "ConstraintHouse$Not", name := "<init>", desc := "(LConstraintHouse$Part;)V" } : Jvm.MethodName)) ∈ lw_all := lw_g (lw_at lw_m7 158 rfl) rfl
theorem q1859 : (Jvm.Cond.code ({ cls := "ConstraintHouse$Not", name := "<init>", desc := "(LConstraintHouse$Part;)V" } : Jvm.MethodName) prog_20_method_1_code (2 : Nat) (Option.none : Option Jvm.ClassFile.FieldType)) ∈ lw_all := lw_g (lw_at lw_m7 159 rfl) rfl
theorem q1860 : (Jvm.Cond.methodLinkNest "ConstraintHouse$Not" (1 : Nat) ({ cls := "ConstraintHouse$Judged", name := "<init>", desc := "()V" } : Jvm.MethodName) "ConstraintHouse") ∈ lw_tbl := lw_at lw_m7 160 rfl
theorem q1861 : (Jvm.Cond.fieldLink "ConstraintHouse$Not" (7 : Nat) "ConstraintHouse$Not" "x" "LConstraintHouse$Part;") ∈ lw_all := lw_g (lw_at lw_m7 161 rfl) rfl
theorem q1862 : (Jvm.Cond.laysFinal "ConstraintHouse$Not" "ConstraintHouse$Not" "x" "LConstraintHouse$Part;") ∈ lw_all := lw_g (lw_at lw_m7 162 rfl) rfl
theorem q1863 : (Jvm.Cond.soleField "ConstraintHouse$Not" "x") ∈ lw_all := lw_g (lw_at lw_m7 163 rfl) rfl
theorem q1864 : (Jvm.Cond.lays "ConstraintHouse$Not" "ConstraintHouse$Part" "low" "D") ∈ lw_all := lw_g (lw_at lw_m7 164 rfl) rfl
theorem q1865 : (Jvm.Cond.lays "ConstraintHouse$Not" "ConstraintHouse$Part" "high" "D") ∈ lw_all := lw_g (lw_at lw_m7 165 rfl) rfl
theorem q1866 : (Jvm.Cond.lays "ConstraintHouse$Not" "ConstraintHouse$Part" "no" "Z") ∈ lw_all := lw_g (lw_at lw_m7 166 rfl) rfl
theorem q1867 : (Jvm.Cond.lays "ConstraintHouse$Not" "ConstraintHouse$Part" "yes" "Z") ∈ lw_all := lw_g (lw_at lw_m7 167 rfl) rfl
theorem q1868 : (Jvm.Cond.lays "ConstraintHouse$Not" "ConstraintHouse$Part" "letters" "I") ∈ lw_all := lw_g (lw_at lw_m7 168 rfl) rfl
theorem q1869 : (Jvm.Cond.superclass "ConstraintHouse$Not" "ConstraintHouse$Judged") ∈ lw_all := lw_g (lw_at lw_m7 169 rfl) rfl
theorem q2534 : (Jvm.Cond.selects "ConstraintHouse$Not" ({ cls := "ConstraintHouse$Narrows", name := "forwards", desc := "(LConstraintHouse$Solver;)V" } : Jvm.MethodName) ({ cls := "ConstraintHouse$Not", name := "forwards", desc := "(LConstraintHouse$Solver;)V" } : Jvm.MethodName)) ∈ lw_all := lw_g (lw_at lw_m10 114 rfl) rfl
theorem q2535 : (Jvm.Cond.instanceMethod ({ cls := "ConstraintHouse$Not", name := "forwards", desc := "(LConstraintHouse$Solver;)V" } : Jvm.MethodName)) ∈ lw_all := lw_g (lw_at lw_m10 115 rfl) rfl
theorem q2536 : (Jvm.Cond.code ({ cls := "ConstraintHouse$Not", name := "forwards", desc := "(LConstraintHouse$Solver;)V" } : Jvm.MethodName) prog_20_method_2_code (2 : Nat) (Option.none : Option Jvm.ClassFile.FieldType)) ∈ lw_all := lw_g (lw_at lw_m10 116 rfl) rfl
theorem q2544 : (Jvm.Cond.methodLink "ConstraintHouse$Not" (26 : Nat) ({ cls := "ConstraintHouse$Not", name := "truth", desc := "(ZZ)V" } : Jvm.MethodName)) ∈ lw_all := lw_g (lw_at lw_m10 124 rfl) rfl
theorem q2545 : (Jvm.Cond.sameMethod "ConstraintHouse$Not" "ConstraintHouse$Part" "truth" "(ZZ)V") ∈ lw_all := lw_g (lw_at lw_m10 125 rfl) rfl
theorem q2546 : (Jvm.Cond.selects "ConstraintHouse$Not" ({ cls := "ConstraintHouse$Not", name := "truth", desc := "(ZZ)V" } : Jvm.MethodName) ({ cls := "ConstraintHouse$Part", name := "truth", desc := "(ZZ)V" } : Jvm.MethodName)) ∈ lw_all := lw_g (lw_at lw_m10 126 rfl) rfl
theorem q2824 : (Jvm.Cond.selects "ConstraintHouse$Not" ({ cls := "ConstraintHouse$Part", name := "hasMeet", desc := "(LConstraintHouse$Part;)Z" } : Jvm.MethodName) ({ cls := "ConstraintHouse$Part", name := "hasMeet", desc := "(LConstraintHouse$Part;)Z" } : Jvm.MethodName)) ∈ lw_all := lw_g (lw_at lw_m11 164 rfl) rfl
theorem q2875 : (Jvm.Cond.selects "ConstraintHouse$Not" ({ cls := "ConstraintHouse$Part", name := "meets", desc := "(ZZ)V" } : Jvm.MethodName) ({ cls := "ConstraintHouse$Part", name := "meets", desc := "(ZZ)V" } : Jvm.MethodName)) ∈ lw_all := lw_g (lw_at lw_m11 215 rfl) rfl
theorem q2911 : (Jvm.Cond.selects "ConstraintHouse$Not" ({ cls := "ConstraintHouse$Part", name := "meets", desc := "(LConstraintHouse$Part;)V" } : Jvm.MethodName) ({ cls := "ConstraintHouse$Part", name := "meets", desc := "(LConstraintHouse$Part;)V" } : Jvm.MethodName)) ∈ lw_all := lw_g (lw_at lw_m12 11 rfl) rfl
theorem q2933 : (Jvm.Cond.selects "ConstraintHouse$Not" ({ cls := "ConstraintHouse$Part", name := "meet", desc := "(DD)V" } : Jvm.MethodName) ({ cls := "ConstraintHouse$Part", name := "meet", desc := "(DD)V" } : Jvm.MethodName)) ∈ lw_all := lw_g (lw_at lw_m12 33 rfl) rfl
theorem q2956 : (Jvm.Cond.selects "ConstraintHouse$Not" ({ cls := "ConstraintHouse$Part", name := "meets", desc := "(I)V" } : Jvm.MethodName) ({ cls := "ConstraintHouse$Part", name := "meets", desc := "(I)V" } : Jvm.MethodName)) ∈ lw_all := lw_g (lw_at lw_m12 56 rfl) rfl
theorem q2990 : (Jvm.Cond.selects "ConstraintHouse$Not" ({ cls := "ConstraintHouse$Part", name := "lose", desc := "(D)V" } : Jvm.MethodName) ({ cls := "ConstraintHouse$Part", name := "lose", desc := "(D)V" } : Jvm.MethodName)) ∈ lw_all := lw_g (lw_at lw_m12 90 rfl) rfl
theorem q3063 : (Jvm.Cond.selects "ConstraintHouse$Not" ({ cls := "ConstraintHouse$Part", name := "lose", desc := "([I)V" } : Jvm.MethodName) ({ cls := "ConstraintHouse$Part", name := "lose", desc := "([I)V" } : Jvm.MethodName)) ∈ lw_all := lw_g (lw_at lw_m12 163 rfl) rfl
theorem q3248 : (Jvm.Cond.selects "ConstraintHouse$Not" ({ cls := "ConstraintHouse$Part", name := "backwards", desc := "(LConstraintHouse$Solver;)V" } : Jvm.MethodName) ({ cls := "ConstraintHouse$Not", name := "backwards", desc := "(LConstraintHouse$Solver;)V" } : Jvm.MethodName)) ∈ lw_all := lw_g (lw_at lw_m13 108 rfl) rfl
theorem q3249 : (Jvm.Cond.instanceMethod ({ cls := "ConstraintHouse$Not", name := "backwards", desc := "(LConstraintHouse$Solver;)V" } : Jvm.MethodName)) ∈ lw_all := lw_g (lw_at lw_m13 109 rfl) rfl
theorem q3250 : (Jvm.Cond.code ({ cls := "ConstraintHouse$Not", name := "backwards", desc := "(LConstraintHouse$Solver;)V" } : Jvm.MethodName) prog_20_method_3_code (2 : Nat) (Option.none : Option Jvm.ClassFile.FieldType)) ∈ lw_all := lw_g (lw_at lw_m13 110 rfl) rfl
theorem q3251 : (Jvm.Cond.methodLink "ConstraintHouse$Not" (32 : Nat) ({ cls := "ConstraintHouse$Part", name := "meets", desc := "(ZZ)V" } : Jvm.MethodName)) ∈ lw_all := lw_g (lw_at lw_m13 111 rfl) rfl
theorem q3252 : (Jvm.Cond.methodLink "ConstraintHouse$Not" (35 : Nat) ({ cls := "ConstraintHouse$Part", name := "enter", desc := "(LConstraintHouse$Solver;)V" } : Jvm.MethodName)) ∈ lw_all := lw_g (lw_at lw_m13 112 rfl) rfl
theorem q3270 : (Jvm.Cond.selects "ConstraintHouse$Not" ({ cls := "ConstraintHouse$Part", name := "enter", desc := "(LConstraintHouse$Solver;)V" } : Jvm.MethodName) ({ cls := "ConstraintHouse$Judged", name := "enter", desc := "(LConstraintHouse$Solver;)V" } : Jvm.MethodName)) ∈ lw_all := lw_g (lw_at lw_m13 130 rfl) rfl
theorem q4840 : (Jvm.Cond.castable "ConstraintHouse$Not" "java/lang/Object") ∈ lw_tbl := lw_at lw_m20 20 rfl
theorem q4875 : (Jvm.Cond.castable "ConstraintHouse$Not" "ConstraintHouse$Part") ∈ lw_tbl := lw_at lw_m20 55 rfl
theorem in_X36 : ∀ w ∈ wsX360, w ∈ lw_all := lw_in wsX360 [1864, 1865, 1866, 1867, 1868, 1862] (by decide +kernel) (by decide +kernel)
/-! ConstraintHouse$Choice -/
set_option maxRecDepth 100000
def RX37 : String := "ConstraintHouse$Choice"
def TX37 : u_T := fun k => match k with
  | 0 => ("ConstraintHouse$Part", "low", "D", false)
  | 1 => ("ConstraintHouse$Part", "high", "D", false)
  | 2 => ("ConstraintHouse$Part", "no", "Z", false)
  | 3 => ("ConstraintHouse$Part", "yes", "Z", false)
  | 4 => ("ConstraintHouse$Part", "letters", "I", false)
  | 5 => ("ConstraintHouse$Choice", "test", "LConstraintHouse$Part;", true)
  | 6 => ("ConstraintHouse$Choice", "x", "LConstraintHouse$Part;", true)
  | _ => ("ConstraintHouse$Choice", "y", "LConstraintHouse$Part;", true)
def tyX37 : Nat → FieldType := fun k => match k with
  | 0 => .double
  | 1 => .double
  | 2 => .boolean
  | 3 => .boolean
  | 4 => .int
  | 5 => .object "ConstraintHouse$Part"
  | 6 => .object "ConstraintHouse$Part"
  | _ => .object "ConstraintHouse$Part"
abbrev wsX370 : List Cond := u_ws RX37 TX37 8
theorem nmX37 : ∀ a, a < 8 → ∀ b, b < 8 → a ≠ b → (TX37 a).2.1 ≠ (TX37 b).2.1 := by decide +kernel
theorem tyX37_ok : ∀ k, k < 8 → parseFieldDescriptor (TX37 k).2.2.1 = some (tyX37 k) := by decide +kernel
abbrev cX37_sort : ByteArray := prog_7_method_2_code
def yX37_sort : MethodName := ⟨RX37, "sort", "()I"⟩
def dkwX37_sort_0 : List UInt8 := [42, 180, 0, 13, 182, 0, 19, 172]
abbrev dktX37_sort_0 : List UInt8 := dkwX37_sort_0 ++ []
theorem dksX37_sort_0 : cX37_sort.data.toList.drop 0 = dktX37_sort_0 := by decide +kernel
theorem dX37_sort_0 : decode cX37_sort 0 = .ok (.aload_n 0, 1) := dk_42 (dk_at dksX37_sort_0 0 rfl rfl)
theorem dX37_sort_1 : decode cX37_sort 1 = .ok (.getfield 13, 3) := dk_180 0 13 (dk_at dksX37_sort_0 1 rfl rfl)
theorem dX37_sort_4 : decode cX37_sort 4 = .ok (.invokevirtual 19, 3) := dk_182 0 19 (dk_at dksX37_sort_0 4 rfl rfl)
theorem dX37_sort_7 : decode cX37_sort 7 = .ok (.ireturn, 1) := dk_172 (dk_at dksX37_sort_0 7 rfl rfl)
abbrev cX37_init : ByteArray := prog_7_method_1_code
def yX37_init : MethodName := ⟨RX37, "<init>", "(LConstraintHouse$Part;LConstraintHouse$Part;LConstraintHouse$Part;)V"⟩
def dkwX37_init_0 : List UInt8 := [42, 183, 0, 1, 42, 43, 181, 0, 7, 42, 44, 181, 0, 13, 42, 45, 181, 0, 16, 177]
abbrev dktX37_init_0 : List UInt8 := dkwX37_init_0 ++ []
theorem dksX37_init_0 : cX37_init.data.toList.drop 0 = dktX37_init_0 := by decide +kernel
theorem dX37_init_0 : decode cX37_init 0 = .ok (.aload_n 0, 1) := dk_42 (dk_at dksX37_init_0 0 rfl rfl)
theorem dX37_init_1 : decode cX37_init 1 = .ok (.invokespecial 1, 3) := dk_183 0 1 (dk_at dksX37_init_0 1 rfl rfl)
theorem dX37_init_4 : decode cX37_init 4 = .ok (.aload_n 0, 1) := dk_42 (dk_at dksX37_init_0 4 rfl rfl)
theorem dX37_init_5 : decode cX37_init 5 = .ok (.aload_n 1, 1) := dk_43 (dk_at dksX37_init_0 5 rfl rfl)
theorem dX37_init_6 : decode cX37_init 6 = .ok (.putfield 7, 3) := dk_181 0 7 (dk_at dksX37_init_0 6 rfl rfl)
theorem dX37_init_9 : decode cX37_init 9 = .ok (.aload_n 0, 1) := dk_42 (dk_at dksX37_init_0 9 rfl rfl)
theorem dX37_init_10 : decode cX37_init 10 = .ok (.aload_n 2, 1) := dk_44 (dk_at dksX37_init_0 10 rfl rfl)
theorem dX37_init_11 : decode cX37_init 11 = .ok (.putfield 13, 3) := dk_181 0 13 (dk_at dksX37_init_0 11 rfl rfl)
theorem dX37_init_14 : decode cX37_init 14 = .ok (.aload_n 0, 1) := dk_42 (dk_at dksX37_init_0 14 rfl rfl)
theorem dX37_init_15 : decode cX37_init 15 = .ok (.aload_n 3, 1) := dk_45 (dk_at dksX37_init_0 15 rfl rfl)
theorem dX37_init_16 : decode cX37_init 16 = .ok (.putfield 16, 3) := dk_181 0 16 (dk_at dksX37_init_0 16 rfl rfl)
theorem dX37_init_19 : decode cX37_init 19 = .ok (.return_, 1) := dk_177 (dk_at dksX37_init_0 19 rfl rfl)
abbrev cX37_forwards : ByteArray := prog_7_method_3_code
def yX37_forwards : MethodName := ⟨RX37, "forwards", "(LConstraintHouse$Solver;)V"⟩
def dkwX37_forwards_7 : List UInt8 := [180, 0, 62, 42, 180, 0, 16, 180, 0, 62, 128, 181, 0, 66, 177]
abbrev dktX37_forwards_7 : List UInt8 := dkwX37_forwards_7 ++ []
def dkwX37_forwards_6 : List UInt8 := [42, 180, 0, 16, 180, 0, 35, 153, 0, 7, 4, 167, 0, 4, 3, 182, 0, 58, 42, 42, 180, 0, 13]
abbrev dktX37_forwards_6 : List UInt8 := dkwX37_forwards_6 ++ dktX37_forwards_7
def dkwX37_forwards_5 : List UInt8 := [180, 0, 16, 180, 0, 27, 153, 0, 7, 4, 167, 0, 4, 3, 42, 180, 0, 13, 180, 0, 35, 154, 0, 13]
abbrev dktX37_forwards_5 : List UInt8 := dkwX37_forwards_5 ++ dktX37_forwards_6
def dkwX37_forwards_4 : List UInt8 := [180, 0, 16, 180, 0, 48, 184, 0, 51, 182, 0, 54, 42, 42, 180, 0, 13, 180, 0, 27, 154, 0, 13, 42]
abbrev dktX37_forwards_4 : List UInt8 := dkwX37_forwards_4 ++ dktX37_forwards_5
def dkwX37_forwards_3 : List UInt8 := [180, 0, 13, 180, 0, 38, 42, 180, 0, 16, 180, 0, 38, 184, 0, 42, 42, 180, 0, 13, 180, 0, 48, 42]
abbrev dktX37_forwards_3 : List UInt8 := dkwX37_forwards_3 ++ dktX37_forwards_4
def dkwX37_forwards_2 : List UInt8 := [180, 0, 7, 180, 0, 35, 154, 0, 14, 42, 42, 180, 0, 16, 182, 0, 31, 167, 0, 114, 42, 42]
abbrev dktX37_forwards_2 : List UInt8 := dkwX37_forwards_2 ++ dktX37_forwards_3
def dkwX37_forwards_1 : List UInt8 := [42, 180, 0, 7, 180, 0, 27, 154, 0, 14, 42, 42, 180, 0, 13, 182, 0, 31, 167, 0, 135, 42]
abbrev dktX37_forwards_1 : List UInt8 := dkwX37_forwards_1 ++ dktX37_forwards_2
def dkwX37_forwards_0 : List UInt8 := [42, 180, 0, 7, 43, 182, 0, 23, 42, 180, 0, 13, 43, 182, 0, 23, 42, 180, 0, 16, 43, 182, 0, 23]
abbrev dktX37_forwards_0 : List UInt8 := dkwX37_forwards_0 ++ dktX37_forwards_1
theorem dksX37_forwards_0 : cX37_forwards.data.toList.drop 0 = dktX37_forwards_0 := by decide +kernel
theorem dksX37_forwards_1 : cX37_forwards.data.toList.drop 24 = dktX37_forwards_1 := dk_seg dksX37_forwards_0 24 rfl rfl
theorem dksX37_forwards_2 : cX37_forwards.data.toList.drop 46 = dktX37_forwards_2 := dk_seg dksX37_forwards_1 22 rfl rfl
theorem dksX37_forwards_3 : cX37_forwards.data.toList.drop 68 = dktX37_forwards_3 := dk_seg dksX37_forwards_2 22 rfl rfl
theorem dksX37_forwards_4 : cX37_forwards.data.toList.drop 92 = dktX37_forwards_4 := dk_seg dksX37_forwards_3 24 rfl rfl
theorem dksX37_forwards_5 : cX37_forwards.data.toList.drop 116 = dktX37_forwards_5 := dk_seg dksX37_forwards_4 24 rfl rfl
theorem dksX37_forwards_6 : cX37_forwards.data.toList.drop 140 = dktX37_forwards_6 := dk_seg dksX37_forwards_5 24 rfl rfl
theorem dksX37_forwards_7 : cX37_forwards.data.toList.drop 163 = dktX37_forwards_7 := dk_seg dksX37_forwards_6 23 rfl rfl
theorem dX37_forwards_0 : decode cX37_forwards 0 = .ok (.aload_n 0, 1) := dk_42 (dk_at dksX37_forwards_0 0 rfl rfl)
theorem dX37_forwards_1 : decode cX37_forwards 1 = .ok (.getfield 7, 3) := dk_180 0 7 (dk_at dksX37_forwards_0 1 rfl rfl)
theorem dX37_forwards_4 : decode cX37_forwards 4 = .ok (.aload_n 1, 1) := dk_43 (dk_at dksX37_forwards_0 4 rfl rfl)
theorem dX37_forwards_5 : decode cX37_forwards 5 = .ok (.invokevirtual 23, 3) := dk_182 0 23 (dk_at dksX37_forwards_0 5 rfl rfl)
theorem dX37_forwards_8 : decode cX37_forwards 8 = .ok (.aload_n 0, 1) := dk_42 (dk_at dksX37_forwards_0 8 rfl rfl)
theorem dX37_forwards_9 : decode cX37_forwards 9 = .ok (.getfield 13, 3) := dk_180 0 13 (dk_at dksX37_forwards_0 9 rfl rfl)
theorem dX37_forwards_12 : decode cX37_forwards 12 = .ok (.aload_n 1, 1) := dk_43 (dk_at dksX37_forwards_0 12 rfl rfl)
theorem dX37_forwards_13 : decode cX37_forwards 13 = .ok (.invokevirtual 23, 3) := dk_182 0 23 (dk_at dksX37_forwards_0 13 rfl rfl)
theorem dX37_forwards_16 : decode cX37_forwards 16 = .ok (.aload_n 0, 1) := dk_42 (dk_at dksX37_forwards_0 16 rfl rfl)
theorem dX37_forwards_17 : decode cX37_forwards 17 = .ok (.getfield 16, 3) := dk_180 0 16 (dk_at dksX37_forwards_0 17 rfl rfl)
theorem dX37_forwards_20 : decode cX37_forwards 20 = .ok (.aload_n 1, 1) := dk_43 (dk_at dksX37_forwards_0 20 rfl rfl)
theorem dX37_forwards_21 : decode cX37_forwards 21 = .ok (.invokevirtual 23, 3) := dk_182 0 23 (dk_at dksX37_forwards_0 21 rfl rfl)
theorem dX37_forwards_24 : decode cX37_forwards 24 = .ok (.aload_n 0, 1) := dk_42 (dk_at dksX37_forwards_1 0 rfl rfl)
theorem dX37_forwards_25 : decode cX37_forwards 25 = .ok (.getfield 7, 3) := dk_180 0 7 (dk_at dksX37_forwards_1 1 rfl rfl)
theorem dX37_forwards_28 : decode cX37_forwards 28 = .ok (.getfield 27, 3) := dk_180 0 27 (dk_at dksX37_forwards_1 4 rfl rfl)
theorem dX37_forwards_31 : decode cX37_forwards 31 = .ok (.ifCond .ne 14, 3) := dk_154 0 14 (dk_at dksX37_forwards_1 7 rfl rfl)
theorem dX37_forwards_34 : decode cX37_forwards 34 = .ok (.aload_n 0, 1) := dk_42 (dk_at dksX37_forwards_1 10 rfl rfl)
theorem dX37_forwards_35 : decode cX37_forwards 35 = .ok (.aload_n 0, 1) := dk_42 (dk_at dksX37_forwards_1 11 rfl rfl)
theorem dX37_forwards_36 : decode cX37_forwards 36 = .ok (.getfield 13, 3) := dk_180 0 13 (dk_at dksX37_forwards_1 12 rfl rfl)
theorem dX37_forwards_39 : decode cX37_forwards 39 = .ok (.invokevirtual 31, 3) := dk_182 0 31 (dk_at dksX37_forwards_1 15 rfl rfl)
theorem dX37_forwards_42 : decode cX37_forwards 42 = .ok (.goto 135, 3) := dk_167 0 135 (dk_at dksX37_forwards_1 18 rfl rfl)
theorem dX37_forwards_45 : decode cX37_forwards 45 = .ok (.aload_n 0, 1) := dk_42 (dk_at dksX37_forwards_1 21 rfl rfl)
theorem dX37_forwards_46 : decode cX37_forwards 46 = .ok (.getfield 7, 3) := dk_180 0 7 (dk_at dksX37_forwards_2 0 rfl rfl)
theorem dX37_forwards_49 : decode cX37_forwards 49 = .ok (.getfield 35, 3) := dk_180 0 35 (dk_at dksX37_forwards_2 3 rfl rfl)
theorem dX37_forwards_52 : decode cX37_forwards 52 = .ok (.ifCond .ne 14, 3) := dk_154 0 14 (dk_at dksX37_forwards_2 6 rfl rfl)
theorem dX37_forwards_55 : decode cX37_forwards 55 = .ok (.aload_n 0, 1) := dk_42 (dk_at dksX37_forwards_2 9 rfl rfl)
theorem dX37_forwards_56 : decode cX37_forwards 56 = .ok (.aload_n 0, 1) := dk_42 (dk_at dksX37_forwards_2 10 rfl rfl)
theorem dX37_forwards_57 : decode cX37_forwards 57 = .ok (.getfield 16, 3) := dk_180 0 16 (dk_at dksX37_forwards_2 11 rfl rfl)
theorem dX37_forwards_60 : decode cX37_forwards 60 = .ok (.invokevirtual 31, 3) := dk_182 0 31 (dk_at dksX37_forwards_2 14 rfl rfl)
theorem dX37_forwards_63 : decode cX37_forwards 63 = .ok (.goto 114, 3) := dk_167 0 114 (dk_at dksX37_forwards_2 17 rfl rfl)
theorem dX37_forwards_66 : decode cX37_forwards 66 = .ok (.aload_n 0, 1) := dk_42 (dk_at dksX37_forwards_2 20 rfl rfl)
theorem dX37_forwards_67 : decode cX37_forwards 67 = .ok (.aload_n 0, 1) := dk_42 (dk_at dksX37_forwards_2 21 rfl rfl)
theorem dX37_forwards_68 : decode cX37_forwards 68 = .ok (.getfield 13, 3) := dk_180 0 13 (dk_at dksX37_forwards_3 0 rfl rfl)
theorem dX37_forwards_71 : decode cX37_forwards 71 = .ok (.getfield 38, 3) := dk_180 0 38 (dk_at dksX37_forwards_3 3 rfl rfl)
theorem dX37_forwards_74 : decode cX37_forwards 74 = .ok (.aload_n 0, 1) := dk_42 (dk_at dksX37_forwards_3 6 rfl rfl)
theorem dX37_forwards_75 : decode cX37_forwards 75 = .ok (.getfield 16, 3) := dk_180 0 16 (dk_at dksX37_forwards_3 7 rfl rfl)
theorem dX37_forwards_78 : decode cX37_forwards 78 = .ok (.getfield 38, 3) := dk_180 0 38 (dk_at dksX37_forwards_3 10 rfl rfl)
theorem dX37_forwards_81 : decode cX37_forwards 81 = .ok (.invokestatic 42, 3) := dk_184 0 42 (dk_at dksX37_forwards_3 13 rfl rfl)
theorem dX37_forwards_84 : decode cX37_forwards 84 = .ok (.aload_n 0, 1) := dk_42 (dk_at dksX37_forwards_3 16 rfl rfl)
theorem dX37_forwards_85 : decode cX37_forwards 85 = .ok (.getfield 13, 3) := dk_180 0 13 (dk_at dksX37_forwards_3 17 rfl rfl)
theorem dX37_forwards_88 : decode cX37_forwards 88 = .ok (.getfield 48, 3) := dk_180 0 48 (dk_at dksX37_forwards_3 20 rfl rfl)
theorem dX37_forwards_91 : decode cX37_forwards 91 = .ok (.aload_n 0, 1) := dk_42 (dk_at dksX37_forwards_3 23 rfl rfl)
theorem dX37_forwards_92 : decode cX37_forwards 92 = .ok (.getfield 16, 3) := dk_180 0 16 (dk_at dksX37_forwards_4 0 rfl rfl)
theorem dX37_forwards_95 : decode cX37_forwards 95 = .ok (.getfield 48, 3) := dk_180 0 48 (dk_at dksX37_forwards_4 3 rfl rfl)
theorem dX37_forwards_98 : decode cX37_forwards 98 = .ok (.invokestatic 51, 3) := dk_184 0 51 (dk_at dksX37_forwards_4 6 rfl rfl)
theorem dX37_forwards_101 : decode cX37_forwards 101 = .ok (.invokevirtual 54, 3) := dk_182 0 54 (dk_at dksX37_forwards_4 9 rfl rfl)
theorem dX37_forwards_104 : decode cX37_forwards 104 = .ok (.aload_n 0, 1) := dk_42 (dk_at dksX37_forwards_4 12 rfl rfl)
theorem dX37_forwards_105 : decode cX37_forwards 105 = .ok (.aload_n 0, 1) := dk_42 (dk_at dksX37_forwards_4 13 rfl rfl)
theorem dX37_forwards_106 : decode cX37_forwards 106 = .ok (.getfield 13, 3) := dk_180 0 13 (dk_at dksX37_forwards_4 14 rfl rfl)
theorem dX37_forwards_109 : decode cX37_forwards 109 = .ok (.getfield 27, 3) := dk_180 0 27 (dk_at dksX37_forwards_4 17 rfl rfl)
theorem dX37_forwards_112 : decode cX37_forwards 112 = .ok (.ifCond .ne 13, 3) := dk_154 0 13 (dk_at dksX37_forwards_4 20 rfl rfl)
theorem dX37_forwards_115 : decode cX37_forwards 115 = .ok (.aload_n 0, 1) := dk_42 (dk_at dksX37_forwards_4 23 rfl rfl)
theorem dX37_forwards_116 : decode cX37_forwards 116 = .ok (.getfield 16, 3) := dk_180 0 16 (dk_at dksX37_forwards_5 0 rfl rfl)
theorem dX37_forwards_119 : decode cX37_forwards 119 = .ok (.getfield 27, 3) := dk_180 0 27 (dk_at dksX37_forwards_5 3 rfl rfl)
theorem dX37_forwards_122 : decode cX37_forwards 122 = .ok (.ifCond .eq 7, 3) := dk_153 0 7 (dk_at dksX37_forwards_5 6 rfl rfl)
theorem dX37_forwards_125 : decode cX37_forwards 125 = .ok (.iconst 1, 1) := dk_4 (dk_at dksX37_forwards_5 9 rfl rfl)
theorem dX37_forwards_126 : decode cX37_forwards 126 = .ok (.goto 4, 3) := dk_167 0 4 (dk_at dksX37_forwards_5 10 rfl rfl)
theorem dX37_forwards_129 : decode cX37_forwards 129 = .ok (.iconst 0, 1) := dk_3 (dk_at dksX37_forwards_5 13 rfl rfl)
theorem dX37_forwards_130 : decode cX37_forwards 130 = .ok (.aload_n 0, 1) := dk_42 (dk_at dksX37_forwards_5 14 rfl rfl)
theorem dX37_forwards_131 : decode cX37_forwards 131 = .ok (.getfield 13, 3) := dk_180 0 13 (dk_at dksX37_forwards_5 15 rfl rfl)
theorem dX37_forwards_134 : decode cX37_forwards 134 = .ok (.getfield 35, 3) := dk_180 0 35 (dk_at dksX37_forwards_5 18 rfl rfl)
theorem dX37_forwards_137 : decode cX37_forwards 137 = .ok (.ifCond .ne 13, 3) := dk_154 0 13 (dk_at dksX37_forwards_5 21 rfl rfl)
theorem dX37_forwards_140 : decode cX37_forwards 140 = .ok (.aload_n 0, 1) := dk_42 (dk_at dksX37_forwards_6 0 rfl rfl)
theorem dX37_forwards_141 : decode cX37_forwards 141 = .ok (.getfield 16, 3) := dk_180 0 16 (dk_at dksX37_forwards_6 1 rfl rfl)
theorem dX37_forwards_144 : decode cX37_forwards 144 = .ok (.getfield 35, 3) := dk_180 0 35 (dk_at dksX37_forwards_6 4 rfl rfl)
theorem dX37_forwards_147 : decode cX37_forwards 147 = .ok (.ifCond .eq 7, 3) := dk_153 0 7 (dk_at dksX37_forwards_6 7 rfl rfl)
theorem dX37_forwards_150 : decode cX37_forwards 150 = .ok (.iconst 1, 1) := dk_4 (dk_at dksX37_forwards_6 10 rfl rfl)
theorem dX37_forwards_151 : decode cX37_forwards 151 = .ok (.goto 4, 3) := dk_167 0 4 (dk_at dksX37_forwards_6 11 rfl rfl)
theorem dX37_forwards_154 : decode cX37_forwards 154 = .ok (.iconst 0, 1) := dk_3 (dk_at dksX37_forwards_6 14 rfl rfl)
theorem dX37_forwards_155 : decode cX37_forwards 155 = .ok (.invokevirtual 58, 3) := dk_182 0 58 (dk_at dksX37_forwards_6 15 rfl rfl)
theorem dX37_forwards_158 : decode cX37_forwards 158 = .ok (.aload_n 0, 1) := dk_42 (dk_at dksX37_forwards_6 18 rfl rfl)
theorem dX37_forwards_159 : decode cX37_forwards 159 = .ok (.aload_n 0, 1) := dk_42 (dk_at dksX37_forwards_6 19 rfl rfl)
theorem dX37_forwards_160 : decode cX37_forwards 160 = .ok (.getfield 13, 3) := dk_180 0 13 (dk_at dksX37_forwards_6 20 rfl rfl)
theorem dX37_forwards_163 : decode cX37_forwards 163 = .ok (.getfield 62, 3) := dk_180 0 62 (dk_at dksX37_forwards_7 0 rfl rfl)
theorem dX37_forwards_166 : decode cX37_forwards 166 = .ok (.aload_n 0, 1) := dk_42 (dk_at dksX37_forwards_7 3 rfl rfl)
theorem dX37_forwards_167 : decode cX37_forwards 167 = .ok (.getfield 16, 3) := dk_180 0 16 (dk_at dksX37_forwards_7 4 rfl rfl)
theorem dX37_forwards_170 : decode cX37_forwards 170 = .ok (.getfield 62, 3) := dk_180 0 62 (dk_at dksX37_forwards_7 7 rfl rfl)
theorem dX37_forwards_173 : decode cX37_forwards 173 = .ok (.ior, 1) := dk_128 (dk_at dksX37_forwards_7 10 rfl rfl)
theorem dX37_forwards_174 : decode cX37_forwards 174 = .ok (.putfield 66, 3) := dk_181 0 66 (dk_at dksX37_forwards_7 11 rfl rfl)
theorem dX37_forwards_177 : decode cX37_forwards 177 = .ok (.return_, 1) := dk_177 (dk_at dksX37_forwards_7 14 rfl rfl)
abbrev cX37_enter : ByteArray := prog_7_method_4_code
def yX37_enter : MethodName := ⟨RX37, "enter", "(LConstraintHouse$Solver;)V"⟩
def dkwX37_enter_1 : List UInt8 := [43, 183, 0, 70, 177]
abbrev dktX37_enter_1 : List UInt8 := dkwX37_enter_1 ++ []
def dkwX37_enter_0 : List UInt8 := [42, 182, 0, 67, 4, 160, 0, 18, 42, 180, 0, 68, 153, 0, 11, 42, 180, 0, 69, 153, 0, 4, 177, 42]
abbrev dktX37_enter_0 : List UInt8 := dkwX37_enter_0 ++ dktX37_enter_1
theorem dksX37_enter_0 : cX37_enter.data.toList.drop 0 = dktX37_enter_0 := by decide +kernel
theorem dksX37_enter_1 : cX37_enter.data.toList.drop 24 = dktX37_enter_1 := dk_seg dksX37_enter_0 24 rfl rfl
theorem dX37_enter_0 : decode cX37_enter 0 = .ok (.aload_n 0, 1) := dk_42 (dk_at dksX37_enter_0 0 rfl rfl)
theorem dX37_enter_1 : decode cX37_enter 1 = .ok (.invokevirtual 67, 3) := dk_182 0 67 (dk_at dksX37_enter_0 1 rfl rfl)
theorem dX37_enter_4 : decode cX37_enter 4 = .ok (.iconst 1, 1) := dk_4 (dk_at dksX37_enter_0 4 rfl rfl)
theorem dX37_enter_5 : decode cX37_enter 5 = .ok (.if_icmp .ne 18, 3) := dk_160 0 18 (dk_at dksX37_enter_0 5 rfl rfl)
theorem dX37_enter_8 : decode cX37_enter 8 = .ok (.aload_n 0, 1) := dk_42 (dk_at dksX37_enter_0 8 rfl rfl)
theorem dX37_enter_9 : decode cX37_enter 9 = .ok (.getfield 68, 3) := dk_180 0 68 (dk_at dksX37_enter_0 9 rfl rfl)
theorem dX37_enter_12 : decode cX37_enter 12 = .ok (.ifCond .eq 11, 3) := dk_153 0 11 (dk_at dksX37_enter_0 12 rfl rfl)
theorem dX37_enter_15 : decode cX37_enter 15 = .ok (.aload_n 0, 1) := dk_42 (dk_at dksX37_enter_0 15 rfl rfl)
theorem dX37_enter_16 : decode cX37_enter 16 = .ok (.getfield 69, 3) := dk_180 0 69 (dk_at dksX37_enter_0 16 rfl rfl)
theorem dX37_enter_19 : decode cX37_enter 19 = .ok (.ifCond .eq 4, 3) := dk_153 0 4 (dk_at dksX37_enter_0 19 rfl rfl)
theorem dX37_enter_22 : decode cX37_enter 22 = .ok (.return_, 1) := dk_177 (dk_at dksX37_enter_0 22 rfl rfl)
theorem dX37_enter_23 : decode cX37_enter 23 = .ok (.aload_n 0, 1) := dk_42 (dk_at dksX37_enter_0 23 rfl rfl)
theorem dX37_enter_24 : decode cX37_enter 24 = .ok (.aload_n 1, 1) := dk_43 (dk_at dksX37_enter_1 0 rfl rfl)
theorem dX37_enter_25 : decode cX37_enter 25 = .ok (.invokespecial 70, 3) := dk_183 0 70 (dk_at dksX37_enter_1 1 rfl rfl)
theorem dX37_enter_28 : decode cX37_enter 28 = .ok (.return_, 1) := dk_177 (dk_at dksX37_enter_1 4 rfl rfl)
abbrev cX37_backwards : ByteArray := prog_7_method_5_code
def yX37_backwards : MethodName := ⟨RX37, "backwards", "(LConstraintHouse$Solver;)V"⟩
def dkwX37_backwards_5 : List UInt8 := [180, 0, 16, 43, 182, 0, 70, 177]
abbrev dktX37_backwards_5 : List UInt8 := dkwX37_backwards_5 ++ []
def dkwX37_backwards_4 : List UInt8 := [180, 0, 13, 42, 182, 0, 73, 42, 180, 0, 7, 43, 182, 0, 70, 42, 180, 0, 13, 43, 182, 0, 70, 42]
abbrev dktX37_backwards_4 : List UInt8 := dkwX37_backwards_4 ++ dktX37_backwards_5
def dkwX37_backwards_3 : List UInt8 := [167, 0, 31, 42, 180, 0, 16, 42, 182, 0, 76, 154, 0, 20, 42, 180, 0, 7, 3, 4, 182, 0, 80, 42]
abbrev dktX37_backwards_3 : List UInt8 := dkwX37_backwards_3 ++ dktX37_backwards_4
def dkwX37_backwards_2 : List UInt8 := [42, 182, 0, 76, 154, 0, 23, 42, 180, 0, 7, 4, 3, 182, 0, 80, 42, 180, 0, 16, 42, 182, 0, 73]
abbrev dktX37_backwards_2 : List UInt8 := dkwX37_backwards_2 ++ dktX37_backwards_3
def dkwX37_backwards_1 : List UInt8 := [180, 0, 7, 180, 0, 35, 154, 0, 14, 42, 180, 0, 16, 42, 182, 0, 73, 167, 0, 62, 42, 180, 0, 13]
abbrev dktX37_backwards_1 : List UInt8 := dkwX37_backwards_1 ++ dktX37_backwards_2
def dkwX37_backwards_0 : List UInt8 := [42, 180, 0, 7, 180, 0, 27, 154, 0, 14, 42, 180, 0, 13, 42, 182, 0, 73, 167, 0, 83, 42]
abbrev dktX37_backwards_0 : List UInt8 := dkwX37_backwards_0 ++ dktX37_backwards_1
theorem dksX37_backwards_0 : cX37_backwards.data.toList.drop 0 = dktX37_backwards_0 := by decide +kernel
theorem dksX37_backwards_1 : cX37_backwards.data.toList.drop 22 = dktX37_backwards_1 := dk_seg dksX37_backwards_0 22 rfl rfl
theorem dksX37_backwards_2 : cX37_backwards.data.toList.drop 46 = dktX37_backwards_2 := dk_seg dksX37_backwards_1 24 rfl rfl
theorem dksX37_backwards_3 : cX37_backwards.data.toList.drop 70 = dktX37_backwards_3 := dk_seg dksX37_backwards_2 24 rfl rfl
theorem dksX37_backwards_4 : cX37_backwards.data.toList.drop 94 = dktX37_backwards_4 := dk_seg dksX37_backwards_3 24 rfl rfl
theorem dksX37_backwards_5 : cX37_backwards.data.toList.drop 118 = dktX37_backwards_5 := dk_seg dksX37_backwards_4 24 rfl rfl
theorem dX37_backwards_0 : decode cX37_backwards 0 = .ok (.aload_n 0, 1) := dk_42 (dk_at dksX37_backwards_0 0 rfl rfl)
theorem dX37_backwards_1 : decode cX37_backwards 1 = .ok (.getfield 7, 3) := dk_180 0 7 (dk_at dksX37_backwards_0 1 rfl rfl)
theorem dX37_backwards_4 : decode cX37_backwards 4 = .ok (.getfield 27, 3) := dk_180 0 27 (dk_at dksX37_backwards_0 4 rfl rfl)
theorem dX37_backwards_7 : decode cX37_backwards 7 = .ok (.ifCond .ne 14, 3) := dk_154 0 14 (dk_at dksX37_backwards_0 7 rfl rfl)
theorem dX37_backwards_10 : decode cX37_backwards 10 = .ok (.aload_n 0, 1) := dk_42 (dk_at dksX37_backwards_0 10 rfl rfl)
theorem dX37_backwards_11 : decode cX37_backwards 11 = .ok (.getfield 13, 3) := dk_180 0 13 (dk_at dksX37_backwards_0 11 rfl rfl)
theorem dX37_backwards_14 : decode cX37_backwards 14 = .ok (.aload_n 0, 1) := dk_42 (dk_at dksX37_backwards_0 14 rfl rfl)
theorem dX37_backwards_15 : decode cX37_backwards 15 = .ok (.invokevirtual 73, 3) := dk_182 0 73 (dk_at dksX37_backwards_0 15 rfl rfl)
theorem dX37_backwards_18 : decode cX37_backwards 18 = .ok (.goto 83, 3) := dk_167 0 83 (dk_at dksX37_backwards_0 18 rfl rfl)
theorem dX37_backwards_21 : decode cX37_backwards 21 = .ok (.aload_n 0, 1) := dk_42 (dk_at dksX37_backwards_0 21 rfl rfl)
theorem dX37_backwards_22 : decode cX37_backwards 22 = .ok (.getfield 7, 3) := dk_180 0 7 (dk_at dksX37_backwards_1 0 rfl rfl)
theorem dX37_backwards_25 : decode cX37_backwards 25 = .ok (.getfield 35, 3) := dk_180 0 35 (dk_at dksX37_backwards_1 3 rfl rfl)
theorem dX37_backwards_28 : decode cX37_backwards 28 = .ok (.ifCond .ne 14, 3) := dk_154 0 14 (dk_at dksX37_backwards_1 6 rfl rfl)
theorem dX37_backwards_31 : decode cX37_backwards 31 = .ok (.aload_n 0, 1) := dk_42 (dk_at dksX37_backwards_1 9 rfl rfl)
theorem dX37_backwards_32 : decode cX37_backwards 32 = .ok (.getfield 16, 3) := dk_180 0 16 (dk_at dksX37_backwards_1 10 rfl rfl)
theorem dX37_backwards_35 : decode cX37_backwards 35 = .ok (.aload_n 0, 1) := dk_42 (dk_at dksX37_backwards_1 13 rfl rfl)
theorem dX37_backwards_36 : decode cX37_backwards 36 = .ok (.invokevirtual 73, 3) := dk_182 0 73 (dk_at dksX37_backwards_1 14 rfl rfl)
theorem dX37_backwards_39 : decode cX37_backwards 39 = .ok (.goto 62, 3) := dk_167 0 62 (dk_at dksX37_backwards_1 17 rfl rfl)
theorem dX37_backwards_42 : decode cX37_backwards 42 = .ok (.aload_n 0, 1) := dk_42 (dk_at dksX37_backwards_1 20 rfl rfl)
theorem dX37_backwards_43 : decode cX37_backwards 43 = .ok (.getfield 13, 3) := dk_180 0 13 (dk_at dksX37_backwards_1 21 rfl rfl)
theorem dX37_backwards_46 : decode cX37_backwards 46 = .ok (.aload_n 0, 1) := dk_42 (dk_at dksX37_backwards_2 0 rfl rfl)
theorem dX37_backwards_47 : decode cX37_backwards 47 = .ok (.invokevirtual 76, 3) := dk_182 0 76 (dk_at dksX37_backwards_2 1 rfl rfl)
theorem dX37_backwards_50 : decode cX37_backwards 50 = .ok (.ifCond .ne 23, 3) := dk_154 0 23 (dk_at dksX37_backwards_2 4 rfl rfl)
theorem dX37_backwards_53 : decode cX37_backwards 53 = .ok (.aload_n 0, 1) := dk_42 (dk_at dksX37_backwards_2 7 rfl rfl)
theorem dX37_backwards_54 : decode cX37_backwards 54 = .ok (.getfield 7, 3) := dk_180 0 7 (dk_at dksX37_backwards_2 8 rfl rfl)
theorem dX37_backwards_57 : decode cX37_backwards 57 = .ok (.iconst 1, 1) := dk_4 (dk_at dksX37_backwards_2 11 rfl rfl)
theorem dX37_backwards_58 : decode cX37_backwards 58 = .ok (.iconst 0, 1) := dk_3 (dk_at dksX37_backwards_2 12 rfl rfl)
theorem dX37_backwards_59 : decode cX37_backwards 59 = .ok (.invokevirtual 80, 3) := dk_182 0 80 (dk_at dksX37_backwards_2 13 rfl rfl)
theorem dX37_backwards_62 : decode cX37_backwards 62 = .ok (.aload_n 0, 1) := dk_42 (dk_at dksX37_backwards_2 16 rfl rfl)
theorem dX37_backwards_63 : decode cX37_backwards 63 = .ok (.getfield 16, 3) := dk_180 0 16 (dk_at dksX37_backwards_2 17 rfl rfl)
theorem dX37_backwards_66 : decode cX37_backwards 66 = .ok (.aload_n 0, 1) := dk_42 (dk_at dksX37_backwards_2 20 rfl rfl)
theorem dX37_backwards_67 : decode cX37_backwards 67 = .ok (.invokevirtual 73, 3) := dk_182 0 73 (dk_at dksX37_backwards_2 21 rfl rfl)
theorem dX37_backwards_70 : decode cX37_backwards 70 = .ok (.goto 31, 3) := dk_167 0 31 (dk_at dksX37_backwards_3 0 rfl rfl)
theorem dX37_backwards_73 : decode cX37_backwards 73 = .ok (.aload_n 0, 1) := dk_42 (dk_at dksX37_backwards_3 3 rfl rfl)
theorem dX37_backwards_74 : decode cX37_backwards 74 = .ok (.getfield 16, 3) := dk_180 0 16 (dk_at dksX37_backwards_3 4 rfl rfl)
theorem dX37_backwards_77 : decode cX37_backwards 77 = .ok (.aload_n 0, 1) := dk_42 (dk_at dksX37_backwards_3 7 rfl rfl)
theorem dX37_backwards_78 : decode cX37_backwards 78 = .ok (.invokevirtual 76, 3) := dk_182 0 76 (dk_at dksX37_backwards_3 8 rfl rfl)
theorem dX37_backwards_81 : decode cX37_backwards 81 = .ok (.ifCond .ne 20, 3) := dk_154 0 20 (dk_at dksX37_backwards_3 11 rfl rfl)
theorem dX37_backwards_84 : decode cX37_backwards 84 = .ok (.aload_n 0, 1) := dk_42 (dk_at dksX37_backwards_3 14 rfl rfl)
theorem dX37_backwards_85 : decode cX37_backwards 85 = .ok (.getfield 7, 3) := dk_180 0 7 (dk_at dksX37_backwards_3 15 rfl rfl)
theorem dX37_backwards_88 : decode cX37_backwards 88 = .ok (.iconst 0, 1) := dk_3 (dk_at dksX37_backwards_3 18 rfl rfl)
theorem dX37_backwards_89 : decode cX37_backwards 89 = .ok (.iconst 1, 1) := dk_4 (dk_at dksX37_backwards_3 19 rfl rfl)
theorem dX37_backwards_90 : decode cX37_backwards 90 = .ok (.invokevirtual 80, 3) := dk_182 0 80 (dk_at dksX37_backwards_3 20 rfl rfl)
theorem dX37_backwards_93 : decode cX37_backwards 93 = .ok (.aload_n 0, 1) := dk_42 (dk_at dksX37_backwards_3 23 rfl rfl)
theorem dX37_backwards_94 : decode cX37_backwards 94 = .ok (.getfield 13, 3) := dk_180 0 13 (dk_at dksX37_backwards_4 0 rfl rfl)
theorem dX37_backwards_97 : decode cX37_backwards 97 = .ok (.aload_n 0, 1) := dk_42 (dk_at dksX37_backwards_4 3 rfl rfl)
theorem dX37_backwards_98 : decode cX37_backwards 98 = .ok (.invokevirtual 73, 3) := dk_182 0 73 (dk_at dksX37_backwards_4 4 rfl rfl)
theorem dX37_backwards_101 : decode cX37_backwards 101 = .ok (.aload_n 0, 1) := dk_42 (dk_at dksX37_backwards_4 7 rfl rfl)
theorem dX37_backwards_102 : decode cX37_backwards 102 = .ok (.getfield 7, 3) := dk_180 0 7 (dk_at dksX37_backwards_4 8 rfl rfl)
theorem dX37_backwards_105 : decode cX37_backwards 105 = .ok (.aload_n 1, 1) := dk_43 (dk_at dksX37_backwards_4 11 rfl rfl)
theorem dX37_backwards_106 : decode cX37_backwards 106 = .ok (.invokevirtual 70, 3) := dk_182 0 70 (dk_at dksX37_backwards_4 12 rfl rfl)
theorem dX37_backwards_109 : decode cX37_backwards 109 = .ok (.aload_n 0, 1) := dk_42 (dk_at dksX37_backwards_4 15 rfl rfl)
theorem dX37_backwards_110 : decode cX37_backwards 110 = .ok (.getfield 13, 3) := dk_180 0 13 (dk_at dksX37_backwards_4 16 rfl rfl)
theorem dX37_backwards_113 : decode cX37_backwards 113 = .ok (.aload_n 1, 1) := dk_43 (dk_at dksX37_backwards_4 19 rfl rfl)
theorem dX37_backwards_114 : decode cX37_backwards 114 = .ok (.invokevirtual 70, 3) := dk_182 0 70 (dk_at dksX37_backwards_4 20 rfl rfl)
theorem dX37_backwards_117 : decode cX37_backwards 117 = .ok (.aload_n 0, 1) := dk_42 (dk_at dksX37_backwards_4 23 rfl rfl)
theorem dX37_backwards_118 : decode cX37_backwards 118 = .ok (.getfield 16, 3) := dk_180 0 16 (dk_at dksX37_backwards_5 0 rfl rfl)
theorem dX37_backwards_121 : decode cX37_backwards 121 = .ok (.aload_n 1, 1) := dk_43 (dk_at dksX37_backwards_5 3 rfl rfl)
theorem dX37_backwards_122 : decode cX37_backwards 122 = .ok (.invokevirtual 70, 3) := dk_182 0 70 (dk_at dksX37_backwards_5 4 rfl rfl)
theorem dX37_backwards_125 : decode cX37_backwards 125 = .ok (.return_, 1) := dk_177 (dk_at dksX37_backwards_5 7 rfl rfl)
theorem q308 : (Jvm.Cond.initialized "ConstraintHouse$Choice") ∈ lw_all := lw_g (lw_at lw_m1 48 rfl) rfl
theorem q1374 : (Jvm.Cond.fieldLink "ConstraintHouse$Choice" (38 : Nat) "ConstraintHouse$Part" "low" "D") ∈ lw_all := lw_g (lw_at lw_m5 154 rfl) rfl
theorem q1412 : (Jvm.Cond.fieldLink "ConstraintHouse$Choice" (48 : Nat) "ConstraintHouse$Part" "high" "D") ∈ lw_all := lw_g (lw_at lw_m5 192 rfl) rfl
theorem q1428 : (Jvm.Cond.fieldLink "ConstraintHouse$Choice" (27 : Nat) "ConstraintHouse$Part" "no" "Z") ∈ lw_all := lw_g (lw_at lw_m5 208 rfl) rfl
theorem q1430 : (Jvm.Cond.fieldLink "ConstraintHouse$Choice" (68 : Nat) "ConstraintHouse$Choice" "no" "Z") ∈ lw_all := lw_g (lw_at lw_m5 210 rfl) rfl
theorem q1431 : (Jvm.Cond.sameField "ConstraintHouse$Choice" "ConstraintHouse$Part" "no" "Z") ∈ lw_all := lw_g (lw_at lw_m5 211 rfl) rfl
theorem q1446 : (Jvm.Cond.fieldLink "ConstraintHouse$Choice" (35 : Nat) "ConstraintHouse$Part" "yes" "Z") ∈ lw_all := lw_g (lw_at lw_m5 226 rfl) rfl
theorem q1452 : (Jvm.Cond.fieldLink "ConstraintHouse$Choice" (69 : Nat) "ConstraintHouse$Choice" "yes" "Z") ∈ lw_all := lw_g (lw_at lw_m5 232 rfl) rfl
theorem q1453 : (Jvm.Cond.sameField "ConstraintHouse$Choice" "ConstraintHouse$Part" "yes" "Z") ∈ lw_all := lw_g (lw_at lw_m5 233 rfl) rfl
theorem q1466 : (Jvm.Cond.fieldLink "ConstraintHouse$Choice" (62 : Nat) "ConstraintHouse$Part" "letters" "I") ∈ lw_all := lw_g (lw_at lw_m6 6 rfl) rfl
theorem q1467 : (Jvm.Cond.fieldLink "ConstraintHouse$Choice" (66 : Nat) "ConstraintHouse$Choice" "letters" "I") ∈ lw_all := lw_g (lw_at lw_m6 7 rfl) rfl
theorem q1468 : (Jvm.Cond.sameField "ConstraintHouse$Choice" "ConstraintHouse$Part" "letters" "I") ∈ lw_all := lw_g (lw_at lw_m6 8 rfl) rfl
theorem q1537 : (Jvm.Cond.selects "ConstraintHouse$Choice" ({ cls := "ConstraintHouse$Part", name := "sort", desc := "()I" } : Jvm.MethodName) ({ cls := "ConstraintHouse$Choice", name := "sort", desc := "()I" } : Jvm.MethodName)) ∈ lw_all := lw_g (lw_at lw_m6 77 rfl) rfl
theorem q1538 : (Jvm.Cond.instanceMethod ({ cls := "ConstraintHouse$Choice", name := "sort", desc := "()I" } : Jvm.MethodName)) ∈ lw_all := lw_g (lw_at lw_m6 78 rfl) rfl
theorem q1539 : (Jvm.Cond.code ({ cls := "ConstraintHouse$Choice", name := "sort", desc := "()I" } : Jvm.MethodName) prog_7_method_2_code (1 : Nat) (Option.some Jvm.ClassFile.FieldType.int)) ∈ lw_all := lw_g (lw_at lw_m6 79 rfl) rfl
theorem q1540 : (Jvm.Cond.methodLink "ConstraintHouse$Choice" (19 : Nat) ({ cls := "ConstraintHouse$Part", name := "sort", desc := "()I" } : Jvm.MethodName)) ∈ lw_all := lw_g (lw_at lw_m6 80 rfl) rfl
theorem q1875 : (Jvm.Cond.instantiable "ConstraintHouse$Choice" (8 : Nat)) ∈ lw_all := lw_g (lw_at lw_m7 175 rfl) rfl
theorem q1877 : (Jvm.Cond.instanceMethod ({ cls := "ConstraintHouse$Choice", name := "<init>", desc := "(LConstraintHouse$Part;LConstraintHouse$Part;LConstraintHouse$Part;)V" } : Jvm.MethodName)) ∈ lw_all := lw_g (lw_at lw_m7 177 rfl) rfl
theorem q1878 : (Jvm.Cond.code ({ cls := "ConstraintHouse$Choice", name := "<init>", desc := "(LConstraintHouse$Part;LConstraintHouse$Part;LConstraintHouse$Part;)V" } : Jvm.MethodName) prog_7_method_1_code (4 : Nat) (Option.none : Option Jvm.ClassFile.FieldType)) ∈ lw_all := lw_g (lw_at lw_m7 178 rfl) rfl
theorem q1879 : (Jvm.Cond.methodLinkNest "ConstraintHouse$Choice" (1 : Nat) ({ cls := "ConstraintHouse$Part", name := "<init>", desc := "()V" } : Jvm.MethodName) "ConstraintHouse") ∈ lw_tbl := lw_at lw_m7 179 rfl
theorem q1880 : (Jvm.Cond.fieldLink "ConstraintHouse$Choice" (7 : Nat) "ConstraintHouse$Choice" "test" "LConstraintHouse$Part;") ∈ lw_all := lw_g (lw_at lw_m7 180 rfl) rfl
theorem q1881 : (Jvm.Cond.fieldLink "ConstraintHouse$Choice" (13 : Nat) "ConstraintHouse$Choice" "x" "LConstraintHouse$Part;") ∈ lw_all := lw_g (lw_at lw_m7 181 rfl) rfl
theorem q1882 : (Jvm.Cond.fieldLink "ConstraintHouse$Choice" (16 : Nat) "ConstraintHouse$Choice" "y" "LConstraintHouse$Part;") ∈ lw_all := lw_g (lw_at lw_m7 182 rfl) rfl
theorem q1883 : (Jvm.Cond.laysFinal "ConstraintHouse$Choice" "ConstraintHouse$Choice" "test" "LConstraintHouse$Part;") ∈ lw_all := lw_g (lw_at lw_m7 183 rfl) rfl
theorem q1884 : (Jvm.Cond.soleField "ConstraintHouse$Choice" "test") ∈ lw_all := lw_g (lw_at lw_m7 184 rfl) rfl
theorem q1885 : (Jvm.Cond.laysFinal "ConstraintHouse$Choice" "ConstraintHouse$Choice" "x" "LConstraintHouse$Part;") ∈ lw_all := lw_g (lw_at lw_m7 185 rfl) rfl
theorem q1886 : (Jvm.Cond.soleField "ConstraintHouse$Choice" "x") ∈ lw_all := lw_g (lw_at lw_m7 186 rfl) rfl
theorem q1887 : (Jvm.Cond.laysFinal "ConstraintHouse$Choice" "ConstraintHouse$Choice" "y" "LConstraintHouse$Part;") ∈ lw_all := lw_g (lw_at lw_m7 187 rfl) rfl
theorem q1888 : (Jvm.Cond.soleField "ConstraintHouse$Choice" "y") ∈ lw_all := lw_g (lw_at lw_m7 188 rfl) rfl
theorem q1889 : (Jvm.Cond.lays "ConstraintHouse$Choice" "ConstraintHouse$Part" "low" "D") ∈ lw_all := lw_g (lw_at lw_m7 189 rfl) rfl
theorem q1890 : (Jvm.Cond.lays "ConstraintHouse$Choice" "ConstraintHouse$Part" "high" "D") ∈ lw_all := lw_g (lw_at lw_m7 190 rfl) rfl
theorem q1891 : (Jvm.Cond.lays "ConstraintHouse$Choice" "ConstraintHouse$Part" "no" "Z") ∈ lw_all := lw_g (lw_at lw_m7 191 rfl) rfl
theorem q1892 : (Jvm.Cond.lays "ConstraintHouse$Choice" "ConstraintHouse$Part" "yes" "Z") ∈ lw_all := lw_g (lw_at lw_m7 192 rfl) rfl
theorem q1893 : (Jvm.Cond.lays "ConstraintHouse$Choice" "ConstraintHouse$Part" "letters" "I") ∈ lw_all := lw_g (lw_at lw_m7 193 rfl) rfl
theorem q1894 : (Jvm.Cond.superclass "ConstraintHouse$Choice" "ConstraintHouse$Part") ∈ lw_all := lw_g (lw_at lw_m7 194 rfl) rfl
theorem q2481 : (Jvm.Cond.selects "ConstraintHouse$Choice" ({ cls := "ConstraintHouse$Narrows", name := "forwards", desc := "(LConstraintHouse$Solver;)V" } : Jvm.MethodName) ({ cls := "ConstraintHouse$Choice", name := "forwards", desc := "(LConstraintHouse$Solver;)V" } : Jvm.MethodName)) ∈ lw_all := lw_g (lw_at lw_m10 61 rfl) rfl
theorem q2482 : (Jvm.Cond.instanceMethod ({ cls := "ConstraintHouse$Choice", name := "forwards", desc := "(LConstraintHouse$Solver;)V" } : Jvm.MethodName)) ∈ lw_all := lw_g (lw_at lw_m10 62 rfl) rfl
theorem q2483 : (Jvm.Cond.code ({ cls := "ConstraintHouse$Choice", name := "forwards", desc := "(LConstraintHouse$Solver;)V" } : Jvm.MethodName) prog_7_method_3_code (2 : Nat) (Option.none : Option Jvm.ClassFile.FieldType)) ∈ lw_all := lw_g (lw_at lw_m10 63 rfl) rfl
theorem q2770 : (Jvm.Cond.methodLink "ConstraintHouse$Choice" (31 : Nat) ({ cls := "ConstraintHouse$Choice", name := "as", desc := "(LConstraintHouse$Part;)V" } : Jvm.MethodName)) ∈ lw_all := lw_g (lw_at lw_m11 110 rfl) rfl
theorem q2771 : (Jvm.Cond.sameMethod "ConstraintHouse$Choice" "ConstraintHouse$Part" "as" "(LConstraintHouse$Part;)V") ∈ lw_all := lw_g (lw_at lw_m11 111 rfl) rfl
theorem q2773 : (Jvm.Cond.selects "ConstraintHouse$Choice" ({ cls := "ConstraintHouse$Choice", name := "as", desc := "(LConstraintHouse$Part;)V" } : Jvm.MethodName) ({ cls := "ConstraintHouse$Part", name := "as", desc := "(LConstraintHouse$Part;)V" } : Jvm.MethodName)) ∈ lw_all := lw_g (lw_at lw_m11 113 rfl) rfl
theorem q2776 : (Jvm.Cond.methodLink "ConstraintHouse$Choice" (42 : Nat) ({ cls := "java/lang/Math", name := "min", desc := "(DD)D" } : Jvm.MethodName)) ∈ lw_all := lw_g (lw_at lw_m11 116 rfl) rfl
theorem q2777 : (Jvm.Cond.methodLink "ConstraintHouse$Choice" (51 : Nat) ({ cls := "java/lang/Math", name := "max", desc := "(DD)D" } : Jvm.MethodName)) ∈ lw_all := lw_g (lw_at lw_m11 117 rfl) rfl
theorem q2778 : (Jvm.Cond.methodLink "ConstraintHouse$Choice" (54 : Nat) ({ cls := "ConstraintHouse$Choice", name := "be", desc := "(DD)V" } : Jvm.MethodName)) ∈ lw_all := lw_g (lw_at lw_m11 118 rfl) rfl
theorem q2779 : (Jvm.Cond.sameMethod "ConstraintHouse$Choice" "ConstraintHouse$Part" "be" "(DD)V") ∈ lw_all := lw_g (lw_at lw_m11 119 rfl) rfl
theorem q2780 : (Jvm.Cond.selects "ConstraintHouse$Choice" ({ cls := "ConstraintHouse$Choice", name := "be", desc := "(DD)V" } : Jvm.MethodName) ({ cls := "ConstraintHouse$Part", name := "be", desc := "(DD)V" } : Jvm.MethodName)) ∈ lw_all := lw_g (lw_at lw_m11 120 rfl) rfl
theorem q2781 : (Jvm.Cond.methodLink "ConstraintHouse$Choice" (58 : Nat) ({ cls := "ConstraintHouse$Choice", name := "truth", desc := "(ZZ)V" } : Jvm.MethodName)) ∈ lw_all := lw_g (lw_at lw_m11 121 rfl) rfl
theorem q2782 : (Jvm.Cond.sameMethod "ConstraintHouse$Choice" "ConstraintHouse$Part" "truth" "(ZZ)V") ∈ lw_all := lw_g (lw_at lw_m11 122 rfl) rfl
theorem q2783 : (Jvm.Cond.selects "ConstraintHouse$Choice" ({ cls := "ConstraintHouse$Choice", name := "truth", desc := "(ZZ)V" } : Jvm.MethodName) ({ cls := "ConstraintHouse$Part", name := "truth", desc := "(ZZ)V" } : Jvm.MethodName)) ∈ lw_all := lw_g (lw_at lw_m11 123 rfl) rfl
theorem q2816 : (Jvm.Cond.selects "ConstraintHouse$Choice" ({ cls := "ConstraintHouse$Part", name := "hasMeet", desc := "(LConstraintHouse$Part;)Z" } : Jvm.MethodName) ({ cls := "ConstraintHouse$Part", name := "hasMeet", desc := "(LConstraintHouse$Part;)Z" } : Jvm.MethodName)) ∈ lw_all := lw_g (lw_at lw_m11 156 rfl) rfl
theorem q2867 : (Jvm.Cond.selects "ConstraintHouse$Choice" ({ cls := "ConstraintHouse$Part", name := "meets", desc := "(ZZ)V" } : Jvm.MethodName) ({ cls := "ConstraintHouse$Part", name := "meets", desc := "(ZZ)V" } : Jvm.MethodName)) ∈ lw_all := lw_g (lw_at lw_m11 207 rfl) rfl
theorem q2903 : (Jvm.Cond.selects "ConstraintHouse$Choice" ({ cls := "ConstraintHouse$Part", name := "meets", desc := "(LConstraintHouse$Part;)V" } : Jvm.MethodName) ({ cls := "ConstraintHouse$Part", name := "meets", desc := "(LConstraintHouse$Part;)V" } : Jvm.MethodName)) ∈ lw_all := lw_g (lw_at lw_m12 3 rfl) rfl
theorem q2925 : (Jvm.Cond.selects "ConstraintHouse$Choice" ({ cls := "ConstraintHouse$Part", name := "meet", desc := "(DD)V" } : Jvm.MethodName) ({ cls := "ConstraintHouse$Part", name := "meet", desc := "(DD)V" } : Jvm.MethodName)) ∈ lw_all := lw_g (lw_at lw_m12 25 rfl) rfl
theorem q2948 : (Jvm.Cond.selects "ConstraintHouse$Choice" ({ cls := "ConstraintHouse$Part", name := "meets", desc := "(I)V" } : Jvm.MethodName) ({ cls := "ConstraintHouse$Part", name := "meets", desc := "(I)V" } : Jvm.MethodName)) ∈ lw_all := lw_g (lw_at lw_m12 48 rfl) rfl
theorem q2974 : (Jvm.Cond.selects "ConstraintHouse$Choice" ({ cls := "ConstraintHouse$Part", name := "lose", desc := "(D)V" } : Jvm.MethodName) ({ cls := "ConstraintHouse$Part", name := "lose", desc := "(D)V" } : Jvm.MethodName)) ∈ lw_all := lw_g (lw_at lw_m12 74 rfl) rfl
theorem q3046 : (Jvm.Cond.selects "ConstraintHouse$Choice" ({ cls := "ConstraintHouse$Part", name := "lose", desc := "([I)V" } : Jvm.MethodName) ({ cls := "ConstraintHouse$Part", name := "lose", desc := "([I)V" } : Jvm.MethodName)) ∈ lw_all := lw_g (lw_at lw_m12 146 rfl) rfl
theorem q3083 : (Jvm.Cond.instanceMethod ({ cls := "ConstraintHouse$Choice", name := "enter", desc := "(LConstraintHouse$Solver;)V" } : Jvm.MethodName)) ∈ lw_all := lw_g (lw_at lw_m12 183 rfl) rfl
theorem q3084 : (Jvm.Cond.code ({ cls := "ConstraintHouse$Choice", name := "enter", desc := "(LConstraintHouse$Solver;)V" } : Jvm.MethodName) prog_7_method_4_code (2 : Nat) (Option.none : Option Jvm.ClassFile.FieldType)) ∈ lw_all := lw_g (lw_at lw_m12 184 rfl) rfl
theorem q3085 : (Jvm.Cond.methodLink "ConstraintHouse$Choice" (67 : Nat) ({ cls := "ConstraintHouse$Choice", name := "sort", desc := "()I" } : Jvm.MethodName)) ∈ lw_all := lw_g (lw_at lw_m12 185 rfl) rfl
theorem q3086 : (Jvm.Cond.methodLink "ConstraintHouse$Choice" (70 : Nat) ({ cls := "ConstraintHouse$Part", name := "enter", desc := "(LConstraintHouse$Solver;)V" } : Jvm.MethodName)) ∈ lw_all := lw_g (lw_at lw_m12 186 rfl) rfl
theorem q3161 : (Jvm.Cond.selects "ConstraintHouse$Choice" ({ cls := "ConstraintHouse$Part", name := "backwards", desc := "(LConstraintHouse$Solver;)V" } : Jvm.MethodName) ({ cls := "ConstraintHouse$Choice", name := "backwards", desc := "(LConstraintHouse$Solver;)V" } : Jvm.MethodName)) ∈ lw_all := lw_g (lw_at lw_m13 21 rfl) rfl
theorem q3162 : (Jvm.Cond.instanceMethod ({ cls := "ConstraintHouse$Choice", name := "backwards", desc := "(LConstraintHouse$Solver;)V" } : Jvm.MethodName)) ∈ lw_all := lw_g (lw_at lw_m13 22 rfl) rfl
theorem q3163 : (Jvm.Cond.code ({ cls := "ConstraintHouse$Choice", name := "backwards", desc := "(LConstraintHouse$Solver;)V" } : Jvm.MethodName) prog_7_method_5_code (2 : Nat) (Option.none : Option Jvm.ClassFile.FieldType)) ∈ lw_all := lw_g (lw_at lw_m13 23 rfl) rfl
theorem q3164 : (Jvm.Cond.methodLink "ConstraintHouse$Choice" (73 : Nat) ({ cls := "ConstraintHouse$Part", name := "meets", desc := "(LConstraintHouse$Part;)V" } : Jvm.MethodName)) ∈ lw_all := lw_g (lw_at lw_m13 24 rfl) rfl
theorem q3165 : (Jvm.Cond.methodLink "ConstraintHouse$Choice" (76 : Nat) ({ cls := "ConstraintHouse$Part", name := "hasMeet", desc := "(LConstraintHouse$Part;)Z" } : Jvm.MethodName)) ∈ lw_all := lw_g (lw_at lw_m13 25 rfl) rfl
theorem q3166 : (Jvm.Cond.methodLink "ConstraintHouse$Choice" (80 : Nat) ({ cls := "ConstraintHouse$Part", name := "meets", desc := "(ZZ)V" } : Jvm.MethodName)) ∈ lw_all := lw_g (lw_at lw_m13 26 rfl) rfl
theorem q3262 : (Jvm.Cond.selects "ConstraintHouse$Choice" ({ cls := "ConstraintHouse$Part", name := "enter", desc := "(LConstraintHouse$Solver;)V" } : Jvm.MethodName) ({ cls := "ConstraintHouse$Choice", name := "enter", desc := "(LConstraintHouse$Solver;)V" } : Jvm.MethodName)) ∈ lw_all := lw_g (lw_at lw_m13 122 rfl) rfl
theorem q4792 : (Jvm.Cond.selects "ConstraintHouse$Choice" ({ cls := "ConstraintHouse$Choice", name := "sort", desc := "()I" } : Jvm.MethodName) ({ cls := "ConstraintHouse$Choice", name := "sort", desc := "()I" } : Jvm.MethodName)) ∈ lw_all := lw_g (lw_at lw_m19 212 rfl) rfl
theorem q4841 : (Jvm.Cond.castable "ConstraintHouse$Choice" "java/lang/Object") ∈ lw_tbl := lw_at lw_m20 21 rfl
theorem q4876 : (Jvm.Cond.castable "ConstraintHouse$Choice" "ConstraintHouse$Part") ∈ lw_tbl := lw_at lw_m20 56 rfl
theorem in_X37 : ∀ w ∈ wsX370, w ∈ lw_all := lw_in wsX370 [1889, 1890, 1891, 1892, 1893, 1883, 1885, 1887] (by decide +kernel) (by decide +kernel)
/-! ConstraintHouse$Among -/
set_option maxRecDepth 100000
def RX38 : String := "ConstraintHouse$Among"
def TX38 : u_T := fun k => match k with
  | 0 => ("ConstraintHouse$Part", "low", "D", false)
  | 1 => ("ConstraintHouse$Part", "high", "D", false)
  | 2 => ("ConstraintHouse$Part", "no", "Z", false)
  | 3 => ("ConstraintHouse$Part", "yes", "Z", false)
  | 4 => ("ConstraintHouse$Part", "letters", "I", false)
  | 5 => ("ConstraintHouse$Among", "x", "LConstraintHouse$Part;", true)
  | _ => ("ConstraintHouse$Among", "of", "Ljava/lang/Object;", true)
def tyX38 : Nat → FieldType := fun k => match k with
  | 0 => .double
  | 1 => .double
  | 2 => .boolean
  | 3 => .boolean
  | 4 => .int
  | 5 => .object "ConstraintHouse$Part"
  | _ => .object "java/lang/Object"
abbrev wsX380 : List Cond := u_ws RX38 TX38 7
theorem nmX38 : ∀ a, a < 7 → ∀ b, b < 7 → a ≠ b → (TX38 a).2.1 ≠ (TX38 b).2.1 := by decide +kernel
theorem tyX38_ok : ∀ k, k < 7 → parseFieldDescriptor (TX38 k).2.2.1 = some (tyX38 k) := by decide +kernel
abbrev cX38_init : ByteArray := prog_5_method_1_code
def yX38_init : MethodName := ⟨RX38, "<init>", "(LConstraintHouse$Part;Ljava/lang/Object;)V"⟩
def dkwX38_init_0 : List UInt8 := [42, 183, 0, 1, 42, 43, 181, 0, 7, 42, 44, 181, 0, 13, 177]
abbrev dktX38_init_0 : List UInt8 := dkwX38_init_0 ++ []
theorem dksX38_init_0 : cX38_init.data.toList.drop 0 = dktX38_init_0 := by decide +kernel
theorem dX38_init_0 : decode cX38_init 0 = .ok (.aload_n 0, 1) := dk_42 (dk_at dksX38_init_0 0 rfl rfl)
theorem dX38_init_1 : decode cX38_init 1 = .ok (.invokespecial 1, 3) := dk_183 0 1 (dk_at dksX38_init_0 1 rfl rfl)
theorem dX38_init_4 : decode cX38_init 4 = .ok (.aload_n 0, 1) := dk_42 (dk_at dksX38_init_0 4 rfl rfl)
theorem dX38_init_5 : decode cX38_init 5 = .ok (.aload_n 1, 1) := dk_43 (dk_at dksX38_init_0 5 rfl rfl)
theorem dX38_init_6 : decode cX38_init 6 = .ok (.putfield 7, 3) := dk_181 0 7 (dk_at dksX38_init_0 6 rfl rfl)
theorem dX38_init_9 : decode cX38_init 9 = .ok (.aload_n 0, 1) := dk_42 (dk_at dksX38_init_0 9 rfl rfl)
theorem dX38_init_10 : decode cX38_init 10 = .ok (.aload_n 2, 1) := dk_44 (dk_at dksX38_init_0 10 rfl rfl)
theorem dX38_init_11 : decode cX38_init 11 = .ok (.putfield 13, 3) := dk_181 0 13 (dk_at dksX38_init_0 11 rfl rfl)
theorem dX38_init_14 : decode cX38_init 14 = .ok (.return_, 1) := dk_177 (dk_at dksX38_init_0 14 rfl rfl)
abbrev cX38_forwards : ByteArray := prog_5_method_2_code
def yX38_forwards : MethodName := ⟨RX38, "forwards", "(LConstraintHouse$Solver;)V"⟩
def dkwX38_forwards_2 : List UInt8 := [192, 0, 29, 182, 0, 31, 167, 0, 17, 42, 42, 180, 0, 13, 192, 0, 34, 184, 0, 36, 182, 0, 40, 177]
abbrev dktX38_forwards_2 : List UInt8 := dkwX38_forwards_2 ++ []
def dkwX38_forwards_1 : List UInt8 := [192, 0, 23, 182, 0, 25, 167, 0, 41, 42, 180, 0, 13, 193, 0, 29, 153, 0, 17, 42, 42, 180, 0, 13]
abbrev dktX38_forwards_1 : List UInt8 := dkwX38_forwards_1 ++ dktX38_forwards_2
def dkwX38_forwards_0 : List UInt8 := [42, 180, 0, 7, 43, 182, 0, 17, 42, 180, 0, 13, 193, 0, 23, 153, 0, 17, 42, 42, 180, 0, 13]
abbrev dktX38_forwards_0 : List UInt8 := dkwX38_forwards_0 ++ dktX38_forwards_1
theorem dksX38_forwards_0 : cX38_forwards.data.toList.drop 0 = dktX38_forwards_0 := by decide +kernel
theorem dksX38_forwards_1 : cX38_forwards.data.toList.drop 23 = dktX38_forwards_1 := dk_seg dksX38_forwards_0 23 rfl rfl
theorem dksX38_forwards_2 : cX38_forwards.data.toList.drop 47 = dktX38_forwards_2 := dk_seg dksX38_forwards_1 24 rfl rfl
theorem dX38_forwards_0 : decode cX38_forwards 0 = .ok (.aload_n 0, 1) := dk_42 (dk_at dksX38_forwards_0 0 rfl rfl)
theorem dX38_forwards_1 : decode cX38_forwards 1 = .ok (.getfield 7, 3) := dk_180 0 7 (dk_at dksX38_forwards_0 1 rfl rfl)
theorem dX38_forwards_4 : decode cX38_forwards 4 = .ok (.aload_n 1, 1) := dk_43 (dk_at dksX38_forwards_0 4 rfl rfl)
theorem dX38_forwards_5 : decode cX38_forwards 5 = .ok (.invokevirtual 17, 3) := dk_182 0 17 (dk_at dksX38_forwards_0 5 rfl rfl)
theorem dX38_forwards_8 : decode cX38_forwards 8 = .ok (.aload_n 0, 1) := dk_42 (dk_at dksX38_forwards_0 8 rfl rfl)
theorem dX38_forwards_9 : decode cX38_forwards 9 = .ok (.getfield 13, 3) := dk_180 0 13 (dk_at dksX38_forwards_0 9 rfl rfl)
theorem dX38_forwards_12 : decode cX38_forwards 12 = .ok (.instanceof 23, 3) := dk_193 0 23 (dk_at dksX38_forwards_0 12 rfl rfl)
theorem dX38_forwards_15 : decode cX38_forwards 15 = .ok (.ifCond .eq 17, 3) := dk_153 0 17 (dk_at dksX38_forwards_0 15 rfl rfl)
theorem dX38_forwards_18 : decode cX38_forwards 18 = .ok (.aload_n 0, 1) := dk_42 (dk_at dksX38_forwards_0 18 rfl rfl)
theorem dX38_forwards_19 : decode cX38_forwards 19 = .ok (.aload_n 0, 1) := dk_42 (dk_at dksX38_forwards_0 19 rfl rfl)
theorem dX38_forwards_20 : decode cX38_forwards 20 = .ok (.getfield 13, 3) := dk_180 0 13 (dk_at dksX38_forwards_0 20 rfl rfl)
theorem dX38_forwards_23 : decode cX38_forwards 23 = .ok (.checkcast 23, 3) := dk_192 0 23 (dk_at dksX38_forwards_1 0 rfl rfl)
theorem dX38_forwards_26 : decode cX38_forwards 26 = .ok (.invokevirtual 25, 3) := dk_182 0 25 (dk_at dksX38_forwards_1 3 rfl rfl)
theorem dX38_forwards_29 : decode cX38_forwards 29 = .ok (.goto 41, 3) := dk_167 0 41 (dk_at dksX38_forwards_1 6 rfl rfl)
theorem dX38_forwards_32 : decode cX38_forwards 32 = .ok (.aload_n 0, 1) := dk_42 (dk_at dksX38_forwards_1 9 rfl rfl)
theorem dX38_forwards_33 : decode cX38_forwards 33 = .ok (.getfield 13, 3) := dk_180 0 13 (dk_at dksX38_forwards_1 10 rfl rfl)
theorem dX38_forwards_36 : decode cX38_forwards 36 = .ok (.instanceof 29, 3) := dk_193 0 29 (dk_at dksX38_forwards_1 13 rfl rfl)
theorem dX38_forwards_39 : decode cX38_forwards 39 = .ok (.ifCond .eq 17, 3) := dk_153 0 17 (dk_at dksX38_forwards_1 16 rfl rfl)
theorem dX38_forwards_42 : decode cX38_forwards 42 = .ok (.aload_n 0, 1) := dk_42 (dk_at dksX38_forwards_1 19 rfl rfl)
theorem dX38_forwards_43 : decode cX38_forwards 43 = .ok (.aload_n 0, 1) := dk_42 (dk_at dksX38_forwards_1 20 rfl rfl)
theorem dX38_forwards_44 : decode cX38_forwards 44 = .ok (.getfield 13, 3) := dk_180 0 13 (dk_at dksX38_forwards_1 21 rfl rfl)
theorem dX38_forwards_47 : decode cX38_forwards 47 = .ok (.checkcast 29, 3) := dk_192 0 29 (dk_at dksX38_forwards_2 0 rfl rfl)
theorem dX38_forwards_50 : decode cX38_forwards 50 = .ok (.invokevirtual 31, 3) := dk_182 0 31 (dk_at dksX38_forwards_2 3 rfl rfl)
theorem dX38_forwards_53 : decode cX38_forwards 53 = .ok (.goto 17, 3) := dk_167 0 17 (dk_at dksX38_forwards_2 6 rfl rfl)
theorem dX38_forwards_56 : decode cX38_forwards 56 = .ok (.aload_n 0, 1) := dk_42 (dk_at dksX38_forwards_2 9 rfl rfl)
theorem dX38_forwards_57 : decode cX38_forwards 57 = .ok (.aload_n 0, 1) := dk_42 (dk_at dksX38_forwards_2 10 rfl rfl)
theorem dX38_forwards_58 : decode cX38_forwards 58 = .ok (.getfield 13, 3) := dk_180 0 13 (dk_at dksX38_forwards_2 11 rfl rfl)
theorem dX38_forwards_61 : decode cX38_forwards 61 = .ok (.checkcast 34, 3) := dk_192 0 34 (dk_at dksX38_forwards_2 14 rfl rfl)
theorem dX38_forwards_64 : decode cX38_forwards 64 = .ok (.invokestatic 36, 3) := dk_184 0 36 (dk_at dksX38_forwards_2 17 rfl rfl)
theorem dX38_forwards_67 : decode cX38_forwards 67 = .ok (.invokevirtual 40, 3) := dk_182 0 40 (dk_at dksX38_forwards_2 20 rfl rfl)
theorem dX38_forwards_70 : decode cX38_forwards 70 = .ok (.return_, 1) := dk_177 (dk_at dksX38_forwards_2 23 rfl rfl)
abbrev cX38_judge : ByteArray := prog_5_method_3_code
def yX38_judge : MethodName := ⟨RX38, "judge", "([I)V"⟩
def dkwX38_judge_3 : List UInt8 := [180, 0, 7, 180, 0, 47, 151, 153, 0, 7, 4, 167, 0, 4, 3, 28, 182, 0, 50, 177]
abbrev dktX38_judge_3 : List UInt8 := dkwX38_judge_3 ++ []
def dkwX38_judge_2 : List UInt8 := [167, 0, 4, 3, 61, 132, 3, 1, 167, 255, 206, 42, 28, 153, 0, 21, 42, 180, 0, 7, 180, 0, 43, 42]
abbrev dktX38_judge_2 : List UInt8 := dkwX38_judge_2 ++ dktX38_judge_3
def dkwX38_judge_1 : List UInt8 := [180, 0, 43, 151, 155, 0, 22, 43, 29, 46, 135, 42, 180, 0, 7, 180, 0, 47, 152, 157, 0, 7, 4]
abbrev dktX38_judge_1 : List UInt8 := dkwX38_judge_1 ++ dktX38_judge_2
def dkwX38_judge_0 : List UInt8 := [3, 61, 4, 62, 29, 43, 3, 46, 163, 0, 49, 28, 154, 0, 33, 43, 29, 46, 135, 42, 180, 0, 7]
abbrev dktX38_judge_0 : List UInt8 := dkwX38_judge_0 ++ dktX38_judge_1
theorem dksX38_judge_0 : cX38_judge.data.toList.drop 0 = dktX38_judge_0 := by decide +kernel
theorem dksX38_judge_1 : cX38_judge.data.toList.drop 23 = dktX38_judge_1 := dk_seg dksX38_judge_0 23 rfl rfl
theorem dksX38_judge_2 : cX38_judge.data.toList.drop 46 = dktX38_judge_2 := dk_seg dksX38_judge_1 23 rfl rfl
theorem dksX38_judge_3 : cX38_judge.data.toList.drop 70 = dktX38_judge_3 := dk_seg dksX38_judge_2 24 rfl rfl
theorem dX38_judge_0 : decode cX38_judge 0 = .ok (.iconst 0, 1) := dk_3 (dk_at dksX38_judge_0 0 rfl rfl)
theorem dX38_judge_1 : decode cX38_judge 1 = .ok (.istore_n 2, 1) := dk_61 (dk_at dksX38_judge_0 1 rfl rfl)
theorem dX38_judge_2 : decode cX38_judge 2 = .ok (.iconst 1, 1) := dk_4 (dk_at dksX38_judge_0 2 rfl rfl)
theorem dX38_judge_3 : decode cX38_judge 3 = .ok (.istore_n 3, 1) := dk_62 (dk_at dksX38_judge_0 3 rfl rfl)
theorem dX38_judge_4 : decode cX38_judge 4 = .ok (.iload_n 3, 1) := dk_29 (dk_at dksX38_judge_0 4 rfl rfl)
theorem dX38_judge_5 : decode cX38_judge 5 = .ok (.aload_n 1, 1) := dk_43 (dk_at dksX38_judge_0 5 rfl rfl)
theorem dX38_judge_6 : decode cX38_judge 6 = .ok (.iconst 0, 1) := dk_3 (dk_at dksX38_judge_0 6 rfl rfl)
theorem dX38_judge_7 : decode cX38_judge 7 = .ok (.iaload, 1) := dk_46 (dk_at dksX38_judge_0 7 rfl rfl)
theorem dX38_judge_8 : decode cX38_judge 8 = .ok (.if_icmp .gt 49, 3) := dk_163 0 49 (dk_at dksX38_judge_0 8 rfl rfl)
theorem dX38_judge_11 : decode cX38_judge 11 = .ok (.iload_n 2, 1) := dk_28 (dk_at dksX38_judge_0 11 rfl rfl)
theorem dX38_judge_12 : decode cX38_judge 12 = .ok (.ifCond .ne 33, 3) := dk_154 0 33 (dk_at dksX38_judge_0 12 rfl rfl)
theorem dX38_judge_15 : decode cX38_judge 15 = .ok (.aload_n 1, 1) := dk_43 (dk_at dksX38_judge_0 15 rfl rfl)
theorem dX38_judge_16 : decode cX38_judge 16 = .ok (.iload_n 3, 1) := dk_29 (dk_at dksX38_judge_0 16 rfl rfl)
theorem dX38_judge_17 : decode cX38_judge 17 = .ok (.iaload, 1) := dk_46 (dk_at dksX38_judge_0 17 rfl rfl)
theorem dX38_judge_18 : decode cX38_judge 18 = .ok (.i2d, 1) := dk_135 (dk_at dksX38_judge_0 18 rfl rfl)
theorem dX38_judge_19 : decode cX38_judge 19 = .ok (.aload_n 0, 1) := dk_42 (dk_at dksX38_judge_0 19 rfl rfl)
theorem dX38_judge_20 : decode cX38_judge 20 = .ok (.getfield 7, 3) := dk_180 0 7 (dk_at dksX38_judge_0 20 rfl rfl)
theorem dX38_judge_23 : decode cX38_judge 23 = .ok (.getfield 43, 3) := dk_180 0 43 (dk_at dksX38_judge_1 0 rfl rfl)
theorem dX38_judge_26 : decode cX38_judge 26 = .ok (.dcmp .l, 1) := dk_151 (dk_at dksX38_judge_1 3 rfl rfl)
theorem dX38_judge_27 : decode cX38_judge 27 = .ok (.ifCond .lt 22, 3) := dk_155 0 22 (dk_at dksX38_judge_1 4 rfl rfl)
theorem dX38_judge_30 : decode cX38_judge 30 = .ok (.aload_n 1, 1) := dk_43 (dk_at dksX38_judge_1 7 rfl rfl)
theorem dX38_judge_31 : decode cX38_judge 31 = .ok (.iload_n 3, 1) := dk_29 (dk_at dksX38_judge_1 8 rfl rfl)
theorem dX38_judge_32 : decode cX38_judge 32 = .ok (.iaload, 1) := dk_46 (dk_at dksX38_judge_1 9 rfl rfl)
theorem dX38_judge_33 : decode cX38_judge 33 = .ok (.i2d, 1) := dk_135 (dk_at dksX38_judge_1 10 rfl rfl)
theorem dX38_judge_34 : decode cX38_judge 34 = .ok (.aload_n 0, 1) := dk_42 (dk_at dksX38_judge_1 11 rfl rfl)
theorem dX38_judge_35 : decode cX38_judge 35 = .ok (.getfield 7, 3) := dk_180 0 7 (dk_at dksX38_judge_1 12 rfl rfl)
theorem dX38_judge_38 : decode cX38_judge 38 = .ok (.getfield 47, 3) := dk_180 0 47 (dk_at dksX38_judge_1 15 rfl rfl)
theorem dX38_judge_41 : decode cX38_judge 41 = .ok (.dcmp .g, 1) := dk_152 (dk_at dksX38_judge_1 18 rfl rfl)
theorem dX38_judge_42 : decode cX38_judge 42 = .ok (.ifCond .gt 7, 3) := dk_157 0 7 (dk_at dksX38_judge_1 19 rfl rfl)
theorem dX38_judge_45 : decode cX38_judge 45 = .ok (.iconst 1, 1) := dk_4 (dk_at dksX38_judge_1 22 rfl rfl)
theorem dX38_judge_46 : decode cX38_judge 46 = .ok (.goto 4, 3) := dk_167 0 4 (dk_at dksX38_judge_2 0 rfl rfl)
theorem dX38_judge_49 : decode cX38_judge 49 = .ok (.iconst 0, 1) := dk_3 (dk_at dksX38_judge_2 3 rfl rfl)
theorem dX38_judge_50 : decode cX38_judge 50 = .ok (.istore_n 2, 1) := dk_61 (dk_at dksX38_judge_2 4 rfl rfl)
theorem dX38_judge_51 : decode cX38_judge 51 = .ok (.iinc 3 1, 3) := dk_132 3 1 (dk_at dksX38_judge_2 5 rfl rfl)
theorem dX38_judge_54 : decode cX38_judge 54 = .ok (.goto (-50), 3) := dk_167 255 206 (dk_at dksX38_judge_2 8 rfl rfl)
theorem dX38_judge_57 : decode cX38_judge 57 = .ok (.aload_n 0, 1) := dk_42 (dk_at dksX38_judge_2 11 rfl rfl)
theorem dX38_judge_58 : decode cX38_judge 58 = .ok (.iload_n 2, 1) := dk_28 (dk_at dksX38_judge_2 12 rfl rfl)
theorem dX38_judge_59 : decode cX38_judge 59 = .ok (.ifCond .eq 21, 3) := dk_153 0 21 (dk_at dksX38_judge_2 13 rfl rfl)
theorem dX38_judge_62 : decode cX38_judge 62 = .ok (.aload_n 0, 1) := dk_42 (dk_at dksX38_judge_2 16 rfl rfl)
theorem dX38_judge_63 : decode cX38_judge 63 = .ok (.getfield 7, 3) := dk_180 0 7 (dk_at dksX38_judge_2 17 rfl rfl)
theorem dX38_judge_66 : decode cX38_judge 66 = .ok (.getfield 43, 3) := dk_180 0 43 (dk_at dksX38_judge_2 20 rfl rfl)
theorem dX38_judge_69 : decode cX38_judge 69 = .ok (.aload_n 0, 1) := dk_42 (dk_at dksX38_judge_2 23 rfl rfl)
theorem dX38_judge_70 : decode cX38_judge 70 = .ok (.getfield 7, 3) := dk_180 0 7 (dk_at dksX38_judge_3 0 rfl rfl)
theorem dX38_judge_73 : decode cX38_judge 73 = .ok (.getfield 47, 3) := dk_180 0 47 (dk_at dksX38_judge_3 3 rfl rfl)
theorem dX38_judge_76 : decode cX38_judge 76 = .ok (.dcmp .l, 1) := dk_151 (dk_at dksX38_judge_3 6 rfl rfl)
theorem dX38_judge_77 : decode cX38_judge 77 = .ok (.ifCond .eq 7, 3) := dk_153 0 7 (dk_at dksX38_judge_3 7 rfl rfl)
theorem dX38_judge_80 : decode cX38_judge 80 = .ok (.iconst 1, 1) := dk_4 (dk_at dksX38_judge_3 10 rfl rfl)
theorem dX38_judge_81 : decode cX38_judge 81 = .ok (.goto 4, 3) := dk_167 0 4 (dk_at dksX38_judge_3 11 rfl rfl)
theorem dX38_judge_84 : decode cX38_judge 84 = .ok (.iconst 0, 1) := dk_3 (dk_at dksX38_judge_3 14 rfl rfl)
theorem dX38_judge_85 : decode cX38_judge 85 = .ok (.iload_n 2, 1) := dk_28 (dk_at dksX38_judge_3 15 rfl rfl)
theorem dX38_judge_86 : decode cX38_judge 86 = .ok (.invokevirtual 50, 3) := dk_182 0 50 (dk_at dksX38_judge_3 16 rfl rfl)
theorem dX38_judge_89 : decode cX38_judge 89 = .ok (.return_, 1) := dk_177 (dk_at dksX38_judge_3 19 rfl rfl)
abbrev cX38_judge_2 : ByteArray := prog_5_method_4_code
def yX38_judge_2 : MethodName := ⟨RX38, "judge", "([D)V"⟩
def dkwX38_judge_2_4 : List UInt8 := [177]
abbrev dktX38_judge_2_4 : List UInt8 := dkwX38_judge_2_4 ++ []
def dkwX38_judge_2_3 : List UInt8 := [154, 0, 7, 29, 154, 0, 7, 4, 167, 0, 4, 3, 28, 154, 0, 7, 4, 167, 0, 4, 3, 182, 0, 50]
abbrev dktX38_judge_2_3 : List UInt8 := dkwX38_judge_2_3 ++ dktX38_judge_2_4
def dkwX38_judge_2_2 : List UInt8 := [42, 180, 0, 7, 180, 0, 47, 43, 4, 49, 152, 157, 0, 7, 4, 167, 0, 4, 3, 62, 42, 28]
abbrev dktX38_judge_2_2 : List UInt8 := dkwX38_judge_2_2 ++ dktX38_judge_2_3
def dkwX38_judge_2_1 : List UInt8 := [152, 156, 0, 7, 4, 167, 0, 4, 3, 61, 43, 3, 49, 42, 180, 0, 7, 180, 0, 43, 152, 157, 0, 21]
abbrev dktX38_judge_2_1 : List UInt8 := dkwX38_judge_2_1 ++ dktX38_judge_2_2
def dkwX38_judge_2_0 : List UInt8 := [42, 180, 0, 7, 180, 0, 47, 43, 3, 49, 152, 155, 0, 17, 43, 4, 49, 42, 180, 0, 7, 180, 0, 43]
abbrev dktX38_judge_2_0 : List UInt8 := dkwX38_judge_2_0 ++ dktX38_judge_2_1
theorem dksX38_judge_2_0 : cX38_judge_2.data.toList.drop 0 = dktX38_judge_2_0 := by decide +kernel
theorem dksX38_judge_2_1 : cX38_judge_2.data.toList.drop 24 = dktX38_judge_2_1 := dk_seg dksX38_judge_2_0 24 rfl rfl
theorem dksX38_judge_2_2 : cX38_judge_2.data.toList.drop 48 = dktX38_judge_2_2 := dk_seg dksX38_judge_2_1 24 rfl rfl
theorem dksX38_judge_2_3 : cX38_judge_2.data.toList.drop 70 = dktX38_judge_2_3 := dk_seg dksX38_judge_2_2 22 rfl rfl
theorem dksX38_judge_2_4 : cX38_judge_2.data.toList.drop 94 = dktX38_judge_2_4 := dk_seg dksX38_judge_2_3 24 rfl rfl
theorem dX38_judge_2_0 : decode cX38_judge_2 0 = .ok (.aload_n 0, 1) := dk_42 (dk_at dksX38_judge_2_0 0 rfl rfl)
theorem dX38_judge_2_1 : decode cX38_judge_2 1 = .ok (.getfield 7, 3) := dk_180 0 7 (dk_at dksX38_judge_2_0 1 rfl rfl)
theorem dX38_judge_2_4 : decode cX38_judge_2 4 = .ok (.getfield 47, 3) := dk_180 0 47 (dk_at dksX38_judge_2_0 4 rfl rfl)
theorem dX38_judge_2_7 : decode cX38_judge_2 7 = .ok (.aload_n 1, 1) := dk_43 (dk_at dksX38_judge_2_0 7 rfl rfl)
theorem dX38_judge_2_8 : decode cX38_judge_2 8 = .ok (.iconst 0, 1) := dk_3 (dk_at dksX38_judge_2_0 8 rfl rfl)
theorem dX38_judge_2_9 : decode cX38_judge_2 9 = .ok (.daload, 1) := dk_49 (dk_at dksX38_judge_2_0 9 rfl rfl)
theorem dX38_judge_2_10 : decode cX38_judge_2 10 = .ok (.dcmp .g, 1) := dk_152 (dk_at dksX38_judge_2_0 10 rfl rfl)
theorem dX38_judge_2_11 : decode cX38_judge_2 11 = .ok (.ifCond .lt 17, 3) := dk_155 0 17 (dk_at dksX38_judge_2_0 11 rfl rfl)
theorem dX38_judge_2_14 : decode cX38_judge_2 14 = .ok (.aload_n 1, 1) := dk_43 (dk_at dksX38_judge_2_0 14 rfl rfl)
theorem dX38_judge_2_15 : decode cX38_judge_2 15 = .ok (.iconst 1, 1) := dk_4 (dk_at dksX38_judge_2_0 15 rfl rfl)
theorem dX38_judge_2_16 : decode cX38_judge_2 16 = .ok (.daload, 1) := dk_49 (dk_at dksX38_judge_2_0 16 rfl rfl)
theorem dX38_judge_2_17 : decode cX38_judge_2 17 = .ok (.aload_n 0, 1) := dk_42 (dk_at dksX38_judge_2_0 17 rfl rfl)
theorem dX38_judge_2_18 : decode cX38_judge_2 18 = .ok (.getfield 7, 3) := dk_180 0 7 (dk_at dksX38_judge_2_0 18 rfl rfl)
theorem dX38_judge_2_21 : decode cX38_judge_2 21 = .ok (.getfield 43, 3) := dk_180 0 43 (dk_at dksX38_judge_2_0 21 rfl rfl)
theorem dX38_judge_2_24 : decode cX38_judge_2 24 = .ok (.dcmp .g, 1) := dk_152 (dk_at dksX38_judge_2_1 0 rfl rfl)
theorem dX38_judge_2_25 : decode cX38_judge_2 25 = .ok (.ifCond .ge 7, 3) := dk_156 0 7 (dk_at dksX38_judge_2_1 1 rfl rfl)
theorem dX38_judge_2_28 : decode cX38_judge_2 28 = .ok (.iconst 1, 1) := dk_4 (dk_at dksX38_judge_2_1 4 rfl rfl)
theorem dX38_judge_2_29 : decode cX38_judge_2 29 = .ok (.goto 4, 3) := dk_167 0 4 (dk_at dksX38_judge_2_1 5 rfl rfl)
theorem dX38_judge_2_32 : decode cX38_judge_2 32 = .ok (.iconst 0, 1) := dk_3 (dk_at dksX38_judge_2_1 8 rfl rfl)
theorem dX38_judge_2_33 : decode cX38_judge_2 33 = .ok (.istore_n 2, 1) := dk_61 (dk_at dksX38_judge_2_1 9 rfl rfl)
theorem dX38_judge_2_34 : decode cX38_judge_2 34 = .ok (.aload_n 1, 1) := dk_43 (dk_at dksX38_judge_2_1 10 rfl rfl)
theorem dX38_judge_2_35 : decode cX38_judge_2 35 = .ok (.iconst 0, 1) := dk_3 (dk_at dksX38_judge_2_1 11 rfl rfl)
theorem dX38_judge_2_36 : decode cX38_judge_2 36 = .ok (.daload, 1) := dk_49 (dk_at dksX38_judge_2_1 12 rfl rfl)
theorem dX38_judge_2_37 : decode cX38_judge_2 37 = .ok (.aload_n 0, 1) := dk_42 (dk_at dksX38_judge_2_1 13 rfl rfl)
theorem dX38_judge_2_38 : decode cX38_judge_2 38 = .ok (.getfield 7, 3) := dk_180 0 7 (dk_at dksX38_judge_2_1 14 rfl rfl)
theorem dX38_judge_2_41 : decode cX38_judge_2 41 = .ok (.getfield 43, 3) := dk_180 0 43 (dk_at dksX38_judge_2_1 17 rfl rfl)
theorem dX38_judge_2_44 : decode cX38_judge_2 44 = .ok (.dcmp .g, 1) := dk_152 (dk_at dksX38_judge_2_1 20 rfl rfl)
theorem dX38_judge_2_45 : decode cX38_judge_2 45 = .ok (.ifCond .gt 21, 3) := dk_157 0 21 (dk_at dksX38_judge_2_1 21 rfl rfl)
theorem dX38_judge_2_48 : decode cX38_judge_2 48 = .ok (.aload_n 0, 1) := dk_42 (dk_at dksX38_judge_2_2 0 rfl rfl)
theorem dX38_judge_2_49 : decode cX38_judge_2 49 = .ok (.getfield 7, 3) := dk_180 0 7 (dk_at dksX38_judge_2_2 1 rfl rfl)
theorem dX38_judge_2_52 : decode cX38_judge_2 52 = .ok (.getfield 47, 3) := dk_180 0 47 (dk_at dksX38_judge_2_2 4 rfl rfl)
theorem dX38_judge_2_55 : decode cX38_judge_2 55 = .ok (.aload_n 1, 1) := dk_43 (dk_at dksX38_judge_2_2 7 rfl rfl)
theorem dX38_judge_2_56 : decode cX38_judge_2 56 = .ok (.iconst 1, 1) := dk_4 (dk_at dksX38_judge_2_2 8 rfl rfl)
theorem dX38_judge_2_57 : decode cX38_judge_2 57 = .ok (.daload, 1) := dk_49 (dk_at dksX38_judge_2_2 9 rfl rfl)
theorem dX38_judge_2_58 : decode cX38_judge_2 58 = .ok (.dcmp .g, 1) := dk_152 (dk_at dksX38_judge_2_2 10 rfl rfl)
theorem dX38_judge_2_59 : decode cX38_judge_2 59 = .ok (.ifCond .gt 7, 3) := dk_157 0 7 (dk_at dksX38_judge_2_2 11 rfl rfl)
theorem dX38_judge_2_62 : decode cX38_judge_2 62 = .ok (.iconst 1, 1) := dk_4 (dk_at dksX38_judge_2_2 14 rfl rfl)
theorem dX38_judge_2_63 : decode cX38_judge_2 63 = .ok (.goto 4, 3) := dk_167 0 4 (dk_at dksX38_judge_2_2 15 rfl rfl)
theorem dX38_judge_2_66 : decode cX38_judge_2 66 = .ok (.iconst 0, 1) := dk_3 (dk_at dksX38_judge_2_2 18 rfl rfl)
theorem dX38_judge_2_67 : decode cX38_judge_2 67 = .ok (.istore_n 3, 1) := dk_62 (dk_at dksX38_judge_2_2 19 rfl rfl)
theorem dX38_judge_2_68 : decode cX38_judge_2 68 = .ok (.aload_n 0, 1) := dk_42 (dk_at dksX38_judge_2_2 20 rfl rfl)
theorem dX38_judge_2_69 : decode cX38_judge_2 69 = .ok (.iload_n 2, 1) := dk_28 (dk_at dksX38_judge_2_2 21 rfl rfl)
theorem dX38_judge_2_70 : decode cX38_judge_2 70 = .ok (.ifCond .ne 7, 3) := dk_154 0 7 (dk_at dksX38_judge_2_3 0 rfl rfl)
theorem dX38_judge_2_73 : decode cX38_judge_2 73 = .ok (.iload_n 3, 1) := dk_29 (dk_at dksX38_judge_2_3 3 rfl rfl)
theorem dX38_judge_2_74 : decode cX38_judge_2 74 = .ok (.ifCond .ne 7, 3) := dk_154 0 7 (dk_at dksX38_judge_2_3 4 rfl rfl)
theorem dX38_judge_2_77 : decode cX38_judge_2 77 = .ok (.iconst 1, 1) := dk_4 (dk_at dksX38_judge_2_3 7 rfl rfl)
theorem dX38_judge_2_78 : decode cX38_judge_2 78 = .ok (.goto 4, 3) := dk_167 0 4 (dk_at dksX38_judge_2_3 8 rfl rfl)
theorem dX38_judge_2_81 : decode cX38_judge_2 81 = .ok (.iconst 0, 1) := dk_3 (dk_at dksX38_judge_2_3 11 rfl rfl)
theorem dX38_judge_2_82 : decode cX38_judge_2 82 = .ok (.iload_n 2, 1) := dk_28 (dk_at dksX38_judge_2_3 12 rfl rfl)
theorem dX38_judge_2_83 : decode cX38_judge_2 83 = .ok (.ifCond .ne 7, 3) := dk_154 0 7 (dk_at dksX38_judge_2_3 13 rfl rfl)
theorem dX38_judge_2_86 : decode cX38_judge_2 86 = .ok (.iconst 1, 1) := dk_4 (dk_at dksX38_judge_2_3 16 rfl rfl)
theorem dX38_judge_2_87 : decode cX38_judge_2 87 = .ok (.goto 4, 3) := dk_167 0 4 (dk_at dksX38_judge_2_3 17 rfl rfl)
theorem dX38_judge_2_90 : decode cX38_judge_2 90 = .ok (.iconst 0, 1) := dk_3 (dk_at dksX38_judge_2_3 20 rfl rfl)
theorem dX38_judge_2_91 : decode cX38_judge_2 91 = .ok (.invokevirtual 50, 3) := dk_182 0 50 (dk_at dksX38_judge_2_3 21 rfl rfl)
theorem dX38_judge_2_94 : decode cX38_judge_2 94 = .ok (.return_, 1) := dk_177 (dk_at dksX38_judge_2_4 0 rfl rfl)
abbrev cX38_bits : ByteArray := prog_5_method_5_code
def yX38_bits : MethodName := ⟨RX38, "bits", "([C)I"⟩
def dkwX38_bits_1 : List UInt8 := [167, 255, 236, 27, 172]
abbrev dktX38_bits_1 : List UInt8 := dkwX38_bits_1 ++ []
def dkwX38_bits_0 : List UInt8 := [3, 60, 3, 61, 28, 42, 190, 162, 0, 20, 27, 4, 42, 28, 52, 16, 97, 100, 120, 128, 60, 132, 2, 1]
abbrev dktX38_bits_0 : List UInt8 := dkwX38_bits_0 ++ dktX38_bits_1
theorem dksX38_bits_0 : cX38_bits.data.toList.drop 0 = dktX38_bits_0 := by decide +kernel
theorem dksX38_bits_1 : cX38_bits.data.toList.drop 24 = dktX38_bits_1 := dk_seg dksX38_bits_0 24 rfl rfl
theorem dX38_bits_0 : decode cX38_bits 0 = .ok (.iconst 0, 1) := dk_3 (dk_at dksX38_bits_0 0 rfl rfl)
theorem dX38_bits_1 : decode cX38_bits 1 = .ok (.istore_n 1, 1) := dk_60 (dk_at dksX38_bits_0 1 rfl rfl)
theorem dX38_bits_2 : decode cX38_bits 2 = .ok (.iconst 0, 1) := dk_3 (dk_at dksX38_bits_0 2 rfl rfl)
theorem dX38_bits_3 : decode cX38_bits 3 = .ok (.istore_n 2, 1) := dk_61 (dk_at dksX38_bits_0 3 rfl rfl)
theorem dX38_bits_4 : decode cX38_bits 4 = .ok (.iload_n 2, 1) := dk_28 (dk_at dksX38_bits_0 4 rfl rfl)
theorem dX38_bits_5 : decode cX38_bits 5 = .ok (.aload_n 0, 1) := dk_42 (dk_at dksX38_bits_0 5 rfl rfl)
theorem dX38_bits_6 : decode cX38_bits 6 = .ok (.arraylength, 1) := dk_190 (dk_at dksX38_bits_0 6 rfl rfl)
theorem dX38_bits_7 : decode cX38_bits 7 = .ok (.if_icmp .ge 20, 3) := dk_162 0 20 (dk_at dksX38_bits_0 7 rfl rfl)
theorem dX38_bits_10 : decode cX38_bits 10 = .ok (.iload_n 1, 1) := dk_27 (dk_at dksX38_bits_0 10 rfl rfl)
theorem dX38_bits_11 : decode cX38_bits 11 = .ok (.iconst 1, 1) := dk_4 (dk_at dksX38_bits_0 11 rfl rfl)
theorem dX38_bits_12 : decode cX38_bits 12 = .ok (.aload_n 0, 1) := dk_42 (dk_at dksX38_bits_0 12 rfl rfl)
theorem dX38_bits_13 : decode cX38_bits 13 = .ok (.iload_n 2, 1) := dk_28 (dk_at dksX38_bits_0 13 rfl rfl)
theorem dX38_bits_14 : decode cX38_bits 14 = .ok (.caload, 1) := dk_52 (dk_at dksX38_bits_0 14 rfl rfl)
theorem dX38_bits_15 : decode cX38_bits 15 = .ok (.bipush 97, 2) := dk_16 97 (dk_at dksX38_bits_0 15 rfl rfl)
theorem dX38_bits_17 : decode cX38_bits 17 = .ok (.isub, 1) := dk_100 (dk_at dksX38_bits_0 17 rfl rfl)
theorem dX38_bits_18 : decode cX38_bits 18 = .ok (.ishl, 1) := dk_120 (dk_at dksX38_bits_0 18 rfl rfl)
theorem dX38_bits_19 : decode cX38_bits 19 = .ok (.ior, 1) := dk_128 (dk_at dksX38_bits_0 19 rfl rfl)
theorem dX38_bits_20 : decode cX38_bits 20 = .ok (.istore_n 1, 1) := dk_60 (dk_at dksX38_bits_0 20 rfl rfl)
theorem dX38_bits_21 : decode cX38_bits 21 = .ok (.iinc 2 1, 3) := dk_132 2 1 (dk_at dksX38_bits_0 21 rfl rfl)
theorem dX38_bits_24 : decode cX38_bits 24 = .ok (.goto (-20), 3) := dk_167 255 236 (dk_at dksX38_bits_1 0 rfl rfl)
theorem dX38_bits_27 : decode cX38_bits 27 = .ok (.iload_n 1, 1) := dk_27 (dk_at dksX38_bits_1 3 rfl rfl)
theorem dX38_bits_28 : decode cX38_bits 28 = .ok (.ireturn, 1) := dk_172 (dk_at dksX38_bits_1 4 rfl rfl)
abbrev cX38_judge_3 : ByteArray := prog_5_method_6_code
def yX38_judge_3 : MethodName := ⟨RX38, "judge", "(I)V"⟩
def dkwX38_judge_3_1 : List UInt8 := [180, 0, 54, 27, 126, 153, 0, 7, 4, 167, 0, 4, 3, 182, 0, 50, 177]
abbrev dktX38_judge_3_1 : List UInt8 := dkwX38_judge_3_1 ++ []
def dkwX38_judge_3_0 : List UInt8 := [42, 42, 180, 0, 7, 180, 0, 54, 27, 2, 130, 126, 153, 0, 7, 4, 167, 0, 4, 3, 42, 180, 0, 7]
abbrev dktX38_judge_3_0 : List UInt8 := dkwX38_judge_3_0 ++ dktX38_judge_3_1
theorem dksX38_judge_3_0 : cX38_judge_3.data.toList.drop 0 = dktX38_judge_3_0 := by decide +kernel
theorem dksX38_judge_3_1 : cX38_judge_3.data.toList.drop 24 = dktX38_judge_3_1 := dk_seg dksX38_judge_3_0 24 rfl rfl
theorem dX38_judge_3_0 : decode cX38_judge_3 0 = .ok (.aload_n 0, 1) := dk_42 (dk_at dksX38_judge_3_0 0 rfl rfl)
theorem dX38_judge_3_1 : decode cX38_judge_3 1 = .ok (.aload_n 0, 1) := dk_42 (dk_at dksX38_judge_3_0 1 rfl rfl)
theorem dX38_judge_3_2 : decode cX38_judge_3 2 = .ok (.getfield 7, 3) := dk_180 0 7 (dk_at dksX38_judge_3_0 2 rfl rfl)
theorem dX38_judge_3_5 : decode cX38_judge_3 5 = .ok (.getfield 54, 3) := dk_180 0 54 (dk_at dksX38_judge_3_0 5 rfl rfl)
theorem dX38_judge_3_8 : decode cX38_judge_3 8 = .ok (.iload_n 1, 1) := dk_27 (dk_at dksX38_judge_3_0 8 rfl rfl)
theorem dX38_judge_3_9 : decode cX38_judge_3 9 = .ok (.iconst (-1), 1) := dk_2 (dk_at dksX38_judge_3_0 9 rfl rfl)
theorem dX38_judge_3_10 : decode cX38_judge_3 10 = .ok (.ixor, 1) := dk_130 (dk_at dksX38_judge_3_0 10 rfl rfl)
theorem dX38_judge_3_11 : decode cX38_judge_3 11 = .ok (.iand, 1) := dk_126 (dk_at dksX38_judge_3_0 11 rfl rfl)
theorem dX38_judge_3_12 : decode cX38_judge_3 12 = .ok (.ifCond .eq 7, 3) := dk_153 0 7 (dk_at dksX38_judge_3_0 12 rfl rfl)
theorem dX38_judge_3_15 : decode cX38_judge_3 15 = .ok (.iconst 1, 1) := dk_4 (dk_at dksX38_judge_3_0 15 rfl rfl)
theorem dX38_judge_3_16 : decode cX38_judge_3 16 = .ok (.goto 4, 3) := dk_167 0 4 (dk_at dksX38_judge_3_0 16 rfl rfl)
theorem dX38_judge_3_19 : decode cX38_judge_3 19 = .ok (.iconst 0, 1) := dk_3 (dk_at dksX38_judge_3_0 19 rfl rfl)
theorem dX38_judge_3_20 : decode cX38_judge_3 20 = .ok (.aload_n 0, 1) := dk_42 (dk_at dksX38_judge_3_0 20 rfl rfl)
theorem dX38_judge_3_21 : decode cX38_judge_3 21 = .ok (.getfield 7, 3) := dk_180 0 7 (dk_at dksX38_judge_3_0 21 rfl rfl)
theorem dX38_judge_3_24 : decode cX38_judge_3 24 = .ok (.getfield 54, 3) := dk_180 0 54 (dk_at dksX38_judge_3_1 0 rfl rfl)
theorem dX38_judge_3_27 : decode cX38_judge_3 27 = .ok (.iload_n 1, 1) := dk_27 (dk_at dksX38_judge_3_1 3 rfl rfl)
theorem dX38_judge_3_28 : decode cX38_judge_3 28 = .ok (.iand, 1) := dk_126 (dk_at dksX38_judge_3_1 4 rfl rfl)
theorem dX38_judge_3_29 : decode cX38_judge_3 29 = .ok (.ifCond .eq 7, 3) := dk_153 0 7 (dk_at dksX38_judge_3_1 5 rfl rfl)
theorem dX38_judge_3_32 : decode cX38_judge_3 32 = .ok (.iconst 1, 1) := dk_4 (dk_at dksX38_judge_3_1 8 rfl rfl)
theorem dX38_judge_3_33 : decode cX38_judge_3 33 = .ok (.goto 4, 3) := dk_167 0 4 (dk_at dksX38_judge_3_1 9 rfl rfl)
theorem dX38_judge_3_36 : decode cX38_judge_3 36 = .ok (.iconst 0, 1) := dk_3 (dk_at dksX38_judge_3_1 12 rfl rfl)
theorem dX38_judge_3_37 : decode cX38_judge_3 37 = .ok (.invokevirtual 50, 3) := dk_182 0 50 (dk_at dksX38_judge_3_1 13 rfl rfl)
theorem dX38_judge_3_40 : decode cX38_judge_3 40 = .ok (.return_, 1) := dk_177 (dk_at dksX38_judge_3_1 16 rfl rfl)
abbrev cX38_backwards : ByteArray := prog_5_method_7_code
def yX38_backwards : MethodName := ⟨RX38, "backwards", "(LConstraintHouse$Solver;)V"⟩
def dkwX38_backwards_3 : List UInt8 := [42, 180, 0, 13, 192, 0, 34, 184, 0, 36, 2, 130, 182, 0, 67, 42, 180, 0, 7, 43, 182, 0, 70, 177]
abbrev dktX38_backwards_3 : List UInt8 := dkwX38_backwards_3 ++ []
def dkwX38_backwards_2 : List UInt8 := [42, 180, 0, 7, 42, 180, 0, 63, 153, 0, 16, 42, 180, 0, 13, 192, 0, 34, 184, 0, 36, 167, 0, 15]
abbrev dktX38_backwards_2 : List UInt8 := dkwX38_backwards_2 ++ dktX38_backwards_3
def dkwX38_backwards_1 : List UInt8 := [42, 180, 0, 13, 193, 0, 29, 153, 0, 17, 42, 42, 180, 0, 13, 192, 0, 29, 182, 0, 61, 167, 0, 42]
abbrev dktX38_backwards_1 : List UInt8 := dkwX38_backwards_1 ++ dktX38_backwards_2
def dkwX38_backwards_0 : List UInt8 := [42, 180, 0, 13, 193, 0, 23, 153, 0, 17, 42, 42, 180, 0, 13, 192, 0, 23, 182, 0, 58, 167, 0, 66]
abbrev dktX38_backwards_0 : List UInt8 := dkwX38_backwards_0 ++ dktX38_backwards_1
theorem dksX38_backwards_0 : cX38_backwards.data.toList.drop 0 = dktX38_backwards_0 := by decide +kernel
theorem dksX38_backwards_1 : cX38_backwards.data.toList.drop 24 = dktX38_backwards_1 := dk_seg dksX38_backwards_0 24 rfl rfl
theorem dksX38_backwards_2 : cX38_backwards.data.toList.drop 48 = dktX38_backwards_2 := dk_seg dksX38_backwards_1 24 rfl rfl
theorem dksX38_backwards_3 : cX38_backwards.data.toList.drop 72 = dktX38_backwards_3 := dk_seg dksX38_backwards_2 24 rfl rfl
theorem dX38_backwards_0 : decode cX38_backwards 0 = .ok (.aload_n 0, 1) := dk_42 (dk_at dksX38_backwards_0 0 rfl rfl)
theorem dX38_backwards_1 : decode cX38_backwards 1 = .ok (.getfield 13, 3) := dk_180 0 13 (dk_at dksX38_backwards_0 1 rfl rfl)
theorem dX38_backwards_4 : decode cX38_backwards 4 = .ok (.instanceof 23, 3) := dk_193 0 23 (dk_at dksX38_backwards_0 4 rfl rfl)
theorem dX38_backwards_7 : decode cX38_backwards 7 = .ok (.ifCond .eq 17, 3) := dk_153 0 17 (dk_at dksX38_backwards_0 7 rfl rfl)
theorem dX38_backwards_10 : decode cX38_backwards 10 = .ok (.aload_n 0, 1) := dk_42 (dk_at dksX38_backwards_0 10 rfl rfl)
theorem dX38_backwards_11 : decode cX38_backwards 11 = .ok (.aload_n 0, 1) := dk_42 (dk_at dksX38_backwards_0 11 rfl rfl)
theorem dX38_backwards_12 : decode cX38_backwards 12 = .ok (.getfield 13, 3) := dk_180 0 13 (dk_at dksX38_backwards_0 12 rfl rfl)
theorem dX38_backwards_15 : decode cX38_backwards 15 = .ok (.checkcast 23, 3) := dk_192 0 23 (dk_at dksX38_backwards_0 15 rfl rfl)
theorem dX38_backwards_18 : decode cX38_backwards 18 = .ok (.invokevirtual 58, 3) := dk_182 0 58 (dk_at dksX38_backwards_0 18 rfl rfl)
theorem dX38_backwards_21 : decode cX38_backwards 21 = .ok (.goto 66, 3) := dk_167 0 66 (dk_at dksX38_backwards_0 21 rfl rfl)
theorem dX38_backwards_24 : decode cX38_backwards 24 = .ok (.aload_n 0, 1) := dk_42 (dk_at dksX38_backwards_1 0 rfl rfl)
theorem dX38_backwards_25 : decode cX38_backwards 25 = .ok (.getfield 13, 3) := dk_180 0 13 (dk_at dksX38_backwards_1 1 rfl rfl)
theorem dX38_backwards_28 : decode cX38_backwards 28 = .ok (.instanceof 29, 3) := dk_193 0 29 (dk_at dksX38_backwards_1 4 rfl rfl)
theorem dX38_backwards_31 : decode cX38_backwards 31 = .ok (.ifCond .eq 17, 3) := dk_153 0 17 (dk_at dksX38_backwards_1 7 rfl rfl)
theorem dX38_backwards_34 : decode cX38_backwards 34 = .ok (.aload_n 0, 1) := dk_42 (dk_at dksX38_backwards_1 10 rfl rfl)
theorem dX38_backwards_35 : decode cX38_backwards 35 = .ok (.aload_n 0, 1) := dk_42 (dk_at dksX38_backwards_1 11 rfl rfl)
theorem dX38_backwards_36 : decode cX38_backwards 36 = .ok (.getfield 13, 3) := dk_180 0 13 (dk_at dksX38_backwards_1 12 rfl rfl)
theorem dX38_backwards_39 : decode cX38_backwards 39 = .ok (.checkcast 29, 3) := dk_192 0 29 (dk_at dksX38_backwards_1 15 rfl rfl)
theorem dX38_backwards_42 : decode cX38_backwards 42 = .ok (.invokevirtual 61, 3) := dk_182 0 61 (dk_at dksX38_backwards_1 18 rfl rfl)
theorem dX38_backwards_45 : decode cX38_backwards 45 = .ok (.goto 42, 3) := dk_167 0 42 (dk_at dksX38_backwards_1 21 rfl rfl)
theorem dX38_backwards_48 : decode cX38_backwards 48 = .ok (.aload_n 0, 1) := dk_42 (dk_at dksX38_backwards_2 0 rfl rfl)
theorem dX38_backwards_49 : decode cX38_backwards 49 = .ok (.getfield 7, 3) := dk_180 0 7 (dk_at dksX38_backwards_2 1 rfl rfl)
theorem dX38_backwards_52 : decode cX38_backwards 52 = .ok (.aload_n 0, 1) := dk_42 (dk_at dksX38_backwards_2 4 rfl rfl)
theorem dX38_backwards_53 : decode cX38_backwards 53 = .ok (.getfield 63, 3) := dk_180 0 63 (dk_at dksX38_backwards_2 5 rfl rfl)
theorem dX38_backwards_56 : decode cX38_backwards 56 = .ok (.ifCond .eq 16, 3) := dk_153 0 16 (dk_at dksX38_backwards_2 8 rfl rfl)
theorem dX38_backwards_59 : decode cX38_backwards 59 = .ok (.aload_n 0, 1) := dk_42 (dk_at dksX38_backwards_2 11 rfl rfl)
theorem dX38_backwards_60 : decode cX38_backwards 60 = .ok (.getfield 13, 3) := dk_180 0 13 (dk_at dksX38_backwards_2 12 rfl rfl)
theorem dX38_backwards_63 : decode cX38_backwards 63 = .ok (.checkcast 34, 3) := dk_192 0 34 (dk_at dksX38_backwards_2 15 rfl rfl)
theorem dX38_backwards_66 : decode cX38_backwards 66 = .ok (.invokestatic 36, 3) := dk_184 0 36 (dk_at dksX38_backwards_2 18 rfl rfl)
theorem dX38_backwards_69 : decode cX38_backwards 69 = .ok (.goto 15, 3) := dk_167 0 15 (dk_at dksX38_backwards_2 21 rfl rfl)
theorem dX38_backwards_72 : decode cX38_backwards 72 = .ok (.aload_n 0, 1) := dk_42 (dk_at dksX38_backwards_3 0 rfl rfl)
theorem dX38_backwards_73 : decode cX38_backwards 73 = .ok (.getfield 13, 3) := dk_180 0 13 (dk_at dksX38_backwards_3 1 rfl rfl)
theorem dX38_backwards_76 : decode cX38_backwards 76 = .ok (.checkcast 34, 3) := dk_192 0 34 (dk_at dksX38_backwards_3 4 rfl rfl)
theorem dX38_backwards_79 : decode cX38_backwards 79 = .ok (.invokestatic 36, 3) := dk_184 0 36 (dk_at dksX38_backwards_3 7 rfl rfl)
theorem dX38_backwards_82 : decode cX38_backwards 82 = .ok (.iconst (-1), 1) := dk_2 (dk_at dksX38_backwards_3 10 rfl rfl)
theorem dX38_backwards_83 : decode cX38_backwards 83 = .ok (.ixor, 1) := dk_130 (dk_at dksX38_backwards_3 11 rfl rfl)
theorem dX38_backwards_84 : decode cX38_backwards 84 = .ok (.invokevirtual 67, 3) := dk_182 0 67 (dk_at dksX38_backwards_3 12 rfl rfl)
theorem dX38_backwards_87 : decode cX38_backwards 87 = .ok (.aload_n 0, 1) := dk_42 (dk_at dksX38_backwards_3 15 rfl rfl)
theorem dX38_backwards_88 : decode cX38_backwards 88 = .ok (.getfield 7, 3) := dk_180 0 7 (dk_at dksX38_backwards_3 16 rfl rfl)
theorem dX38_backwards_91 : decode cX38_backwards 91 = .ok (.aload_n 1, 1) := dk_43 (dk_at dksX38_backwards_3 19 rfl rfl)
theorem dX38_backwards_92 : decode cX38_backwards 92 = .ok (.invokevirtual 70, 3) := dk_182 0 70 (dk_at dksX38_backwards_3 20 rfl rfl)
theorem dX38_backwards_95 : decode cX38_backwards 95 = .ok (.return_, 1) := dk_177 (dk_at dksX38_backwards_3 23 rfl rfl)
abbrev cX38_hand : ByteArray := prog_5_method_8_code
def yX38_hand : MethodName := ⟨RX38, "hand", "([I)V"⟩
def dkwX38_hand_4 : List UInt8 := [57, 4, 132, 6, 1, 167, 255, 188, 42, 180, 0, 7, 40, 24, 4, 182, 0, 89, 177]
abbrev dktX38_hand_4 : List UInt8 := dkwX38_hand_4 ++ []
def dkwX38_hand_3 : List UInt8 := [167, 0, 25, 40, 43, 21, 6, 46, 135, 184, 0, 80, 73, 24, 4, 43, 21, 6, 46, 135, 184, 0, 86]
abbrev dktX38_hand_3 : List UInt8 := dkwX38_hand_3 ++ dktX38_hand_4
def dkwX38_hand_2 : List UInt8 := [180, 0, 43, 152, 155, 0, 44, 43, 21, 6, 46, 135, 42, 180, 0, 7, 180, 0, 47, 151, 158, 0, 6]
abbrev dktX38_hand_2 : List UInt8 := dkwX38_hand_2 ++ dktX38_hand_3
def dkwX38_hand_1 : List UInt8 := [57, 4, 4, 54, 6, 21, 6, 43, 3, 46, 163, 0, 66, 43, 21, 6, 46, 135, 42, 180, 0, 7]
abbrev dktX38_hand_1 : List UInt8 := dkwX38_hand_1 ++ dktX38_hand_2
def dkwX38_hand_0 : List UInt8 := [42, 180, 0, 63, 154, 0, 12, 42, 180, 0, 7, 43, 182, 0, 73, 177, 20, 0, 76, 73, 20, 0, 78]
abbrev dktX38_hand_0 : List UInt8 := dkwX38_hand_0 ++ dktX38_hand_1
theorem dksX38_hand_0 : cX38_hand.data.toList.drop 0 = dktX38_hand_0 := by decide +kernel
theorem dksX38_hand_1 : cX38_hand.data.toList.drop 23 = dktX38_hand_1 := dk_seg dksX38_hand_0 23 rfl rfl
theorem dksX38_hand_2 : cX38_hand.data.toList.drop 45 = dktX38_hand_2 := dk_seg dksX38_hand_1 22 rfl rfl
theorem dksX38_hand_3 : cX38_hand.data.toList.drop 68 = dktX38_hand_3 := dk_seg dksX38_hand_2 23 rfl rfl
theorem dksX38_hand_4 : cX38_hand.data.toList.drop 91 = dktX38_hand_4 := dk_seg dksX38_hand_3 23 rfl rfl
theorem dX38_hand_0 : decode cX38_hand 0 = .ok (.aload_n 0, 1) := dk_42 (dk_at dksX38_hand_0 0 rfl rfl)
theorem dX38_hand_1 : decode cX38_hand 1 = .ok (.getfield 63, 3) := dk_180 0 63 (dk_at dksX38_hand_0 1 rfl rfl)
theorem dX38_hand_4 : decode cX38_hand 4 = .ok (.ifCond .ne 12, 3) := dk_154 0 12 (dk_at dksX38_hand_0 4 rfl rfl)
theorem dX38_hand_7 : decode cX38_hand 7 = .ok (.aload_n 0, 1) := dk_42 (dk_at dksX38_hand_0 7 rfl rfl)
theorem dX38_hand_8 : decode cX38_hand 8 = .ok (.getfield 7, 3) := dk_180 0 7 (dk_at dksX38_hand_0 8 rfl rfl)
theorem dX38_hand_11 : decode cX38_hand 11 = .ok (.aload_n 1, 1) := dk_43 (dk_at dksX38_hand_0 11 rfl rfl)
theorem dX38_hand_12 : decode cX38_hand 12 = .ok (.invokevirtual 73, 3) := dk_182 0 73 (dk_at dksX38_hand_0 12 rfl rfl)
theorem dX38_hand_15 : decode cX38_hand 15 = .ok (.return_, 1) := dk_177 (dk_at dksX38_hand_0 15 rfl rfl)
theorem dX38_hand_16 : decode cX38_hand 16 = .ok (.ldc2_w 76, 3) := dk_20 0 76 (dk_at dksX38_hand_0 16 rfl rfl)
theorem dX38_hand_19 : decode cX38_hand 19 = .ok (.dstore_n 2, 1) := dk_73 (dk_at dksX38_hand_0 19 rfl rfl)
theorem dX38_hand_20 : decode cX38_hand 20 = .ok (.ldc2_w 78, 3) := dk_20 0 78 (dk_at dksX38_hand_0 20 rfl rfl)
theorem dX38_hand_23 : decode cX38_hand 23 = .ok (.dstore 4, 2) := dk_57 4 (dk_at dksX38_hand_1 0 rfl rfl)
theorem dX38_hand_25 : decode cX38_hand 25 = .ok (.iconst 1, 1) := dk_4 (dk_at dksX38_hand_1 2 rfl rfl)
theorem dX38_hand_26 : decode cX38_hand 26 = .ok (.istore 6, 2) := dk_54 6 (dk_at dksX38_hand_1 3 rfl rfl)
theorem dX38_hand_28 : decode cX38_hand 28 = .ok (.iload 6, 2) := dk_21 6 (dk_at dksX38_hand_1 5 rfl rfl)
theorem dX38_hand_30 : decode cX38_hand 30 = .ok (.aload_n 1, 1) := dk_43 (dk_at dksX38_hand_1 7 rfl rfl)
theorem dX38_hand_31 : decode cX38_hand 31 = .ok (.iconst 0, 1) := dk_3 (dk_at dksX38_hand_1 8 rfl rfl)
theorem dX38_hand_32 : decode cX38_hand 32 = .ok (.iaload, 1) := dk_46 (dk_at dksX38_hand_1 9 rfl rfl)
theorem dX38_hand_33 : decode cX38_hand 33 = .ok (.if_icmp .gt 66, 3) := dk_163 0 66 (dk_at dksX38_hand_1 10 rfl rfl)
theorem dX38_hand_36 : decode cX38_hand 36 = .ok (.aload_n 1, 1) := dk_43 (dk_at dksX38_hand_1 13 rfl rfl)
theorem dX38_hand_37 : decode cX38_hand 37 = .ok (.iload 6, 2) := dk_21 6 (dk_at dksX38_hand_1 14 rfl rfl)
theorem dX38_hand_39 : decode cX38_hand 39 = .ok (.iaload, 1) := dk_46 (dk_at dksX38_hand_1 16 rfl rfl)
theorem dX38_hand_40 : decode cX38_hand 40 = .ok (.i2d, 1) := dk_135 (dk_at dksX38_hand_1 17 rfl rfl)
theorem dX38_hand_41 : decode cX38_hand 41 = .ok (.aload_n 0, 1) := dk_42 (dk_at dksX38_hand_1 18 rfl rfl)
theorem dX38_hand_42 : decode cX38_hand 42 = .ok (.getfield 7, 3) := dk_180 0 7 (dk_at dksX38_hand_1 19 rfl rfl)
theorem dX38_hand_45 : decode cX38_hand 45 = .ok (.getfield 43, 3) := dk_180 0 43 (dk_at dksX38_hand_2 0 rfl rfl)
theorem dX38_hand_48 : decode cX38_hand 48 = .ok (.dcmp .g, 1) := dk_152 (dk_at dksX38_hand_2 3 rfl rfl)
theorem dX38_hand_49 : decode cX38_hand 49 = .ok (.ifCond .lt 44, 3) := dk_155 0 44 (dk_at dksX38_hand_2 4 rfl rfl)
theorem dX38_hand_52 : decode cX38_hand 52 = .ok (.aload_n 1, 1) := dk_43 (dk_at dksX38_hand_2 7 rfl rfl)
theorem dX38_hand_53 : decode cX38_hand 53 = .ok (.iload 6, 2) := dk_21 6 (dk_at dksX38_hand_2 8 rfl rfl)
theorem dX38_hand_55 : decode cX38_hand 55 = .ok (.iaload, 1) := dk_46 (dk_at dksX38_hand_2 10 rfl rfl)
theorem dX38_hand_56 : decode cX38_hand 56 = .ok (.i2d, 1) := dk_135 (dk_at dksX38_hand_2 11 rfl rfl)
theorem dX38_hand_57 : decode cX38_hand 57 = .ok (.aload_n 0, 1) := dk_42 (dk_at dksX38_hand_2 12 rfl rfl)
theorem dX38_hand_58 : decode cX38_hand 58 = .ok (.getfield 7, 3) := dk_180 0 7 (dk_at dksX38_hand_2 13 rfl rfl)
theorem dX38_hand_61 : decode cX38_hand 61 = .ok (.getfield 47, 3) := dk_180 0 47 (dk_at dksX38_hand_2 16 rfl rfl)
theorem dX38_hand_64 : decode cX38_hand 64 = .ok (.dcmp .l, 1) := dk_151 (dk_at dksX38_hand_2 19 rfl rfl)
theorem dX38_hand_65 : decode cX38_hand 65 = .ok (.ifCond .le 6, 3) := dk_158 0 6 (dk_at dksX38_hand_2 20 rfl rfl)
theorem dX38_hand_68 : decode cX38_hand 68 = .ok (.goto 25, 3) := dk_167 0 25 (dk_at dksX38_hand_3 0 rfl rfl)
theorem dX38_hand_71 : decode cX38_hand 71 = .ok (.dload_n 2, 1) := dk_40 (dk_at dksX38_hand_3 3 rfl rfl)
theorem dX38_hand_72 : decode cX38_hand 72 = .ok (.aload_n 1, 1) := dk_43 (dk_at dksX38_hand_3 4 rfl rfl)
theorem dX38_hand_73 : decode cX38_hand 73 = .ok (.iload 6, 2) := dk_21 6 (dk_at dksX38_hand_3 5 rfl rfl)
theorem dX38_hand_75 : decode cX38_hand 75 = .ok (.iaload, 1) := dk_46 (dk_at dksX38_hand_3 7 rfl rfl)
theorem dX38_hand_76 : decode cX38_hand 76 = .ok (.i2d, 1) := dk_135 (dk_at dksX38_hand_3 8 rfl rfl)
theorem dX38_hand_77 : decode cX38_hand 77 = .ok (.invokestatic 80, 3) := dk_184 0 80 (dk_at dksX38_hand_3 9 rfl rfl)
theorem dX38_hand_80 : decode cX38_hand 80 = .ok (.dstore_n 2, 1) := dk_73 (dk_at dksX38_hand_3 12 rfl rfl)
theorem dX38_hand_81 : decode cX38_hand 81 = .ok (.dload 4, 2) := dk_24 4 (dk_at dksX38_hand_3 13 rfl rfl)
theorem dX38_hand_83 : decode cX38_hand 83 = .ok (.aload_n 1, 1) := dk_43 (dk_at dksX38_hand_3 15 rfl rfl)
theorem dX38_hand_84 : decode cX38_hand 84 = .ok (.iload 6, 2) := dk_21 6 (dk_at dksX38_hand_3 16 rfl rfl)
theorem dX38_hand_86 : decode cX38_hand 86 = .ok (.iaload, 1) := dk_46 (dk_at dksX38_hand_3 18 rfl rfl)
theorem dX38_hand_87 : decode cX38_hand 87 = .ok (.i2d, 1) := dk_135 (dk_at dksX38_hand_3 19 rfl rfl)
theorem dX38_hand_88 : decode cX38_hand 88 = .ok (.invokestatic 86, 3) := dk_184 0 86 (dk_at dksX38_hand_3 20 rfl rfl)
theorem dX38_hand_91 : decode cX38_hand 91 = .ok (.dstore 4, 2) := dk_57 4 (dk_at dksX38_hand_4 0 rfl rfl)
theorem dX38_hand_93 : decode cX38_hand 93 = .ok (.iinc 6 1, 3) := dk_132 6 1 (dk_at dksX38_hand_4 2 rfl rfl)
theorem dX38_hand_96 : decode cX38_hand 96 = .ok (.goto (-68), 3) := dk_167 255 188 (dk_at dksX38_hand_4 5 rfl rfl)
theorem dX38_hand_99 : decode cX38_hand 99 = .ok (.aload_n 0, 1) := dk_42 (dk_at dksX38_hand_4 8 rfl rfl)
theorem dX38_hand_100 : decode cX38_hand 100 = .ok (.getfield 7, 3) := dk_180 0 7 (dk_at dksX38_hand_4 9 rfl rfl)
theorem dX38_hand_103 : decode cX38_hand 103 = .ok (.dload_n 2, 1) := dk_40 (dk_at dksX38_hand_4 12 rfl rfl)
theorem dX38_hand_104 : decode cX38_hand 104 = .ok (.dload 4, 2) := dk_24 4 (dk_at dksX38_hand_4 13 rfl rfl)
theorem dX38_hand_106 : decode cX38_hand 106 = .ok (.invokevirtual 89, 3) := dk_182 0 89 (dk_at dksX38_hand_4 15 rfl rfl)
theorem dX38_hand_109 : decode cX38_hand 109 = .ok (.return_, 1) := dk_177 (dk_at dksX38_hand_4 18 rfl rfl)
abbrev cX38_hand_2 : ByteArray := prog_5_method_9_code
def yX38_hand_2 : MethodName := ⟨RX38, "hand", "([D)V"⟩
def dkwX38_hand_2_3 : List UInt8 := [20, 0, 78, 43, 3, 49, 182, 0, 89, 177]
abbrev dktX38_hand_2_3 : List UInt8 := dkwX38_hand_2_3 ++ []
def dkwX38_hand_2_2 : List UInt8 := [182, 0, 89, 167, 0, 30, 42, 180, 0, 7, 180, 0, 47, 43, 4, 49, 152, 157, 0, 16, 42, 180, 0, 7]
abbrev dktX38_hand_2_2 : List UInt8 := dkwX38_hand_2_2 ++ dktX38_hand_2_3
def dkwX38_hand_2_1 : List UInt8 := [180, 0, 7, 180, 0, 43, 43, 3, 49, 151, 155, 0, 19, 42, 180, 0, 7, 43, 4, 49, 20, 0, 76]
abbrev dktX38_hand_2_1 : List UInt8 := dkwX38_hand_2_1 ++ dktX38_hand_2_2
def dkwX38_hand_2_0 : List UInt8 := [42, 180, 0, 63, 153, 0, 19, 42, 180, 0, 7, 43, 3, 49, 43, 4, 49, 182, 0, 89, 167, 0, 60, 42]
abbrev dktX38_hand_2_0 : List UInt8 := dkwX38_hand_2_0 ++ dktX38_hand_2_1
theorem dksX38_hand_2_0 : cX38_hand_2.data.toList.drop 0 = dktX38_hand_2_0 := by decide +kernel
theorem dksX38_hand_2_1 : cX38_hand_2.data.toList.drop 24 = dktX38_hand_2_1 := dk_seg dksX38_hand_2_0 24 rfl rfl
theorem dksX38_hand_2_2 : cX38_hand_2.data.toList.drop 47 = dktX38_hand_2_2 := dk_seg dksX38_hand_2_1 23 rfl rfl
theorem dksX38_hand_2_3 : cX38_hand_2.data.toList.drop 71 = dktX38_hand_2_3 := dk_seg dksX38_hand_2_2 24 rfl rfl
theorem dX38_hand_2_0 : decode cX38_hand_2 0 = .ok (.aload_n 0, 1) := dk_42 (dk_at dksX38_hand_2_0 0 rfl rfl)
theorem dX38_hand_2_1 : decode cX38_hand_2 1 = .ok (.getfield 63, 3) := dk_180 0 63 (dk_at dksX38_hand_2_0 1 rfl rfl)
theorem dX38_hand_2_4 : decode cX38_hand_2 4 = .ok (.ifCond .eq 19, 3) := dk_153 0 19 (dk_at dksX38_hand_2_0 4 rfl rfl)
theorem dX38_hand_2_7 : decode cX38_hand_2 7 = .ok (.aload_n 0, 1) := dk_42 (dk_at dksX38_hand_2_0 7 rfl rfl)
theorem dX38_hand_2_8 : decode cX38_hand_2 8 = .ok (.getfield 7, 3) := dk_180 0 7 (dk_at dksX38_hand_2_0 8 rfl rfl)
theorem dX38_hand_2_11 : decode cX38_hand_2 11 = .ok (.aload_n 1, 1) := dk_43 (dk_at dksX38_hand_2_0 11 rfl rfl)
theorem dX38_hand_2_12 : decode cX38_hand_2 12 = .ok (.iconst 0, 1) := dk_3 (dk_at dksX38_hand_2_0 12 rfl rfl)
theorem dX38_hand_2_13 : decode cX38_hand_2 13 = .ok (.daload, 1) := dk_49 (dk_at dksX38_hand_2_0 13 rfl rfl)
theorem dX38_hand_2_14 : decode cX38_hand_2 14 = .ok (.aload_n 1, 1) := dk_43 (dk_at dksX38_hand_2_0 14 rfl rfl)
theorem dX38_hand_2_15 : decode cX38_hand_2 15 = .ok (.iconst 1, 1) := dk_4 (dk_at dksX38_hand_2_0 15 rfl rfl)
theorem dX38_hand_2_16 : decode cX38_hand_2 16 = .ok (.daload, 1) := dk_49 (dk_at dksX38_hand_2_0 16 rfl rfl)
theorem dX38_hand_2_17 : decode cX38_hand_2 17 = .ok (.invokevirtual 89, 3) := dk_182 0 89 (dk_at dksX38_hand_2_0 17 rfl rfl)
theorem dX38_hand_2_20 : decode cX38_hand_2 20 = .ok (.goto 60, 3) := dk_167 0 60 (dk_at dksX38_hand_2_0 20 rfl rfl)
theorem dX38_hand_2_23 : decode cX38_hand_2 23 = .ok (.aload_n 0, 1) := dk_42 (dk_at dksX38_hand_2_0 23 rfl rfl)
theorem dX38_hand_2_24 : decode cX38_hand_2 24 = .ok (.getfield 7, 3) := dk_180 0 7 (dk_at dksX38_hand_2_1 0 rfl rfl)
theorem dX38_hand_2_27 : decode cX38_hand_2 27 = .ok (.getfield 43, 3) := dk_180 0 43 (dk_at dksX38_hand_2_1 3 rfl rfl)
theorem dX38_hand_2_30 : decode cX38_hand_2 30 = .ok (.aload_n 1, 1) := dk_43 (dk_at dksX38_hand_2_1 6 rfl rfl)
theorem dX38_hand_2_31 : decode cX38_hand_2 31 = .ok (.iconst 0, 1) := dk_3 (dk_at dksX38_hand_2_1 7 rfl rfl)
theorem dX38_hand_2_32 : decode cX38_hand_2 32 = .ok (.daload, 1) := dk_49 (dk_at dksX38_hand_2_1 8 rfl rfl)
theorem dX38_hand_2_33 : decode cX38_hand_2 33 = .ok (.dcmp .l, 1) := dk_151 (dk_at dksX38_hand_2_1 9 rfl rfl)
theorem dX38_hand_2_34 : decode cX38_hand_2 34 = .ok (.ifCond .lt 19, 3) := dk_155 0 19 (dk_at dksX38_hand_2_1 10 rfl rfl)
theorem dX38_hand_2_37 : decode cX38_hand_2 37 = .ok (.aload_n 0, 1) := dk_42 (dk_at dksX38_hand_2_1 13 rfl rfl)
theorem dX38_hand_2_38 : decode cX38_hand_2 38 = .ok (.getfield 7, 3) := dk_180 0 7 (dk_at dksX38_hand_2_1 14 rfl rfl)
theorem dX38_hand_2_41 : decode cX38_hand_2 41 = .ok (.aload_n 1, 1) := dk_43 (dk_at dksX38_hand_2_1 17 rfl rfl)
theorem dX38_hand_2_42 : decode cX38_hand_2 42 = .ok (.iconst 1, 1) := dk_4 (dk_at dksX38_hand_2_1 18 rfl rfl)
theorem dX38_hand_2_43 : decode cX38_hand_2 43 = .ok (.daload, 1) := dk_49 (dk_at dksX38_hand_2_1 19 rfl rfl)
theorem dX38_hand_2_44 : decode cX38_hand_2 44 = .ok (.ldc2_w 76, 3) := dk_20 0 76 (dk_at dksX38_hand_2_1 20 rfl rfl)
theorem dX38_hand_2_47 : decode cX38_hand_2 47 = .ok (.invokevirtual 89, 3) := dk_182 0 89 (dk_at dksX38_hand_2_2 0 rfl rfl)
theorem dX38_hand_2_50 : decode cX38_hand_2 50 = .ok (.goto 30, 3) := dk_167 0 30 (dk_at dksX38_hand_2_2 3 rfl rfl)
theorem dX38_hand_2_53 : decode cX38_hand_2 53 = .ok (.aload_n 0, 1) := dk_42 (dk_at dksX38_hand_2_2 6 rfl rfl)
theorem dX38_hand_2_54 : decode cX38_hand_2 54 = .ok (.getfield 7, 3) := dk_180 0 7 (dk_at dksX38_hand_2_2 7 rfl rfl)
theorem dX38_hand_2_57 : decode cX38_hand_2 57 = .ok (.getfield 47, 3) := dk_180 0 47 (dk_at dksX38_hand_2_2 10 rfl rfl)
theorem dX38_hand_2_60 : decode cX38_hand_2 60 = .ok (.aload_n 1, 1) := dk_43 (dk_at dksX38_hand_2_2 13 rfl rfl)
theorem dX38_hand_2_61 : decode cX38_hand_2 61 = .ok (.iconst 1, 1) := dk_4 (dk_at dksX38_hand_2_2 14 rfl rfl)
theorem dX38_hand_2_62 : decode cX38_hand_2 62 = .ok (.daload, 1) := dk_49 (dk_at dksX38_hand_2_2 15 rfl rfl)
theorem dX38_hand_2_63 : decode cX38_hand_2 63 = .ok (.dcmp .g, 1) := dk_152 (dk_at dksX38_hand_2_2 16 rfl rfl)
theorem dX38_hand_2_64 : decode cX38_hand_2 64 = .ok (.ifCond .gt 16, 3) := dk_157 0 16 (dk_at dksX38_hand_2_2 17 rfl rfl)
theorem dX38_hand_2_67 : decode cX38_hand_2 67 = .ok (.aload_n 0, 1) := dk_42 (dk_at dksX38_hand_2_2 20 rfl rfl)
theorem dX38_hand_2_68 : decode cX38_hand_2 68 = .ok (.getfield 7, 3) := dk_180 0 7 (dk_at dksX38_hand_2_2 21 rfl rfl)
theorem dX38_hand_2_71 : decode cX38_hand_2 71 = .ok (.ldc2_w 78, 3) := dk_20 0 78 (dk_at dksX38_hand_2_3 0 rfl rfl)
theorem dX38_hand_2_74 : decode cX38_hand_2 74 = .ok (.aload_n 1, 1) := dk_43 (dk_at dksX38_hand_2_3 3 rfl rfl)
theorem dX38_hand_2_75 : decode cX38_hand_2 75 = .ok (.iconst 0, 1) := dk_3 (dk_at dksX38_hand_2_3 4 rfl rfl)
theorem dX38_hand_2_76 : decode cX38_hand_2 76 = .ok (.daload, 1) := dk_49 (dk_at dksX38_hand_2_3 5 rfl rfl)
theorem dX38_hand_2_77 : decode cX38_hand_2 77 = .ok (.invokevirtual 89, 3) := dk_182 0 89 (dk_at dksX38_hand_2_3 6 rfl rfl)
theorem dX38_hand_2_80 : decode cX38_hand_2 80 = .ok (.return_, 1) := dk_177 (dk_at dksX38_hand_2_3 9 rfl rfl)
theorem q309 : (Jvm.Cond.initialized "ConstraintHouse$Among") ∈ lw_all := lw_g (lw_at lw_m1 49 rfl) rfl
theorem q1371 : (Jvm.Cond.fieldLink "ConstraintHouse$Among" (43 : Nat) "ConstraintHouse$Part" "low" "D") ∈ lw_all := lw_g (lw_at lw_m5 151 rfl) rfl
theorem q1409 : (Jvm.Cond.fieldLink "ConstraintHouse$Among" (47 : Nat) "ConstraintHouse$Part" "high" "D") ∈ lw_all := lw_g (lw_at lw_m5 189 rfl) rfl
theorem q1458 : (Jvm.Cond.fieldLink "ConstraintHouse$Among" (63 : Nat) "ConstraintHouse$Among" "yes" "Z") ∈ lw_all := lw_g (lw_at lw_m5 238 rfl) rfl
theorem q1459 : (Jvm.Cond.sameField "ConstraintHouse$Among" "ConstraintHouse$Part" "yes" "Z") ∈ lw_all := lw_g (lw_at lw_m5 239 rfl) rfl
theorem q1469 : (Jvm.Cond.fieldLink "ConstraintHouse$Among" (54 : Nat) "ConstraintHouse$Part" "letters" "I") ∈ lw_all := lw_g (lw_at lw_m6 9 rfl) rfl
theorem q1536 : (Jvm.Cond.selects "ConstraintHouse$Among" ({ cls := "ConstraintHouse$Part", name := "sort", desc := "()I" } : Jvm.MethodName) ({ cls := "ConstraintHouse$Judged", name := "sort", desc := "()I" } : Jvm.MethodName)) ∈ lw_all := lw_g (lw_at lw_m6 76 rfl) rfl
theorem q1933 : (Jvm.Cond.instantiable "ConstraintHouse$Among" (7 : Nat)) ∈ lw_all := lw_g (lw_at lw_m7 233 rfl) rfl
theorem q1935 : (Jvm.Cond.instanceMethod ({ cls := "ConstraintHouse$Among", name := "<init>", desc := "(LConstraintHouse$Part;Ljava/lang/Object;)V" } : Jvm.MethodName)) ∈ lw_all := lw_g (lw_at lw_m7 235 rfl) rfl
theorem q1936 : (Jvm.Cond.code ({ cls := "ConstraintHouse$Among", name := "<init>", desc := "(LConstraintHouse$Part;Ljava/lang/Object;)V" } : Jvm.MethodName) prog_5_method_1_code (3 : Nat) (Option.none : Option Jvm.ClassFile.FieldType)) ∈ lw_all := lw_g (lw_at lw_m7 236 rfl) rfl
theorem q1937 : (Jvm.Cond.methodLinkNest "ConstraintHouse$Among" (1 : Nat) ({ cls := "ConstraintHouse$Judged", name := "<init>", desc := "()V" } : Jvm.MethodName) "ConstraintHouse") ∈ lw_tbl := lw_at lw_m7 237 rfl
theorem q1938 : (Jvm.Cond.fieldLink "ConstraintHouse$Among" (7 : Nat) "ConstraintHouse$Among" "x" "LConstraintHouse$Part;") ∈ lw_all := lw_g (lw_at lw_m7 238 rfl) rfl
theorem q1939 : (Jvm.Cond.fieldLink "ConstraintHouse$Among" (13 : Nat) "ConstraintHouse$Among" "of" "Ljava/lang/Object;") ∈ lw_all := lw_g (lw_at lw_m7 239 rfl) rfl
theorem q1940 : (Jvm.Cond.laysFinal "ConstraintHouse$Among" "ConstraintHouse$Among" "x" "LConstraintHouse$Part;") ∈ lw_all := lw_g (lw_at lw_m8 0 rfl) rfl
theorem q1941 : (Jvm.Cond.soleField "ConstraintHouse$Among" "x") ∈ lw_all := lw_g (lw_at lw_m8 1 rfl) rfl
theorem q1942 : (Jvm.Cond.laysFinal "ConstraintHouse$Among" "ConstraintHouse$Among" "of" "Ljava/lang/Object;") ∈ lw_all := lw_g (lw_at lw_m8 2 rfl) rfl
theorem q1943 : (Jvm.Cond.soleField "ConstraintHouse$Among" "of") ∈ lw_all := lw_g (lw_at lw_m8 3 rfl) rfl
theorem q1944 : (Jvm.Cond.lays "ConstraintHouse$Among" "ConstraintHouse$Part" "low" "D") ∈ lw_all := lw_g (lw_at lw_m8 4 rfl) rfl
theorem q1945 : (Jvm.Cond.lays "ConstraintHouse$Among" "ConstraintHouse$Part" "high" "D") ∈ lw_all := lw_g (lw_at lw_m8 5 rfl) rfl
theorem q1946 : (Jvm.Cond.lays "ConstraintHouse$Among" "ConstraintHouse$Part" "no" "Z") ∈ lw_all := lw_g (lw_at lw_m8 6 rfl) rfl
theorem q1947 : (Jvm.Cond.lays "ConstraintHouse$Among" "ConstraintHouse$Part" "yes" "Z") ∈ lw_all := lw_g (lw_at lw_m8 7 rfl) rfl
theorem q1948 : (Jvm.Cond.lays "ConstraintHouse$Among" "ConstraintHouse$Part" "letters" "I") ∈ lw_all := lw_g (lw_at lw_m8 8 rfl) rfl
theorem q1949 : (Jvm.Cond.superclass "ConstraintHouse$Among" "ConstraintHouse$Judged") ∈ lw_all := lw_g (lw_at lw_m8 9 rfl) rfl
theorem q2478 : (Jvm.Cond.selects "ConstraintHouse$Among" ({ cls := "ConstraintHouse$Narrows", name := "forwards", desc := "(LConstraintHouse$Solver;)V" } : Jvm.MethodName) ({ cls := "ConstraintHouse$Among", name := "forwards", desc := "(LConstraintHouse$Solver;)V" } : Jvm.MethodName)) ∈ lw_all := lw_g (lw_at lw_m10 58 rfl) rfl
theorem q2479 : (Jvm.Cond.instanceMethod ({ cls := "ConstraintHouse$Among", name := "forwards", desc := "(LConstraintHouse$Solver;)V" } : Jvm.MethodName)) ∈ lw_all := lw_g (lw_at lw_m10 59 rfl) rfl
theorem q2480 : (Jvm.Cond.code ({ cls := "ConstraintHouse$Among", name := "forwards", desc := "(LConstraintHouse$Solver;)V" } : Jvm.MethodName) prog_5_method_2_code (2 : Nat) (Option.none : Option Jvm.ClassFile.FieldType)) ∈ lw_all := lw_g (lw_at lw_m10 60 rfl) rfl
theorem q2784 : (Jvm.Cond.classLink "ConstraintHouse$Among" (23 : Nat) "[I") ∈ lw_all := lw_g (lw_at lw_m11 124 rfl) rfl
theorem q2785 : (Jvm.Cond.methodLink "ConstraintHouse$Among" (25 : Nat) ({ cls := "ConstraintHouse$Among", name := "judge", desc := "([I)V" } : Jvm.MethodName)) ∈ lw_all := lw_g (lw_at lw_m11 125 rfl) rfl
theorem q2786 : (Jvm.Cond.privateMethod ({ cls := "ConstraintHouse$Among", name := "judge", desc := "([I)V" } : Jvm.MethodName)) ∈ lw_tbl := lw_at lw_m11 126 rfl
theorem q2787 : (Jvm.Cond.instanceMethod ({ cls := "ConstraintHouse$Among", name := "judge", desc := "([I)V" } : Jvm.MethodName)) ∈ lw_all := lw_g (lw_at lw_m11 127 rfl) rfl
theorem q2788 : (Jvm.Cond.code ({ cls := "ConstraintHouse$Among", name := "judge", desc := "([I)V" } : Jvm.MethodName) prog_5_method_3_code (4 : Nat) (Option.none : Option Jvm.ClassFile.FieldType)) ∈ lw_all := lw_g (lw_at lw_m11 128 rfl) rfl
theorem q2789 : (Jvm.Cond.methodLink "ConstraintHouse$Among" (50 : Nat) ({ cls := "ConstraintHouse$Among", name := "truth", desc := "(ZZ)V" } : Jvm.MethodName)) ∈ lw_all := lw_g (lw_at lw_m11 129 rfl) rfl
theorem q2790 : (Jvm.Cond.sameMethod "ConstraintHouse$Among" "ConstraintHouse$Part" "truth" "(ZZ)V") ∈ lw_all := lw_g (lw_at lw_m11 130 rfl) rfl
theorem q2791 : (Jvm.Cond.selects "ConstraintHouse$Among" ({ cls := "ConstraintHouse$Among", name := "truth", desc := "(ZZ)V" } : Jvm.MethodName) ({ cls := "ConstraintHouse$Part", name := "truth", desc := "(ZZ)V" } : Jvm.MethodName)) ∈ lw_all := lw_g (lw_at lw_m11 131 rfl) rfl
theorem q2792 : (Jvm.Cond.classLink "ConstraintHouse$Among" (29 : Nat) "[D") ∈ lw_all := lw_g (lw_at lw_m11 132 rfl) rfl
theorem q2793 : (Jvm.Cond.methodLink "ConstraintHouse$Among" (31 : Nat) ({ cls := "ConstraintHouse$Among", name := "judge", desc := "([D)V" } : Jvm.MethodName)) ∈ lw_all := lw_g (lw_at lw_m11 133 rfl) rfl
theorem q2794 : (Jvm.Cond.privateMethod ({ cls := "ConstraintHouse$Among", name := "judge", desc := "([D)V" } : Jvm.MethodName)) ∈ lw_tbl := lw_at lw_m11 134 rfl
theorem q2795 : (Jvm.Cond.instanceMethod ({ cls := "ConstraintHouse$Among", name := "judge", desc := "([D)V" } : Jvm.MethodName)) ∈ lw_all := lw_g (lw_at lw_m11 135 rfl) rfl
theorem q2796 : (Jvm.Cond.code ({ cls := "ConstraintHouse$Among", name := "judge", desc := "([D)V" } : Jvm.MethodName) prog_5_method_4_code (4 : Nat) (Option.none : Option Jvm.ClassFile.FieldType)) ∈ lw_all := lw_g (lw_at lw_m11 136 rfl) rfl
theorem q2797 : (Jvm.Cond.classLink "ConstraintHouse$Among" (34 : Nat) "[C") ∈ lw_all := lw_g (lw_at lw_m11 137 rfl) rfl
theorem q2798 : (Jvm.Cond.methodLink "ConstraintHouse$Among" (36 : Nat) ({ cls := "ConstraintHouse$Among", name := "bits", desc := "([C)I" } : Jvm.MethodName)) ∈ lw_all := lw_g (lw_at lw_m11 138 rfl) rfl
theorem q2799 : (Jvm.Cond.static ({ cls := "ConstraintHouse$Among", name := "bits", desc := "([C)I" } : Jvm.MethodName)) ∈ lw_all := lw_g (lw_at lw_m11 139 rfl) rfl
theorem q2800 : (Jvm.Cond.code ({ cls := "ConstraintHouse$Among", name := "bits", desc := "([C)I" } : Jvm.MethodName) prog_5_method_5_code (3 : Nat) (Option.some Jvm.ClassFile.FieldType.int)) ∈ lw_all := lw_g (lw_at lw_m11 140 rfl) rfl
theorem q2801 : (Jvm.Cond.methodLink "ConstraintHouse$Among" (40 : Nat) ({ cls := "ConstraintHouse$Among", name := "judge", desc := "(I)V" } : Jvm.MethodName)) ∈ lw_all := lw_g (lw_at lw_m11 141 rfl) rfl
theorem q2802 : (Jvm.Cond.privateMethod ({ cls := "ConstraintHouse$Among", name := "judge", desc := "(I)V" } : Jvm.MethodName)) ∈ lw_tbl := lw_at lw_m11 142 rfl
theorem q2803 : (Jvm.Cond.instanceMethod ({ cls := "ConstraintHouse$Among", name := "judge", desc := "(I)V" } : Jvm.MethodName)) ∈ lw_all := lw_g (lw_at lw_m11 143 rfl) rfl
theorem q2804 : (Jvm.Cond.code ({ cls := "ConstraintHouse$Among", name := "judge", desc := "(I)V" } : Jvm.MethodName) prog_5_method_6_code (2 : Nat) (Option.none : Option Jvm.ClassFile.FieldType)) ∈ lw_all := lw_g (lw_at lw_m11 144 rfl) rfl
theorem q2815 : (Jvm.Cond.selects "ConstraintHouse$Among" ({ cls := "ConstraintHouse$Part", name := "hasMeet", desc := "(LConstraintHouse$Part;)Z" } : Jvm.MethodName) ({ cls := "ConstraintHouse$Part", name := "hasMeet", desc := "(LConstraintHouse$Part;)Z" } : Jvm.MethodName)) ∈ lw_all := lw_g (lw_at lw_m11 155 rfl) rfl
theorem q2866 : (Jvm.Cond.selects "ConstraintHouse$Among" ({ cls := "ConstraintHouse$Part", name := "meets", desc := "(ZZ)V" } : Jvm.MethodName) ({ cls := "ConstraintHouse$Part", name := "meets", desc := "(ZZ)V" } : Jvm.MethodName)) ∈ lw_all := lw_g (lw_at lw_m11 206 rfl) rfl
theorem q2902 : (Jvm.Cond.selects "ConstraintHouse$Among" ({ cls := "ConstraintHouse$Part", name := "meets", desc := "(LConstraintHouse$Part;)V" } : Jvm.MethodName) ({ cls := "ConstraintHouse$Part", name := "meets", desc := "(LConstraintHouse$Part;)V" } : Jvm.MethodName)) ∈ lw_all := lw_g (lw_at lw_m12 2 rfl) rfl
theorem q2924 : (Jvm.Cond.selects "ConstraintHouse$Among" ({ cls := "ConstraintHouse$Part", name := "meet", desc := "(DD)V" } : Jvm.MethodName) ({ cls := "ConstraintHouse$Part", name := "meet", desc := "(DD)V" } : Jvm.MethodName)) ∈ lw_all := lw_g (lw_at lw_m12 24 rfl) rfl
theorem q2947 : (Jvm.Cond.selects "ConstraintHouse$Among" ({ cls := "ConstraintHouse$Part", name := "meets", desc := "(I)V" } : Jvm.MethodName) ({ cls := "ConstraintHouse$Part", name := "meets", desc := "(I)V" } : Jvm.MethodName)) ∈ lw_all := lw_g (lw_at lw_m12 47 rfl) rfl
theorem q2973 : (Jvm.Cond.selects "ConstraintHouse$Among" ({ cls := "ConstraintHouse$Part", name := "lose", desc := "(D)V" } : Jvm.MethodName) ({ cls := "ConstraintHouse$Part", name := "lose", desc := "(D)V" } : Jvm.MethodName)) ∈ lw_all := lw_g (lw_at lw_m12 73 rfl) rfl
theorem q3034 : (Jvm.Cond.selects "ConstraintHouse$Among" ({ cls := "ConstraintHouse$Part", name := "backwards", desc := "(LConstraintHouse$Solver;)V" } : Jvm.MethodName) ({ cls := "ConstraintHouse$Among", name := "backwards", desc := "(LConstraintHouse$Solver;)V" } : Jvm.MethodName)) ∈ lw_all := lw_g (lw_at lw_m12 134 rfl) rfl
theorem q3035 : (Jvm.Cond.instanceMethod ({ cls := "ConstraintHouse$Among", name := "backwards", desc := "(LConstraintHouse$Solver;)V" } : Jvm.MethodName)) ∈ lw_all := lw_g (lw_at lw_m12 135 rfl) rfl
theorem q3036 : (Jvm.Cond.code ({ cls := "ConstraintHouse$Among", name := "backwards", desc := "(LConstraintHouse$Solver;)V" } : Jvm.MethodName) prog_5_method_7_code (2 : Nat) (Option.none : Option Jvm.ClassFile.FieldType)) ∈ lw_all := lw_g (lw_at lw_m12 136 rfl) rfl
theorem q3037 : (Jvm.Cond.methodLink "ConstraintHouse$Among" (58 : Nat) ({ cls := "ConstraintHouse$Among", name := "hand", desc := "([I)V" } : Jvm.MethodName)) ∈ lw_all := lw_g (lw_at lw_m12 137 rfl) rfl
theorem q3038 : (Jvm.Cond.privateMethod ({ cls := "ConstraintHouse$Among", name := "hand", desc := "([I)V" } : Jvm.MethodName)) ∈ lw_tbl := lw_at lw_m12 138 rfl
theorem q3039 : (Jvm.Cond.instanceMethod ({ cls := "ConstraintHouse$Among", name := "hand", desc := "([I)V" } : Jvm.MethodName)) ∈ lw_all := lw_g (lw_at lw_m12 139 rfl) rfl
theorem q3040 : (Jvm.Cond.code ({ cls := "ConstraintHouse$Among", name := "hand", desc := "([I)V" } : Jvm.MethodName) prog_5_method_8_code (7 : Nat) (Option.none : Option Jvm.ClassFile.FieldType)) ∈ lw_all := lw_g (lw_at lw_m12 140 rfl) rfl
theorem q3041 : (Jvm.Cond.methodLink "ConstraintHouse$Among" (73 : Nat) ({ cls := "ConstraintHouse$Part", name := "lose", desc := "([I)V" } : Jvm.MethodName)) ∈ lw_all := lw_g (lw_at lw_m12 141 rfl) rfl
theorem q3045 : (Jvm.Cond.selects "ConstraintHouse$Among" ({ cls := "ConstraintHouse$Part", name := "lose", desc := "([I)V" } : Jvm.MethodName) ({ cls := "ConstraintHouse$Part", name := "lose", desc := "([I)V" } : Jvm.MethodName)) ∈ lw_all := lw_g (lw_at lw_m12 145 rfl) rfl
theorem q3072 : (Jvm.Cond.constantDouble "ConstraintHouse$Among" (76 : Nat) (9218868437227405312 : UInt64)) ∈ lw_all := lw_g (lw_at lw_m12 172 rfl) rfl
theorem q3073 : (Jvm.Cond.constantDouble "ConstraintHouse$Among" (78 : Nat) (18442240474082181120 : UInt64)) ∈ lw_all := lw_g (lw_at lw_m12 173 rfl) rfl
theorem q3074 : (Jvm.Cond.methodLink "ConstraintHouse$Among" (80 : Nat) ({ cls := "java/lang/Math", name := "min", desc := "(DD)D" } : Jvm.MethodName)) ∈ lw_all := lw_g (lw_at lw_m12 174 rfl) rfl
theorem q3075 : (Jvm.Cond.methodLink "ConstraintHouse$Among" (86 : Nat) ({ cls := "java/lang/Math", name := "max", desc := "(DD)D" } : Jvm.MethodName)) ∈ lw_all := lw_g (lw_at lw_m12 175 rfl) rfl
theorem q3076 : (Jvm.Cond.methodLink "ConstraintHouse$Among" (89 : Nat) ({ cls := "ConstraintHouse$Part", name := "meet", desc := "(DD)V" } : Jvm.MethodName)) ∈ lw_all := lw_g (lw_at lw_m12 176 rfl) rfl
theorem q3077 : (Jvm.Cond.methodLink "ConstraintHouse$Among" (61 : Nat) ({ cls := "ConstraintHouse$Among", name := "hand", desc := "([D)V" } : Jvm.MethodName)) ∈ lw_all := lw_g (lw_at lw_m12 177 rfl) rfl
theorem q3078 : (Jvm.Cond.privateMethod ({ cls := "ConstraintHouse$Among", name := "hand", desc := "([D)V" } : Jvm.MethodName)) ∈ lw_tbl := lw_at lw_m12 178 rfl
theorem q3079 : (Jvm.Cond.instanceMethod ({ cls := "ConstraintHouse$Among", name := "hand", desc := "([D)V" } : Jvm.MethodName)) ∈ lw_all := lw_g (lw_at lw_m12 179 rfl) rfl
theorem q3080 : (Jvm.Cond.code ({ cls := "ConstraintHouse$Among", name := "hand", desc := "([D)V" } : Jvm.MethodName) prog_5_method_9_code (2 : Nat) (Option.none : Option Jvm.ClassFile.FieldType)) ∈ lw_all := lw_g (lw_at lw_m12 180 rfl) rfl
theorem q3081 : (Jvm.Cond.methodLink "ConstraintHouse$Among" (67 : Nat) ({ cls := "ConstraintHouse$Part", name := "meets", desc := "(I)V" } : Jvm.MethodName)) ∈ lw_all := lw_g (lw_at lw_m12 181 rfl) rfl
theorem q3082 : (Jvm.Cond.methodLink "ConstraintHouse$Among" (70 : Nat) ({ cls := "ConstraintHouse$Part", name := "enter", desc := "(LConstraintHouse$Solver;)V" } : Jvm.MethodName)) ∈ lw_all := lw_g (lw_at lw_m12 182 rfl) rfl
theorem q3261 : (Jvm.Cond.selects "ConstraintHouse$Among" ({ cls := "ConstraintHouse$Part", name := "enter", desc := "(LConstraintHouse$Solver;)V" } : Jvm.MethodName) ({ cls := "ConstraintHouse$Judged", name := "enter", desc := "(LConstraintHouse$Solver;)V" } : Jvm.MethodName)) ∈ lw_all := lw_g (lw_at lw_m13 121 rfl) rfl
theorem q4842 : (Jvm.Cond.castable "ConstraintHouse$Among" "java/lang/Object") ∈ lw_tbl := lw_at lw_m20 22 rfl
theorem q4877 : (Jvm.Cond.castable "ConstraintHouse$Among" "ConstraintHouse$Part") ∈ lw_tbl := lw_at lw_m20 57 rfl
theorem in_X38 : ∀ w ∈ wsX380, w ∈ lw_all := lw_in wsX380 [1944, 1945, 1946, 1947, 1948, 1940, 1942] (by decide +kernel) (by decide +kernel)
/-! ConstraintHouse$Row -/
set_option maxRecDepth 100000
def RX39 : String := "ConstraintHouse$Row"
def TX39 : u_T := fun k => match k with
  | 0 => ("ConstraintHouse$Row", "sort", "I", true)
  | 1 => ("ConstraintHouse$Row", "cells", "[LConstraintHouse$Variable;", true)
  | _ => ("ConstraintHouse$Row", "weights", "[I", false)
def tyX39 : Nat → FieldType := fun k => match k with
  | 0 => .int
  | 1 => .array (.object "ConstraintHouse$Variable")
  | _ => .array .int
abbrev wsX390 : List Cond := u_ws RX39 TX39 3
theorem nmX39 : ∀ a, a < 3 → ∀ b, b < 3 → a ≠ b → (TX39 a).2.1 ≠ (TX39 b).2.1 := by decide +kernel
theorem tyX39_ok : ∀ k, k < 3 → parseFieldDescriptor (TX39 k).2.2.1 = some (tyX39 k) := by decide +kernel
abbrev cX39_init : ByteArray := prog_32_method_1_code
def yX39_init : MethodName := ⟨RX39, "<init>", "(I[LConstraintHouse$Variable;)V"⟩
def dkwX39_init_0 : List UInt8 := [42, 183, 0, 1, 42, 27, 181, 0, 7, 42, 44, 181, 0, 13, 177]
abbrev dktX39_init_0 : List UInt8 := dkwX39_init_0 ++ []
theorem dksX39_init_0 : cX39_init.data.toList.drop 0 = dktX39_init_0 := by decide +kernel
theorem dX39_init_0 : decode cX39_init 0 = .ok (.aload_n 0, 1) := dk_42 (dk_at dksX39_init_0 0 rfl rfl)
theorem dX39_init_1 : decode cX39_init 1 = .ok (.invokespecial 1, 3) := dk_183 0 1 (dk_at dksX39_init_0 1 rfl rfl)
theorem dX39_init_4 : decode cX39_init 4 = .ok (.aload_n 0, 1) := dk_42 (dk_at dksX39_init_0 4 rfl rfl)
theorem dX39_init_5 : decode cX39_init 5 = .ok (.iload_n 1, 1) := dk_27 (dk_at dksX39_init_0 5 rfl rfl)
theorem dX39_init_6 : decode cX39_init 6 = .ok (.putfield 7, 3) := dk_181 0 7 (dk_at dksX39_init_0 6 rfl rfl)
theorem dX39_init_9 : decode cX39_init 9 = .ok (.aload_n 0, 1) := dk_42 (dk_at dksX39_init_0 9 rfl rfl)
theorem dX39_init_10 : decode cX39_init 10 = .ok (.aload_n 2, 1) := dk_44 (dk_at dksX39_init_0 10 rfl rfl)
theorem dX39_init_11 : decode cX39_init 11 = .ok (.putfield 13, 3) := dk_181 0 13 (dk_at dksX39_init_0 11 rfl rfl)
theorem dX39_init_14 : decode cX39_init 14 = .ok (.return_, 1) := dk_177 (dk_at dksX39_init_0 14 rfl rfl)
theorem q322 : (Jvm.Cond.initialized "ConstraintHouse$Row") ∈ lw_all := lw_g (lw_at lw_m1 62 rfl) rfl
theorem q2300 : (Jvm.Cond.instantiable "ConstraintHouse$Row" (3 : Nat)) ∈ lw_all := lw_g (lw_at lw_m9 120 rfl) rfl
theorem q2302 : (Jvm.Cond.instanceMethod ({ cls := "ConstraintHouse$Row", name := "<init>", desc := "(I[LConstraintHouse$Variable;)V" } : Jvm.MethodName)) ∈ lw_all := lw_g (lw_at lw_m9 122 rfl) rfl
theorem q2303 : (Jvm.Cond.code ({ cls := "ConstraintHouse$Row", name := "<init>", desc := "(I[LConstraintHouse$Variable;)V" } : Jvm.MethodName) prog_32_method_1_code (3 : Nat) (Option.none : Option Jvm.ClassFile.FieldType)) ∈ lw_all := lw_g (lw_at lw_m9 123 rfl) rfl
theorem q2304 : (Jvm.Cond.methodLink "ConstraintHouse$Row" (1 : Nat) ({ cls := "java/lang/Object", name := "<init>", desc := "()V" } : Jvm.MethodName)) ∈ lw_all := lw_g (lw_at lw_m9 124 rfl) rfl
theorem q2305 : (Jvm.Cond.fieldLink "ConstraintHouse$Row" (7 : Nat) "ConstraintHouse$Row" "sort" "I") ∈ lw_all := lw_g (lw_at lw_m9 125 rfl) rfl
theorem q2308 : (Jvm.Cond.fieldLink "ConstraintHouse$Row" (13 : Nat) "ConstraintHouse$Row" "cells" "[LConstraintHouse$Variable;") ∈ lw_all := lw_g (lw_at lw_m9 128 rfl) rfl
theorem q2313 : (Jvm.Cond.laysFinal "ConstraintHouse$Row" "ConstraintHouse$Row" "sort" "I") ∈ lw_all := lw_g (lw_at lw_m9 133 rfl) rfl
theorem q2314 : (Jvm.Cond.soleField "ConstraintHouse$Row" "sort") ∈ lw_all := lw_g (lw_at lw_m9 134 rfl) rfl
theorem q2315 : (Jvm.Cond.laysFinal "ConstraintHouse$Row" "ConstraintHouse$Row" "cells" "[LConstraintHouse$Variable;") ∈ lw_all := lw_g (lw_at lw_m9 135 rfl) rfl
theorem q2316 : (Jvm.Cond.soleField "ConstraintHouse$Row" "cells") ∈ lw_all := lw_g (lw_at lw_m9 136 rfl) rfl
theorem q2317 : (Jvm.Cond.lays "ConstraintHouse$Row" "ConstraintHouse$Row" "weights" "[I") ∈ lw_all := lw_g (lw_at lw_m9 137 rfl) rfl
theorem q2318 : (Jvm.Cond.soleField "ConstraintHouse$Row" "weights") ∈ lw_all := lw_g (lw_at lw_m9 138 rfl) rfl
theorem q2319 : (Jvm.Cond.superclass "ConstraintHouse$Row" "java/lang/Object") ∈ lw_all := lw_g (lw_at lw_m9 139 rfl) rfl
theorem q4847 : (Jvm.Cond.castable "ConstraintHouse$Row" "java/lang/Object") ∈ lw_tbl := lw_at lw_m20 27 rfl
theorem in_X39 : ∀ w ∈ wsX390, w ∈ lw_all := lw_in wsX390 [2313, 2315, 2317] (by decide +kernel) (by decide +kernel)
/-! ConstraintHouse$Splits -/
set_option maxRecDepth 100000
def RX40 : String := "ConstraintHouse$Splits"
abbrev cX40_hasBounds : ByteArray := prog_37_method_3_code
def yX40_hasBounds : MethodName := ⟨RX40, "hasBounds", "()Z"⟩
theorem dX40_hasBounds_0 : decode cX40_hasBounds 0 = .ok (.iconst 0, 1) := by decide +kernel
theorem dX40_hasBounds_1 : decode cX40_hasBounds 1 = .ok (.ireturn, 1) := by decide +kernel
abbrev cX40_told : ByteArray := prog_37_method_4_code
def yX40_told : MethodName := ⟨RX40, "told", "()I"⟩
def dkwX40_told_0 : List UInt8 := [42, 185, 0, 1, 1, 0, 153, 0, 7, 5, 167, 0, 9, 42, 185, 0, 7, 1, 0, 172]
abbrev dktX40_told_0 : List UInt8 := dkwX40_told_0 ++ []
theorem dksX40_told_0 : cX40_told.data.toList.drop 0 = dktX40_told_0 := by decide +kernel
theorem dX40_told_0 : decode cX40_told 0 = .ok (.aload_n 0, 1) := dk_42 (dk_at dksX40_told_0 0 rfl rfl)
theorem dX40_told_1 : decode cX40_told 1 = .ok (.invokeinterface 1 1, 5) := by decide +kernel
theorem dX40_told_6 : decode cX40_told 6 = .ok (.ifCond .eq 7, 3) := dk_153 0 7 (dk_at dksX40_told_0 6 rfl rfl)
theorem dX40_told_9 : decode cX40_told 9 = .ok (.iconst 2, 1) := dk_5 (dk_at dksX40_told_0 9 rfl rfl)
theorem dX40_told_10 : decode cX40_told 10 = .ok (.goto 9, 3) := dk_167 0 9 (dk_at dksX40_told_0 10 rfl rfl)
theorem dX40_told_13 : decode cX40_told 13 = .ok (.aload_n 0, 1) := dk_42 (dk_at dksX40_told_0 13 rfl rfl)
theorem dX40_told_14 : decode cX40_told 14 = .ok (.invokeinterface 7 1, 5) := by decide +kernel
theorem dX40_told_19 : decode cX40_told 19 = .ok (.ireturn, 1) := dk_172 (dk_at dksX40_told_0 19 rfl rfl)
theorem q2390 : (Jvm.Cond.declares ({ cls := "ConstraintHouse$Splits", name := "things", desc := "()I" } : Jvm.MethodName)) ∈ lw_tbl := lw_at lw_m9 210 rfl
theorem q2411 : (Jvm.Cond.interfaceMethod "ConstraintHouse$Splits" "ConstraintHouse$Splits" "hasBounds" "()Z") ∈ lw_tbl := lw_at lw_m9 231 rfl
theorem q2412 : (Jvm.Cond.declares ({ cls := "ConstraintHouse$Splits", name := "hasBounds", desc := "()Z" } : Jvm.MethodName)) ∈ lw_tbl := lw_at lw_m9 232 rfl
theorem q2415 : (Jvm.Cond.instanceMethod ({ cls := "ConstraintHouse$Splits", name := "hasBounds", desc := "()Z" } : Jvm.MethodName)) ∈ lw_all := lw_g (lw_at lw_m9 235 rfl) rfl
theorem q2416 : (Jvm.Cond.publicMethod ({ cls := "ConstraintHouse$Splits", name := "hasBounds", desc := "()Z" } : Jvm.MethodName)) ∈ lw_tbl := lw_at lw_m9 236 rfl
theorem q2417 : (Jvm.Cond.code ({ cls := "ConstraintHouse$Splits", name := "hasBounds", desc := "()Z" } : Jvm.MethodName) prog_37_method_3_code (1 : Nat) (Option.some Jvm.ClassFile.FieldType.boolean)) ∈ lw_all := lw_g (lw_at lw_m9 237 rfl) rfl
theorem q3400 : (Jvm.Cond.declares ({ cls := "ConstraintHouse$Splits", name := "isFixed", desc := "(D)Z" } : Jvm.MethodName)) ∈ lw_tbl := lw_at lw_m14 20 rfl
theorem q3523 : (Jvm.Cond.interfaceMethod "ConstraintHouse$Splits" "ConstraintHouse$Splits" "told" "()I") ∈ lw_tbl := lw_at lw_m14 143 rfl
theorem q3524 : (Jvm.Cond.declares ({ cls := "ConstraintHouse$Splits", name := "told", desc := "()I" } : Jvm.MethodName)) ∈ lw_tbl := lw_at lw_m14 144 rfl
theorem q3526 : (Jvm.Cond.instanceMethod ({ cls := "ConstraintHouse$Splits", name := "told", desc := "()I" } : Jvm.MethodName)) ∈ lw_all := lw_g (lw_at lw_m14 146 rfl) rfl
theorem q3527 : (Jvm.Cond.publicMethod ({ cls := "ConstraintHouse$Splits", name := "told", desc := "()I" } : Jvm.MethodName)) ∈ lw_tbl := lw_at lw_m14 147 rfl
theorem q3528 : (Jvm.Cond.code ({ cls := "ConstraintHouse$Splits", name := "told", desc := "()I" } : Jvm.MethodName) prog_37_method_4_code (1 : Nat) (Option.some Jvm.ClassFile.FieldType.int)) ∈ lw_all := lw_g (lw_at lw_m14 148 rfl) rfl
theorem q3529 : (Jvm.Cond.interfaceEntry "ConstraintHouse$Splits" (1 : Nat)) ∈ lw_tbl := lw_at lw_m14 149 rfl
theorem q3530 : (Jvm.Cond.methodLink "ConstraintHouse$Splits" (1 : Nat) ({ cls := "ConstraintHouse$Splits", name := "hasBounds", desc := "()Z" } : Jvm.MethodName)) ∈ lw_all := lw_g (lw_at lw_m14 150 rfl) rfl
theorem q3531 : (Jvm.Cond.interfaceEntry "ConstraintHouse$Splits" (7 : Nat)) ∈ lw_tbl := lw_at lw_m14 151 rfl
theorem q3532 : (Jvm.Cond.methodLink "ConstraintHouse$Splits" (7 : Nat) ({ cls := "ConstraintHouse$Splits", name := "things", desc := "()I" } : Jvm.MethodName)) ∈ lw_all := lw_g (lw_at lw_m14 152 rfl) rfl
theorem q3533 : (Jvm.Cond.interfaceMethod "ConstraintHouse$Splits" "ConstraintHouse$Splits" "things" "()I") ∈ lw_tbl := lw_at lw_m14 153 rfl
theorem q4801 : (Jvm.Cond.initialized "ConstraintHouse$Splits") ∈ lw_all := lw_g (lw_at lw_m19 221 rfl) rfl
/-! ConstraintHouse$Turns -/
set_option maxRecDepth 100000
def RX41 : String := "ConstraintHouse$Turns"
abbrev cX41_shares : ByteArray := prog_42_method_2_code
def yX41_shares : MethodName := ⟨RX41, "shares", "(LConstraintHouse$Part;LConstraintHouse$Part;LConstraintHouse$Part;)V"⟩
def dkwX41_shares_0 : List UInt8 := [42, 43, 45, 44, 185, 0, 1, 4, 0, 42, 43, 44, 45, 185, 0, 1, 4, 0, 177]
abbrev dktX41_shares_0 : List UInt8 := dkwX41_shares_0 ++ []
theorem dksX41_shares_0 : cX41_shares.data.toList.drop 0 = dktX41_shares_0 := by decide +kernel
theorem dX41_shares_0 : decode cX41_shares 0 = .ok (.aload_n 0, 1) := dk_42 (dk_at dksX41_shares_0 0 rfl rfl)
theorem dX41_shares_1 : decode cX41_shares 1 = .ok (.aload_n 1, 1) := dk_43 (dk_at dksX41_shares_0 1 rfl rfl)
theorem dX41_shares_2 : decode cX41_shares 2 = .ok (.aload_n 3, 1) := dk_45 (dk_at dksX41_shares_0 2 rfl rfl)
theorem dX41_shares_3 : decode cX41_shares 3 = .ok (.aload_n 2, 1) := dk_44 (dk_at dksX41_shares_0 3 rfl rfl)
theorem dX41_shares_4 : decode cX41_shares 4 = .ok (.invokeinterface 1 4, 5) := by decide +kernel
theorem dX41_shares_9 : decode cX41_shares 9 = .ok (.aload_n 0, 1) := dk_42 (dk_at dksX41_shares_0 9 rfl rfl)
theorem dX41_shares_10 : decode cX41_shares 10 = .ok (.aload_n 1, 1) := dk_43 (dk_at dksX41_shares_0 10 rfl rfl)
theorem dX41_shares_11 : decode cX41_shares 11 = .ok (.aload_n 2, 1) := dk_44 (dk_at dksX41_shares_0 11 rfl rfl)
theorem dX41_shares_12 : decode cX41_shares 12 = .ok (.aload_n 3, 1) := dk_45 (dk_at dksX41_shares_0 12 rfl rfl)
theorem dX41_shares_13 : decode cX41_shares 13 = .ok (.invokeinterface 1 4, 5) := by decide +kernel
theorem dX41_shares_18 : decode cX41_shares 18 = .ok (.return_, 1) := dk_177 (dk_at dksX41_shares_0 18 rfl rfl)
theorem q3108 : (Jvm.Cond.interfaceMethod "ConstraintHouse$Turns" "ConstraintHouse$Turns" "shares" "(LConstraintHouse$Part;LConstraintHouse$Part;LConstraintHouse$Part;)V") ∈ lw_tbl := lw_at lw_m12 208 rfl
theorem q3109 : (Jvm.Cond.declares ({ cls := "ConstraintHouse$Turns", name := "shares", desc := "(LConstraintHouse$Part;LConstraintHouse$Part;LConstraintHouse$Part;)V" } : Jvm.MethodName)) ∈ lw_tbl := lw_at lw_m12 209 rfl
theorem q3112 : (Jvm.Cond.instanceMethod ({ cls := "ConstraintHouse$Turns", name := "shares", desc := "(LConstraintHouse$Part;LConstraintHouse$Part;LConstraintHouse$Part;)V" } : Jvm.MethodName)) ∈ lw_all := lw_g (lw_at lw_m12 212 rfl) rfl
theorem q3113 : (Jvm.Cond.publicMethod ({ cls := "ConstraintHouse$Turns", name := "shares", desc := "(LConstraintHouse$Part;LConstraintHouse$Part;LConstraintHouse$Part;)V" } : Jvm.MethodName)) ∈ lw_tbl := lw_at lw_m12 213 rfl
theorem q3114 : (Jvm.Cond.code ({ cls := "ConstraintHouse$Turns", name := "shares", desc := "(LConstraintHouse$Part;LConstraintHouse$Part;LConstraintHouse$Part;)V" } : Jvm.MethodName) prog_42_method_2_code (4 : Nat) (Option.none : Option Jvm.ClassFile.FieldType)) ∈ lw_all := lw_g (lw_at lw_m12 214 rfl) rfl
theorem q3115 : (Jvm.Cond.interfaceEntry "ConstraintHouse$Turns" (1 : Nat)) ∈ lw_tbl := lw_at lw_m12 215 rfl
theorem q3116 : (Jvm.Cond.methodLink "ConstraintHouse$Turns" (1 : Nat) ({ cls := "ConstraintHouse$Turns", name := "share", desc := "(LConstraintHouse$Part;LConstraintHouse$Part;LConstraintHouse$Part;)V" } : Jvm.MethodName)) ∈ lw_all := lw_g (lw_at lw_m12 216 rfl) rfl
theorem q3117 : (Jvm.Cond.interfaceMethod "ConstraintHouse$Turns" "ConstraintHouse$Turns" "share" "(LConstraintHouse$Part;LConstraintHouse$Part;LConstraintHouse$Part;)V") ∈ lw_tbl := lw_at lw_m12 217 rfl
theorem q3118 : (Jvm.Cond.declares ({ cls := "ConstraintHouse$Turns", name := "share", desc := "(LConstraintHouse$Part;LConstraintHouse$Part;LConstraintHouse$Part;)V" } : Jvm.MethodName)) ∈ lw_tbl := lw_at lw_m12 218 rfl
theorem q4802 : (Jvm.Cond.initialized "ConstraintHouse$Turns") ∈ lw_all := lw_g (lw_at lw_m19 222 rfl) rfl
