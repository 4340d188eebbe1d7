/-! OwlYears$Spot -/
set_option maxRecDepth 100000
def RX4 : String := "OwlYears$Spot"
def TX4 : u_T := fun k => match k with
  | 0 => ("OwlYears$Spot", "row", "I", true)
  | _ => ("OwlYears$Spot", "column", "I", true)
def tyX4 : Nat → FieldType := fun k => match k with
  | 0 => .int
  | _ => .int
abbrev wsX40 : List Cond := u_ws RX4 TX4 2
theorem nmX4 : ∀ a, a < 2 → ∀ b, b < 2 → a ≠ b → (TX4 a).2.1 ≠ (TX4 b).2.1 := by decide +kernel
theorem tyX4_ok : ∀ k, k < 2 → parseFieldDescriptor (TX4 k).2.2.1 = some (tyX4 k) := by decide +kernel
abbrev cX4_init : ByteArray := prog_6_method_1_code
def yX4_init : MethodName := ⟨RX4, "<init>", "(I)V"⟩
def dkwX4_init_0 : List UInt8 := [42, 183, 0, 3, 42, 27, 16, 8, 108, 181, 0, 9, 42, 27, 16, 8, 112, 181, 0, 15, 177]
abbrev dktX4_init_0 : List UInt8 := dkwX4_init_0 ++ []
theorem dksX4_init_0 : cX4_init.data.toList.drop 0 = dktX4_init_0 := by decide +kernel
theorem dX4_init_0 : decode cX4_init 0 = .ok (.aload_n 0, 1) := dk_42 (dk_at dksX4_init_0 0 rfl rfl)
theorem dX4_init_1 : decode cX4_init 1 = .ok (.invokespecial 3, 3) := dk_183 0 3 (dk_at dksX4_init_0 1 rfl rfl)
theorem dX4_init_4 : decode cX4_init 4 = .ok (.aload_n 0, 1) := dk_42 (dk_at dksX4_init_0 4 rfl rfl)
theorem dX4_init_5 : decode cX4_init 5 = .ok (.iload_n 1, 1) := dk_27 (dk_at dksX4_init_0 5 rfl rfl)
theorem dX4_init_6 : decode cX4_init 6 = .ok (.bipush 8, 2) := dk_16 8 (dk_at dksX4_init_0 6 rfl rfl)
theorem dX4_init_8 : decode cX4_init 8 = .ok (.idiv, 1) := dk_108 (dk_at dksX4_init_0 8 rfl rfl)
theorem dX4_init_9 : decode cX4_init 9 = .ok (.putfield 9, 3) := dk_181 0 9 (dk_at dksX4_init_0 9 rfl rfl)
theorem dX4_init_12 : decode cX4_init 12 = .ok (.aload_n 0, 1) := dk_42 (dk_at dksX4_init_0 12 rfl rfl)
theorem dX4_init_13 : decode cX4_init 13 = .ok (.iload_n 1, 1) := dk_27 (dk_at dksX4_init_0 13 rfl rfl)
theorem dX4_init_14 : decode cX4_init 14 = .ok (.bipush 8, 2) := dk_16 8 (dk_at dksX4_init_0 14 rfl rfl)
theorem dX4_init_16 : decode cX4_init 16 = .ok (.irem, 1) := dk_112 (dk_at dksX4_init_0 16 rfl rfl)
theorem dX4_init_17 : decode cX4_init 17 = .ok (.putfield 15, 3) := dk_181 0 15 (dk_at dksX4_init_0 17 rfl rfl)
theorem dX4_init_20 : decode cX4_init 20 = .ok (.return_, 1) := dk_177 (dk_at dksX4_init_0 20 rfl rfl)
abbrev cX4_hashCode : ByteArray := prog_6_method_3_code
def yX4_hashCode : MethodName := ⟨RX4, "hashCode", "()I"⟩
def dkwX4_hashCode_0 : List UInt8 := [16, 8, 42, 180, 0, 9, 104, 42, 180, 0, 15, 96, 172]
abbrev dktX4_hashCode_0 : List UInt8 := dkwX4_hashCode_0 ++ []
theorem dksX4_hashCode_0 : cX4_hashCode.data.toList.drop 0 = dktX4_hashCode_0 := by decide +kernel
theorem dX4_hashCode_0 : decode cX4_hashCode 0 = .ok (.bipush 8, 2) := dk_16 8 (dk_at dksX4_hashCode_0 0 rfl rfl)
theorem dX4_hashCode_2 : decode cX4_hashCode 2 = .ok (.aload_n 0, 1) := dk_42 (dk_at dksX4_hashCode_0 2 rfl rfl)
theorem dX4_hashCode_3 : decode cX4_hashCode 3 = .ok (.getfield 9, 3) := dk_180 0 9 (dk_at dksX4_hashCode_0 3 rfl rfl)
theorem dX4_hashCode_6 : decode cX4_hashCode 6 = .ok (.imul, 1) := dk_104 (dk_at dksX4_hashCode_0 6 rfl rfl)
theorem dX4_hashCode_7 : decode cX4_hashCode 7 = .ok (.aload_n 0, 1) := dk_42 (dk_at dksX4_hashCode_0 7 rfl rfl)
theorem dX4_hashCode_8 : decode cX4_hashCode 8 = .ok (.getfield 15, 3) := dk_180 0 15 (dk_at dksX4_hashCode_0 8 rfl rfl)
theorem dX4_hashCode_11 : decode cX4_hashCode 11 = .ok (.iadd, 1) := dk_96 (dk_at dksX4_hashCode_0 11 rfl rfl)
theorem dX4_hashCode_12 : decode cX4_hashCode 12 = .ok (.ireturn, 1) := dk_172 (dk_at dksX4_hashCode_0 12 rfl rfl)
abbrev cX4_equals : ByteArray := prog_6_method_2_code
def yX4_equals : MethodName := ⟨RX4, "equals", "(Ljava/lang/Object;)Z"⟩
def dkwX4_equals_1 : List UInt8 := [192, 0, 10, 180, 0, 15, 42, 180, 0, 15, 160, 0, 7, 4, 167, 0, 4, 3, 172]
abbrev dktX4_equals_1 : List UInt8 := dkwX4_equals_1 ++ []
def dkwX4_equals_0 : List UInt8 := [43, 193, 0, 10, 153, 0, 35, 43, 192, 0, 10, 180, 0, 9, 42, 180, 0, 9, 160, 0, 21, 43]
abbrev dktX4_equals_0 : List UInt8 := dkwX4_equals_0 ++ dktX4_equals_1
theorem dksX4_equals_0 : cX4_equals.data.toList.drop 0 = dktX4_equals_0 := by decide +kernel
theorem dksX4_equals_1 : cX4_equals.data.toList.drop 22 = dktX4_equals_1 := dk_seg dksX4_equals_0 22 rfl rfl
theorem dX4_equals_0 : decode cX4_equals 0 = .ok (.aload_n 1, 1) := dk_43 (dk_at dksX4_equals_0 0 rfl rfl)
theorem dX4_equals_1 : decode cX4_equals 1 = .ok (.instanceof 10, 3) := dk_193 0 10 (dk_at dksX4_equals_0 1 rfl rfl)
theorem dX4_equals_4 : decode cX4_equals 4 = .ok (.ifCond .eq 35, 3) := dk_153 0 35 (dk_at dksX4_equals_0 4 rfl rfl)
theorem dX4_equals_7 : decode cX4_equals 7 = .ok (.aload_n 1, 1) := dk_43 (dk_at dksX4_equals_0 7 rfl rfl)
theorem dX4_equals_8 : decode cX4_equals 8 = .ok (.checkcast 10, 3) := dk_192 0 10 (dk_at dksX4_equals_0 8 rfl rfl)
theorem dX4_equals_11 : decode cX4_equals 11 = .ok (.getfield 9, 3) := dk_180 0 9 (dk_at dksX4_equals_0 11 rfl rfl)
theorem dX4_equals_14 : decode cX4_equals 14 = .ok (.aload_n 0, 1) := dk_42 (dk_at dksX4_equals_0 14 rfl rfl)
theorem dX4_equals_15 : decode cX4_equals 15 = .ok (.getfield 9, 3) := dk_180 0 9 (dk_at dksX4_equals_0 15 rfl rfl)
theorem dX4_equals_18 : decode cX4_equals 18 = .ok (.if_icmp .ne 21, 3) := dk_160 0 21 (dk_at dksX4_equals_0 18 rfl rfl)
theorem dX4_equals_21 : decode cX4_equals 21 = .ok (.aload_n 1, 1) := dk_43 (dk_at dksX4_equals_0 21 rfl rfl)
theorem dX4_equals_22 : decode cX4_equals 22 = .ok (.checkcast 10, 3) := dk_192 0 10 (dk_at dksX4_equals_1 0 rfl rfl)
theorem dX4_equals_25 : decode cX4_equals 25 = .ok (.getfield 15, 3) := dk_180 0 15 (dk_at dksX4_equals_1 3 rfl rfl)
theorem dX4_equals_28 : decode cX4_equals 28 = .ok (.aload_n 0, 1) := dk_42 (dk_at dksX4_equals_1 6 rfl rfl)
theorem dX4_equals_29 : decode cX4_equals 29 = .ok (.getfield 15, 3) := dk_180 0 15 (dk_at dksX4_equals_1 7 rfl rfl)
theorem dX4_equals_32 : decode cX4_equals 32 = .ok (.if_icmp .ne 7, 3) := dk_160 0 7 (dk_at dksX4_equals_1 10 rfl rfl)
theorem dX4_equals_35 : decode cX4_equals 35 = .ok (.iconst 1, 1) := dk_4 (dk_at dksX4_equals_1 13 rfl rfl)
theorem dX4_equals_36 : decode cX4_equals 36 = .ok (.goto 4, 3) := dk_167 0 4 (dk_at dksX4_equals_1 14 rfl rfl)
theorem dX4_equals_39 : decode cX4_equals 39 = .ok (.iconst 0, 1) := dk_3 (dk_at dksX4_equals_1 17 rfl rfl)
theorem dX4_equals_40 : decode cX4_equals 40 = .ok (.ireturn, 1) := dk_172 (dk_at dksX4_equals_1 18 rfl rfl)
theorem q137 : (Jvm.Cond.initialized "OwlYears$Spot") ∈ lw_all := lw_g (lw_at lw_m1 19 rfl) rfl
theorem q446 : (Jvm.Cond.selects "OwlYears$Spot" ({ cls := "java/lang/Object", name := "getClass", desc := "()Ljava/lang/Class;" } : Jvm.MethodName) ({ cls := "java/lang/Object", name := "getClass", desc := "()Ljava/lang/Class;" } : Jvm.MethodName)) ∈ lw_all := lw_g (lw_at lw_m2 88 rfl) rfl
theorem q478 : (Jvm.Cond.instantiable "OwlYears$Spot" (2 : Nat)) ∈ lw_all := lw_g (lw_at lw_m2 120 rfl) rfl
theorem q480 : (Jvm.Cond.instanceMethod ({ cls := "OwlYears$Spot", name := "<init>", desc := "(I)V" } : Jvm.MethodName)) ∈ lw_all := lw_g (lw_at lw_m2 122 rfl) rfl
theorem q481 : (Jvm.Cond.code ({ cls := "OwlYears$Spot", name := "<init>", desc := "(I)V" } : Jvm.MethodName) prog_6_method_1_code (2 : Nat) (Option.none : Option Jvm.ClassFile.FieldType)) ∈ lw_all := lw_g (lw_at lw_m2 123 rfl) rfl
theorem q482 : (Jvm.Cond.methodLink "OwlYears$Spot" (3 : Nat) ({ cls := "java/lang/Object", name := "<init>", desc := "()V" } : Jvm.MethodName)) ∈ lw_all := lw_g (lw_at lw_m2 124 rfl) rfl
theorem q483 : (Jvm.Cond.fieldLink "OwlYears$Spot" (9 : Nat) "OwlYears$Spot" "row" "I") ∈ lw_all := lw_g (lw_at lw_m2 125 rfl) rfl
theorem q484 : (Jvm.Cond.fieldLink "OwlYears$Spot" (15 : Nat) "OwlYears$Spot" "column" "I") ∈ lw_all := lw_g (lw_at lw_m2 126 rfl) rfl
theorem q485 : (Jvm.Cond.laysFinal "OwlYears$Spot" "OwlYears$Spot" "row" "I") ∈ lw_all := lw_g (lw_at lw_m2 127 rfl) rfl
theorem q486 : (Jvm.Cond.soleField "OwlYears$Spot" "row") ∈ lw_all := lw_g (lw_at lw_m2 128 rfl) rfl
theorem q487 : (Jvm.Cond.laysFinal "OwlYears$Spot" "OwlYears$Spot" "column" "I") ∈ lw_all := lw_g (lw_at lw_m2 129 rfl) rfl
theorem q488 : (Jvm.Cond.soleField "OwlYears$Spot" "column") ∈ lw_all := lw_g (lw_at lw_m2 130 rfl) rfl
theorem q489 : (Jvm.Cond.superclass "OwlYears$Spot" "java/lang/Object") ∈ lw_all := lw_g (lw_at lw_m2 131 rfl) rfl
theorem q506 : (Jvm.Cond.selects "OwlYears$Spot" ({ cls := "java/lang/Object", name := "hashCode", desc := "()I" } : Jvm.MethodName) ({ cls := "OwlYears$Spot", name := "hashCode", desc := "()I" } : Jvm.MethodName)) ∈ lw_all := lw_g (lw_at lw_m2 148 rfl) rfl
theorem q507 : (Jvm.Cond.instanceMethod ({ cls := "OwlYears$Spot", name := "hashCode", desc := "()I" } : Jvm.MethodName)) ∈ lw_all := lw_g (lw_at lw_m2 149 rfl) rfl
theorem q508 : (Jvm.Cond.code ({ cls := "OwlYears$Spot", name := "hashCode", desc := "()I" } : Jvm.MethodName) prog_6_method_3_code (1 : Nat) (Option.some Jvm.ClassFile.FieldType.int)) ∈ lw_all := lw_g (lw_at lw_m2 150 rfl) rfl
theorem q1125 : (Jvm.Cond.selects "OwlYears$Spot" ({ cls := "java/lang/Object", name := "equals", desc := "(Ljava/lang/Object;)Z" } : Jvm.MethodName) ({ cls := "OwlYears$Spot", name := "equals", desc := "(Ljava/lang/Object;)Z" } : Jvm.MethodName)) ∈ lw_all := lw_g (lw_at lw_m5 47 rfl) rfl
theorem q1126 : (Jvm.Cond.instanceMethod ({ cls := "OwlYears$Spot", name := "equals", desc := "(Ljava/lang/Object;)Z" } : Jvm.MethodName)) ∈ lw_all := lw_g (lw_at lw_m5 48 rfl) rfl
theorem q1127 : (Jvm.Cond.code ({ cls := "OwlYears$Spot", name := "equals", desc := "(Ljava/lang/Object;)Z" } : Jvm.MethodName) prog_6_method_2_code (2 : Nat) (Option.some Jvm.ClassFile.FieldType.boolean)) ∈ lw_all := lw_g (lw_at lw_m5 49 rfl) rfl
theorem q1128 : (Jvm.Cond.classLink "OwlYears$Spot" (10 : Nat) "OwlYears$Spot") ∈ lw_all := lw_g (lw_at lw_m5 50 rfl) rfl
theorem q2975 : (Jvm.Cond.castable "OwlYears$Spot" "java/lang/Object") ∈ lw_tbl := lw_at lw_m12 217 rfl
theorem in_X4 : ∀ w ∈ wsX40, w ∈ lw_all := lw_in wsX40 [485, 487] (by decide +kernel) (by decide +kernel)
