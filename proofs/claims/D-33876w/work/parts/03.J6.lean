/-! java/lang/StringBuilder -/
set_option maxRecDepth 100000
def RJ6 : String := "java/lang/StringBuilder"
def TJ6 : u_T := fun k => match k with
  | 0 => ("java/lang/AbstractStringBuilder", "value", "[B", false)
  | 1 => ("java/lang/AbstractStringBuilder", "coder", "B", false)
  | 2 => ("java/lang/AbstractStringBuilder", "maybeLatin1", "Z", false)
  | _ => ("java/lang/AbstractStringBuilder", "count", "I", false)
def tyJ6 : Nat → FieldType := fun k => match k with
  | 0 => .array .byte
  | 1 => .byte
  | 2 => .boolean
  | _ => .int
abbrev wsJ60 : List Cond := u_ws RJ6 TJ6 4
theorem nmJ6 : ∀ a, a < 4 → ∀ b, b < 4 → a ≠ b → (TJ6 a).2.1 ≠ (TJ6 b).2.1 := by decide +kernel
theorem tyJ6_ok : ∀ k, k < 4 → parseFieldDescriptor (TJ6 k).2.2.1 = some (tyJ6 k) := by decide +kernel
abbrev cJ6_init : ByteArray := prog_28_method_2_code
def yJ6_init : MethodName := ⟨RJ6, "<init>", "(I)V"⟩
def dkwJ6_init_0 : List UInt8 := [42, 27, 183, 0, 1, 177]
abbrev dktJ6_init_0 : List UInt8 := dkwJ6_init_0 ++ []
theorem dksJ6_init_0 : cJ6_init.data.toList.drop 0 = dktJ6_init_0 := by decide +kernel
theorem dJ6_init_0 : decode cJ6_init 0 = .ok (.aload_n 0, 1) := dk_42 (dk_at dksJ6_init_0 0 rfl rfl)
theorem dJ6_init_1 : decode cJ6_init 1 = .ok (.iload_n 1, 1) := dk_27 (dk_at dksJ6_init_0 1 rfl rfl)
theorem dJ6_init_2 : decode cJ6_init 2 = .ok (.invokespecial 1, 3) := dk_183 0 1 (dk_at dksJ6_init_0 2 rfl rfl)
theorem dJ6_init_5 : decode cJ6_init 5 = .ok (.return_, 1) := dk_177 (dk_at dksJ6_init_0 5 rfl rfl)
abbrev cJ6_init_2 : ByteArray := prog_28_method_1_code
def yJ6_init_2 : MethodName := ⟨RJ6, "<init>", "()V"⟩
def dkwJ6_init_2_0 : List UInt8 := [42, 16, 16, 183, 0, 1, 177]
abbrev dktJ6_init_2_0 : List UInt8 := dkwJ6_init_2_0 ++ []
theorem dksJ6_init_2_0 : cJ6_init_2.data.toList.drop 0 = dktJ6_init_2_0 := by decide +kernel
theorem dJ6_init_2_0 : decode cJ6_init_2 0 = .ok (.aload_n 0, 1) := dk_42 (dk_at dksJ6_init_2_0 0 rfl rfl)
theorem dJ6_init_2_1 : decode cJ6_init_2 1 = .ok (.bipush 16, 2) := dk_16 16 (dk_at dksJ6_init_2_0 1 rfl rfl)
theorem dJ6_init_2_3 : decode cJ6_init_2 3 = .ok (.invokespecial 1, 3) := dk_183 0 1 (dk_at dksJ6_init_2_0 3 rfl rfl)
theorem dJ6_init_2_6 : decode cJ6_init_2 6 = .ok (.return_, 1) := dk_177 (dk_at dksJ6_init_2_0 6 rfl rfl)
abbrev cJ6_append : ByteArray := prog_28_method_7_code
def yJ6_append : MethodName := ⟨RJ6, "append", "(Ljava/lang/String;)Ljava/lang/StringBuilder;"⟩
def dkwJ6_append_0 : List UInt8 := [42, 43, 183, 0, 29, 87, 42, 176]
abbrev dktJ6_append_0 : List UInt8 := dkwJ6_append_0 ++ []
theorem dksJ6_append_0 : cJ6_append.data.toList.drop 0 = dktJ6_append_0 := by decide +kernel
theorem dJ6_append_0 : decode cJ6_append 0 = .ok (.aload_n 0, 1) := dk_42 (dk_at dksJ6_append_0 0 rfl rfl)
theorem dJ6_append_1 : decode cJ6_append 1 = .ok (.aload_n 1, 1) := dk_43 (dk_at dksJ6_append_0 1 rfl rfl)
theorem dJ6_append_2 : decode cJ6_append 2 = .ok (.invokespecial 29, 3) := dk_183 0 29 (dk_at dksJ6_append_0 2 rfl rfl)
theorem dJ6_append_5 : decode cJ6_append 5 = .ok (.pop, 1) := dk_87 (dk_at dksJ6_append_0 5 rfl rfl)
theorem dJ6_append_6 : decode cJ6_append 6 = .ok (.aload_n 0, 1) := dk_42 (dk_at dksJ6_append_0 6 rfl rfl)
theorem dJ6_append_7 : decode cJ6_append 7 = .ok (.areturn, 1) := dk_176 (dk_at dksJ6_append_0 7 rfl rfl)
abbrev cJ6_append_2 : ByteArray := prog_28_method_15_code
def yJ6_append_2 : MethodName := ⟨RJ6, "append", "(I)Ljava/lang/StringBuilder;"⟩
def dkwJ6_append_2_0 : List UInt8 := [42, 27, 183, 0, 53, 87, 42, 176]
abbrev dktJ6_append_2_0 : List UInt8 := dkwJ6_append_2_0 ++ []
theorem dksJ6_append_2_0 : cJ6_append_2.data.toList.drop 0 = dktJ6_append_2_0 := by decide +kernel
theorem dJ6_append_2_0 : decode cJ6_append_2 0 = .ok (.aload_n 0, 1) := dk_42 (dk_at dksJ6_append_2_0 0 rfl rfl)
theorem dJ6_append_2_1 : decode cJ6_append_2 1 = .ok (.iload_n 1, 1) := dk_27 (dk_at dksJ6_append_2_0 1 rfl rfl)
theorem dJ6_append_2_2 : decode cJ6_append_2 2 = .ok (.invokespecial 53, 3) := dk_183 0 53 (dk_at dksJ6_append_2_0 2 rfl rfl)
theorem dJ6_append_2_5 : decode cJ6_append_2 5 = .ok (.pop, 1) := dk_87 (dk_at dksJ6_append_2_0 5 rfl rfl)
theorem dJ6_append_2_6 : decode cJ6_append_2 6 = .ok (.aload_n 0, 1) := dk_42 (dk_at dksJ6_append_2_0 6 rfl rfl)
theorem dJ6_append_2_7 : decode cJ6_append_2 7 = .ok (.areturn, 1) := dk_176 (dk_at dksJ6_append_2_0 7 rfl rfl)
abbrev cJ6_toString : ByteArray := prog_28_method_42_code
def yJ6_toString : MethodName := ⟨RJ6, "toString", "()Ljava/lang/String;"⟩
def dkwJ6_toString_0 : List UInt8 := [187, 0, 18, 89, 42, 183, 0, 137, 176]
abbrev dktJ6_toString_0 : List UInt8 := dkwJ6_toString_0 ++ []
theorem dksJ6_toString_0 : cJ6_toString.data.toList.drop 0 = dktJ6_toString_0 := by decide +kernel
theorem dJ6_toString_0 : decode cJ6_toString 0 = .ok (.new 18, 3) := dk_187 0 18 (dk_at dksJ6_toString_0 0 rfl rfl)
theorem dJ6_toString_3 : decode cJ6_toString 3 = .ok (.dup, 1) := dk_89 (dk_at dksJ6_toString_0 3 rfl rfl)
theorem dJ6_toString_4 : decode cJ6_toString 4 = .ok (.aload_n 0, 1) := dk_42 (dk_at dksJ6_toString_0 4 rfl rfl)
theorem dJ6_toString_5 : decode cJ6_toString 5 = .ok (.invokespecial 137, 3) := dk_183 0 137 (dk_at dksJ6_toString_0 5 rfl rfl)
theorem dJ6_toString_8 : decode cJ6_toString 8 = .ok (.areturn, 1) := dk_176 (dk_at dksJ6_toString_0 8 rfl rfl)
abbrev cJ6_length : ByteArray := prog_28_method_93_code
def yJ6_length : MethodName := ⟨RJ6, "length", "()I"⟩
theorem dJ6_length_0 : decode cJ6_length 0 = .ok (.aload_n 0, 1) := by decide +kernel
theorem dJ6_length_1 : decode cJ6_length 1 = .ok (.invokespecial 343, 3) := by decide +kernel
theorem dJ6_length_4 : decode cJ6_length 4 = .ok (.ireturn, 1) := by decide +kernel
abbrev cJ6_compareTo : ByteArray := prog_28_method_97_code
def yJ6_compareTo : MethodName := ⟨RJ6, "compareTo", "(Ljava/lang/Object;)I"⟩
def dkwJ6_compareTo_0 : List UInt8 := [42, 43, 192, 0, 24, 182, 1, 90, 172]
abbrev dktJ6_compareTo_0 : List UInt8 := dkwJ6_compareTo_0 ++ []
theorem dksJ6_compareTo_0 : cJ6_compareTo.data.toList.drop 0 = dktJ6_compareTo_0 := by decide +kernel
theorem dJ6_compareTo_0 : decode cJ6_compareTo 0 = .ok (.aload_n 0, 1) := dk_42 (dk_at dksJ6_compareTo_0 0 rfl rfl)
theorem dJ6_compareTo_1 : decode cJ6_compareTo 1 = .ok (.aload_n 1, 1) := dk_43 (dk_at dksJ6_compareTo_0 1 rfl rfl)
theorem dJ6_compareTo_2 : decode cJ6_compareTo 2 = .ok (.checkcast 24, 3) := dk_192 0 24 (dk_at dksJ6_compareTo_0 2 rfl rfl)
theorem dJ6_compareTo_5 : decode cJ6_compareTo 5 = .ok (.invokevirtual 346, 3) := dk_182 1 90 (dk_at dksJ6_compareTo_0 5 rfl rfl)
theorem dJ6_compareTo_8 : decode cJ6_compareTo 8 = .ok (.ireturn, 1) := dk_172 (dk_at dksJ6_compareTo_0 8 rfl rfl)
abbrev cJ6_compareTo_2 : ByteArray := prog_28_method_5_code
def yJ6_compareTo_2 : MethodName := ⟨RJ6, "compareTo", "(Ljava/lang/StringBuilder;)I"⟩
def dkwJ6_compareTo_2_0 : List UInt8 := [42, 43, 183, 0, 13, 172]
abbrev dktJ6_compareTo_2_0 : List UInt8 := dkwJ6_compareTo_2_0 ++ []
theorem dksJ6_compareTo_2_0 : cJ6_compareTo_2.data.toList.drop 0 = dktJ6_compareTo_2_0 := by decide +kernel
theorem dJ6_compareTo_2_0 : decode cJ6_compareTo_2 0 = .ok (.aload_n 0, 1) := dk_42 (dk_at dksJ6_compareTo_2_0 0 rfl rfl)
theorem dJ6_compareTo_2_1 : decode cJ6_compareTo_2 1 = .ok (.aload_n 1, 1) := dk_43 (dk_at dksJ6_compareTo_2_0 1 rfl rfl)
theorem dJ6_compareTo_2_2 : decode cJ6_compareTo_2 2 = .ok (.invokespecial 13, 3) := dk_183 0 13 (dk_at dksJ6_compareTo_2_0 2 rfl rfl)
theorem dJ6_compareTo_2_5 : decode cJ6_compareTo_2 5 = .ok (.ireturn, 1) := dk_172 (dk_at dksJ6_compareTo_2_0 5 rfl rfl)
abbrev cJ6_setLength : ByteArray := prog_28_method_89_code
def yJ6_setLength : MethodName := ⟨RJ6, "setLength", "(I)V"⟩
def dkwJ6_setLength_0 : List UInt8 := [42, 27, 183, 1, 77, 177]
abbrev dktJ6_setLength_0 : List UInt8 := dkwJ6_setLength_0 ++ []
theorem dksJ6_setLength_0 : cJ6_setLength.data.toList.drop 0 = dktJ6_setLength_0 := by decide +kernel
theorem dJ6_setLength_0 : decode cJ6_setLength 0 = .ok (.aload_n 0, 1) := dk_42 (dk_at dksJ6_setLength_0 0 rfl rfl)
theorem dJ6_setLength_1 : decode cJ6_setLength 1 = .ok (.iload_n 1, 1) := dk_27 (dk_at dksJ6_setLength_0 1 rfl rfl)
theorem dJ6_setLength_2 : decode cJ6_setLength 2 = .ok (.invokespecial 333, 3) := dk_183 1 77 (dk_at dksJ6_setLength_0 2 rfl rfl)
theorem dJ6_setLength_5 : decode cJ6_setLength 5 = .ok (.return_, 1) := dk_177 (dk_at dksJ6_setLength_0 5 rfl rfl)
abbrev cJ6_charAt : ByteArray := prog_28_method_88_code
def yJ6_charAt : MethodName := ⟨RJ6, "charAt", "(I)C"⟩
def dkwJ6_charAt_0 : List UInt8 := [42, 27, 183, 1, 73, 172]
abbrev dktJ6_charAt_0 : List UInt8 := dkwJ6_charAt_0 ++ []
theorem dksJ6_charAt_0 : cJ6_charAt.data.toList.drop 0 = dktJ6_charAt_0 := by decide +kernel
theorem dJ6_charAt_0 : decode cJ6_charAt 0 = .ok (.aload_n 0, 1) := dk_42 (dk_at dksJ6_charAt_0 0 rfl rfl)
theorem dJ6_charAt_1 : decode cJ6_charAt 1 = .ok (.iload_n 1, 1) := dk_27 (dk_at dksJ6_charAt_0 1 rfl rfl)
theorem dJ6_charAt_2 : decode cJ6_charAt 2 = .ok (.invokespecial 329, 3) := dk_183 1 73 (dk_at dksJ6_charAt_0 2 rfl rfl)
theorem dJ6_charAt_5 : decode cJ6_charAt 5 = .ok (.ireturn, 1) := dk_172 (dk_at dksJ6_charAt_0 5 rfl rfl)
abbrev cJ6_append_3 : ByteArray := prog_28_method_14_code
def yJ6_append_3 : MethodName := ⟨RJ6, "append", "(C)Ljava/lang/StringBuilder;"⟩
def dkwJ6_append_3_0 : List UInt8 := [42, 27, 183, 0, 50, 87, 42, 176]
abbrev dktJ6_append_3_0 : List UInt8 := dkwJ6_append_3_0 ++ []
theorem dksJ6_append_3_0 : cJ6_append_3.data.toList.drop 0 = dktJ6_append_3_0 := by decide +kernel
theorem dJ6_append_3_0 : decode cJ6_append_3 0 = .ok (.aload_n 0, 1) := dk_42 (dk_at dksJ6_append_3_0 0 rfl rfl)
theorem dJ6_append_3_1 : decode cJ6_append_3 1 = .ok (.iload_n 1, 1) := dk_27 (dk_at dksJ6_append_3_0 1 rfl rfl)
theorem dJ6_append_3_2 : decode cJ6_append_3 2 = .ok (.invokespecial 50, 3) := dk_183 0 50 (dk_at dksJ6_append_3_0 2 rfl rfl)
theorem dJ6_append_3_5 : decode cJ6_append_3 5 = .ok (.pop, 1) := dk_87 (dk_at dksJ6_append_3_0 5 rfl rfl)
theorem dJ6_append_3_6 : decode cJ6_append_3 6 = .ok (.aload_n 0, 1) := dk_42 (dk_at dksJ6_append_3_0 6 rfl rfl)
theorem dJ6_append_3_7 : decode cJ6_append_3 7 = .ok (.areturn, 1) := dk_176 (dk_at dksJ6_append_3_0 7 rfl rfl)
theorem q127 : (Jvm.Cond.initialized "java/lang/StringBuilder") ∈ lw_all := lw_g (lw_at lw_m1 9 rfl) rfl
theorem q305 : (Jvm.Cond.instantiable "java/lang/StringBuilder" (4 : Nat)) ∈ lw_all := lw_g (lw_at lw_m1 187 rfl) rfl
theorem q307 : (Jvm.Cond.instanceMethod ({ cls := "java/lang/StringBuilder", name := "<init>", desc := "(I)V" } : Jvm.MethodName)) ∈ lw_all := lw_g (lw_at lw_m1 189 rfl) rfl
theorem q308 : (Jvm.Cond.code ({ cls := "java/lang/StringBuilder", name := "<init>", desc := "(I)V" } : Jvm.MethodName) prog_28_method_2_code (2 : Nat) (Option.none : Option Jvm.ClassFile.FieldType)) ∈ lw_all := lw_g (lw_at lw_m1 190 rfl) rfl
theorem q309 : (Jvm.Cond.methodLink "java/lang/StringBuilder" (1 : Nat) ({ cls := "java/lang/AbstractStringBuilder", name := "<init>", desc := "(I)V" } : Jvm.MethodName)) ∈ lw_all := lw_g (lw_at lw_m1 191 rfl) rfl
theorem q327 : (Jvm.Cond.lays "java/lang/StringBuilder" "java/lang/AbstractStringBuilder" "value" "[B") ∈ lw_all := lw_g (lw_at lw_m1 209 rfl) rfl
theorem q329 : (Jvm.Cond.lays "java/lang/StringBuilder" "java/lang/AbstractStringBuilder" "coder" "B") ∈ lw_all := lw_g (lw_at lw_m1 211 rfl) rfl
theorem q331 : (Jvm.Cond.lays "java/lang/StringBuilder" "java/lang/AbstractStringBuilder" "maybeLatin1" "Z") ∈ lw_all := lw_g (lw_at lw_m1 213 rfl) rfl
theorem q333 : (Jvm.Cond.lays "java/lang/StringBuilder" "java/lang/AbstractStringBuilder" "count" "I") ∈ lw_all := lw_g (lw_at lw_m1 215 rfl) rfl
theorem q335 : (Jvm.Cond.superclass "java/lang/StringBuilder" "java/lang/AbstractStringBuilder") ∈ lw_all := lw_g (lw_at lw_m1 217 rfl) rfl
theorem q454 : (Jvm.Cond.selects "java/lang/StringBuilder" ({ cls := "java/lang/Object", name := "getClass", desc := "()Ljava/lang/Class;" } : Jvm.MethodName) ({ cls := "java/lang/Object", name := "getClass", desc := "()Ljava/lang/Class;" } : Jvm.MethodName)) ∈ lw_all := lw_g (lw_at lw_m2 96 rfl) rfl
theorem q620 : (Jvm.Cond.instanceMethod ({ cls := "java/lang/StringBuilder", name := "<init>", desc := "()V" } : Jvm.MethodName)) ∈ lw_all := lw_g (lw_at lw_m3 22 rfl) rfl
theorem q621 : (Jvm.Cond.code ({ cls := "java/lang/StringBuilder", name := "<init>", desc := "()V" } : Jvm.MethodName) prog_28_method_1_code (1 : Nat) (Option.none : Option Jvm.ClassFile.FieldType)) ∈ lw_all := lw_g (lw_at lw_m3 23 rfl) rfl
theorem q624 : (Jvm.Cond.instanceMethod ({ cls := "java/lang/StringBuilder", name := "append", desc := "(Ljava/lang/String;)Ljava/lang/StringBuilder;" } : Jvm.MethodName)) ∈ lw_all := lw_g (lw_at lw_m3 26 rfl) rfl
theorem q625 : (Jvm.Cond.selects "java/lang/StringBuilder" ({ cls := "java/lang/StringBuilder", name := "append", desc := "(Ljava/lang/String;)Ljava/lang/StringBuilder;" } : Jvm.MethodName) ({ cls := "java/lang/StringBuilder", name := "append", desc := "(Ljava/lang/String;)Ljava/lang/StringBuilder;" } : Jvm.MethodName)) ∈ lw_all := lw_g (lw_at lw_m3 27 rfl) rfl
theorem q626 : (Jvm.Cond.code ({ cls := "java/lang/StringBuilder", name := "append", desc := "(Ljava/lang/String;)Ljava/lang/StringBuilder;" } : Jvm.MethodName) prog_28_method_7_code (2 : Nat) (Option.some (Jvm.ClassFile.FieldType.object "java/lang/StringBuilder"))) ∈ lw_all := lw_g (lw_at lw_m3 28 rfl) rfl
theorem q627 : (Jvm.Cond.methodLink "java/lang/StringBuilder" (29 : Nat) ({ cls := "java/lang/AbstractStringBuilder", name := "append", desc := "(Ljava/lang/String;)Ljava/lang/AbstractStringBuilder;" } : Jvm.MethodName)) ∈ lw_all := lw_g (lw_at lw_m3 29 rfl) rfl
theorem q657 : (Jvm.Cond.selects "java/lang/StringBuilder" ({ cls := "java/lang/AbstractStringBuilder", name := "isLatin1", desc := "()Z" } : Jvm.MethodName) ({ cls := "java/lang/AbstractStringBuilder", name := "isLatin1", desc := "()Z" } : Jvm.MethodName)) ∈ lw_all := lw_g (lw_at lw_m3 59 rfl) rfl
theorem q719 : (Jvm.Cond.instanceMethod ({ cls := "java/lang/StringBuilder", name := "append", desc := "(I)Ljava/lang/StringBuilder;" } : Jvm.MethodName)) ∈ lw_all := lw_g (lw_at lw_m3 121 rfl) rfl
theorem q720 : (Jvm.Cond.selects "java/lang/StringBuilder" ({ cls := "java/lang/StringBuilder", name := "append", desc := "(I)Ljava/lang/StringBuilder;" } : Jvm.MethodName) ({ cls := "java/lang/StringBuilder", name := "append", desc := "(I)Ljava/lang/StringBuilder;" } : Jvm.MethodName)) ∈ lw_all := lw_g (lw_at lw_m3 122 rfl) rfl
theorem q721 : (Jvm.Cond.code ({ cls := "java/lang/StringBuilder", name := "append", desc := "(I)Ljava/lang/StringBuilder;" } : Jvm.MethodName) prog_28_method_15_code (2 : Nat) (Option.some (Jvm.ClassFile.FieldType.object "java/lang/StringBuilder"))) ∈ lw_all := lw_g (lw_at lw_m3 123 rfl) rfl
theorem q722 : (Jvm.Cond.methodLink "java/lang/StringBuilder" (53 : Nat) ({ cls := "java/lang/AbstractStringBuilder", name := "append", desc := "(I)Ljava/lang/AbstractStringBuilder;" } : Jvm.MethodName)) ∈ lw_all := lw_g (lw_at lw_m3 124 rfl) rfl
theorem q744 : (Jvm.Cond.instanceMethod ({ cls := "java/lang/StringBuilder", name := "toString", desc := "()Ljava/lang/String;" } : Jvm.MethodName)) ∈ lw_all := lw_g (lw_at lw_m3 146 rfl) rfl
theorem q745 : (Jvm.Cond.selects "java/lang/StringBuilder" ({ cls := "java/lang/StringBuilder", name := "toString", desc := "()Ljava/lang/String;" } : Jvm.MethodName) ({ cls := "java/lang/StringBuilder", name := "toString", desc := "()Ljava/lang/String;" } : Jvm.MethodName)) ∈ lw_all := lw_g (lw_at lw_m3 147 rfl) rfl
theorem q746 : (Jvm.Cond.code ({ cls := "java/lang/StringBuilder", name := "toString", desc := "()Ljava/lang/String;" } : Jvm.MethodName) prog_28_method_42_code (1 : Nat) (Option.some (Jvm.ClassFile.FieldType.object "java/lang/String"))) ∈ lw_all := lw_g (lw_at lw_m3 148 rfl) rfl
theorem q747 : (Jvm.Cond.classLink "java/lang/StringBuilder" (18 : Nat) "java/lang/String") ∈ lw_all := lw_g (lw_at lw_m3 149 rfl) rfl
theorem q749 : (Jvm.Cond.methodLink "java/lang/StringBuilder" (137 : Nat) ({ cls := "java/lang/String", name := "<init>", desc := "(Ljava/lang/StringBuilder;)V" } : Jvm.MethodName)) ∈ lw_all := lw_g (lw_at lw_m3 151 rfl) rfl
theorem q759 : (Jvm.Cond.selects "java/lang/StringBuilder" ({ cls := "java/lang/AbstractStringBuilder", name := "getValue", desc := "()[B" } : Jvm.MethodName) ({ cls := "java/lang/AbstractStringBuilder", name := "getValue", desc := "()[B" } : Jvm.MethodName)) ∈ lw_all := lw_g (lw_at lw_m3 161 rfl) rfl
theorem q764 : (Jvm.Cond.selects "java/lang/StringBuilder" ({ cls := "java/lang/AbstractStringBuilder", name := "length", desc := "()I" } : Jvm.MethodName) ({ cls := "java/lang/StringBuilder", name := "length", desc := "()I" } : Jvm.MethodName)) ∈ lw_all := lw_g (lw_at lw_m3 166 rfl) rfl
theorem q765 : (Jvm.Cond.instanceMethod ({ cls := "java/lang/StringBuilder", name := "length", desc := "()I" } : Jvm.MethodName)) ∈ lw_all := lw_g (lw_at lw_m3 167 rfl) rfl
theorem q766 : (Jvm.Cond.code ({ cls := "java/lang/StringBuilder", name := "length", desc := "()I" } : Jvm.MethodName) prog_28_method_93_code (1 : Nat) (Option.some Jvm.ClassFile.FieldType.int)) ∈ lw_all := lw_g (lw_at lw_m3 168 rfl) rfl
theorem q767 : (Jvm.Cond.methodLink "java/lang/StringBuilder" (343 : Nat) ({ cls := "java/lang/AbstractStringBuilder", name := "length", desc := "()I" } : Jvm.MethodName)) ∈ lw_all := lw_g (lw_at lw_m3 169 rfl) rfl
theorem q840 : (Jvm.Cond.selects "java/lang/StringBuilder" ({ cls := "java/lang/Object", name := "hashCode", desc := "()I" } : Jvm.MethodName) ({ cls := "java/lang/Object", name := "hashCode", desc := "()I" } : Jvm.MethodName)) ∈ lw_all := lw_g (lw_at lw_m4 2 rfl) rfl
theorem q1066 : (Jvm.Cond.castable "java/lang/StringBuilder" "java/lang/Comparable") ∈ lw_tbl := lw_at lw_m4 228 rfl
theorem q1067 : (Jvm.Cond.selects "java/lang/StringBuilder" ({ cls := "java/lang/Comparable", name := "compareTo", desc := "(Ljava/lang/Object;)I" } : Jvm.MethodName) ({ cls := "java/lang/StringBuilder", name := "compareTo", desc := "(Ljava/lang/Object;)I" } : Jvm.MethodName)) ∈ lw_all := lw_g (lw_at lw_m4 229 rfl) rfl
theorem q1068 : (Jvm.Cond.unhidden "java/lang/StringBuilder" "compareTo" "(Ljava/lang/Object;)I") ∈ lw_tbl := lw_at lw_m4 230 rfl
theorem q1069 : (Jvm.Cond.instanceMethod ({ cls := "java/lang/StringBuilder", name := "compareTo", desc := "(Ljava/lang/Object;)I" } : Jvm.MethodName)) ∈ lw_all := lw_g (lw_at lw_m4 231 rfl) rfl
theorem q1070 : (Jvm.Cond.publicMethod ({ cls := "java/lang/StringBuilder", name := "compareTo", desc := "(Ljava/lang/Object;)I" } : Jvm.MethodName)) ∈ lw_tbl := lw_at lw_m4 232 rfl
theorem q1071 : (Jvm.Cond.code ({ cls := "java/lang/StringBuilder", name := "compareTo", desc := "(Ljava/lang/Object;)I" } : Jvm.MethodName) prog_28_method_97_code (2 : Nat) (Option.some Jvm.ClassFile.FieldType.int)) ∈ lw_all := lw_g (lw_at lw_m4 233 rfl) rfl
theorem q1072 : (Jvm.Cond.classLink "java/lang/StringBuilder" (24 : Nat) "java/lang/StringBuilder") ∈ lw_all := lw_g (lw_at lw_m4 234 rfl) rfl
theorem q1073 : (Jvm.Cond.methodLink "java/lang/StringBuilder" (346 : Nat) ({ cls := "java/lang/StringBuilder", name := "compareTo", desc := "(Ljava/lang/StringBuilder;)I" } : Jvm.MethodName)) ∈ lw_all := lw_g (lw_at lw_m4 235 rfl) rfl
theorem q1074 : (Jvm.Cond.instanceMethod ({ cls := "java/lang/StringBuilder", name := "compareTo", desc := "(Ljava/lang/StringBuilder;)I" } : Jvm.MethodName)) ∈ lw_all := lw_g (lw_at lw_m4 236 rfl) rfl
theorem q1075 : (Jvm.Cond.selects "java/lang/StringBuilder" ({ cls := "java/lang/StringBuilder", name := "compareTo", desc := "(Ljava/lang/StringBuilder;)I" } : Jvm.MethodName) ({ cls := "java/lang/StringBuilder", name := "compareTo", desc := "(Ljava/lang/StringBuilder;)I" } : Jvm.MethodName)) ∈ lw_all := lw_g (lw_at lw_m4 237 rfl) rfl
theorem q1076 : (Jvm.Cond.code ({ cls := "java/lang/StringBuilder", name := "compareTo", desc := "(Ljava/lang/StringBuilder;)I" } : Jvm.MethodName) prog_28_method_5_code (2 : Nat) (Option.some Jvm.ClassFile.FieldType.int)) ∈ lw_all := lw_g (lw_at lw_m4 238 rfl) rfl
theorem q1077 : (Jvm.Cond.methodLink "java/lang/StringBuilder" (13 : Nat) ({ cls := "java/lang/AbstractStringBuilder", name := "compareTo", desc := "(Ljava/lang/AbstractStringBuilder;)I" } : Jvm.MethodName)) ∈ lw_all := lw_g (lw_at lw_m4 239 rfl) rfl
theorem q1141 : (Jvm.Cond.selects "java/lang/StringBuilder" ({ cls := "java/lang/Object", name := "equals", desc := "(Ljava/lang/Object;)Z" } : Jvm.MethodName) ({ cls := "java/lang/Object", name := "equals", desc := "(Ljava/lang/Object;)Z" } : Jvm.MethodName)) ∈ lw_all := lw_g (lw_at lw_m5 63 rfl) rfl
theorem q1586 : (Jvm.Cond.instanceMethod ({ cls := "java/lang/StringBuilder", name := "setLength", desc := "(I)V" } : Jvm.MethodName)) ∈ lw_all := lw_g (lw_at lw_m7 28 rfl) rfl
theorem q1587 : (Jvm.Cond.selects "java/lang/StringBuilder" ({ cls := "java/lang/StringBuilder", name := "setLength", desc := "(I)V" } : Jvm.MethodName) ({ cls := "java/lang/StringBuilder", name := "setLength", desc := "(I)V" } : Jvm.MethodName)) ∈ lw_all := lw_g (lw_at lw_m7 29 rfl) rfl
theorem q1588 : (Jvm.Cond.code ({ cls := "java/lang/StringBuilder", name := "setLength", desc := "(I)V" } : Jvm.MethodName) prog_28_method_89_code (2 : Nat) (Option.none : Option Jvm.ClassFile.FieldType)) ∈ lw_all := lw_g (lw_at lw_m7 30 rfl) rfl
theorem q1589 : (Jvm.Cond.methodLink "java/lang/StringBuilder" (333 : Nat) ({ cls := "java/lang/AbstractStringBuilder", name := "setLength", desc := "(I)V" } : Jvm.MethodName)) ∈ lw_all := lw_g (lw_at lw_m7 31 rfl) rfl
theorem q1693 : (Jvm.Cond.instanceMethod ({ cls := "java/lang/StringBuilder", name := "charAt", desc := "(I)C" } : Jvm.MethodName)) ∈ lw_all := lw_g (lw_at lw_m7 135 rfl) rfl
theorem q1694 : (Jvm.Cond.selects "java/lang/StringBuilder" ({ cls := "java/lang/StringBuilder", name := "charAt", desc := "(I)C" } : Jvm.MethodName) ({ cls := "java/lang/StringBuilder", name := "charAt", desc := "(I)C" } : Jvm.MethodName)) ∈ lw_all := lw_g (lw_at lw_m7 136 rfl) rfl
theorem q1695 : (Jvm.Cond.code ({ cls := "java/lang/StringBuilder", name := "charAt", desc := "(I)C" } : Jvm.MethodName) prog_28_method_88_code (2 : Nat) (Option.some Jvm.ClassFile.FieldType.char)) ∈ lw_all := lw_g (lw_at lw_m7 137 rfl) rfl
theorem q1696 : (Jvm.Cond.methodLink "java/lang/StringBuilder" (329 : Nat) ({ cls := "java/lang/AbstractStringBuilder", name := "charAt", desc := "(I)C" } : Jvm.MethodName)) ∈ lw_all := lw_g (lw_at lw_m7 138 rfl) rfl
theorem q2248 : (Jvm.Cond.instanceMethod ({ cls := "java/lang/StringBuilder", name := "append", desc := "(C)Ljava/lang/StringBuilder;" } : Jvm.MethodName)) ∈ lw_all := lw_g (lw_at lw_m9 210 rfl) rfl
theorem q2249 : (Jvm.Cond.selects "java/lang/StringBuilder" ({ cls := "java/lang/StringBuilder", name := "append", desc := "(C)Ljava/lang/StringBuilder;" } : Jvm.MethodName) ({ cls := "java/lang/StringBuilder", name := "append", desc := "(C)Ljava/lang/StringBuilder;" } : Jvm.MethodName)) ∈ lw_all := lw_g (lw_at lw_m9 211 rfl) rfl
theorem q2250 : (Jvm.Cond.code ({ cls := "java/lang/StringBuilder", name := "append", desc := "(C)Ljava/lang/StringBuilder;" } : Jvm.MethodName) prog_28_method_14_code (2 : Nat) (Option.some (Jvm.ClassFile.FieldType.object "java/lang/StringBuilder"))) ∈ lw_all := lw_g (lw_at lw_m9 212 rfl) rfl
theorem q2251 : (Jvm.Cond.methodLink "java/lang/StringBuilder" (50 : Nat) ({ cls := "java/lang/AbstractStringBuilder", name := "append", desc := "(C)Ljava/lang/AbstractStringBuilder;" } : Jvm.MethodName)) ∈ lw_all := lw_g (lw_at lw_m9 213 rfl) rfl
theorem q2958 : (Jvm.Cond.selects "java/lang/StringBuilder" ({ cls := "java/lang/StringBuilder", name := "length", desc := "()I" } : Jvm.MethodName) ({ cls := "java/lang/StringBuilder", name := "length", desc := "()I" } : Jvm.MethodName)) ∈ lw_all := lw_g (lw_at lw_m12 200 rfl) rfl
theorem q2970 : (Jvm.Cond.castable "java/lang/StringBuilder" "java/lang/Object") ∈ lw_tbl := lw_at lw_m12 212 rfl
theorem in_J6 : ∀ w ∈ wsJ60, w ∈ lw_all := lw_in wsJ60 [327, 329, 331, 333] (by decide +kernel) (by decide +kernel)
