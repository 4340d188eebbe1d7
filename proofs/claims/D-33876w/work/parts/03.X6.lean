/-! OwlYears$Owl -/
set_option maxRecDepth 100000
def RX6 : String := "OwlYears$Owl"
def TX6 : u_T := fun k => match k with
  | 0 => ("OwlYears$Owl", "ring", "I", true)
  | 1 => ("OwlYears$Owl", "sex", "I", true)
  | 2 => ("OwlYears$Owl", "mother", "I", true)
  | 3 => ("OwlYears$Owl", "father", "I", true)
  | 4 => ("OwlYears$Owl", "age", "I", false)
  | 5 => ("OwlYears$Owl", "box", "I", false)
  | _ => ("OwlYears$Owl", "alive", "Z", false)
def tyX6 : Nat → FieldType := fun k => match k with
  | 0 => .int
  | 1 => .int
  | 2 => .int
  | 3 => .int
  | 4 => .int
  | 5 => .int
  | _ => .boolean
abbrev wsX60 : List Cond := u_ws RX6 TX6 7
theorem nmX6 : ∀ a, a < 7 → ∀ b, b < 7 → a ≠ b → (TX6 a).2.1 ≠ (TX6 b).2.1 := by decide +kernel
theorem tyX6_ok : ∀ k, k < 7 → parseFieldDescriptor (TX6 k).2.2.1 = some (tyX6 k) := by decide +kernel
abbrev cX6_copy : ByteArray := prog_4_method_2_code
def yX6_copy : MethodName := ⟨RX6, "copy", "()LOwlYears$Owl;"⟩
def dkwX6_copy_2 : List UInt8 := [43, 176]
abbrev dktX6_copy_2 : List UInt8 := dkwX6_copy_2 ++ []
def dkwX6_copy_1 : List UInt8 := [43, 42, 180, 0, 34, 181, 0, 34, 43, 42, 180, 0, 9, 181, 0, 9, 43, 42, 180, 0, 15, 181, 0, 15]
abbrev dktX6_copy_1 : List UInt8 := dkwX6_copy_1 ++ dktX6_copy_2
def dkwX6_copy_0 : List UInt8 := [187, 0, 10, 89, 42, 180, 0, 19, 42, 180, 0, 22, 42, 180, 0, 25, 42, 180, 0, 28, 183, 0, 31, 76]
abbrev dktX6_copy_0 : List UInt8 := dkwX6_copy_0 ++ dktX6_copy_1
theorem dksX6_copy_0 : cX6_copy.data.toList.drop 0 = dktX6_copy_0 := by decide +kernel
theorem dksX6_copy_1 : cX6_copy.data.toList.drop 24 = dktX6_copy_1 := dk_seg dksX6_copy_0 24 rfl rfl
theorem dksX6_copy_2 : cX6_copy.data.toList.drop 48 = dktX6_copy_2 := dk_seg dksX6_copy_1 24 rfl rfl
theorem dX6_copy_0 : decode cX6_copy 0 = .ok (.new 10, 3) := dk_187 0 10 (dk_at dksX6_copy_0 0 rfl rfl)
theorem dX6_copy_3 : decode cX6_copy 3 = .ok (.dup, 1) := dk_89 (dk_at dksX6_copy_0 3 rfl rfl)
theorem dX6_copy_4 : decode cX6_copy 4 = .ok (.aload_n 0, 1) := dk_42 (dk_at dksX6_copy_0 4 rfl rfl)
theorem dX6_copy_5 : decode cX6_copy 5 = .ok (.getfield 19, 3) := dk_180 0 19 (dk_at dksX6_copy_0 5 rfl rfl)
theorem dX6_copy_8 : decode cX6_copy 8 = .ok (.aload_n 0, 1) := dk_42 (dk_at dksX6_copy_0 8 rfl rfl)
theorem dX6_copy_9 : decode cX6_copy 9 = .ok (.getfield 22, 3) := dk_180 0 22 (dk_at dksX6_copy_0 9 rfl rfl)
theorem dX6_copy_12 : decode cX6_copy 12 = .ok (.aload_n 0, 1) := dk_42 (dk_at dksX6_copy_0 12 rfl rfl)
theorem dX6_copy_13 : decode cX6_copy 13 = .ok (.getfield 25, 3) := dk_180 0 25 (dk_at dksX6_copy_0 13 rfl rfl)
theorem dX6_copy_16 : decode cX6_copy 16 = .ok (.aload_n 0, 1) := dk_42 (dk_at dksX6_copy_0 16 rfl rfl)
theorem dX6_copy_17 : decode cX6_copy 17 = .ok (.getfield 28, 3) := dk_180 0 28 (dk_at dksX6_copy_0 17 rfl rfl)
theorem dX6_copy_20 : decode cX6_copy 20 = .ok (.invokespecial 31, 3) := dk_183 0 31 (dk_at dksX6_copy_0 20 rfl rfl)
theorem dX6_copy_23 : decode cX6_copy 23 = .ok (.astore_n 1, 1) := dk_76 (dk_at dksX6_copy_0 23 rfl rfl)
theorem dX6_copy_24 : decode cX6_copy 24 = .ok (.aload_n 1, 1) := dk_43 (dk_at dksX6_copy_1 0 rfl rfl)
theorem dX6_copy_25 : decode cX6_copy 25 = .ok (.aload_n 0, 1) := dk_42 (dk_at dksX6_copy_1 1 rfl rfl)
theorem dX6_copy_26 : decode cX6_copy 26 = .ok (.getfield 34, 3) := dk_180 0 34 (dk_at dksX6_copy_1 2 rfl rfl)
theorem dX6_copy_29 : decode cX6_copy 29 = .ok (.putfield 34, 3) := dk_181 0 34 (dk_at dksX6_copy_1 5 rfl rfl)
theorem dX6_copy_32 : decode cX6_copy 32 = .ok (.aload_n 1, 1) := dk_43 (dk_at dksX6_copy_1 8 rfl rfl)
theorem dX6_copy_33 : decode cX6_copy 33 = .ok (.aload_n 0, 1) := dk_42 (dk_at dksX6_copy_1 9 rfl rfl)
theorem dX6_copy_34 : decode cX6_copy 34 = .ok (.getfield 9, 3) := dk_180 0 9 (dk_at dksX6_copy_1 10 rfl rfl)
theorem dX6_copy_37 : decode cX6_copy 37 = .ok (.putfield 9, 3) := dk_181 0 9 (dk_at dksX6_copy_1 13 rfl rfl)
theorem dX6_copy_40 : decode cX6_copy 40 = .ok (.aload_n 1, 1) := dk_43 (dk_at dksX6_copy_1 16 rfl rfl)
theorem dX6_copy_41 : decode cX6_copy 41 = .ok (.aload_n 0, 1) := dk_42 (dk_at dksX6_copy_1 17 rfl rfl)
theorem dX6_copy_42 : decode cX6_copy 42 = .ok (.getfield 15, 3) := dk_180 0 15 (dk_at dksX6_copy_1 18 rfl rfl)
theorem dX6_copy_45 : decode cX6_copy 45 = .ok (.putfield 15, 3) := dk_181 0 15 (dk_at dksX6_copy_1 21 rfl rfl)
theorem dX6_copy_48 : decode cX6_copy 48 = .ok (.aload_n 1, 1) := dk_43 (dk_at dksX6_copy_2 0 rfl rfl)
theorem dX6_copy_49 : decode cX6_copy 49 = .ok (.areturn, 1) := dk_176 (dk_at dksX6_copy_2 1 rfl rfl)
abbrev cX6_init : ByteArray := prog_4_method_1_code
def yX6_init : MethodName := ⟨RX6, "<init>", "(IIII)V"⟩
def dkwX6_init_1 : List UInt8 := [42, 29, 181, 0, 25, 42, 21, 4, 181, 0, 28, 177]
abbrev dktX6_init_1 : List UInt8 := dkwX6_init_1 ++ []
def dkwX6_init_0 : List UInt8 := [42, 183, 0, 3, 42, 2, 181, 0, 9, 42, 4, 181, 0, 15, 42, 27, 181, 0, 19, 42, 28, 181, 0, 22]
abbrev dktX6_init_0 : List UInt8 := dkwX6_init_0 ++ dktX6_init_1
theorem dksX6_init_0 : cX6_init.data.toList.drop 0 = dktX6_init_0 := by decide +kernel
theorem dksX6_init_1 : cX6_init.data.toList.drop 24 = dktX6_init_1 := dk_seg dksX6_init_0 24 rfl rfl
theorem dX6_init_0 : decode cX6_init 0 = .ok (.aload_n 0, 1) := dk_42 (dk_at dksX6_init_0 0 rfl rfl)
theorem dX6_init_1 : decode cX6_init 1 = .ok (.invokespecial 3, 3) := dk_183 0 3 (dk_at dksX6_init_0 1 rfl rfl)
theorem dX6_init_4 : decode cX6_init 4 = .ok (.aload_n 0, 1) := dk_42 (dk_at dksX6_init_0 4 rfl rfl)
theorem dX6_init_5 : decode cX6_init 5 = .ok (.iconst (-1), 1) := dk_2 (dk_at dksX6_init_0 5 rfl rfl)
theorem dX6_init_6 : decode cX6_init 6 = .ok (.putfield 9, 3) := dk_181 0 9 (dk_at dksX6_init_0 6 rfl rfl)
theorem dX6_init_9 : decode cX6_init 9 = .ok (.aload_n 0, 1) := dk_42 (dk_at dksX6_init_0 9 rfl rfl)
theorem dX6_init_10 : decode cX6_init 10 = .ok (.iconst 1, 1) := dk_4 (dk_at dksX6_init_0 10 rfl rfl)
theorem dX6_init_11 : decode cX6_init 11 = .ok (.putfield 15, 3) := dk_181 0 15 (dk_at dksX6_init_0 11 rfl rfl)
theorem dX6_init_14 : decode cX6_init 14 = .ok (.aload_n 0, 1) := dk_42 (dk_at dksX6_init_0 14 rfl rfl)
theorem dX6_init_15 : decode cX6_init 15 = .ok (.iload_n 1, 1) := dk_27 (dk_at dksX6_init_0 15 rfl rfl)
theorem dX6_init_16 : decode cX6_init 16 = .ok (.putfield 19, 3) := dk_181 0 19 (dk_at dksX6_init_0 16 rfl rfl)
theorem dX6_init_19 : decode cX6_init 19 = .ok (.aload_n 0, 1) := dk_42 (dk_at dksX6_init_0 19 rfl rfl)
theorem dX6_init_20 : decode cX6_init 20 = .ok (.iload_n 2, 1) := dk_28 (dk_at dksX6_init_0 20 rfl rfl)
theorem dX6_init_21 : decode cX6_init 21 = .ok (.putfield 22, 3) := dk_181 0 22 (dk_at dksX6_init_0 21 rfl rfl)
theorem dX6_init_24 : decode cX6_init 24 = .ok (.aload_n 0, 1) := dk_42 (dk_at dksX6_init_1 0 rfl rfl)
theorem dX6_init_25 : decode cX6_init 25 = .ok (.iload_n 3, 1) := dk_29 (dk_at dksX6_init_1 1 rfl rfl)
theorem dX6_init_26 : decode cX6_init 26 = .ok (.putfield 25, 3) := dk_181 0 25 (dk_at dksX6_init_1 2 rfl rfl)
theorem dX6_init_29 : decode cX6_init 29 = .ok (.aload_n 0, 1) := dk_42 (dk_at dksX6_init_1 5 rfl rfl)
theorem dX6_init_30 : decode cX6_init 30 = .ok (.iload 4, 2) := dk_21 4 (dk_at dksX6_init_1 6 rfl rfl)
theorem dX6_init_32 : decode cX6_init 32 = .ok (.putfield 28, 3) := dk_181 0 28 (dk_at dksX6_init_1 8 rfl rfl)
theorem dX6_init_35 : decode cX6_init 35 = .ok (.return_, 1) := dk_177 (dk_at dksX6_init_1 11 rfl rfl)
abbrev cX6_isChildOf : ByteArray := prog_4_method_3_code
def yX6_isChildOf : MethodName := ⟨RX6, "isChildOf", "(I)Z"⟩
def dkwX6_isChildOf_0 : List UInt8 := [42, 180, 0, 25, 27, 159, 0, 11, 42, 180, 0, 28, 27, 160, 0, 7, 4, 167, 0, 4, 3, 172]
abbrev dktX6_isChildOf_0 : List UInt8 := dkwX6_isChildOf_0 ++ []
theorem dksX6_isChildOf_0 : cX6_isChildOf.data.toList.drop 0 = dktX6_isChildOf_0 := by decide +kernel
theorem dX6_isChildOf_0 : decode cX6_isChildOf 0 = .ok (.aload_n 0, 1) := dk_42 (dk_at dksX6_isChildOf_0 0 rfl rfl)
theorem dX6_isChildOf_1 : decode cX6_isChildOf 1 = .ok (.getfield 25, 3) := dk_180 0 25 (dk_at dksX6_isChildOf_0 1 rfl rfl)
theorem dX6_isChildOf_4 : decode cX6_isChildOf 4 = .ok (.iload_n 1, 1) := dk_27 (dk_at dksX6_isChildOf_0 4 rfl rfl)
theorem dX6_isChildOf_5 : decode cX6_isChildOf 5 = .ok (.if_icmp .eq 11, 3) := dk_159 0 11 (dk_at dksX6_isChildOf_0 5 rfl rfl)
theorem dX6_isChildOf_8 : decode cX6_isChildOf 8 = .ok (.aload_n 0, 1) := dk_42 (dk_at dksX6_isChildOf_0 8 rfl rfl)
theorem dX6_isChildOf_9 : decode cX6_isChildOf 9 = .ok (.getfield 28, 3) := dk_180 0 28 (dk_at dksX6_isChildOf_0 9 rfl rfl)
theorem dX6_isChildOf_12 : decode cX6_isChildOf 12 = .ok (.iload_n 1, 1) := dk_27 (dk_at dksX6_isChildOf_0 12 rfl rfl)
theorem dX6_isChildOf_13 : decode cX6_isChildOf 13 = .ok (.if_icmp .ne 7, 3) := dk_160 0 7 (dk_at dksX6_isChildOf_0 13 rfl rfl)
theorem dX6_isChildOf_16 : decode cX6_isChildOf 16 = .ok (.iconst 1, 1) := dk_4 (dk_at dksX6_isChildOf_0 16 rfl rfl)
theorem dX6_isChildOf_17 : decode cX6_isChildOf 17 = .ok (.goto 4, 3) := dk_167 0 4 (dk_at dksX6_isChildOf_0 17 rfl rfl)
theorem dX6_isChildOf_20 : decode cX6_isChildOf 20 = .ok (.iconst 0, 1) := dk_3 (dk_at dksX6_isChildOf_0 20 rfl rfl)
theorem dX6_isChildOf_21 : decode cX6_isChildOf 21 = .ok (.ireturn, 1) := dk_172 (dk_at dksX6_isChildOf_0 21 rfl rfl)
theorem q155 : (Jvm.Cond.initialized "OwlYears$Owl") ∈ lw_all := lw_g (lw_at lw_m1 37 rfl) rfl
theorem q444 : (Jvm.Cond.selects "OwlYears$Owl" ({ cls := "java/lang/Object", name := "getClass", desc := "()Ljava/lang/Class;" } : Jvm.MethodName) ({ cls := "java/lang/Object", name := "getClass", desc := "()Ljava/lang/Class;" } : Jvm.MethodName)) ∈ lw_all := lw_g (lw_at lw_m2 86 rfl) rfl
theorem q504 : (Jvm.Cond.selects "OwlYears$Owl" ({ cls := "java/lang/Object", name := "hashCode", desc := "()I" } : Jvm.MethodName) ({ cls := "java/lang/Object", name := "hashCode", desc := "()I" } : Jvm.MethodName)) ∈ lw_all := lw_g (lw_at lw_m2 146 rfl) rfl
theorem q1123 : (Jvm.Cond.selects "OwlYears$Owl" ({ cls := "java/lang/Object", name := "equals", desc := "(Ljava/lang/Object;)Z" } : Jvm.MethodName) ({ cls := "java/lang/Object", name := "equals", desc := "(Ljava/lang/Object;)Z" } : Jvm.MethodName)) ∈ lw_all := lw_g (lw_at lw_m5 45 rfl) rfl
theorem q1215 : (Jvm.Cond.instanceMethod ({ cls := "OwlYears$Owl", name := "copy", desc := "()LOwlYears$Owl;" } : Jvm.MethodName)) ∈ lw_all := lw_g (lw_at lw_m5 137 rfl) rfl
theorem q1216 : (Jvm.Cond.selects "OwlYears$Owl" ({ cls := "OwlYears$Owl", name := "copy", desc := "()LOwlYears$Owl;" } : Jvm.MethodName) ({ cls := "OwlYears$Owl", name := "copy", desc := "()LOwlYears$Owl;" } : Jvm.MethodName)) ∈ lw_all := lw_g (lw_at lw_m5 138 rfl) rfl
theorem q1217 : (Jvm.Cond.code ({ cls := "OwlYears$Owl", name := "copy", desc := "()LOwlYears$Owl;" } : Jvm.MethodName) prog_4_method_2_code (2 : Nat) (Option.some (Jvm.ClassFile.FieldType.object "OwlYears$Owl"))) ∈ lw_all := lw_g (lw_at lw_m5 139 rfl) rfl
theorem q1218 : (Jvm.Cond.classLink "OwlYears$Owl" (10 : Nat) "OwlYears$Owl") ∈ lw_all := lw_g (lw_at lw_m5 140 rfl) rfl
theorem q1219 : (Jvm.Cond.instantiable "OwlYears$Owl" (7 : Nat)) ∈ lw_all := lw_g (lw_at lw_m5 141 rfl) rfl
theorem q1220 : (Jvm.Cond.methodLink "OwlYears$Owl" (31 : Nat) ({ cls := "OwlYears$Owl", name := "<init>", desc := "(IIII)V" } : Jvm.MethodName)) ∈ lw_all := lw_g (lw_at lw_m5 142 rfl) rfl
theorem q1221 : (Jvm.Cond.instanceMethod ({ cls := "OwlYears$Owl", name := "<init>", desc := "(IIII)V" } : Jvm.MethodName)) ∈ lw_all := lw_g (lw_at lw_m5 143 rfl) rfl
theorem q1222 : (Jvm.Cond.code ({ cls := "OwlYears$Owl", name := "<init>", desc := "(IIII)V" } : Jvm.MethodName) prog_4_method_1_code (5 : Nat) (Option.none : Option Jvm.ClassFile.FieldType)) ∈ lw_all := lw_g (lw_at lw_m5 144 rfl) rfl
theorem q1223 : (Jvm.Cond.methodLink "OwlYears$Owl" (3 : Nat) ({ cls := "java/lang/Object", name := "<init>", desc := "()V" } : Jvm.MethodName)) ∈ lw_all := lw_g (lw_at lw_m5 145 rfl) rfl
theorem q1224 : (Jvm.Cond.fieldLink "OwlYears$Owl" (19 : Nat) "OwlYears$Owl" "ring" "I") ∈ lw_all := lw_g (lw_at lw_m5 146 rfl) rfl
theorem q1227 : (Jvm.Cond.fieldLink "OwlYears$Owl" (22 : Nat) "OwlYears$Owl" "sex" "I") ∈ lw_all := lw_g (lw_at lw_m5 149 rfl) rfl
theorem q1230 : (Jvm.Cond.fieldLink "OwlYears$Owl" (25 : Nat) "OwlYears$Owl" "mother" "I") ∈ lw_all := lw_g (lw_at lw_m5 152 rfl) rfl
theorem q1232 : (Jvm.Cond.fieldLink "OwlYears$Owl" (28 : Nat) "OwlYears$Owl" "father" "I") ∈ lw_all := lw_g (lw_at lw_m5 154 rfl) rfl
theorem q1234 : (Jvm.Cond.fieldLink "OwlYears$Owl" (34 : Nat) "OwlYears$Owl" "age" "I") ∈ lw_all := lw_g (lw_at lw_m5 156 rfl) rfl
theorem q1237 : (Jvm.Cond.fieldLink "OwlYears$Owl" (9 : Nat) "OwlYears$Owl" "box" "I") ∈ lw_all := lw_g (lw_at lw_m5 159 rfl) rfl
theorem q1240 : (Jvm.Cond.fieldLink "OwlYears$Owl" (15 : Nat) "OwlYears$Owl" "alive" "Z") ∈ lw_all := lw_g (lw_at lw_m5 162 rfl) rfl
theorem q1243 : (Jvm.Cond.laysFinal "OwlYears$Owl" "OwlYears$Owl" "ring" "I") ∈ lw_all := lw_g (lw_at lw_m5 165 rfl) rfl
theorem q1244 : (Jvm.Cond.soleField "OwlYears$Owl" "ring") ∈ lw_all := lw_g (lw_at lw_m5 166 rfl) rfl
theorem q1245 : (Jvm.Cond.laysFinal "OwlYears$Owl" "OwlYears$Owl" "sex" "I") ∈ lw_all := lw_g (lw_at lw_m5 167 rfl) rfl
theorem q1246 : (Jvm.Cond.soleField "OwlYears$Owl" "sex") ∈ lw_all := lw_g (lw_at lw_m5 168 rfl) rfl
theorem q1247 : (Jvm.Cond.laysFinal "OwlYears$Owl" "OwlYears$Owl" "mother" "I") ∈ lw_all := lw_g (lw_at lw_m5 169 rfl) rfl
theorem q1248 : (Jvm.Cond.soleField "OwlYears$Owl" "mother") ∈ lw_all := lw_g (lw_at lw_m5 170 rfl) rfl
theorem q1249 : (Jvm.Cond.laysFinal "OwlYears$Owl" "OwlYears$Owl" "father" "I") ∈ lw_all := lw_g (lw_at lw_m5 171 rfl) rfl
theorem q1250 : (Jvm.Cond.soleField "OwlYears$Owl" "father") ∈ lw_all := lw_g (lw_at lw_m5 172 rfl) rfl
theorem q1251 : (Jvm.Cond.lays "OwlYears$Owl" "OwlYears$Owl" "age" "I") ∈ lw_all := lw_g (lw_at lw_m5 173 rfl) rfl
theorem q1252 : (Jvm.Cond.soleField "OwlYears$Owl" "age") ∈ lw_all := lw_g (lw_at lw_m5 174 rfl) rfl
theorem q1253 : (Jvm.Cond.lays "OwlYears$Owl" "OwlYears$Owl" "box" "I") ∈ lw_all := lw_g (lw_at lw_m5 175 rfl) rfl
theorem q1254 : (Jvm.Cond.soleField "OwlYears$Owl" "box") ∈ lw_all := lw_g (lw_at lw_m5 176 rfl) rfl
theorem q1255 : (Jvm.Cond.lays "OwlYears$Owl" "OwlYears$Owl" "alive" "Z") ∈ lw_all := lw_g (lw_at lw_m5 177 rfl) rfl
theorem q1256 : (Jvm.Cond.soleField "OwlYears$Owl" "alive") ∈ lw_all := lw_g (lw_at lw_m5 178 rfl) rfl
theorem q1257 : (Jvm.Cond.superclass "OwlYears$Owl" "java/lang/Object") ∈ lw_all := lw_g (lw_at lw_m5 179 rfl) rfl
theorem q1358 : (Jvm.Cond.instanceMethod ({ cls := "OwlYears$Owl", name := "isChildOf", desc := "(I)Z" } : Jvm.MethodName)) ∈ lw_all := lw_g (lw_at lw_m6 40 rfl) rfl
theorem q1359 : (Jvm.Cond.selects "OwlYears$Owl" ({ cls := "OwlYears$Owl", name := "isChildOf", desc := "(I)Z" } : Jvm.MethodName) ({ cls := "OwlYears$Owl", name := "isChildOf", desc := "(I)Z" } : Jvm.MethodName)) ∈ lw_all := lw_g (lw_at lw_m6 41 rfl) rfl
theorem q1360 : (Jvm.Cond.code ({ cls := "OwlYears$Owl", name := "isChildOf", desc := "(I)Z" } : Jvm.MethodName) prog_4_method_3_code (2 : Nat) (Option.some Jvm.ClassFile.FieldType.boolean)) ∈ lw_all := lw_g (lw_at lw_m6 42 rfl) rfl
theorem q2980 : (Jvm.Cond.castable "OwlYears$Owl" "java/lang/Object") ∈ lw_tbl := lw_at lw_m12 222 rfl
theorem in_X6 : ∀ w ∈ wsX60, w ∈ lw_all := lw_in wsX60 [1243, 1245, 1247, 1249, 1251, 1253, 1255] (by decide +kernel) (by decide +kernel)
