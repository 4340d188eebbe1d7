/-! OwlYears$Box -/
set_option maxRecDepth 100000
def RX5 : String := "OwlYears$Box"
def TX5 : u_T := fun k => match k with
  | 0 => ("OwlYears$Box", "square", "I", true)
  | 1 => ("OwlYears$Box", "rings", "[I", true)
  | _ => ("OwlYears$Box", "range", "J", false)
def tyX5 : Nat → FieldType := fun k => match k with
  | 0 => .int
  | 1 => .array .int
  | _ => .long
abbrev wsX50 : List Cond := u_ws RX5 TX5 3
theorem nmX5 : ∀ a, a < 3 → ∀ b, b < 3 → a ≠ b → (TX5 a).2.1 ≠ (TX5 b).2.1 := by decide +kernel
theorem tyX5_ok : ∀ k, k < 3 → parseFieldDescriptor (TX5 k).2.2.1 = some (tyX5 k) := by decide +kernel
abbrev cX5_copy : ByteArray := prog_2_method_2_code
def yX5_copy : MethodName := ⟨RX5, "copy", "()LOwlYears$Box;"⟩
def dkwX5_copy_1 : List UInt8 := [43, 180, 0, 9, 4, 42, 180, 0, 9, 4, 46, 79, 43, 42, 180, 0, 22, 181, 0, 22, 43, 176]
abbrev dktX5_copy_1 : List UInt8 := dkwX5_copy_1 ++ []
def dkwX5_copy_0 : List UInt8 := [187, 0, 10, 89, 42, 180, 0, 15, 183, 0, 19, 76, 43, 180, 0, 9, 3, 42, 180, 0, 9, 3, 46, 79]
abbrev dktX5_copy_0 : List UInt8 := dkwX5_copy_0 ++ dktX5_copy_1
theorem dksX5_copy_0 : cX5_copy.data.toList.drop 0 = dktX5_copy_0 := by decide +kernel
theorem dksX5_copy_1 : cX5_copy.data.toList.drop 24 = dktX5_copy_1 := dk_seg dksX5_copy_0 24 rfl rfl
theorem dX5_copy_0 : decode cX5_copy 0 = .ok (.new 10, 3) := dk_187 0 10 (dk_at dksX5_copy_0 0 rfl rfl)
theorem dX5_copy_3 : decode cX5_copy 3 = .ok (.dup, 1) := dk_89 (dk_at dksX5_copy_0 3 rfl rfl)
theorem dX5_copy_4 : decode cX5_copy 4 = .ok (.aload_n 0, 1) := dk_42 (dk_at dksX5_copy_0 4 rfl rfl)
theorem dX5_copy_5 : decode cX5_copy 5 = .ok (.getfield 15, 3) := dk_180 0 15 (dk_at dksX5_copy_0 5 rfl rfl)
theorem dX5_copy_8 : decode cX5_copy 8 = .ok (.invokespecial 19, 3) := dk_183 0 19 (dk_at dksX5_copy_0 8 rfl rfl)
theorem dX5_copy_11 : decode cX5_copy 11 = .ok (.astore_n 1, 1) := dk_76 (dk_at dksX5_copy_0 11 rfl rfl)
theorem dX5_copy_12 : decode cX5_copy 12 = .ok (.aload_n 1, 1) := dk_43 (dk_at dksX5_copy_0 12 rfl rfl)
theorem dX5_copy_13 : decode cX5_copy 13 = .ok (.getfield 9, 3) := dk_180 0 9 (dk_at dksX5_copy_0 13 rfl rfl)
theorem dX5_copy_16 : decode cX5_copy 16 = .ok (.iconst 0, 1) := dk_3 (dk_at dksX5_copy_0 16 rfl rfl)
theorem dX5_copy_17 : decode cX5_copy 17 = .ok (.aload_n 0, 1) := dk_42 (dk_at dksX5_copy_0 17 rfl rfl)
theorem dX5_copy_18 : decode cX5_copy 18 = .ok (.getfield 9, 3) := dk_180 0 9 (dk_at dksX5_copy_0 18 rfl rfl)
theorem dX5_copy_21 : decode cX5_copy 21 = .ok (.iconst 0, 1) := dk_3 (dk_at dksX5_copy_0 21 rfl rfl)
theorem dX5_copy_22 : decode cX5_copy 22 = .ok (.iaload, 1) := dk_46 (dk_at dksX5_copy_0 22 rfl rfl)
theorem dX5_copy_23 : decode cX5_copy 23 = .ok (.iastore, 1) := dk_79 (dk_at dksX5_copy_0 23 rfl rfl)
theorem dX5_copy_24 : decode cX5_copy 24 = .ok (.aload_n 1, 1) := dk_43 (dk_at dksX5_copy_1 0 rfl rfl)
theorem dX5_copy_25 : decode cX5_copy 25 = .ok (.getfield 9, 3) := dk_180 0 9 (dk_at dksX5_copy_1 1 rfl rfl)
theorem dX5_copy_28 : decode cX5_copy 28 = .ok (.iconst 1, 1) := dk_4 (dk_at dksX5_copy_1 4 rfl rfl)
theorem dX5_copy_29 : decode cX5_copy 29 = .ok (.aload_n 0, 1) := dk_42 (dk_at dksX5_copy_1 5 rfl rfl)
theorem dX5_copy_30 : decode cX5_copy 30 = .ok (.getfield 9, 3) := dk_180 0 9 (dk_at dksX5_copy_1 6 rfl rfl)
theorem dX5_copy_33 : decode cX5_copy 33 = .ok (.iconst 1, 1) := dk_4 (dk_at dksX5_copy_1 9 rfl rfl)
theorem dX5_copy_34 : decode cX5_copy 34 = .ok (.iaload, 1) := dk_46 (dk_at dksX5_copy_1 10 rfl rfl)
theorem dX5_copy_35 : decode cX5_copy 35 = .ok (.iastore, 1) := dk_79 (dk_at dksX5_copy_1 11 rfl rfl)
theorem dX5_copy_36 : decode cX5_copy 36 = .ok (.aload_n 1, 1) := dk_43 (dk_at dksX5_copy_1 12 rfl rfl)
theorem dX5_copy_37 : decode cX5_copy 37 = .ok (.aload_n 0, 1) := dk_42 (dk_at dksX5_copy_1 13 rfl rfl)
theorem dX5_copy_38 : decode cX5_copy 38 = .ok (.getfield 22, 3) := dk_180 0 22 (dk_at dksX5_copy_1 14 rfl rfl)
theorem dX5_copy_41 : decode cX5_copy 41 = .ok (.putfield 22, 3) := dk_181 0 22 (dk_at dksX5_copy_1 17 rfl rfl)
theorem dX5_copy_44 : decode cX5_copy 44 = .ok (.aload_n 1, 1) := dk_43 (dk_at dksX5_copy_1 20 rfl rfl)
theorem dX5_copy_45 : decode cX5_copy 45 = .ok (.areturn, 1) := dk_176 (dk_at dksX5_copy_1 21 rfl rfl)
abbrev cX5_init : ByteArray := prog_2_method_1_code
def yX5_init : MethodName := ⟨RX5, "<init>", "(I)V"⟩
def dkwX5_init_1 : List UInt8 := [177]
abbrev dktX5_init_1 : List UInt8 := dkwX5_init_1 ++ []
def dkwX5_init_0 : List UInt8 := [42, 183, 0, 3, 42, 5, 188, 10, 89, 3, 2, 79, 89, 4, 2, 79, 181, 0, 9, 42, 27, 181, 0, 15]
abbrev dktX5_init_0 : List UInt8 := dkwX5_init_0 ++ dktX5_init_1
theorem dksX5_init_0 : cX5_init.data.toList.drop 0 = dktX5_init_0 := by decide +kernel
theorem dksX5_init_1 : cX5_init.data.toList.drop 24 = dktX5_init_1 := dk_seg dksX5_init_0 24 rfl rfl
theorem dX5_init_0 : decode cX5_init 0 = .ok (.aload_n 0, 1) := dk_42 (dk_at dksX5_init_0 0 rfl rfl)
theorem dX5_init_1 : decode cX5_init 1 = .ok (.invokespecial 3, 3) := dk_183 0 3 (dk_at dksX5_init_0 1 rfl rfl)
theorem dX5_init_4 : decode cX5_init 4 = .ok (.aload_n 0, 1) := dk_42 (dk_at dksX5_init_0 4 rfl rfl)
theorem dX5_init_5 : decode cX5_init 5 = .ok (.iconst 2, 1) := dk_5 (dk_at dksX5_init_0 5 rfl rfl)
theorem dX5_init_6 : decode cX5_init 6 = .ok (.newarray .int, 2) := dk_188_10 (dk_at dksX5_init_0 6 rfl rfl)
theorem dX5_init_8 : decode cX5_init 8 = .ok (.dup, 1) := dk_89 (dk_at dksX5_init_0 8 rfl rfl)
theorem dX5_init_9 : decode cX5_init 9 = .ok (.iconst 0, 1) := dk_3 (dk_at dksX5_init_0 9 rfl rfl)
theorem dX5_init_10 : decode cX5_init 10 = .ok (.iconst (-1), 1) := dk_2 (dk_at dksX5_init_0 10 rfl rfl)
theorem dX5_init_11 : decode cX5_init 11 = .ok (.iastore, 1) := dk_79 (dk_at dksX5_init_0 11 rfl rfl)
theorem dX5_init_12 : decode cX5_init 12 = .ok (.dup, 1) := dk_89 (dk_at dksX5_init_0 12 rfl rfl)
theorem dX5_init_13 : decode cX5_init 13 = .ok (.iconst 1, 1) := dk_4 (dk_at dksX5_init_0 13 rfl rfl)
theorem dX5_init_14 : decode cX5_init 14 = .ok (.iconst (-1), 1) := dk_2 (dk_at dksX5_init_0 14 rfl rfl)
theorem dX5_init_15 : decode cX5_init 15 = .ok (.iastore, 1) := dk_79 (dk_at dksX5_init_0 15 rfl rfl)
theorem dX5_init_16 : decode cX5_init 16 = .ok (.putfield 9, 3) := dk_181 0 9 (dk_at dksX5_init_0 16 rfl rfl)
theorem dX5_init_19 : decode cX5_init 19 = .ok (.aload_n 0, 1) := dk_42 (dk_at dksX5_init_0 19 rfl rfl)
theorem dX5_init_20 : decode cX5_init 20 = .ok (.iload_n 1, 1) := dk_27 (dk_at dksX5_init_0 20 rfl rfl)
theorem dX5_init_21 : decode cX5_init 21 = .ok (.putfield 15, 3) := dk_181 0 15 (dk_at dksX5_init_0 21 rfl rfl)
theorem dX5_init_24 : decode cX5_init 24 = .ok (.return_, 1) := dk_177 (dk_at dksX5_init_1 0 rfl rfl)
abbrev cX5_size : ByteArray := prog_2_method_3_code
def yX5_size : MethodName := ⟨RX5, "size", "()I"⟩
def dkwX5_size_1 : List UInt8 := [160, 0, 7, 3, 167, 0, 4, 4, 96, 172]
abbrev dktX5_size_1 : List UInt8 := dkwX5_size_1 ++ []
def dkwX5_size_0 : List UInt8 := [42, 180, 0, 9, 3, 46, 2, 160, 0, 7, 3, 167, 0, 4, 4, 42, 180, 0, 9, 4, 46, 2]
abbrev dktX5_size_0 : List UInt8 := dkwX5_size_0 ++ dktX5_size_1
theorem dksX5_size_0 : cX5_size.data.toList.drop 0 = dktX5_size_0 := by decide +kernel
theorem dksX5_size_1 : cX5_size.data.toList.drop 22 = dktX5_size_1 := dk_seg dksX5_size_0 22 rfl rfl
theorem dX5_size_0 : decode cX5_size 0 = .ok (.aload_n 0, 1) := dk_42 (dk_at dksX5_size_0 0 rfl rfl)
theorem dX5_size_1 : decode cX5_size 1 = .ok (.getfield 9, 3) := dk_180 0 9 (dk_at dksX5_size_0 1 rfl rfl)
theorem dX5_size_4 : decode cX5_size 4 = .ok (.iconst 0, 1) := dk_3 (dk_at dksX5_size_0 4 rfl rfl)
theorem dX5_size_5 : decode cX5_size 5 = .ok (.iaload, 1) := dk_46 (dk_at dksX5_size_0 5 rfl rfl)
theorem dX5_size_6 : decode cX5_size 6 = .ok (.iconst (-1), 1) := dk_2 (dk_at dksX5_size_0 6 rfl rfl)
theorem dX5_size_7 : decode cX5_size 7 = .ok (.if_icmp .ne 7, 3) := dk_160 0 7 (dk_at dksX5_size_0 7 rfl rfl)
theorem dX5_size_10 : decode cX5_size 10 = .ok (.iconst 0, 1) := dk_3 (dk_at dksX5_size_0 10 rfl rfl)
theorem dX5_size_11 : decode cX5_size 11 = .ok (.goto 4, 3) := dk_167 0 4 (dk_at dksX5_size_0 11 rfl rfl)
theorem dX5_size_14 : decode cX5_size 14 = .ok (.iconst 1, 1) := dk_4 (dk_at dksX5_size_0 14 rfl rfl)
theorem dX5_size_15 : decode cX5_size 15 = .ok (.aload_n 0, 1) := dk_42 (dk_at dksX5_size_0 15 rfl rfl)
theorem dX5_size_16 : decode cX5_size 16 = .ok (.getfield 9, 3) := dk_180 0 9 (dk_at dksX5_size_0 16 rfl rfl)
theorem dX5_size_19 : decode cX5_size 19 = .ok (.iconst 1, 1) := dk_4 (dk_at dksX5_size_0 19 rfl rfl)
theorem dX5_size_20 : decode cX5_size 20 = .ok (.iaload, 1) := dk_46 (dk_at dksX5_size_0 20 rfl rfl)
theorem dX5_size_21 : decode cX5_size 21 = .ok (.iconst (-1), 1) := dk_2 (dk_at dksX5_size_0 21 rfl rfl)
theorem dX5_size_22 : decode cX5_size 22 = .ok (.if_icmp .ne 7, 3) := dk_160 0 7 (dk_at dksX5_size_1 0 rfl rfl)
theorem dX5_size_25 : decode cX5_size 25 = .ok (.iconst 0, 1) := dk_3 (dk_at dksX5_size_1 3 rfl rfl)
theorem dX5_size_26 : decode cX5_size 26 = .ok (.goto 4, 3) := dk_167 0 4 (dk_at dksX5_size_1 4 rfl rfl)
theorem dX5_size_29 : decode cX5_size 29 = .ok (.iconst 1, 1) := dk_4 (dk_at dksX5_size_1 7 rfl rfl)
theorem dX5_size_30 : decode cX5_size 30 = .ok (.iadd, 1) := dk_96 (dk_at dksX5_size_1 8 rfl rfl)
theorem dX5_size_31 : decode cX5_size 31 = .ok (.ireturn, 1) := dk_172 (dk_at dksX5_size_1 9 rfl rfl)
abbrev cX5_isLivedIn : ByteArray := prog_2_method_4_code
def yX5_isLivedIn : MethodName := ⟨RX5, "isLivedIn", "()Z"⟩
def dkwX5_isLivedIn_0 : List UInt8 := [42, 182, 0, 26, 158, 0, 7, 4, 167, 0, 4, 3, 172]
abbrev dktX5_isLivedIn_0 : List UInt8 := dkwX5_isLivedIn_0 ++ []
theorem dksX5_isLivedIn_0 : cX5_isLivedIn.data.toList.drop 0 = dktX5_isLivedIn_0 := by decide +kernel
theorem dX5_isLivedIn_0 : decode cX5_isLivedIn 0 = .ok (.aload_n 0, 1) := dk_42 (dk_at dksX5_isLivedIn_0 0 rfl rfl)
theorem dX5_isLivedIn_1 : decode cX5_isLivedIn 1 = .ok (.invokevirtual 26, 3) := dk_182 0 26 (dk_at dksX5_isLivedIn_0 1 rfl rfl)
theorem dX5_isLivedIn_4 : decode cX5_isLivedIn 4 = .ok (.ifCond .le 7, 3) := dk_158 0 7 (dk_at dksX5_isLivedIn_0 4 rfl rfl)
theorem dX5_isLivedIn_7 : decode cX5_isLivedIn 7 = .ok (.iconst 1, 1) := dk_4 (dk_at dksX5_isLivedIn_0 7 rfl rfl)
theorem dX5_isLivedIn_8 : decode cX5_isLivedIn 8 = .ok (.goto 4, 3) := dk_167 0 4 (dk_at dksX5_isLivedIn_0 8 rfl rfl)
theorem dX5_isLivedIn_11 : decode cX5_isLivedIn 11 = .ok (.iconst 0, 1) := dk_3 (dk_at dksX5_isLivedIn_0 11 rfl rfl)
theorem dX5_isLivedIn_12 : decode cX5_isLivedIn 12 = .ok (.ireturn, 1) := dk_172 (dk_at dksX5_isLivedIn_0 12 rfl rfl)
theorem q151 : (Jvm.Cond.initialized "OwlYears$Box") ∈ lw_all := lw_g (lw_at lw_m1 33 rfl) rfl
theorem q380 : (Jvm.Cond.instanceMethod ({ cls := "OwlYears$Box", name := "copy", desc := "()LOwlYears$Box;" } : Jvm.MethodName)) ∈ lw_all := lw_g (lw_at lw_m2 22 rfl) rfl
theorem q381 : (Jvm.Cond.selects "OwlYears$Box" ({ cls := "OwlYears$Box", name := "copy", desc := "()LOwlYears$Box;" } : Jvm.MethodName) ({ cls := "OwlYears$Box", name := "copy", desc := "()LOwlYears$Box;" } : Jvm.MethodName)) ∈ lw_all := lw_g (lw_at lw_m2 23 rfl) rfl
theorem q382 : (Jvm.Cond.code ({ cls := "OwlYears$Box", name := "copy", desc := "()LOwlYears$Box;" } : Jvm.MethodName) prog_2_method_2_code (2 : Nat) (Option.some (Jvm.ClassFile.FieldType.object "OwlYears$Box"))) ∈ lw_all := lw_g (lw_at lw_m2 24 rfl) rfl
theorem q383 : (Jvm.Cond.classLink "OwlYears$Box" (10 : Nat) "OwlYears$Box") ∈ lw_all := lw_g (lw_at lw_m2 25 rfl) rfl
theorem q384 : (Jvm.Cond.instantiable "OwlYears$Box" (3 : Nat)) ∈ lw_all := lw_g (lw_at lw_m2 26 rfl) rfl
theorem q385 : (Jvm.Cond.methodLink "OwlYears$Box" (19 : Nat) ({ cls := "OwlYears$Box", name := "<init>", desc := "(I)V" } : Jvm.MethodName)) ∈ lw_all := lw_g (lw_at lw_m2 27 rfl) rfl
theorem q386 : (Jvm.Cond.instanceMethod ({ cls := "OwlYears$Box", name := "<init>", desc := "(I)V" } : Jvm.MethodName)) ∈ lw_all := lw_g (lw_at lw_m2 28 rfl) rfl
theorem q387 : (Jvm.Cond.code ({ cls := "OwlYears$Box", name := "<init>", desc := "(I)V" } : Jvm.MethodName) prog_2_method_1_code (2 : Nat) (Option.none : Option Jvm.ClassFile.FieldType)) ∈ lw_all := lw_g (lw_at lw_m2 29 rfl) rfl
theorem q388 : (Jvm.Cond.methodLink "OwlYears$Box" (3 : Nat) ({ cls := "java/lang/Object", name := "<init>", desc := "()V" } : Jvm.MethodName)) ∈ lw_all := lw_g (lw_at lw_m2 30 rfl) rfl
theorem q389 : (Jvm.Cond.fieldLink "OwlYears$Box" (15 : Nat) "OwlYears$Box" "square" "I") ∈ lw_all := lw_g (lw_at lw_m2 31 rfl) rfl
theorem q392 : (Jvm.Cond.fieldLink "OwlYears$Box" (9 : Nat) "OwlYears$Box" "rings" "[I") ∈ lw_all := lw_g (lw_at lw_m2 34 rfl) rfl
theorem q395 : (Jvm.Cond.fieldLink "OwlYears$Box" (22 : Nat) "OwlYears$Box" "range" "J") ∈ lw_all := lw_g (lw_at lw_m2 37 rfl) rfl
theorem q398 : (Jvm.Cond.laysFinal "OwlYears$Box" "OwlYears$Box" "square" "I") ∈ lw_all := lw_g (lw_at lw_m2 40 rfl) rfl
theorem q399 : (Jvm.Cond.soleField "OwlYears$Box" "square") ∈ lw_all := lw_g (lw_at lw_m2 41 rfl) rfl
theorem q400 : (Jvm.Cond.laysFinal "OwlYears$Box" "OwlYears$Box" "rings" "[I") ∈ lw_all := lw_g (lw_at lw_m2 42 rfl) rfl
theorem q401 : (Jvm.Cond.soleField "OwlYears$Box" "rings") ∈ lw_all := lw_g (lw_at lw_m2 43 rfl) rfl
theorem q402 : (Jvm.Cond.lays "OwlYears$Box" "OwlYears$Box" "range" "J") ∈ lw_all := lw_g (lw_at lw_m2 44 rfl) rfl
theorem q403 : (Jvm.Cond.soleField "OwlYears$Box" "range") ∈ lw_all := lw_g (lw_at lw_m2 45 rfl) rfl
theorem q404 : (Jvm.Cond.superclass "OwlYears$Box" "java/lang/Object") ∈ lw_all := lw_g (lw_at lw_m2 46 rfl) rfl
theorem q442 : (Jvm.Cond.selects "OwlYears$Box" ({ cls := "java/lang/Object", name := "getClass", desc := "()Ljava/lang/Class;" } : Jvm.MethodName) ({ cls := "java/lang/Object", name := "getClass", desc := "()Ljava/lang/Class;" } : Jvm.MethodName)) ∈ lw_all := lw_g (lw_at lw_m2 84 rfl) rfl
theorem q502 : (Jvm.Cond.selects "OwlYears$Box" ({ cls := "java/lang/Object", name := "hashCode", desc := "()I" } : Jvm.MethodName) ({ cls := "java/lang/Object", name := "hashCode", desc := "()I" } : Jvm.MethodName)) ∈ lw_all := lw_g (lw_at lw_m2 144 rfl) rfl
theorem q1121 : (Jvm.Cond.selects "OwlYears$Box" ({ cls := "java/lang/Object", name := "equals", desc := "(Ljava/lang/Object;)Z" } : Jvm.MethodName) ({ cls := "java/lang/Object", name := "equals", desc := "(Ljava/lang/Object;)Z" } : Jvm.MethodName)) ∈ lw_all := lw_g (lw_at lw_m5 43 rfl) rfl
theorem q1342 : (Jvm.Cond.instanceMethod ({ cls := "OwlYears$Box", name := "size", desc := "()I" } : Jvm.MethodName)) ∈ lw_all := lw_g (lw_at lw_m6 24 rfl) rfl
theorem q1343 : (Jvm.Cond.selects "OwlYears$Box" ({ cls := "OwlYears$Box", name := "size", desc := "()I" } : Jvm.MethodName) ({ cls := "OwlYears$Box", name := "size", desc := "()I" } : Jvm.MethodName)) ∈ lw_all := lw_g (lw_at lw_m6 25 rfl) rfl
theorem q1344 : (Jvm.Cond.code ({ cls := "OwlYears$Box", name := "size", desc := "()I" } : Jvm.MethodName) prog_2_method_3_code (1 : Nat) (Option.some Jvm.ClassFile.FieldType.int)) ∈ lw_all := lw_g (lw_at lw_m6 26 rfl) rfl
theorem q1440 : (Jvm.Cond.instanceMethod ({ cls := "OwlYears$Box", name := "isLivedIn", desc := "()Z" } : Jvm.MethodName)) ∈ lw_all := lw_g (lw_at lw_m6 122 rfl) rfl
theorem q1441 : (Jvm.Cond.selects "OwlYears$Box" ({ cls := "OwlYears$Box", name := "isLivedIn", desc := "()Z" } : Jvm.MethodName) ({ cls := "OwlYears$Box", name := "isLivedIn", desc := "()Z" } : Jvm.MethodName)) ∈ lw_all := lw_g (lw_at lw_m6 123 rfl) rfl
theorem q1442 : (Jvm.Cond.code ({ cls := "OwlYears$Box", name := "isLivedIn", desc := "()Z" } : Jvm.MethodName) prog_2_method_4_code (1 : Nat) (Option.some Jvm.ClassFile.FieldType.boolean)) ∈ lw_all := lw_g (lw_at lw_m6 124 rfl) rfl
theorem q1443 : (Jvm.Cond.methodLink "OwlYears$Box" (26 : Nat) ({ cls := "OwlYears$Box", name := "size", desc := "()I" } : Jvm.MethodName)) ∈ lw_all := lw_g (lw_at lw_m6 125 rfl) rfl
theorem q2978 : (Jvm.Cond.castable "OwlYears$Box" "java/lang/Object") ∈ lw_tbl := lw_at lw_m12 220 rfl
theorem in_X5 : ∀ w ∈ wsX50, w ∈ lw_all := lw_in wsX50 [398, 400, 402] (by decide +kernel) (by decide +kernel)
