/-! OwlYears$Reader -/
set_option maxRecDepth 100000
def RX7 : String := "OwlYears$Reader"
def TX7 : u_T := fun k => match k with
  | 0 => ("OwlYears$Reader", "source", "Ljava/lang/StringBuilder;", true)
  | 1 => ("OwlYears$Reader", "works", "Ljava/util/ArrayList;", true)
  | 2 => ("OwlYears$Reader", "at", "I", false)
  | _ => ("OwlYears$Reader", "failed", "Z", false)
def tyX7 : Nat → FieldType := fun k => match k with
  | 0 => .object "java/lang/StringBuilder"
  | 1 => .object "java/util/ArrayList"
  | 2 => .int
  | _ => .boolean
abbrev wsX70 : List Cond := u_ws RX7 TX7 4
theorem nmX7 : ∀ a, a < 4 → ∀ b, b < 4 → a ≠ b → (TX7 a).2.1 ≠ (TX7 b).2.1 := by decide +kernel
theorem tyX7_ok : ∀ k, k < 4 → parseFieldDescriptor (TX7 k).2.2.1 = some (tyX7 k) := by decide +kernel
abbrev cX7_init : ByteArray := prog_5_method_1_code
def yX7_init : MethodName := ⟨RX7, "<init>", "(Ljava/lang/StringBuilder;)V"⟩
def dkwX7_init_0 : List UInt8 := [42, 183, 0, 3, 42, 187, 0, 9, 89, 183, 0, 11, 181, 0, 12, 42, 43, 181, 0, 18, 177]
abbrev dktX7_init_0 : List UInt8 := dkwX7_init_0 ++ []
theorem dksX7_init_0 : cX7_init.data.toList.drop 0 = dktX7_init_0 := by decide +kernel
theorem dX7_init_0 : decode cX7_init 0 = .ok (.aload_n 0, 1) := dk_42 (dk_at dksX7_init_0 0 rfl rfl)
theorem dX7_init_1 : decode cX7_init 1 = .ok (.invokespecial 3, 3) := dk_183 0 3 (dk_at dksX7_init_0 1 rfl rfl)
theorem dX7_init_4 : decode cX7_init 4 = .ok (.aload_n 0, 1) := dk_42 (dk_at dksX7_init_0 4 rfl rfl)
theorem dX7_init_5 : decode cX7_init 5 = .ok (.new 9, 3) := dk_187 0 9 (dk_at dksX7_init_0 5 rfl rfl)
theorem dX7_init_8 : decode cX7_init 8 = .ok (.dup, 1) := dk_89 (dk_at dksX7_init_0 8 rfl rfl)
theorem dX7_init_9 : decode cX7_init 9 = .ok (.invokespecial 11, 3) := dk_183 0 11 (dk_at dksX7_init_0 9 rfl rfl)
theorem dX7_init_12 : decode cX7_init 12 = .ok (.putfield 12, 3) := dk_181 0 12 (dk_at dksX7_init_0 12 rfl rfl)
theorem dX7_init_15 : decode cX7_init 15 = .ok (.aload_n 0, 1) := dk_42 (dk_at dksX7_init_0 15 rfl rfl)
theorem dX7_init_16 : decode cX7_init 16 = .ok (.aload_n 1, 1) := dk_43 (dk_at dksX7_init_0 16 rfl rfl)
theorem dX7_init_17 : decode cX7_init 17 = .ok (.putfield 18, 3) := dk_181 0 18 (dk_at dksX7_init_0 17 rfl rfl)
theorem dX7_init_20 : decode cX7_init 20 = .ok (.return_, 1) := dk_177 (dk_at dksX7_init_0 20 rfl rfl)
abbrev cX7_read : ByteArray := prog_5_method_6_code
def yX7_read : MethodName := ⟨RX7, "read", "()I"⟩
def dkwX7_read_3 : List UInt8 := [167, 255, 198, 42, 180, 0, 36, 153, 0, 10, 42, 180, 0, 22, 167, 0, 4, 2, 172]
abbrev dktX7_read_3 : List UInt8 := dkwX7_read_3 ++ []
def dkwX7_read_2 : List UInt8 := [182, 0, 48, 42, 180, 0, 36, 154, 255, 213, 42, 180, 0, 12, 42, 182, 0, 61, 182, 0, 65, 87]
abbrev dktX7_read_2 : List UInt8 := dkwX7_read_2 ++ dktX7_read_3
def dkwX7_read_1 : List UInt8 := [180, 0, 18, 182, 0, 26, 162, 0, 43, 42, 42, 182, 0, 40, 16, 59, 160, 0, 7, 4, 167, 0, 4, 3]
abbrev dktX7_read_1 : List UInt8 := dkwX7_read_1 ++ dktX7_read_2
def dkwX7_read_0 : List UInt8 := [42, 180, 0, 12, 42, 182, 0, 61, 182, 0, 65, 87, 42, 180, 0, 36, 154, 0, 57, 42, 180, 0, 22, 42]
abbrev dktX7_read_0 : List UInt8 := dkwX7_read_0 ++ dktX7_read_1
theorem dksX7_read_0 : cX7_read.data.toList.drop 0 = dktX7_read_0 := by decide +kernel
theorem dksX7_read_1 : cX7_read.data.toList.drop 24 = dktX7_read_1 := dk_seg dksX7_read_0 24 rfl rfl
theorem dksX7_read_2 : cX7_read.data.toList.drop 48 = dktX7_read_2 := dk_seg dksX7_read_1 24 rfl rfl
theorem dksX7_read_3 : cX7_read.data.toList.drop 70 = dktX7_read_3 := dk_seg dksX7_read_2 22 rfl rfl
theorem dX7_read_0 : decode cX7_read 0 = .ok (.aload_n 0, 1) := dk_42 (dk_at dksX7_read_0 0 rfl rfl)
theorem dX7_read_1 : decode cX7_read 1 = .ok (.getfield 12, 3) := dk_180 0 12 (dk_at dksX7_read_0 1 rfl rfl)
theorem dX7_read_4 : decode cX7_read 4 = .ok (.aload_n 0, 1) := dk_42 (dk_at dksX7_read_0 4 rfl rfl)
theorem dX7_read_5 : decode cX7_read 5 = .ok (.invokevirtual 61, 3) := dk_182 0 61 (dk_at dksX7_read_0 5 rfl rfl)
theorem dX7_read_8 : decode cX7_read 8 = .ok (.invokevirtual 65, 3) := dk_182 0 65 (dk_at dksX7_read_0 8 rfl rfl)
theorem dX7_read_11 : decode cX7_read 11 = .ok (.pop, 1) := dk_87 (dk_at dksX7_read_0 11 rfl rfl)
theorem dX7_read_12 : decode cX7_read 12 = .ok (.aload_n 0, 1) := dk_42 (dk_at dksX7_read_0 12 rfl rfl)
theorem dX7_read_13 : decode cX7_read 13 = .ok (.getfield 36, 3) := dk_180 0 36 (dk_at dksX7_read_0 13 rfl rfl)
theorem dX7_read_16 : decode cX7_read 16 = .ok (.ifCond .ne 57, 3) := dk_154 0 57 (dk_at dksX7_read_0 16 rfl rfl)
theorem dX7_read_19 : decode cX7_read 19 = .ok (.aload_n 0, 1) := dk_42 (dk_at dksX7_read_0 19 rfl rfl)
theorem dX7_read_20 : decode cX7_read 20 = .ok (.getfield 22, 3) := dk_180 0 22 (dk_at dksX7_read_0 20 rfl rfl)
theorem dX7_read_23 : decode cX7_read 23 = .ok (.aload_n 0, 1) := dk_42 (dk_at dksX7_read_0 23 rfl rfl)
theorem dX7_read_24 : decode cX7_read 24 = .ok (.getfield 18, 3) := dk_180 0 18 (dk_at dksX7_read_1 0 rfl rfl)
theorem dX7_read_27 : decode cX7_read 27 = .ok (.invokevirtual 26, 3) := dk_182 0 26 (dk_at dksX7_read_1 3 rfl rfl)
theorem dX7_read_30 : decode cX7_read 30 = .ok (.if_icmp .ge 43, 3) := dk_162 0 43 (dk_at dksX7_read_1 6 rfl rfl)
theorem dX7_read_33 : decode cX7_read 33 = .ok (.aload_n 0, 1) := dk_42 (dk_at dksX7_read_1 9 rfl rfl)
theorem dX7_read_34 : decode cX7_read 34 = .ok (.aload_n 0, 1) := dk_42 (dk_at dksX7_read_1 10 rfl rfl)
theorem dX7_read_35 : decode cX7_read 35 = .ok (.invokevirtual 40, 3) := dk_182 0 40 (dk_at dksX7_read_1 11 rfl rfl)
theorem dX7_read_38 : decode cX7_read 38 = .ok (.bipush 59, 2) := dk_16 59 (dk_at dksX7_read_1 14 rfl rfl)
theorem dX7_read_40 : decode cX7_read 40 = .ok (.if_icmp .ne 7, 3) := dk_160 0 7 (dk_at dksX7_read_1 16 rfl rfl)
theorem dX7_read_43 : decode cX7_read 43 = .ok (.iconst 1, 1) := dk_4 (dk_at dksX7_read_1 19 rfl rfl)
theorem dX7_read_44 : decode cX7_read 44 = .ok (.goto 4, 3) := dk_167 0 4 (dk_at dksX7_read_1 20 rfl rfl)
theorem dX7_read_47 : decode cX7_read 47 = .ok (.iconst 0, 1) := dk_3 (dk_at dksX7_read_1 23 rfl rfl)
theorem dX7_read_48 : decode cX7_read 48 = .ok (.invokevirtual 48, 3) := dk_182 0 48 (dk_at dksX7_read_2 0 rfl rfl)
theorem dX7_read_51 : decode cX7_read 51 = .ok (.aload_n 0, 1) := dk_42 (dk_at dksX7_read_2 3 rfl rfl)
theorem dX7_read_52 : decode cX7_read 52 = .ok (.getfield 36, 3) := dk_180 0 36 (dk_at dksX7_read_2 4 rfl rfl)
theorem dX7_read_55 : decode cX7_read 55 = .ok (.ifCond .ne (-43), 3) := dk_154 255 213 (dk_at dksX7_read_2 7 rfl rfl)
theorem dX7_read_58 : decode cX7_read 58 = .ok (.aload_n 0, 1) := dk_42 (dk_at dksX7_read_2 10 rfl rfl)
theorem dX7_read_59 : decode cX7_read 59 = .ok (.getfield 12, 3) := dk_180 0 12 (dk_at dksX7_read_2 11 rfl rfl)
theorem dX7_read_62 : decode cX7_read 62 = .ok (.aload_n 0, 1) := dk_42 (dk_at dksX7_read_2 14 rfl rfl)
theorem dX7_read_63 : decode cX7_read 63 = .ok (.invokevirtual 61, 3) := dk_182 0 61 (dk_at dksX7_read_2 15 rfl rfl)
theorem dX7_read_66 : decode cX7_read 66 = .ok (.invokevirtual 65, 3) := dk_182 0 65 (dk_at dksX7_read_2 18 rfl rfl)
theorem dX7_read_69 : decode cX7_read 69 = .ok (.pop, 1) := dk_87 (dk_at dksX7_read_2 21 rfl rfl)
theorem dX7_read_70 : decode cX7_read 70 = .ok (.goto (-58), 3) := dk_167 255 198 (dk_at dksX7_read_3 0 rfl rfl)
theorem dX7_read_73 : decode cX7_read 73 = .ok (.aload_n 0, 1) := dk_42 (dk_at dksX7_read_3 3 rfl rfl)
theorem dX7_read_74 : decode cX7_read 74 = .ok (.getfield 36, 3) := dk_180 0 36 (dk_at dksX7_read_3 4 rfl rfl)
theorem dX7_read_77 : decode cX7_read 77 = .ok (.ifCond .eq 10, 3) := dk_153 0 10 (dk_at dksX7_read_3 7 rfl rfl)
theorem dX7_read_80 : decode cX7_read 80 = .ok (.aload_n 0, 1) := dk_42 (dk_at dksX7_read_3 10 rfl rfl)
theorem dX7_read_81 : decode cX7_read 81 = .ok (.getfield 22, 3) := dk_180 0 22 (dk_at dksX7_read_3 11 rfl rfl)
theorem dX7_read_84 : decode cX7_read 84 = .ok (.goto 4, 3) := dk_167 0 4 (dk_at dksX7_read_3 14 rfl rfl)
theorem dX7_read_87 : decode cX7_read 87 = .ok (.iconst (-1), 1) := dk_2 (dk_at dksX7_read_3 17 rfl rfl)
theorem dX7_read_88 : decode cX7_read 88 = .ok (.ireturn, 1) := dk_172 (dk_at dksX7_read_3 18 rfl rfl)
abbrev cX7_work : ByteArray := prog_5_method_5_code
def yX7_work : MethodName := ⟨RX7, "work", "()LOwlYears$Work;"⟩
def dkwX7_work_8 : List UInt8 := [183, 0, 58, 176]
abbrev dktX7_work_8 : List UInt8 := dkwX7_work_8 ++ []
def dkwX7_work_7 : List UInt8 := [160, 0, 7, 4, 167, 0, 4, 3, 182, 0, 48, 187, 0, 52, 89, 27, 42, 3, 16, 63, 182, 0, 54, 3]
abbrev dktX7_work_7 : List UInt8 := dkwX7_work_7 ++ dktX7_work_8
def dkwX7_work_6 : List UInt8 := [159, 0, 27, 27, 16, 102, 159, 0, 21, 27, 16, 119, 159, 0, 15, 27, 16, 109, 159, 0, 9, 27, 16, 114]
abbrev dktX7_work_6 : List UInt8 := dkwX7_work_6 ++ dktX7_work_7
def dkwX7_work_5 : List UInt8 := [167, 0, 4, 3, 182, 0, 48, 187, 0, 52, 89, 27, 28, 29, 183, 0, 58, 176, 42, 27, 16, 98]
abbrev dktX7_work_5 : List UInt8 := dkwX7_work_5 ++ dktX7_work_6
def dkwX7_work_4 : List UInt8 := [4, 62, 42, 42, 182, 0, 40, 16, 102, 159, 0, 12, 42, 182, 0, 40, 16, 109, 160, 0, 7, 4]
abbrev dktX7_work_4 : List UInt8 := dkwX7_work_4 ++ dktX7_work_5
def dkwX7_work_3 : List UInt8 := [182, 0, 48, 42, 3, 16, 9, 182, 0, 54, 61, 42, 182, 0, 40, 16, 102, 160, 0, 7, 3, 167, 0, 4]
abbrev dktX7_work_3 : List UInt8 := dkwX7_work_3 ++ dktX7_work_4
def dkwX7_work_2 : List UInt8 := [42, 4, 182, 0, 48, 187, 0, 52, 89, 27, 42, 4, 16, 20, 182, 0, 54, 3, 183, 0, 58, 176, 42, 4]
abbrev dktX7_work_2 : List UInt8 := dkwX7_work_2 ++ dktX7_work_3
def dkwX7_work_1 : List UInt8 := [171, 0, 0, 0, 0, 114, 0, 0, 0, 2, 0, 0, 0, 111, 0, 0, 0, 48, 0, 0, 0, 121, 0, 0, 0, 26]
abbrev dktX7_work_1 : List UInt8 := dkwX7_work_1 ++ dktX7_work_2
def dkwX7_work_0 : List UInt8 := [42, 182, 0, 40, 60, 27]
abbrev dktX7_work_0 : List UInt8 := dkwX7_work_0 ++ dktX7_work_1
theorem dksX7_work_0 : cX7_work.data.toList.drop 0 = dktX7_work_0 := by decide +kernel
theorem dksX7_work_1 : cX7_work.data.toList.drop 6 = dktX7_work_1 := dk_seg dksX7_work_0 6 rfl rfl
theorem dksX7_work_2 : cX7_work.data.toList.drop 32 = dktX7_work_2 := dk_seg dksX7_work_1 26 rfl rfl
theorem dksX7_work_3 : cX7_work.data.toList.drop 56 = dktX7_work_3 := dk_seg dksX7_work_2 24 rfl rfl
theorem dksX7_work_4 : cX7_work.data.toList.drop 80 = dktX7_work_4 := dk_seg dksX7_work_3 24 rfl rfl
theorem dksX7_work_5 : cX7_work.data.toList.drop 102 = dktX7_work_5 := dk_seg dksX7_work_4 22 rfl rfl
theorem dksX7_work_6 : cX7_work.data.toList.drop 124 = dktX7_work_6 := dk_seg dksX7_work_5 22 rfl rfl
theorem dksX7_work_7 : cX7_work.data.toList.drop 148 = dktX7_work_7 := dk_seg dksX7_work_6 24 rfl rfl
theorem dksX7_work_8 : cX7_work.data.toList.drop 172 = dktX7_work_8 := dk_seg dksX7_work_7 24 rfl rfl
theorem dX7_work_0 : decode cX7_work 0 = .ok (.aload_n 0, 1) := dk_42 (dk_at dksX7_work_0 0 rfl rfl)
theorem dX7_work_1 : decode cX7_work 1 = .ok (.invokevirtual 40, 3) := dk_182 0 40 (dk_at dksX7_work_0 1 rfl rfl)
theorem dX7_work_4 : decode cX7_work 4 = .ok (.istore_n 1, 1) := dk_60 (dk_at dksX7_work_0 4 rfl rfl)
theorem dX7_work_5 : decode cX7_work 5 = .ok (.iload_n 1, 1) := dk_27 (dk_at dksX7_work_0 5 rfl rfl)
theorem dX7_work_6 : decode cX7_work 6 = .ok (.lookupswitch 114 #[(111, 48), (121, 26)], 26) := by decide +kernel
theorem dX7_work_32 : decode cX7_work 32 = .ok (.aload_n 0, 1) := dk_42 (dk_at dksX7_work_2 0 rfl rfl)
theorem dX7_work_33 : decode cX7_work 33 = .ok (.iconst 1, 1) := dk_4 (dk_at dksX7_work_2 1 rfl rfl)
theorem dX7_work_34 : decode cX7_work 34 = .ok (.invokevirtual 48, 3) := dk_182 0 48 (dk_at dksX7_work_2 2 rfl rfl)
theorem dX7_work_37 : decode cX7_work 37 = .ok (.new 52, 3) := dk_187 0 52 (dk_at dksX7_work_2 5 rfl rfl)
theorem dX7_work_40 : decode cX7_work 40 = .ok (.dup, 1) := dk_89 (dk_at dksX7_work_2 8 rfl rfl)
theorem dX7_work_41 : decode cX7_work 41 = .ok (.iload_n 1, 1) := dk_27 (dk_at dksX7_work_2 9 rfl rfl)
theorem dX7_work_42 : decode cX7_work 42 = .ok (.aload_n 0, 1) := dk_42 (dk_at dksX7_work_2 10 rfl rfl)
theorem dX7_work_43 : decode cX7_work 43 = .ok (.iconst 1, 1) := dk_4 (dk_at dksX7_work_2 11 rfl rfl)
theorem dX7_work_44 : decode cX7_work 44 = .ok (.bipush 20, 2) := dk_16 20 (dk_at dksX7_work_2 12 rfl rfl)
theorem dX7_work_46 : decode cX7_work 46 = .ok (.invokevirtual 54, 3) := dk_182 0 54 (dk_at dksX7_work_2 14 rfl rfl)
theorem dX7_work_49 : decode cX7_work 49 = .ok (.iconst 0, 1) := dk_3 (dk_at dksX7_work_2 17 rfl rfl)
theorem dX7_work_50 : decode cX7_work 50 = .ok (.invokespecial 58, 3) := dk_183 0 58 (dk_at dksX7_work_2 18 rfl rfl)
theorem dX7_work_53 : decode cX7_work 53 = .ok (.areturn, 1) := dk_176 (dk_at dksX7_work_2 21 rfl rfl)
theorem dX7_work_54 : decode cX7_work 54 = .ok (.aload_n 0, 1) := dk_42 (dk_at dksX7_work_2 22 rfl rfl)
theorem dX7_work_55 : decode cX7_work 55 = .ok (.iconst 1, 1) := dk_4 (dk_at dksX7_work_2 23 rfl rfl)
theorem dX7_work_56 : decode cX7_work 56 = .ok (.invokevirtual 48, 3) := dk_182 0 48 (dk_at dksX7_work_3 0 rfl rfl)
theorem dX7_work_59 : decode cX7_work 59 = .ok (.aload_n 0, 1) := dk_42 (dk_at dksX7_work_3 3 rfl rfl)
theorem dX7_work_60 : decode cX7_work 60 = .ok (.iconst 0, 1) := dk_3 (dk_at dksX7_work_3 4 rfl rfl)
theorem dX7_work_61 : decode cX7_work 61 = .ok (.bipush 9, 2) := dk_16 9 (dk_at dksX7_work_3 5 rfl rfl)
theorem dX7_work_63 : decode cX7_work 63 = .ok (.invokevirtual 54, 3) := dk_182 0 54 (dk_at dksX7_work_3 7 rfl rfl)
theorem dX7_work_66 : decode cX7_work 66 = .ok (.istore_n 2, 1) := dk_61 (dk_at dksX7_work_3 10 rfl rfl)
theorem dX7_work_67 : decode cX7_work 67 = .ok (.aload_n 0, 1) := dk_42 (dk_at dksX7_work_3 11 rfl rfl)
theorem dX7_work_68 : decode cX7_work 68 = .ok (.invokevirtual 40, 3) := dk_182 0 40 (dk_at dksX7_work_3 12 rfl rfl)
theorem dX7_work_71 : decode cX7_work 71 = .ok (.bipush 102, 2) := dk_16 102 (dk_at dksX7_work_3 15 rfl rfl)
theorem dX7_work_73 : decode cX7_work 73 = .ok (.if_icmp .ne 7, 3) := dk_160 0 7 (dk_at dksX7_work_3 17 rfl rfl)
theorem dX7_work_76 : decode cX7_work 76 = .ok (.iconst 0, 1) := dk_3 (dk_at dksX7_work_3 20 rfl rfl)
theorem dX7_work_77 : decode cX7_work 77 = .ok (.goto 4, 3) := dk_167 0 4 (dk_at dksX7_work_3 21 rfl rfl)
theorem dX7_work_80 : decode cX7_work 80 = .ok (.iconst 1, 1) := dk_4 (dk_at dksX7_work_4 0 rfl rfl)
theorem dX7_work_81 : decode cX7_work 81 = .ok (.istore_n 3, 1) := dk_62 (dk_at dksX7_work_4 1 rfl rfl)
theorem dX7_work_82 : decode cX7_work 82 = .ok (.aload_n 0, 1) := dk_42 (dk_at dksX7_work_4 2 rfl rfl)
theorem dX7_work_83 : decode cX7_work 83 = .ok (.aload_n 0, 1) := dk_42 (dk_at dksX7_work_4 3 rfl rfl)
theorem dX7_work_84 : decode cX7_work 84 = .ok (.invokevirtual 40, 3) := dk_182 0 40 (dk_at dksX7_work_4 4 rfl rfl)
theorem dX7_work_87 : decode cX7_work 87 = .ok (.bipush 102, 2) := dk_16 102 (dk_at dksX7_work_4 7 rfl rfl)
theorem dX7_work_89 : decode cX7_work 89 = .ok (.if_icmp .eq 12, 3) := dk_159 0 12 (dk_at dksX7_work_4 9 rfl rfl)
theorem dX7_work_92 : decode cX7_work 92 = .ok (.aload_n 0, 1) := dk_42 (dk_at dksX7_work_4 12 rfl rfl)
theorem dX7_work_93 : decode cX7_work 93 = .ok (.invokevirtual 40, 3) := dk_182 0 40 (dk_at dksX7_work_4 13 rfl rfl)
theorem dX7_work_96 : decode cX7_work 96 = .ok (.bipush 109, 2) := dk_16 109 (dk_at dksX7_work_4 16 rfl rfl)
theorem dX7_work_98 : decode cX7_work 98 = .ok (.if_icmp .ne 7, 3) := dk_160 0 7 (dk_at dksX7_work_4 18 rfl rfl)
theorem dX7_work_101 : decode cX7_work 101 = .ok (.iconst 1, 1) := dk_4 (dk_at dksX7_work_4 21 rfl rfl)
theorem dX7_work_102 : decode cX7_work 102 = .ok (.goto 4, 3) := dk_167 0 4 (dk_at dksX7_work_5 0 rfl rfl)
theorem dX7_work_105 : decode cX7_work 105 = .ok (.iconst 0, 1) := dk_3 (dk_at dksX7_work_5 3 rfl rfl)
theorem dX7_work_106 : decode cX7_work 106 = .ok (.invokevirtual 48, 3) := dk_182 0 48 (dk_at dksX7_work_5 4 rfl rfl)
theorem dX7_work_109 : decode cX7_work 109 = .ok (.new 52, 3) := dk_187 0 52 (dk_at dksX7_work_5 7 rfl rfl)
theorem dX7_work_112 : decode cX7_work 112 = .ok (.dup, 1) := dk_89 (dk_at dksX7_work_5 10 rfl rfl)
theorem dX7_work_113 : decode cX7_work 113 = .ok (.iload_n 1, 1) := dk_27 (dk_at dksX7_work_5 11 rfl rfl)
theorem dX7_work_114 : decode cX7_work 114 = .ok (.iload_n 2, 1) := dk_28 (dk_at dksX7_work_5 12 rfl rfl)
theorem dX7_work_115 : decode cX7_work 115 = .ok (.iload_n 3, 1) := dk_29 (dk_at dksX7_work_5 13 rfl rfl)
theorem dX7_work_116 : decode cX7_work 116 = .ok (.invokespecial 58, 3) := dk_183 0 58 (dk_at dksX7_work_5 14 rfl rfl)
theorem dX7_work_119 : decode cX7_work 119 = .ok (.areturn, 1) := dk_176 (dk_at dksX7_work_5 17 rfl rfl)
theorem dX7_work_120 : decode cX7_work 120 = .ok (.aload_n 0, 1) := dk_42 (dk_at dksX7_work_5 18 rfl rfl)
theorem dX7_work_121 : decode cX7_work 121 = .ok (.iload_n 1, 1) := dk_27 (dk_at dksX7_work_5 19 rfl rfl)
theorem dX7_work_122 : decode cX7_work 122 = .ok (.bipush 98, 2) := dk_16 98 (dk_at dksX7_work_5 20 rfl rfl)
theorem dX7_work_124 : decode cX7_work 124 = .ok (.if_icmp .eq 27, 3) := dk_159 0 27 (dk_at dksX7_work_6 0 rfl rfl)
theorem dX7_work_127 : decode cX7_work 127 = .ok (.iload_n 1, 1) := dk_27 (dk_at dksX7_work_6 3 rfl rfl)
theorem dX7_work_128 : decode cX7_work 128 = .ok (.bipush 102, 2) := dk_16 102 (dk_at dksX7_work_6 4 rfl rfl)
theorem dX7_work_130 : decode cX7_work 130 = .ok (.if_icmp .eq 21, 3) := dk_159 0 21 (dk_at dksX7_work_6 6 rfl rfl)
theorem dX7_work_133 : decode cX7_work 133 = .ok (.iload_n 1, 1) := dk_27 (dk_at dksX7_work_6 9 rfl rfl)
theorem dX7_work_134 : decode cX7_work 134 = .ok (.bipush 119, 2) := dk_16 119 (dk_at dksX7_work_6 10 rfl rfl)
theorem dX7_work_136 : decode cX7_work 136 = .ok (.if_icmp .eq 15, 3) := dk_159 0 15 (dk_at dksX7_work_6 12 rfl rfl)
theorem dX7_work_139 : decode cX7_work 139 = .ok (.iload_n 1, 1) := dk_27 (dk_at dksX7_work_6 15 rfl rfl)
theorem dX7_work_140 : decode cX7_work 140 = .ok (.bipush 109, 2) := dk_16 109 (dk_at dksX7_work_6 16 rfl rfl)
theorem dX7_work_142 : decode cX7_work 142 = .ok (.if_icmp .eq 9, 3) := dk_159 0 9 (dk_at dksX7_work_6 18 rfl rfl)
theorem dX7_work_145 : decode cX7_work 145 = .ok (.iload_n 1, 1) := dk_27 (dk_at dksX7_work_6 21 rfl rfl)
theorem dX7_work_146 : decode cX7_work 146 = .ok (.bipush 114, 2) := dk_16 114 (dk_at dksX7_work_6 22 rfl rfl)
theorem dX7_work_148 : decode cX7_work 148 = .ok (.if_icmp .ne 7, 3) := dk_160 0 7 (dk_at dksX7_work_7 0 rfl rfl)
theorem dX7_work_151 : decode cX7_work 151 = .ok (.iconst 1, 1) := dk_4 (dk_at dksX7_work_7 3 rfl rfl)
theorem dX7_work_152 : decode cX7_work 152 = .ok (.goto 4, 3) := dk_167 0 4 (dk_at dksX7_work_7 4 rfl rfl)
theorem dX7_work_155 : decode cX7_work 155 = .ok (.iconst 0, 1) := dk_3 (dk_at dksX7_work_7 7 rfl rfl)
theorem dX7_work_156 : decode cX7_work 156 = .ok (.invokevirtual 48, 3) := dk_182 0 48 (dk_at dksX7_work_7 8 rfl rfl)
theorem dX7_work_159 : decode cX7_work 159 = .ok (.new 52, 3) := dk_187 0 52 (dk_at dksX7_work_7 11 rfl rfl)
theorem dX7_work_162 : decode cX7_work 162 = .ok (.dup, 1) := dk_89 (dk_at dksX7_work_7 14 rfl rfl)
theorem dX7_work_163 : decode cX7_work 163 = .ok (.iload_n 1, 1) := dk_27 (dk_at dksX7_work_7 15 rfl rfl)
theorem dX7_work_164 : decode cX7_work 164 = .ok (.aload_n 0, 1) := dk_42 (dk_at dksX7_work_7 16 rfl rfl)
theorem dX7_work_165 : decode cX7_work 165 = .ok (.iconst 0, 1) := dk_3 (dk_at dksX7_work_7 17 rfl rfl)
theorem dX7_work_166 : decode cX7_work 166 = .ok (.bipush 63, 2) := dk_16 63 (dk_at dksX7_work_7 18 rfl rfl)
theorem dX7_work_168 : decode cX7_work 168 = .ok (.invokevirtual 54, 3) := dk_182 0 54 (dk_at dksX7_work_7 20 rfl rfl)
theorem dX7_work_171 : decode cX7_work 171 = .ok (.iconst 0, 1) := dk_3 (dk_at dksX7_work_7 23 rfl rfl)
theorem dX7_work_172 : decode cX7_work 172 = .ok (.invokespecial 58, 3) := dk_183 0 58 (dk_at dksX7_work_8 0 rfl rfl)
theorem dX7_work_175 : decode cX7_work 175 = .ok (.areturn, 1) := dk_176 (dk_at dksX7_work_8 3 rfl rfl)
abbrev cX7_here : ByteArray := prog_5_method_2_code
def yX7_here : MethodName := ⟨RX7, "here", "()C"⟩
def dkwX7_here_1 : List UInt8 := [182, 0, 32, 167, 0, 5, 16, 32, 172]
abbrev dktX7_here_1 : List UInt8 := dkwX7_here_1 ++ []
def dkwX7_here_0 : List UInt8 := [42, 180, 0, 22, 42, 180, 0, 18, 182, 0, 26, 162, 0, 17, 42, 180, 0, 18, 42, 180, 0, 22]
abbrev dktX7_here_0 : List UInt8 := dkwX7_here_0 ++ dktX7_here_1
theorem dksX7_here_0 : cX7_here.data.toList.drop 0 = dktX7_here_0 := by decide +kernel
theorem dksX7_here_1 : cX7_here.data.toList.drop 22 = dktX7_here_1 := dk_seg dksX7_here_0 22 rfl rfl
theorem dX7_here_0 : decode cX7_here 0 = .ok (.aload_n 0, 1) := dk_42 (dk_at dksX7_here_0 0 rfl rfl)
theorem dX7_here_1 : decode cX7_here 1 = .ok (.getfield 22, 3) := dk_180 0 22 (dk_at dksX7_here_0 1 rfl rfl)
theorem dX7_here_4 : decode cX7_here 4 = .ok (.aload_n 0, 1) := dk_42 (dk_at dksX7_here_0 4 rfl rfl)
theorem dX7_here_5 : decode cX7_here 5 = .ok (.getfield 18, 3) := dk_180 0 18 (dk_at dksX7_here_0 5 rfl rfl)
theorem dX7_here_8 : decode cX7_here 8 = .ok (.invokevirtual 26, 3) := dk_182 0 26 (dk_at dksX7_here_0 8 rfl rfl)
theorem dX7_here_11 : decode cX7_here 11 = .ok (.if_icmp .ge 17, 3) := dk_162 0 17 (dk_at dksX7_here_0 11 rfl rfl)
theorem dX7_here_14 : decode cX7_here 14 = .ok (.aload_n 0, 1) := dk_42 (dk_at dksX7_here_0 14 rfl rfl)
theorem dX7_here_15 : decode cX7_here 15 = .ok (.getfield 18, 3) := dk_180 0 18 (dk_at dksX7_here_0 15 rfl rfl)
theorem dX7_here_18 : decode cX7_here 18 = .ok (.aload_n 0, 1) := dk_42 (dk_at dksX7_here_0 18 rfl rfl)
theorem dX7_here_19 : decode cX7_here 19 = .ok (.getfield 22, 3) := dk_180 0 22 (dk_at dksX7_here_0 19 rfl rfl)
theorem dX7_here_22 : decode cX7_here 22 = .ok (.invokevirtual 32, 3) := dk_182 0 32 (dk_at dksX7_here_1 0 rfl rfl)
theorem dX7_here_25 : decode cX7_here 25 = .ok (.goto 5, 3) := dk_167 0 5 (dk_at dksX7_here_1 3 rfl rfl)
theorem dX7_here_28 : decode cX7_here 28 = .ok (.bipush 32, 2) := dk_16 32 (dk_at dksX7_here_1 6 rfl rfl)
theorem dX7_here_30 : decode cX7_here 30 = .ok (.ireturn, 1) := dk_172 (dk_at dksX7_here_1 8 rfl rfl)
abbrev cX7_step : ByteArray := prog_5_method_3_code
def yX7_step : MethodName := ⟨RX7, "step", "(Z)V"⟩
def dkwX7_step_1 : List UInt8 := [180, 0, 22, 42, 180, 0, 36, 153, 0, 7, 3, 167, 0, 4, 4, 96, 181, 0, 22, 177]
abbrev dktX7_step_1 : List UInt8 := dkwX7_step_1 ++ []
def dkwX7_step_0 : List UInt8 := [42, 42, 180, 0, 36, 154, 0, 7, 27, 154, 0, 7, 4, 167, 0, 4, 3, 181, 0, 36, 42, 89]
abbrev dktX7_step_0 : List UInt8 := dkwX7_step_0 ++ dktX7_step_1
theorem dksX7_step_0 : cX7_step.data.toList.drop 0 = dktX7_step_0 := by decide +kernel
theorem dksX7_step_1 : cX7_step.data.toList.drop 22 = dktX7_step_1 := dk_seg dksX7_step_0 22 rfl rfl
theorem dX7_step_0 : decode cX7_step 0 = .ok (.aload_n 0, 1) := dk_42 (dk_at dksX7_step_0 0 rfl rfl)
theorem dX7_step_1 : decode cX7_step 1 = .ok (.aload_n 0, 1) := dk_42 (dk_at dksX7_step_0 1 rfl rfl)
theorem dX7_step_2 : decode cX7_step 2 = .ok (.getfield 36, 3) := dk_180 0 36 (dk_at dksX7_step_0 2 rfl rfl)
theorem dX7_step_5 : decode cX7_step 5 = .ok (.ifCond .ne 7, 3) := dk_154 0 7 (dk_at dksX7_step_0 5 rfl rfl)
theorem dX7_step_8 : decode cX7_step 8 = .ok (.iload_n 1, 1) := dk_27 (dk_at dksX7_step_0 8 rfl rfl)
theorem dX7_step_9 : decode cX7_step 9 = .ok (.ifCond .ne 7, 3) := dk_154 0 7 (dk_at dksX7_step_0 9 rfl rfl)
theorem dX7_step_12 : decode cX7_step 12 = .ok (.iconst 1, 1) := dk_4 (dk_at dksX7_step_0 12 rfl rfl)
theorem dX7_step_13 : decode cX7_step 13 = .ok (.goto 4, 3) := dk_167 0 4 (dk_at dksX7_step_0 13 rfl rfl)
theorem dX7_step_16 : decode cX7_step 16 = .ok (.iconst 0, 1) := dk_3 (dk_at dksX7_step_0 16 rfl rfl)
theorem dX7_step_17 : decode cX7_step 17 = .ok (.putfield 36, 3) := dk_181 0 36 (dk_at dksX7_step_0 17 rfl rfl)
theorem dX7_step_20 : decode cX7_step 20 = .ok (.aload_n 0, 1) := dk_42 (dk_at dksX7_step_0 20 rfl rfl)
theorem dX7_step_21 : decode cX7_step 21 = .ok (.dup, 1) := dk_89 (dk_at dksX7_step_0 21 rfl rfl)
theorem dX7_step_22 : decode cX7_step 22 = .ok (.getfield 22, 3) := dk_180 0 22 (dk_at dksX7_step_1 0 rfl rfl)
theorem dX7_step_25 : decode cX7_step 25 = .ok (.aload_n 0, 1) := dk_42 (dk_at dksX7_step_1 3 rfl rfl)
theorem dX7_step_26 : decode cX7_step 26 = .ok (.getfield 36, 3) := dk_180 0 36 (dk_at dksX7_step_1 4 rfl rfl)
theorem dX7_step_29 : decode cX7_step 29 = .ok (.ifCond .eq 7, 3) := dk_153 0 7 (dk_at dksX7_step_1 7 rfl rfl)
theorem dX7_step_32 : decode cX7_step 32 = .ok (.iconst 0, 1) := dk_3 (dk_at dksX7_step_1 10 rfl rfl)
theorem dX7_step_33 : decode cX7_step 33 = .ok (.goto 4, 3) := dk_167 0 4 (dk_at dksX7_step_1 11 rfl rfl)
theorem dX7_step_36 : decode cX7_step 36 = .ok (.iconst 1, 1) := dk_4 (dk_at dksX7_step_1 14 rfl rfl)
theorem dX7_step_37 : decode cX7_step 37 = .ok (.iadd, 1) := dk_96 (dk_at dksX7_step_1 15 rfl rfl)
theorem dX7_step_38 : decode cX7_step 38 = .ok (.putfield 22, 3) := dk_181 0 22 (dk_at dksX7_step_1 16 rfl rfl)
theorem dX7_step_41 : decode cX7_step 41 = .ok (.return_, 1) := dk_177 (dk_at dksX7_step_1 19 rfl rfl)
abbrev cX7_number : ByteArray := prog_5_method_4_code
def yX7_number : MethodName := ⟨RX7, "number", "(II)I"⟩
def dkwX7_number_3 : List UInt8 := [163, 0, 7, 4, 167, 0, 4, 3, 182, 0, 48, 29, 172]
abbrev dktX7_number_3 : List UInt8 := dkwX7_number_3 ++ []
def dkwX7_number_2 : List UInt8 := [184, 0, 44, 153, 0, 30, 16, 10, 29, 104, 42, 182, 0, 40, 96, 16, 48, 100, 62, 42, 29, 28]
abbrev dktX7_number_2 : List UInt8 := dkwX7_number_2 ++ dktX7_number_3
def dkwX7_number_1 : List UInt8 := [154, 0, 56, 29, 158, 0, 52, 16, 10, 29, 104, 28, 163, 0, 44, 42, 182, 0, 40, 16, 48, 16, 57]
abbrev dktX7_number_1 : List UInt8 := dkwX7_number_1 ++ dktX7_number_2
def dkwX7_number_0 : List UInt8 := [42, 182, 0, 40, 16, 48, 100, 62, 42, 29, 27, 16, 9, 184, 0, 44, 182, 0, 48, 42, 180, 0, 36]
abbrev dktX7_number_0 : List UInt8 := dkwX7_number_0 ++ dktX7_number_1
theorem dksX7_number_0 : cX7_number.data.toList.drop 0 = dktX7_number_0 := by decide +kernel
theorem dksX7_number_1 : cX7_number.data.toList.drop 23 = dktX7_number_1 := dk_seg dksX7_number_0 23 rfl rfl
theorem dksX7_number_2 : cX7_number.data.toList.drop 46 = dktX7_number_2 := dk_seg dksX7_number_1 23 rfl rfl
theorem dksX7_number_3 : cX7_number.data.toList.drop 68 = dktX7_number_3 := dk_seg dksX7_number_2 22 rfl rfl
theorem dX7_number_0 : decode cX7_number 0 = .ok (.aload_n 0, 1) := dk_42 (dk_at dksX7_number_0 0 rfl rfl)
theorem dX7_number_1 : decode cX7_number 1 = .ok (.invokevirtual 40, 3) := dk_182 0 40 (dk_at dksX7_number_0 1 rfl rfl)
theorem dX7_number_4 : decode cX7_number 4 = .ok (.bipush 48, 2) := dk_16 48 (dk_at dksX7_number_0 4 rfl rfl)
theorem dX7_number_6 : decode cX7_number 6 = .ok (.isub, 1) := dk_100 (dk_at dksX7_number_0 6 rfl rfl)
theorem dX7_number_7 : decode cX7_number 7 = .ok (.istore_n 3, 1) := dk_62 (dk_at dksX7_number_0 7 rfl rfl)
theorem dX7_number_8 : decode cX7_number 8 = .ok (.aload_n 0, 1) := dk_42 (dk_at dksX7_number_0 8 rfl rfl)
theorem dX7_number_9 : decode cX7_number 9 = .ok (.iload_n 3, 1) := dk_29 (dk_at dksX7_number_0 9 rfl rfl)
theorem dX7_number_10 : decode cX7_number 10 = .ok (.iload_n 1, 1) := dk_27 (dk_at dksX7_number_0 10 rfl rfl)
theorem dX7_number_11 : decode cX7_number 11 = .ok (.bipush 9, 2) := dk_16 9 (dk_at dksX7_number_0 11 rfl rfl)
theorem dX7_number_13 : decode cX7_number 13 = .ok (.invokestatic 44, 3) := dk_184 0 44 (dk_at dksX7_number_0 13 rfl rfl)
theorem dX7_number_16 : decode cX7_number 16 = .ok (.invokevirtual 48, 3) := dk_182 0 48 (dk_at dksX7_number_0 16 rfl rfl)
theorem dX7_number_19 : decode cX7_number 19 = .ok (.aload_n 0, 1) := dk_42 (dk_at dksX7_number_0 19 rfl rfl)
theorem dX7_number_20 : decode cX7_number 20 = .ok (.getfield 36, 3) := dk_180 0 36 (dk_at dksX7_number_0 20 rfl rfl)
theorem dX7_number_23 : decode cX7_number 23 = .ok (.ifCond .ne 56, 3) := dk_154 0 56 (dk_at dksX7_number_1 0 rfl rfl)
theorem dX7_number_26 : decode cX7_number 26 = .ok (.iload_n 3, 1) := dk_29 (dk_at dksX7_number_1 3 rfl rfl)
theorem dX7_number_27 : decode cX7_number 27 = .ok (.ifCond .le 52, 3) := dk_158 0 52 (dk_at dksX7_number_1 4 rfl rfl)
theorem dX7_number_30 : decode cX7_number 30 = .ok (.bipush 10, 2) := dk_16 10 (dk_at dksX7_number_1 7 rfl rfl)
theorem dX7_number_32 : decode cX7_number 32 = .ok (.iload_n 3, 1) := dk_29 (dk_at dksX7_number_1 9 rfl rfl)
theorem dX7_number_33 : decode cX7_number 33 = .ok (.imul, 1) := dk_104 (dk_at dksX7_number_1 10 rfl rfl)
theorem dX7_number_34 : decode cX7_number 34 = .ok (.iload_n 2, 1) := dk_28 (dk_at dksX7_number_1 11 rfl rfl)
theorem dX7_number_35 : decode cX7_number 35 = .ok (.if_icmp .gt 44, 3) := dk_163 0 44 (dk_at dksX7_number_1 12 rfl rfl)
theorem dX7_number_38 : decode cX7_number 38 = .ok (.aload_n 0, 1) := dk_42 (dk_at dksX7_number_1 15 rfl rfl)
theorem dX7_number_39 : decode cX7_number 39 = .ok (.invokevirtual 40, 3) := dk_182 0 40 (dk_at dksX7_number_1 16 rfl rfl)
theorem dX7_number_42 : decode cX7_number 42 = .ok (.bipush 48, 2) := dk_16 48 (dk_at dksX7_number_1 19 rfl rfl)
theorem dX7_number_44 : decode cX7_number 44 = .ok (.bipush 57, 2) := dk_16 57 (dk_at dksX7_number_1 21 rfl rfl)
theorem dX7_number_46 : decode cX7_number 46 = .ok (.invokestatic 44, 3) := dk_184 0 44 (dk_at dksX7_number_2 0 rfl rfl)
theorem dX7_number_49 : decode cX7_number 49 = .ok (.ifCond .eq 30, 3) := dk_153 0 30 (dk_at dksX7_number_2 3 rfl rfl)
theorem dX7_number_52 : decode cX7_number 52 = .ok (.bipush 10, 2) := dk_16 10 (dk_at dksX7_number_2 6 rfl rfl)
theorem dX7_number_54 : decode cX7_number 54 = .ok (.iload_n 3, 1) := dk_29 (dk_at dksX7_number_2 8 rfl rfl)
theorem dX7_number_55 : decode cX7_number 55 = .ok (.imul, 1) := dk_104 (dk_at dksX7_number_2 9 rfl rfl)
theorem dX7_number_56 : decode cX7_number 56 = .ok (.aload_n 0, 1) := dk_42 (dk_at dksX7_number_2 10 rfl rfl)
theorem dX7_number_57 : decode cX7_number 57 = .ok (.invokevirtual 40, 3) := dk_182 0 40 (dk_at dksX7_number_2 11 rfl rfl)
theorem dX7_number_60 : decode cX7_number 60 = .ok (.iadd, 1) := dk_96 (dk_at dksX7_number_2 14 rfl rfl)
theorem dX7_number_61 : decode cX7_number 61 = .ok (.bipush 48, 2) := dk_16 48 (dk_at dksX7_number_2 15 rfl rfl)
theorem dX7_number_63 : decode cX7_number 63 = .ok (.isub, 1) := dk_100 (dk_at dksX7_number_2 17 rfl rfl)
theorem dX7_number_64 : decode cX7_number 64 = .ok (.istore_n 3, 1) := dk_62 (dk_at dksX7_number_2 18 rfl rfl)
theorem dX7_number_65 : decode cX7_number 65 = .ok (.aload_n 0, 1) := dk_42 (dk_at dksX7_number_2 19 rfl rfl)
theorem dX7_number_66 : decode cX7_number 66 = .ok (.iload_n 3, 1) := dk_29 (dk_at dksX7_number_2 20 rfl rfl)
theorem dX7_number_67 : decode cX7_number 67 = .ok (.iload_n 2, 1) := dk_28 (dk_at dksX7_number_2 21 rfl rfl)
theorem dX7_number_68 : decode cX7_number 68 = .ok (.if_icmp .gt 7, 3) := dk_163 0 7 (dk_at dksX7_number_3 0 rfl rfl)
theorem dX7_number_71 : decode cX7_number 71 = .ok (.iconst 1, 1) := dk_4 (dk_at dksX7_number_3 3 rfl rfl)
theorem dX7_number_72 : decode cX7_number 72 = .ok (.goto 4, 3) := dk_167 0 4 (dk_at dksX7_number_3 4 rfl rfl)
theorem dX7_number_75 : decode cX7_number 75 = .ok (.iconst 0, 1) := dk_3 (dk_at dksX7_number_3 7 rfl rfl)
theorem dX7_number_76 : decode cX7_number 76 = .ok (.invokevirtual 48, 3) := dk_182 0 48 (dk_at dksX7_number_3 8 rfl rfl)
theorem dX7_number_79 : decode cX7_number 79 = .ok (.iload_n 3, 1) := dk_29 (dk_at dksX7_number_3 11 rfl rfl)
theorem dX7_number_80 : decode cX7_number 80 = .ok (.ireturn, 1) := dk_172 (dk_at dksX7_number_3 12 rfl rfl)
theorem q157 : (Jvm.Cond.initialized "OwlYears$Reader") ∈ lw_all := lw_g (lw_at lw_m1 39 rfl) rfl
theorem q445 : (Jvm.Cond.selects "OwlYears$Reader" ({ cls := "java/lang/Object", name := "getClass", desc := "()Ljava/lang/Class;" } : Jvm.MethodName) ({ cls := "java/lang/Object", name := "getClass", desc := "()Ljava/lang/Class;" } : Jvm.MethodName)) ∈ lw_all := lw_g (lw_at lw_m2 87 rfl) rfl
theorem q505 : (Jvm.Cond.selects "OwlYears$Reader" ({ cls := "java/lang/Object", name := "hashCode", desc := "()I" } : Jvm.MethodName) ({ cls := "java/lang/Object", name := "hashCode", desc := "()I" } : Jvm.MethodName)) ∈ lw_all := lw_g (lw_at lw_m2 147 rfl) rfl
theorem q1124 : (Jvm.Cond.selects "OwlYears$Reader" ({ cls := "java/lang/Object", name := "equals", desc := "(Ljava/lang/Object;)Z" } : Jvm.MethodName) ({ cls := "java/lang/Object", name := "equals", desc := "(Ljava/lang/Object;)Z" } : Jvm.MethodName)) ∈ lw_all := lw_g (lw_at lw_m5 46 rfl) rfl
theorem q1658 : (Jvm.Cond.instantiable "OwlYears$Reader" (4 : Nat)) ∈ lw_all := lw_g (lw_at lw_m7 100 rfl) rfl
theorem q1660 : (Jvm.Cond.instanceMethod ({ cls := "OwlYears$Reader", name := "<init>", desc := "(Ljava/lang/StringBuilder;)V" } : Jvm.MethodName)) ∈ lw_all := lw_g (lw_at lw_m7 102 rfl) rfl
theorem q1661 : (Jvm.Cond.code ({ cls := "OwlYears$Reader", name := "<init>", desc := "(Ljava/lang/StringBuilder;)V" } : Jvm.MethodName) prog_5_method_1_code (2 : Nat) (Option.none : Option Jvm.ClassFile.FieldType)) ∈ lw_all := lw_g (lw_at lw_m7 103 rfl) rfl
theorem q1662 : (Jvm.Cond.methodLink "OwlYears$Reader" (3 : Nat) ({ cls := "java/lang/Object", name := "<init>", desc := "()V" } : Jvm.MethodName)) ∈ lw_all := lw_g (lw_at lw_m7 104 rfl) rfl
theorem q1663 : (Jvm.Cond.classLink "OwlYears$Reader" (9 : Nat) "java/util/ArrayList") ∈ lw_all := lw_g (lw_at lw_m7 105 rfl) rfl
theorem q1664 : (Jvm.Cond.methodLink "OwlYears$Reader" (11 : Nat) ({ cls := "java/util/ArrayList", name := "<init>", desc := "()V" } : Jvm.MethodName)) ∈ lw_all := lw_g (lw_at lw_m7 106 rfl) rfl
theorem q1665 : (Jvm.Cond.fieldLink "OwlYears$Reader" (18 : Nat) "OwlYears$Reader" "source" "Ljava/lang/StringBuilder;") ∈ lw_all := lw_g (lw_at lw_m7 107 rfl) rfl
theorem q1666 : (Jvm.Cond.fieldLink "OwlYears$Reader" (12 : Nat) "OwlYears$Reader" "works" "Ljava/util/ArrayList;") ∈ lw_all := lw_g (lw_at lw_m7 108 rfl) rfl
theorem q1668 : (Jvm.Cond.fieldLink "OwlYears$Reader" (22 : Nat) "OwlYears$Reader" "at" "I") ∈ lw_all := lw_g (lw_at lw_m7 110 rfl) rfl
theorem q1669 : (Jvm.Cond.fieldLink "OwlYears$Reader" (36 : Nat) "OwlYears$Reader" "failed" "Z") ∈ lw_all := lw_g (lw_at lw_m7 111 rfl) rfl
theorem q1670 : (Jvm.Cond.laysFinal "OwlYears$Reader" "OwlYears$Reader" "source" "Ljava/lang/StringBuilder;") ∈ lw_all := lw_g (lw_at lw_m7 112 rfl) rfl
theorem q1671 : (Jvm.Cond.soleField "OwlYears$Reader" "source") ∈ lw_all := lw_g (lw_at lw_m7 113 rfl) rfl
theorem q1672 : (Jvm.Cond.laysFinal "OwlYears$Reader" "OwlYears$Reader" "works" "Ljava/util/ArrayList;") ∈ lw_all := lw_g (lw_at lw_m7 114 rfl) rfl
theorem q1673 : (Jvm.Cond.soleField "OwlYears$Reader" "works") ∈ lw_all := lw_g (lw_at lw_m7 115 rfl) rfl
theorem q1674 : (Jvm.Cond.lays "OwlYears$Reader" "OwlYears$Reader" "at" "I") ∈ lw_all := lw_g (lw_at lw_m7 116 rfl) rfl
theorem q1675 : (Jvm.Cond.soleField "OwlYears$Reader" "at") ∈ lw_all := lw_g (lw_at lw_m7 117 rfl) rfl
theorem q1676 : (Jvm.Cond.lays "OwlYears$Reader" "OwlYears$Reader" "failed" "Z") ∈ lw_all := lw_g (lw_at lw_m7 118 rfl) rfl
theorem q1677 : (Jvm.Cond.soleField "OwlYears$Reader" "failed") ∈ lw_all := lw_g (lw_at lw_m7 119 rfl) rfl
theorem q1678 : (Jvm.Cond.superclass "OwlYears$Reader" "java/lang/Object") ∈ lw_all := lw_g (lw_at lw_m7 120 rfl) rfl
theorem q1680 : (Jvm.Cond.instanceMethod ({ cls := "OwlYears$Reader", name := "read", desc := "()I" } : Jvm.MethodName)) ∈ lw_all := lw_g (lw_at lw_m7 122 rfl) rfl
theorem q1681 : (Jvm.Cond.selects "OwlYears$Reader" ({ cls := "OwlYears$Reader", name := "read", desc := "()I" } : Jvm.MethodName) ({ cls := "OwlYears$Reader", name := "read", desc := "()I" } : Jvm.MethodName)) ∈ lw_all := lw_g (lw_at lw_m7 123 rfl) rfl
theorem q1682 : (Jvm.Cond.code ({ cls := "OwlYears$Reader", name := "read", desc := "()I" } : Jvm.MethodName) prog_5_method_6_code (1 : Nat) (Option.some Jvm.ClassFile.FieldType.int)) ∈ lw_all := lw_g (lw_at lw_m7 124 rfl) rfl
theorem q1683 : (Jvm.Cond.methodLink "OwlYears$Reader" (61 : Nat) ({ cls := "OwlYears$Reader", name := "work", desc := "()LOwlYears$Work;" } : Jvm.MethodName)) ∈ lw_all := lw_g (lw_at lw_m7 125 rfl) rfl
theorem q1684 : (Jvm.Cond.privateMethod ({ cls := "OwlYears$Reader", name := "work", desc := "()LOwlYears$Work;" } : Jvm.MethodName)) ∈ lw_tbl := lw_at lw_m7 126 rfl
theorem q1685 : (Jvm.Cond.instanceMethod ({ cls := "OwlYears$Reader", name := "work", desc := "()LOwlYears$Work;" } : Jvm.MethodName)) ∈ lw_all := lw_g (lw_at lw_m7 127 rfl) rfl
theorem q1686 : (Jvm.Cond.code ({ cls := "OwlYears$Reader", name := "work", desc := "()LOwlYears$Work;" } : Jvm.MethodName) prog_5_method_5_code (4 : Nat) (Option.some (Jvm.ClassFile.FieldType.object "OwlYears$Work"))) ∈ lw_all := lw_g (lw_at lw_m7 128 rfl) rfl
theorem q1687 : (Jvm.Cond.methodLink "OwlYears$Reader" (40 : Nat) ({ cls := "OwlYears$Reader", name := "here", desc := "()C" } : Jvm.MethodName)) ∈ lw_all := lw_g (lw_at lw_m7 129 rfl) rfl
theorem q1688 : (Jvm.Cond.privateMethod ({ cls := "OwlYears$Reader", name := "here", desc := "()C" } : Jvm.MethodName)) ∈ lw_tbl := lw_at lw_m7 130 rfl
theorem q1689 : (Jvm.Cond.instanceMethod ({ cls := "OwlYears$Reader", name := "here", desc := "()C" } : Jvm.MethodName)) ∈ lw_all := lw_g (lw_at lw_m7 131 rfl) rfl
theorem q1690 : (Jvm.Cond.code ({ cls := "OwlYears$Reader", name := "here", desc := "()C" } : Jvm.MethodName) prog_5_method_2_code (1 : Nat) (Option.some Jvm.ClassFile.FieldType.char)) ∈ lw_all := lw_g (lw_at lw_m7 132 rfl) rfl
theorem q1691 : (Jvm.Cond.methodLink "OwlYears$Reader" (26 : Nat) ({ cls := "java/lang/StringBuilder", name := "length", desc := "()I" } : Jvm.MethodName)) ∈ lw_all := lw_g (lw_at lw_m7 133 rfl) rfl
theorem q1692 : (Jvm.Cond.methodLink "OwlYears$Reader" (32 : Nat) ({ cls := "java/lang/StringBuilder", name := "charAt", desc := "(I)C" } : Jvm.MethodName)) ∈ lw_all := lw_g (lw_at lw_m7 134 rfl) rfl
theorem q1705 : (Jvm.Cond.methodLink "OwlYears$Reader" (48 : Nat) ({ cls := "OwlYears$Reader", name := "step", desc := "(Z)V" } : Jvm.MethodName)) ∈ lw_all := lw_g (lw_at lw_m7 147 rfl) rfl
theorem q1706 : (Jvm.Cond.privateMethod ({ cls := "OwlYears$Reader", name := "step", desc := "(Z)V" } : Jvm.MethodName)) ∈ lw_tbl := lw_at lw_m7 148 rfl
theorem q1707 : (Jvm.Cond.instanceMethod ({ cls := "OwlYears$Reader", name := "step", desc := "(Z)V" } : Jvm.MethodName)) ∈ lw_all := lw_g (lw_at lw_m7 149 rfl) rfl
theorem q1708 : (Jvm.Cond.code ({ cls := "OwlYears$Reader", name := "step", desc := "(Z)V" } : Jvm.MethodName) prog_5_method_3_code (2 : Nat) (Option.none : Option Jvm.ClassFile.FieldType)) ∈ lw_all := lw_g (lw_at lw_m7 150 rfl) rfl
theorem q1709 : (Jvm.Cond.classLink "OwlYears$Reader" (52 : Nat) "OwlYears$Work") ∈ lw_all := lw_g (lw_at lw_m7 151 rfl) rfl
theorem q1711 : (Jvm.Cond.methodLink "OwlYears$Reader" (54 : Nat) ({ cls := "OwlYears$Reader", name := "number", desc := "(II)I" } : Jvm.MethodName)) ∈ lw_all := lw_g (lw_at lw_m7 153 rfl) rfl
theorem q1712 : (Jvm.Cond.privateMethod ({ cls := "OwlYears$Reader", name := "number", desc := "(II)I" } : Jvm.MethodName)) ∈ lw_tbl := lw_at lw_m7 154 rfl
theorem q1713 : (Jvm.Cond.instanceMethod ({ cls := "OwlYears$Reader", name := "number", desc := "(II)I" } : Jvm.MethodName)) ∈ lw_all := lw_g (lw_at lw_m7 155 rfl) rfl
theorem q1714 : (Jvm.Cond.code ({ cls := "OwlYears$Reader", name := "number", desc := "(II)I" } : Jvm.MethodName) prog_5_method_4_code (4 : Nat) (Option.some Jvm.ClassFile.FieldType.int)) ∈ lw_all := lw_g (lw_at lw_m7 156 rfl) rfl
theorem q1715 : (Jvm.Cond.methodLinkNest "OwlYears$Reader" (44 : Nat) ({ cls := "OwlYears", name := "isWithin", desc := "(III)Z" } : Jvm.MethodName) "OwlYears") ∈ lw_tbl := lw_at lw_m7 157 rfl
theorem q1718 : (Jvm.Cond.methodLink "OwlYears$Reader" (58 : Nat) ({ cls := "OwlYears$Work", name := "<init>", desc := "(CII)V" } : Jvm.MethodName)) ∈ lw_all := lw_g (lw_at lw_m7 160 rfl) rfl
theorem q1735 : (Jvm.Cond.methodLink "OwlYears$Reader" (65 : Nat) ({ cls := "java/util/ArrayList", name := "add", desc := "(Ljava/lang/Object;)Z" } : Jvm.MethodName)) ∈ lw_all := lw_g (lw_at lw_m7 177 rfl) rfl
theorem q2983 : (Jvm.Cond.castable "OwlYears$Reader" "java/lang/Object") ∈ lw_tbl := lw_at lw_m12 225 rfl
theorem in_X7 : ∀ w ∈ wsX70, w ∈ lw_all := lw_in wsX70 [1670, 1672, 1674, 1676] (by decide +kernel) (by decide +kernel)
