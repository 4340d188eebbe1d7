/-! OwlYearsModel -/
set_option maxRecDepth 100000
def RX3 : String := "OwlYearsModel"
def TX3 : u_T := fun k => match k with
  | 0 => ("OwlYearsModel", "thrown", "I", false)
  | 1 => ("OwlYearsModel", "state", "[I", true)
  | 2 => ("OwlYearsModel", "history", "[I", true)
  | 3 => ("OwlYearsModel", "recorded", "I", false)
  | 4 => ("OwlYearsModel", "snapshot", "[I", true)
  | 5 => ("OwlYearsModel", "isTaken", "Z", false)
  | 6 => ("OwlYearsModel", "kept", "[I", true)
  | 7 => ("OwlYearsModel", "ranges", "[J", true)
  | 8 => ("OwlYearsModel", "marks", "[I", true)
  | 9 => ("OwlYearsModel", "others", "[I", true)
  | 10 => ("OwlYearsModel", "text", "[I", true)
  | 11 => ("OwlYearsModel", "textLength", "I", false)
  | 12 => ("OwlYearsModel", "reading", "I", false)
  | 13 => ("OwlYearsModel", "number", "I", false)
  | 14 => ("OwlYearsModel", "work", "I", false)
  | _ => ("OwlYearsModel", "sexRead", "I", false)
def tyX3 : Nat → FieldType := fun k => match k with
  | 0 => .int
  | 1 => .array .int
  | 2 => .array .int
  | 3 => .int
  | 4 => .array .int
  | 5 => .boolean
  | 6 => .array .int
  | 7 => .array .long
  | 8 => .array .int
  | 9 => .array .int
  | 10 => .array .int
  | 11 => .int
  | 12 => .int
  | 13 => .int
  | 14 => .int
  | _ => .int
abbrev wsX30 : List Cond := u_ws RX3 TX3 16
set_option maxRecDepth 100000 in
theorem nmX3 : ∀ a, a < 16 → ∀ b, b < 16 → a ≠ b → (TX3 a).2.1 ≠ (TX3 b).2.1 := by decide +kernel
set_option maxRecDepth 100000 in
theorem tyX3_ok : ∀ k, k < 16 → parseFieldDescriptor (TX3 k).2.2.1 = some (tyX3 k) := by decide +kernel
abbrev cX3_init : ByteArray := prog_9_method_1_code
def yX3_init : MethodName := ⟨RX3, "<init>", "()V"⟩
def dkwX3_init_5 : List UInt8 := [96, 2, 79, 132, 1, 1, 167, 255, 234, 42, 180, 0, 7, 4, 4, 79, 177]
abbrev dktX3_init_5 : List UInt8 := dkwX3_init_5 ++ []
def dkwX3_init_4 : List UInt8 := [132, 1, 1, 167, 255, 236, 3, 60, 27, 16, 60, 162, 0, 22, 42, 180, 0, 7, 17, 1, 138, 8, 27, 104]
abbrev dktX3_init_4 : List UInt8 := dkwX3_init_4 ++ dktX3_init_5
def dkwX3_init_3 : List UInt8 := [181, 0, 32, 3, 60, 27, 16, 64, 162, 0, 20, 42, 180, 0, 7, 16, 80, 27, 96, 16, 40, 79]
abbrev dktX3_init_3 : List UInt8 := dkwX3_init_3 ++ dktX3_init_4
def dkwX3_init_2 : List UInt8 := [181, 0, 22, 42, 16, 100, 188, 10, 181, 0, 26, 42, 16, 100, 188, 10, 181, 0, 29, 42, 16, 60, 188, 10]
abbrev dktX3_init_2 : List UInt8 := dkwX3_init_2 ++ dktX3_init_3
def dkwX3_init_1 : List UInt8 := [17, 2, 242, 188, 10, 181, 0, 16, 42, 17, 2, 242, 188, 10, 181, 0, 19, 42, 16, 11, 188, 11]
abbrev dktX3_init_1 : List UInt8 := dkwX3_init_1 ++ dktX3_init_2
def dkwX3_init_0 : List UInt8 := [42, 183, 0, 1, 42, 17, 2, 242, 188, 10, 181, 0, 7, 42, 17, 17, 172, 188, 10, 181, 0, 13, 42]
abbrev dktX3_init_0 : List UInt8 := dkwX3_init_0 ++ dktX3_init_1
theorem dksX3_init_0 : cX3_init.data.toList.drop 0 = dktX3_init_0 := by decide +kernel
theorem dksX3_init_1 : cX3_init.data.toList.drop 23 = dktX3_init_1 := dk_seg dksX3_init_0 23 rfl rfl
theorem dksX3_init_2 : cX3_init.data.toList.drop 45 = dktX3_init_2 := dk_seg dksX3_init_1 22 rfl rfl
theorem dksX3_init_3 : cX3_init.data.toList.drop 69 = dktX3_init_3 := dk_seg dksX3_init_2 24 rfl rfl
theorem dksX3_init_4 : cX3_init.data.toList.drop 91 = dktX3_init_4 := dk_seg dksX3_init_3 22 rfl rfl
theorem dksX3_init_5 : cX3_init.data.toList.drop 115 = dktX3_init_5 := dk_seg dksX3_init_4 24 rfl rfl
theorem dX3_init_0 : decode cX3_init 0 = .ok (.aload_n 0, 1) := dk_42 (dk_at dksX3_init_0 0 rfl rfl)
theorem dX3_init_1 : decode cX3_init 1 = .ok (.invokespecial 1, 3) := dk_183 0 1 (dk_at dksX3_init_0 1 rfl rfl)
theorem dX3_init_4 : decode cX3_init 4 = .ok (.aload_n 0, 1) := dk_42 (dk_at dksX3_init_0 4 rfl rfl)
theorem dX3_init_5 : decode cX3_init 5 = .ok (.sipush 754, 3) := dk_17 2 242 (dk_at dksX3_init_0 5 rfl rfl)
theorem dX3_init_8 : decode cX3_init 8 = .ok (.newarray .int, 2) := dk_188_10 (dk_at dksX3_init_0 8 rfl rfl)
theorem dX3_init_10 : decode cX3_init 10 = .ok (.putfield 7, 3) := dk_181 0 7 (dk_at dksX3_init_0 10 rfl rfl)
theorem dX3_init_13 : decode cX3_init 13 = .ok (.aload_n 0, 1) := dk_42 (dk_at dksX3_init_0 13 rfl rfl)
theorem dX3_init_14 : decode cX3_init 14 = .ok (.sipush 4524, 3) := dk_17 17 172 (dk_at dksX3_init_0 14 rfl rfl)
theorem dX3_init_17 : decode cX3_init 17 = .ok (.newarray .int, 2) := dk_188_10 (dk_at dksX3_init_0 17 rfl rfl)
theorem dX3_init_19 : decode cX3_init 19 = .ok (.putfield 13, 3) := dk_181 0 13 (dk_at dksX3_init_0 19 rfl rfl)
theorem dX3_init_22 : decode cX3_init 22 = .ok (.aload_n 0, 1) := dk_42 (dk_at dksX3_init_0 22 rfl rfl)
theorem dX3_init_23 : decode cX3_init 23 = .ok (.sipush 754, 3) := dk_17 2 242 (dk_at dksX3_init_1 0 rfl rfl)
theorem dX3_init_26 : decode cX3_init 26 = .ok (.newarray .int, 2) := dk_188_10 (dk_at dksX3_init_1 3 rfl rfl)
theorem dX3_init_28 : decode cX3_init 28 = .ok (.putfield 16, 3) := dk_181 0 16 (dk_at dksX3_init_1 5 rfl rfl)
theorem dX3_init_31 : decode cX3_init 31 = .ok (.aload_n 0, 1) := dk_42 (dk_at dksX3_init_1 8 rfl rfl)
theorem dX3_init_32 : decode cX3_init 32 = .ok (.sipush 754, 3) := dk_17 2 242 (dk_at dksX3_init_1 9 rfl rfl)
theorem dX3_init_35 : decode cX3_init 35 = .ok (.newarray .int, 2) := dk_188_10 (dk_at dksX3_init_1 12 rfl rfl)
theorem dX3_init_37 : decode cX3_init 37 = .ok (.putfield 19, 3) := dk_181 0 19 (dk_at dksX3_init_1 14 rfl rfl)
theorem dX3_init_40 : decode cX3_init 40 = .ok (.aload_n 0, 1) := dk_42 (dk_at dksX3_init_1 17 rfl rfl)
theorem dX3_init_41 : decode cX3_init 41 = .ok (.bipush 11, 2) := dk_16 11 (dk_at dksX3_init_1 18 rfl rfl)
theorem dX3_init_43 : decode cX3_init 43 = .ok (.newarray .long, 2) := dk_188_11 (dk_at dksX3_init_1 20 rfl rfl)
theorem dX3_init_45 : decode cX3_init 45 = .ok (.putfield 22, 3) := dk_181 0 22 (dk_at dksX3_init_2 0 rfl rfl)
theorem dX3_init_48 : decode cX3_init 48 = .ok (.aload_n 0, 1) := dk_42 (dk_at dksX3_init_2 3 rfl rfl)
theorem dX3_init_49 : decode cX3_init 49 = .ok (.bipush 100, 2) := dk_16 100 (dk_at dksX3_init_2 4 rfl rfl)
theorem dX3_init_51 : decode cX3_init 51 = .ok (.newarray .int, 2) := dk_188_10 (dk_at dksX3_init_2 6 rfl rfl)
theorem dX3_init_53 : decode cX3_init 53 = .ok (.putfield 26, 3) := dk_181 0 26 (dk_at dksX3_init_2 8 rfl rfl)
theorem dX3_init_56 : decode cX3_init 56 = .ok (.aload_n 0, 1) := dk_42 (dk_at dksX3_init_2 11 rfl rfl)
theorem dX3_init_57 : decode cX3_init 57 = .ok (.bipush 100, 2) := dk_16 100 (dk_at dksX3_init_2 12 rfl rfl)
theorem dX3_init_59 : decode cX3_init 59 = .ok (.newarray .int, 2) := dk_188_10 (dk_at dksX3_init_2 14 rfl rfl)
theorem dX3_init_61 : decode cX3_init 61 = .ok (.putfield 29, 3) := dk_181 0 29 (dk_at dksX3_init_2 16 rfl rfl)
theorem dX3_init_64 : decode cX3_init 64 = .ok (.aload_n 0, 1) := dk_42 (dk_at dksX3_init_2 19 rfl rfl)
theorem dX3_init_65 : decode cX3_init 65 = .ok (.bipush 60, 2) := dk_16 60 (dk_at dksX3_init_2 20 rfl rfl)
theorem dX3_init_67 : decode cX3_init 67 = .ok (.newarray .int, 2) := dk_188_10 (dk_at dksX3_init_2 22 rfl rfl)
theorem dX3_init_69 : decode cX3_init 69 = .ok (.putfield 32, 3) := dk_181 0 32 (dk_at dksX3_init_3 0 rfl rfl)
theorem dX3_init_72 : decode cX3_init 72 = .ok (.iconst 0, 1) := dk_3 (dk_at dksX3_init_3 3 rfl rfl)
theorem dX3_init_73 : decode cX3_init 73 = .ok (.istore_n 1, 1) := dk_60 (dk_at dksX3_init_3 4 rfl rfl)
theorem dX3_init_74 : decode cX3_init 74 = .ok (.iload_n 1, 1) := dk_27 (dk_at dksX3_init_3 5 rfl rfl)
theorem dX3_init_75 : decode cX3_init 75 = .ok (.bipush 64, 2) := dk_16 64 (dk_at dksX3_init_3 6 rfl rfl)
theorem dX3_init_77 : decode cX3_init 77 = .ok (.if_icmp .ge 20, 3) := dk_162 0 20 (dk_at dksX3_init_3 8 rfl rfl)
theorem dX3_init_80 : decode cX3_init 80 = .ok (.aload_n 0, 1) := dk_42 (dk_at dksX3_init_3 11 rfl rfl)
theorem dX3_init_81 : decode cX3_init 81 = .ok (.getfield 7, 3) := dk_180 0 7 (dk_at dksX3_init_3 12 rfl rfl)
theorem dX3_init_84 : decode cX3_init 84 = .ok (.bipush 80, 2) := dk_16 80 (dk_at dksX3_init_3 15 rfl rfl)
theorem dX3_init_86 : decode cX3_init 86 = .ok (.iload_n 1, 1) := dk_27 (dk_at dksX3_init_3 17 rfl rfl)
theorem dX3_init_87 : decode cX3_init 87 = .ok (.iadd, 1) := dk_96 (dk_at dksX3_init_3 18 rfl rfl)
theorem dX3_init_88 : decode cX3_init 88 = .ok (.bipush 40, 2) := dk_16 40 (dk_at dksX3_init_3 19 rfl rfl)
theorem dX3_init_90 : decode cX3_init 90 = .ok (.iastore, 1) := dk_79 (dk_at dksX3_init_3 21 rfl rfl)
theorem dX3_init_91 : decode cX3_init 91 = .ok (.iinc 1 1, 3) := dk_132 1 1 (dk_at dksX3_init_4 0 rfl rfl)
theorem dX3_init_94 : decode cX3_init 94 = .ok (.goto (-20), 3) := dk_167 255 236 (dk_at dksX3_init_4 3 rfl rfl)
theorem dX3_init_97 : decode cX3_init 97 = .ok (.iconst 0, 1) := dk_3 (dk_at dksX3_init_4 6 rfl rfl)
theorem dX3_init_98 : decode cX3_init 98 = .ok (.istore_n 1, 1) := dk_60 (dk_at dksX3_init_4 7 rfl rfl)
theorem dX3_init_99 : decode cX3_init 99 = .ok (.iload_n 1, 1) := dk_27 (dk_at dksX3_init_4 8 rfl rfl)
theorem dX3_init_100 : decode cX3_init 100 = .ok (.bipush 60, 2) := dk_16 60 (dk_at dksX3_init_4 9 rfl rfl)
theorem dX3_init_102 : decode cX3_init 102 = .ok (.if_icmp .ge 22, 3) := dk_162 0 22 (dk_at dksX3_init_4 11 rfl rfl)
theorem dX3_init_105 : decode cX3_init 105 = .ok (.aload_n 0, 1) := dk_42 (dk_at dksX3_init_4 14 rfl rfl)
theorem dX3_init_106 : decode cX3_init 106 = .ok (.getfield 7, 3) := dk_180 0 7 (dk_at dksX3_init_4 15 rfl rfl)
theorem dX3_init_109 : decode cX3_init 109 = .ok (.sipush 394, 3) := dk_17 1 138 (dk_at dksX3_init_4 18 rfl rfl)
theorem dX3_init_112 : decode cX3_init 112 = .ok (.iconst 5, 1) := dk_8 (dk_at dksX3_init_4 21 rfl rfl)
theorem dX3_init_113 : decode cX3_init 113 = .ok (.iload_n 1, 1) := dk_27 (dk_at dksX3_init_4 22 rfl rfl)
theorem dX3_init_114 : decode cX3_init 114 = .ok (.imul, 1) := dk_104 (dk_at dksX3_init_4 23 rfl rfl)
theorem dX3_init_115 : decode cX3_init 115 = .ok (.iadd, 1) := dk_96 (dk_at dksX3_init_5 0 rfl rfl)
theorem dX3_init_116 : decode cX3_init 116 = .ok (.iconst (-1), 1) := dk_2 (dk_at dksX3_init_5 1 rfl rfl)
theorem dX3_init_117 : decode cX3_init 117 = .ok (.iastore, 1) := dk_79 (dk_at dksX3_init_5 2 rfl rfl)
theorem dX3_init_118 : decode cX3_init 118 = .ok (.iinc 1 1, 3) := dk_132 1 1 (dk_at dksX3_init_5 3 rfl rfl)
theorem dX3_init_121 : decode cX3_init 121 = .ok (.goto (-22), 3) := dk_167 255 234 (dk_at dksX3_init_5 6 rfl rfl)
theorem dX3_init_124 : decode cX3_init 124 = .ok (.aload_n 0, 1) := dk_42 (dk_at dksX3_init_5 9 rfl rfl)
theorem dX3_init_125 : decode cX3_init 125 = .ok (.getfield 7, 3) := dk_180 0 7 (dk_at dksX3_init_5 10 rfl rfl)
theorem dX3_init_128 : decode cX3_init 128 = .ok (.iconst 1, 1) := dk_4 (dk_at dksX3_init_5 13 rfl rfl)
theorem dX3_init_129 : decode cX3_init 129 = .ok (.iconst 1, 1) := dk_4 (dk_at dksX3_init_5 14 rfl rfl)
theorem dX3_init_130 : decode cX3_init 130 = .ok (.iastore, 1) := dk_79 (dk_at dksX3_init_5 15 rfl rfl)
theorem dX3_init_131 : decode cX3_init 131 = .ok (.return_, 1) := dk_177 (dk_at dksX3_init_5 16 rfl rfl)
abbrev cX3_thrown : ByteArray := prog_9_method_2_code
def yX3_thrown : MethodName := ⟨RX3, "thrown", "()I"⟩
theorem dX3_thrown_0 : decode cX3_thrown 0 = .ok (.aload_n 0, 1) := by decide +kernel
theorem dX3_thrown_1 : decode cX3_thrown 1 = .ok (.getfield 35, 3) := by decide +kernel
theorem dX3_thrown_4 : decode cX3_thrown 4 = .ok (.ireturn, 1) := by decide +kernel
abbrev cX3_setLand : ByteArray := prog_9_method_18_code
def yX3_setLand : MethodName := ⟨RX3, "setLand", "(II)I"⟩
def dkwX3_setLand_2 : List UInt8 := [158, 0, 5, 3, 172, 42, 182, 0, 79, 42, 27, 28, 182, 0, 82, 172]
abbrev dktX3_setLand_2 : List UInt8 := dkwX3_setLand_2 ++ []
def dkwX3_setLand_1 : List UInt8 := [167, 0, 17, 42, 27, 28, 182, 0, 76, 153, 0, 7, 3, 167, 0, 4, 6, 181, 0, 35, 42, 180, 0, 35]
abbrev dktX3_setLand_1 : List UInt8 := dkwX3_setLand_1 ++ dktX3_setLand_2
def dkwX3_setLand_0 : List UInt8 := [42, 27, 184, 0, 73, 154, 0, 7, 4, 167, 0, 30, 28, 3, 6, 184, 0, 42, 154, 0, 7, 5]
abbrev dktX3_setLand_0 : List UInt8 := dkwX3_setLand_0 ++ dktX3_setLand_1
theorem dksX3_setLand_0 : cX3_setLand.data.toList.drop 0 = dktX3_setLand_0 := by decide +kernel
theorem dksX3_setLand_1 : cX3_setLand.data.toList.drop 22 = dktX3_setLand_1 := dk_seg dksX3_setLand_0 22 rfl rfl
theorem dksX3_setLand_2 : cX3_setLand.data.toList.drop 46 = dktX3_setLand_2 := dk_seg dksX3_setLand_1 24 rfl rfl
theorem dX3_setLand_0 : decode cX3_setLand 0 = .ok (.aload_n 0, 1) := dk_42 (dk_at dksX3_setLand_0 0 rfl rfl)
theorem dX3_setLand_1 : decode cX3_setLand 1 = .ok (.iload_n 1, 1) := dk_27 (dk_at dksX3_setLand_0 1 rfl rfl)
theorem dX3_setLand_2 : decode cX3_setLand 2 = .ok (.invokestatic 73, 3) := dk_184 0 73 (dk_at dksX3_setLand_0 2 rfl rfl)
theorem dX3_setLand_5 : decode cX3_setLand 5 = .ok (.ifCond .ne 7, 3) := dk_154 0 7 (dk_at dksX3_setLand_0 5 rfl rfl)
theorem dX3_setLand_8 : decode cX3_setLand 8 = .ok (.iconst 1, 1) := dk_4 (dk_at dksX3_setLand_0 8 rfl rfl)
theorem dX3_setLand_9 : decode cX3_setLand 9 = .ok (.goto 30, 3) := dk_167 0 30 (dk_at dksX3_setLand_0 9 rfl rfl)
theorem dX3_setLand_12 : decode cX3_setLand 12 = .ok (.iload_n 2, 1) := dk_28 (dk_at dksX3_setLand_0 12 rfl rfl)
theorem dX3_setLand_13 : decode cX3_setLand 13 = .ok (.iconst 0, 1) := dk_3 (dk_at dksX3_setLand_0 13 rfl rfl)
theorem dX3_setLand_14 : decode cX3_setLand 14 = .ok (.iconst 3, 1) := dk_6 (dk_at dksX3_setLand_0 14 rfl rfl)
theorem dX3_setLand_15 : decode cX3_setLand 15 = .ok (.invokestatic 42, 3) := dk_184 0 42 (dk_at dksX3_setLand_0 15 rfl rfl)
theorem dX3_setLand_18 : decode cX3_setLand 18 = .ok (.ifCond .ne 7, 3) := dk_154 0 7 (dk_at dksX3_setLand_0 18 rfl rfl)
theorem dX3_setLand_21 : decode cX3_setLand 21 = .ok (.iconst 2, 1) := dk_5 (dk_at dksX3_setLand_0 21 rfl rfl)
theorem dX3_setLand_22 : decode cX3_setLand 22 = .ok (.goto 17, 3) := dk_167 0 17 (dk_at dksX3_setLand_1 0 rfl rfl)
theorem dX3_setLand_25 : decode cX3_setLand 25 = .ok (.aload_n 0, 1) := dk_42 (dk_at dksX3_setLand_1 3 rfl rfl)
theorem dX3_setLand_26 : decode cX3_setLand 26 = .ok (.iload_n 1, 1) := dk_27 (dk_at dksX3_setLand_1 4 rfl rfl)
theorem dX3_setLand_27 : decode cX3_setLand 27 = .ok (.iload_n 2, 1) := dk_28 (dk_at dksX3_setLand_1 5 rfl rfl)
theorem dX3_setLand_28 : decode cX3_setLand 28 = .ok (.invokevirtual 76, 3) := dk_182 0 76 (dk_at dksX3_setLand_1 6 rfl rfl)
theorem dX3_setLand_31 : decode cX3_setLand 31 = .ok (.ifCond .eq 7, 3) := dk_153 0 7 (dk_at dksX3_setLand_1 9 rfl rfl)
theorem dX3_setLand_34 : decode cX3_setLand 34 = .ok (.iconst 0, 1) := dk_3 (dk_at dksX3_setLand_1 12 rfl rfl)
theorem dX3_setLand_35 : decode cX3_setLand 35 = .ok (.goto 4, 3) := dk_167 0 4 (dk_at dksX3_setLand_1 13 rfl rfl)
theorem dX3_setLand_38 : decode cX3_setLand 38 = .ok (.iconst 3, 1) := dk_6 (dk_at dksX3_setLand_1 16 rfl rfl)
theorem dX3_setLand_39 : decode cX3_setLand 39 = .ok (.putfield 35, 3) := dk_181 0 35 (dk_at dksX3_setLand_1 17 rfl rfl)
theorem dX3_setLand_42 : decode cX3_setLand 42 = .ok (.aload_n 0, 1) := dk_42 (dk_at dksX3_setLand_1 20 rfl rfl)
theorem dX3_setLand_43 : decode cX3_setLand 43 = .ok (.getfield 35, 3) := dk_180 0 35 (dk_at dksX3_setLand_1 21 rfl rfl)
theorem dX3_setLand_46 : decode cX3_setLand 46 = .ok (.ifCond .le 5, 3) := dk_158 0 5 (dk_at dksX3_setLand_2 0 rfl rfl)
theorem dX3_setLand_49 : decode cX3_setLand 49 = .ok (.iconst 0, 1) := dk_3 (dk_at dksX3_setLand_2 3 rfl rfl)
theorem dX3_setLand_50 : decode cX3_setLand 50 = .ok (.ireturn, 1) := dk_172 (dk_at dksX3_setLand_2 4 rfl rfl)
theorem dX3_setLand_51 : decode cX3_setLand 51 = .ok (.aload_n 0, 1) := dk_42 (dk_at dksX3_setLand_2 5 rfl rfl)
theorem dX3_setLand_52 : decode cX3_setLand 52 = .ok (.invokevirtual 79, 3) := dk_182 0 79 (dk_at dksX3_setLand_2 6 rfl rfl)
theorem dX3_setLand_55 : decode cX3_setLand 55 = .ok (.aload_n 0, 1) := dk_42 (dk_at dksX3_setLand_2 9 rfl rfl)
theorem dX3_setLand_56 : decode cX3_setLand 56 = .ok (.iload_n 1, 1) := dk_27 (dk_at dksX3_setLand_2 10 rfl rfl)
theorem dX3_setLand_57 : decode cX3_setLand 57 = .ok (.iload_n 2, 1) := dk_28 (dk_at dksX3_setLand_2 11 rfl rfl)
theorem dX3_setLand_58 : decode cX3_setLand 58 = .ok (.invokevirtual 82, 3) := dk_182 0 82 (dk_at dksX3_setLand_2 12 rfl rfl)
theorem dX3_setLand_61 : decode cX3_setLand 61 = .ok (.ireturn, 1) := dk_172 (dk_at dksX3_setLand_2 15 rfl rfl)
abbrev cX3_isSquare : ByteArray := prog_9_method_7_code
def yX3_isSquare : MethodName := ⟨RX3, "isSquare", "(I)Z"⟩
def dkwX3_isSquare_0 : List UInt8 := [26, 3, 16, 63, 184, 0, 42, 172]
abbrev dktX3_isSquare_0 : List UInt8 := dkwX3_isSquare_0 ++ []
theorem dksX3_isSquare_0 : cX3_isSquare.data.toList.drop 0 = dktX3_isSquare_0 := by decide +kernel
theorem dX3_isSquare_0 : decode cX3_isSquare 0 = .ok (.iload_n 0, 1) := dk_26 (dk_at dksX3_isSquare_0 0 rfl rfl)
theorem dX3_isSquare_1 : decode cX3_isSquare 1 = .ok (.iconst 0, 1) := dk_3 (dk_at dksX3_isSquare_0 1 rfl rfl)
theorem dX3_isSquare_2 : decode cX3_isSquare 2 = .ok (.bipush 63, 2) := dk_16 63 (dk_at dksX3_isSquare_0 2 rfl rfl)
theorem dX3_isSquare_4 : decode cX3_isSquare 4 = .ok (.invokestatic 42, 3) := dk_184 0 42 (dk_at dksX3_isSquare_0 4 rfl rfl)
theorem dX3_isSquare_7 : decode cX3_isSquare 7 = .ok (.ireturn, 1) := dk_172 (dk_at dksX3_isSquare_0 7 rfl rfl)
abbrev cX3_within : ByteArray := prog_9_method_3_code
def yX3_within : MethodName := ⟨RX3, "within", "(III)Z"⟩
def dkwX3_within_0 : List UInt8 := [26, 27, 161, 0, 12, 26, 28, 163, 0, 7, 4, 167, 0, 4, 3, 172]
abbrev dktX3_within_0 : List UInt8 := dkwX3_within_0 ++ []
theorem dksX3_within_0 : cX3_within.data.toList.drop 0 = dktX3_within_0 := by decide +kernel
theorem dX3_within_0 : decode cX3_within 0 = .ok (.iload_n 0, 1) := dk_26 (dk_at dksX3_within_0 0 rfl rfl)
theorem dX3_within_1 : decode cX3_within 1 = .ok (.iload_n 1, 1) := dk_27 (dk_at dksX3_within_0 1 rfl rfl)
theorem dX3_within_2 : decode cX3_within 2 = .ok (.if_icmp .lt 12, 3) := dk_161 0 12 (dk_at dksX3_within_0 2 rfl rfl)
theorem dX3_within_5 : decode cX3_within 5 = .ok (.iload_n 0, 1) := dk_26 (dk_at dksX3_within_0 5 rfl rfl)
theorem dX3_within_6 : decode cX3_within 6 = .ok (.iload_n 2, 1) := dk_28 (dk_at dksX3_within_0 6 rfl rfl)
theorem dX3_within_7 : decode cX3_within 7 = .ok (.if_icmp .gt 7, 3) := dk_163 0 7 (dk_at dksX3_within_0 7 rfl rfl)
theorem dX3_within_10 : decode cX3_within 10 = .ok (.iconst 1, 1) := dk_4 (dk_at dksX3_within_0 10 rfl rfl)
theorem dX3_within_11 : decode cX3_within 11 = .ok (.goto 4, 3) := dk_167 0 4 (dk_at dksX3_within_0 11 rfl rfl)
theorem dX3_within_14 : decode cX3_within 14 = .ok (.iconst 0, 1) := dk_3 (dk_at dksX3_within_0 14 rfl rfl)
theorem dX3_within_15 : decode cX3_within 15 = .ok (.ireturn, 1) := dk_172 (dk_at dksX3_within_0 15 rfl rfl)
abbrev cX3_canSetLand : ByteArray := prog_9_method_16_code
def yX3_canSetLand : MethodName := ⟨RX3, "canSetLand", "(II)Z"⟩
def dkwX3_canSetLand_0 : List UInt8 := [28, 6, 160, 0, 12, 42, 27, 182, 0, 70, 2, 160, 0, 7, 4, 167, 0, 4, 3, 172]
abbrev dktX3_canSetLand_0 : List UInt8 := dkwX3_canSetLand_0 ++ []
theorem dksX3_canSetLand_0 : cX3_canSetLand.data.toList.drop 0 = dktX3_canSetLand_0 := by decide +kernel
theorem dX3_canSetLand_0 : decode cX3_canSetLand 0 = .ok (.iload_n 2, 1) := dk_28 (dk_at dksX3_canSetLand_0 0 rfl rfl)
theorem dX3_canSetLand_1 : decode cX3_canSetLand 1 = .ok (.iconst 3, 1) := dk_6 (dk_at dksX3_canSetLand_0 1 rfl rfl)
theorem dX3_canSetLand_2 : decode cX3_canSetLand 2 = .ok (.if_icmp .ne 12, 3) := dk_160 0 12 (dk_at dksX3_canSetLand_0 2 rfl rfl)
theorem dX3_canSetLand_5 : decode cX3_canSetLand 5 = .ok (.aload_n 0, 1) := dk_42 (dk_at dksX3_canSetLand_0 5 rfl rfl)
theorem dX3_canSetLand_6 : decode cX3_canSetLand 6 = .ok (.iload_n 1, 1) := dk_27 (dk_at dksX3_canSetLand_0 6 rfl rfl)
theorem dX3_canSetLand_7 : decode cX3_canSetLand 7 = .ok (.invokevirtual 70, 3) := dk_182 0 70 (dk_at dksX3_canSetLand_0 7 rfl rfl)
theorem dX3_canSetLand_10 : decode cX3_canSetLand 10 = .ok (.iconst (-1), 1) := dk_2 (dk_at dksX3_canSetLand_0 10 rfl rfl)
theorem dX3_canSetLand_11 : decode cX3_canSetLand 11 = .ok (.if_icmp .ne 7, 3) := dk_160 0 7 (dk_at dksX3_canSetLand_0 11 rfl rfl)
theorem dX3_canSetLand_14 : decode cX3_canSetLand 14 = .ok (.iconst 1, 1) := dk_4 (dk_at dksX3_canSetLand_0 14 rfl rfl)
theorem dX3_canSetLand_15 : decode cX3_canSetLand 15 = .ok (.goto 4, 3) := dk_167 0 4 (dk_at dksX3_canSetLand_0 15 rfl rfl)
theorem dX3_canSetLand_18 : decode cX3_canSetLand 18 = .ok (.iconst 0, 1) := dk_3 (dk_at dksX3_canSetLand_0 18 rfl rfl)
theorem dX3_canSetLand_19 : decode cX3_canSetLand 19 = .ok (.ireturn, 1) := dk_172 (dk_at dksX3_canSetLand_0 19 rfl rfl)
abbrev cX3_boxAt : ByteArray := prog_9_method_13_code
def yX3_boxAt : MethodName := ⟨RX3, "boxAt", "(I)I"⟩
def dkwX3_boxAt_1 : List UInt8 := [27, 160, 0, 7, 29, 167, 0, 4, 28, 61, 132, 3, 1, 167, 255, 223, 28, 172]
abbrev dktX3_boxAt_1 : List UInt8 := dkwX3_boxAt_1 ++ []
def dkwX3_boxAt_0 : List UInt8 := [2, 61, 3, 62, 29, 42, 180, 0, 7, 5, 46, 162, 0, 29, 42, 180, 0, 7, 17, 0, 144, 29, 96, 46]
abbrev dktX3_boxAt_0 : List UInt8 := dkwX3_boxAt_0 ++ dktX3_boxAt_1
theorem dksX3_boxAt_0 : cX3_boxAt.data.toList.drop 0 = dktX3_boxAt_0 := by decide +kernel
theorem dksX3_boxAt_1 : cX3_boxAt.data.toList.drop 24 = dktX3_boxAt_1 := dk_seg dksX3_boxAt_0 24 rfl rfl
theorem dX3_boxAt_0 : decode cX3_boxAt 0 = .ok (.iconst (-1), 1) := dk_2 (dk_at dksX3_boxAt_0 0 rfl rfl)
theorem dX3_boxAt_1 : decode cX3_boxAt 1 = .ok (.istore_n 2, 1) := dk_61 (dk_at dksX3_boxAt_0 1 rfl rfl)
theorem dX3_boxAt_2 : decode cX3_boxAt 2 = .ok (.iconst 0, 1) := dk_3 (dk_at dksX3_boxAt_0 2 rfl rfl)
theorem dX3_boxAt_3 : decode cX3_boxAt 3 = .ok (.istore_n 3, 1) := dk_62 (dk_at dksX3_boxAt_0 3 rfl rfl)
theorem dX3_boxAt_4 : decode cX3_boxAt 4 = .ok (.iload_n 3, 1) := dk_29 (dk_at dksX3_boxAt_0 4 rfl rfl)
theorem dX3_boxAt_5 : decode cX3_boxAt 5 = .ok (.aload_n 0, 1) := dk_42 (dk_at dksX3_boxAt_0 5 rfl rfl)
theorem dX3_boxAt_6 : decode cX3_boxAt 6 = .ok (.getfield 7, 3) := dk_180 0 7 (dk_at dksX3_boxAt_0 6 rfl rfl)
theorem dX3_boxAt_9 : decode cX3_boxAt 9 = .ok (.iconst 2, 1) := dk_5 (dk_at dksX3_boxAt_0 9 rfl rfl)
theorem dX3_boxAt_10 : decode cX3_boxAt 10 = .ok (.iaload, 1) := dk_46 (dk_at dksX3_boxAt_0 10 rfl rfl)
theorem dX3_boxAt_11 : decode cX3_boxAt 11 = .ok (.if_icmp .ge 29, 3) := dk_162 0 29 (dk_at dksX3_boxAt_0 11 rfl rfl)
theorem dX3_boxAt_14 : decode cX3_boxAt 14 = .ok (.aload_n 0, 1) := dk_42 (dk_at dksX3_boxAt_0 14 rfl rfl)
theorem dX3_boxAt_15 : decode cX3_boxAt 15 = .ok (.getfield 7, 3) := dk_180 0 7 (dk_at dksX3_boxAt_0 15 rfl rfl)
theorem dX3_boxAt_18 : decode cX3_boxAt 18 = .ok (.sipush 144, 3) := dk_17 0 144 (dk_at dksX3_boxAt_0 18 rfl rfl)
theorem dX3_boxAt_21 : decode cX3_boxAt 21 = .ok (.iload_n 3, 1) := dk_29 (dk_at dksX3_boxAt_0 21 rfl rfl)
theorem dX3_boxAt_22 : decode cX3_boxAt 22 = .ok (.iadd, 1) := dk_96 (dk_at dksX3_boxAt_0 22 rfl rfl)
theorem dX3_boxAt_23 : decode cX3_boxAt 23 = .ok (.iaload, 1) := dk_46 (dk_at dksX3_boxAt_0 23 rfl rfl)
theorem dX3_boxAt_24 : decode cX3_boxAt 24 = .ok (.iload_n 1, 1) := dk_27 (dk_at dksX3_boxAt_1 0 rfl rfl)
theorem dX3_boxAt_25 : decode cX3_boxAt 25 = .ok (.if_icmp .ne 7, 3) := dk_160 0 7 (dk_at dksX3_boxAt_1 1 rfl rfl)
theorem dX3_boxAt_28 : decode cX3_boxAt 28 = .ok (.iload_n 3, 1) := dk_29 (dk_at dksX3_boxAt_1 4 rfl rfl)
theorem dX3_boxAt_29 : decode cX3_boxAt 29 = .ok (.goto 4, 3) := dk_167 0 4 (dk_at dksX3_boxAt_1 5 rfl rfl)
theorem dX3_boxAt_32 : decode cX3_boxAt 32 = .ok (.iload_n 2, 1) := dk_28 (dk_at dksX3_boxAt_1 8 rfl rfl)
theorem dX3_boxAt_33 : decode cX3_boxAt 33 = .ok (.istore_n 2, 1) := dk_61 (dk_at dksX3_boxAt_1 9 rfl rfl)
theorem dX3_boxAt_34 : decode cX3_boxAt 34 = .ok (.iinc 3 1, 3) := dk_132 3 1 (dk_at dksX3_boxAt_1 10 rfl rfl)
theorem dX3_boxAt_37 : decode cX3_boxAt 37 = .ok (.goto (-33), 3) := dk_167 255 223 (dk_at dksX3_boxAt_1 13 rfl rfl)
theorem dX3_boxAt_40 : decode cX3_boxAt 40 = .ok (.iload_n 2, 1) := dk_28 (dk_at dksX3_boxAt_1 16 rfl rfl)
theorem dX3_boxAt_41 : decode cX3_boxAt 41 = .ok (.ireturn, 1) := dk_172 (dk_at dksX3_boxAt_1 17 rfl rfl)
abbrev cX3_record : ByteArray := prog_9_method_4_code
def yX3_record : MethodName := ⟨RX3, "record", "()V"⟩
def dkwX3_record_4 : List UInt8 := [181, 0, 39, 177]
abbrev dktX3_record_4 : List UInt8 := dkwX3_record_4 ++ []
def dkwX3_record_3 : List UInt8 := [27, 96, 42, 180, 0, 7, 27, 46, 79, 132, 1, 1, 167, 255, 225, 42, 89, 180, 0, 39, 4, 96]
abbrev dktX3_record_3 : List UInt8 := dkwX3_record_3 ++ dktX3_record_4
def dkwX3_record_2 : List UInt8 := [181, 0, 39, 3, 60, 27, 17, 2, 242, 162, 0, 30, 42, 180, 0, 13, 42, 180, 0, 39, 17, 2, 242, 104]
abbrev dktX3_record_2 : List UInt8 := dkwX3_record_2 ++ dktX3_record_3
def dkwX3_record_1 : List UInt8 := [180, 0, 13, 27, 17, 2, 242, 96, 46, 79, 132, 1, 1, 167, 255, 230, 42, 89, 180, 0, 39, 4, 100]
abbrev dktX3_record_1 : List UInt8 := dkwX3_record_1 ++ dktX3_record_2
def dkwX3_record_0 : List UInt8 := [42, 180, 0, 39, 16, 6, 160, 0, 44, 3, 60, 27, 17, 14, 186, 162, 0, 25, 42, 180, 0, 13, 27, 42]
abbrev dktX3_record_0 : List UInt8 := dkwX3_record_0 ++ dktX3_record_1
theorem dksX3_record_0 : cX3_record.data.toList.drop 0 = dktX3_record_0 := by decide +kernel
theorem dksX3_record_1 : cX3_record.data.toList.drop 24 = dktX3_record_1 := dk_seg dksX3_record_0 24 rfl rfl
theorem dksX3_record_2 : cX3_record.data.toList.drop 47 = dktX3_record_2 := dk_seg dksX3_record_1 23 rfl rfl
theorem dksX3_record_3 : cX3_record.data.toList.drop 71 = dktX3_record_3 := dk_seg dksX3_record_2 24 rfl rfl
theorem dksX3_record_4 : cX3_record.data.toList.drop 93 = dktX3_record_4 := dk_seg dksX3_record_3 22 rfl rfl
theorem dX3_record_0 : decode cX3_record 0 = .ok (.aload_n 0, 1) := dk_42 (dk_at dksX3_record_0 0 rfl rfl)
theorem dX3_record_1 : decode cX3_record 1 = .ok (.getfield 39, 3) := dk_180 0 39 (dk_at dksX3_record_0 1 rfl rfl)
theorem dX3_record_4 : decode cX3_record 4 = .ok (.bipush 6, 2) := dk_16 6 (dk_at dksX3_record_0 4 rfl rfl)
theorem dX3_record_6 : decode cX3_record 6 = .ok (.if_icmp .ne 44, 3) := dk_160 0 44 (dk_at dksX3_record_0 6 rfl rfl)
theorem dX3_record_9 : decode cX3_record 9 = .ok (.iconst 0, 1) := dk_3 (dk_at dksX3_record_0 9 rfl rfl)
theorem dX3_record_10 : decode cX3_record 10 = .ok (.istore_n 1, 1) := dk_60 (dk_at dksX3_record_0 10 rfl rfl)
theorem dX3_record_11 : decode cX3_record 11 = .ok (.iload_n 1, 1) := dk_27 (dk_at dksX3_record_0 11 rfl rfl)
theorem dX3_record_12 : decode cX3_record 12 = .ok (.sipush 3770, 3) := dk_17 14 186 (dk_at dksX3_record_0 12 rfl rfl)
theorem dX3_record_15 : decode cX3_record 15 = .ok (.if_icmp .ge 25, 3) := dk_162 0 25 (dk_at dksX3_record_0 15 rfl rfl)
theorem dX3_record_18 : decode cX3_record 18 = .ok (.aload_n 0, 1) := dk_42 (dk_at dksX3_record_0 18 rfl rfl)
theorem dX3_record_19 : decode cX3_record 19 = .ok (.getfield 13, 3) := dk_180 0 13 (dk_at dksX3_record_0 19 rfl rfl)
theorem dX3_record_22 : decode cX3_record 22 = .ok (.iload_n 1, 1) := dk_27 (dk_at dksX3_record_0 22 rfl rfl)
theorem dX3_record_23 : decode cX3_record 23 = .ok (.aload_n 0, 1) := dk_42 (dk_at dksX3_record_0 23 rfl rfl)
theorem dX3_record_24 : decode cX3_record 24 = .ok (.getfield 13, 3) := dk_180 0 13 (dk_at dksX3_record_1 0 rfl rfl)
theorem dX3_record_27 : decode cX3_record 27 = .ok (.iload_n 1, 1) := dk_27 (dk_at dksX3_record_1 3 rfl rfl)
theorem dX3_record_28 : decode cX3_record 28 = .ok (.sipush 754, 3) := dk_17 2 242 (dk_at dksX3_record_1 4 rfl rfl)
theorem dX3_record_31 : decode cX3_record 31 = .ok (.iadd, 1) := dk_96 (dk_at dksX3_record_1 7 rfl rfl)
theorem dX3_record_32 : decode cX3_record 32 = .ok (.iaload, 1) := dk_46 (dk_at dksX3_record_1 8 rfl rfl)
theorem dX3_record_33 : decode cX3_record 33 = .ok (.iastore, 1) := dk_79 (dk_at dksX3_record_1 9 rfl rfl)
theorem dX3_record_34 : decode cX3_record 34 = .ok (.iinc 1 1, 3) := dk_132 1 1 (dk_at dksX3_record_1 10 rfl rfl)
theorem dX3_record_37 : decode cX3_record 37 = .ok (.goto (-26), 3) := dk_167 255 230 (dk_at dksX3_record_1 13 rfl rfl)
theorem dX3_record_40 : decode cX3_record 40 = .ok (.aload_n 0, 1) := dk_42 (dk_at dksX3_record_1 16 rfl rfl)
theorem dX3_record_41 : decode cX3_record 41 = .ok (.dup, 1) := dk_89 (dk_at dksX3_record_1 17 rfl rfl)
theorem dX3_record_42 : decode cX3_record 42 = .ok (.getfield 39, 3) := dk_180 0 39 (dk_at dksX3_record_1 18 rfl rfl)
theorem dX3_record_45 : decode cX3_record 45 = .ok (.iconst 1, 1) := dk_4 (dk_at dksX3_record_1 21 rfl rfl)
theorem dX3_record_46 : decode cX3_record 46 = .ok (.isub, 1) := dk_100 (dk_at dksX3_record_1 22 rfl rfl)
theorem dX3_record_47 : decode cX3_record 47 = .ok (.putfield 39, 3) := dk_181 0 39 (dk_at dksX3_record_2 0 rfl rfl)
theorem dX3_record_50 : decode cX3_record 50 = .ok (.iconst 0, 1) := dk_3 (dk_at dksX3_record_2 3 rfl rfl)
theorem dX3_record_51 : decode cX3_record 51 = .ok (.istore_n 1, 1) := dk_60 (dk_at dksX3_record_2 4 rfl rfl)
theorem dX3_record_52 : decode cX3_record 52 = .ok (.iload_n 1, 1) := dk_27 (dk_at dksX3_record_2 5 rfl rfl)
theorem dX3_record_53 : decode cX3_record 53 = .ok (.sipush 754, 3) := dk_17 2 242 (dk_at dksX3_record_2 6 rfl rfl)
theorem dX3_record_56 : decode cX3_record 56 = .ok (.if_icmp .ge 30, 3) := dk_162 0 30 (dk_at dksX3_record_2 9 rfl rfl)
theorem dX3_record_59 : decode cX3_record 59 = .ok (.aload_n 0, 1) := dk_42 (dk_at dksX3_record_2 12 rfl rfl)
theorem dX3_record_60 : decode cX3_record 60 = .ok (.getfield 13, 3) := dk_180 0 13 (dk_at dksX3_record_2 13 rfl rfl)
theorem dX3_record_63 : decode cX3_record 63 = .ok (.aload_n 0, 1) := dk_42 (dk_at dksX3_record_2 16 rfl rfl)
theorem dX3_record_64 : decode cX3_record 64 = .ok (.getfield 39, 3) := dk_180 0 39 (dk_at dksX3_record_2 17 rfl rfl)
theorem dX3_record_67 : decode cX3_record 67 = .ok (.sipush 754, 3) := dk_17 2 242 (dk_at dksX3_record_2 20 rfl rfl)
theorem dX3_record_70 : decode cX3_record 70 = .ok (.imul, 1) := dk_104 (dk_at dksX3_record_2 23 rfl rfl)
theorem dX3_record_71 : decode cX3_record 71 = .ok (.iload_n 1, 1) := dk_27 (dk_at dksX3_record_3 0 rfl rfl)
theorem dX3_record_72 : decode cX3_record 72 = .ok (.iadd, 1) := dk_96 (dk_at dksX3_record_3 1 rfl rfl)
theorem dX3_record_73 : decode cX3_record 73 = .ok (.aload_n 0, 1) := dk_42 (dk_at dksX3_record_3 2 rfl rfl)
theorem dX3_record_74 : decode cX3_record 74 = .ok (.getfield 7, 3) := dk_180 0 7 (dk_at dksX3_record_3 3 rfl rfl)
theorem dX3_record_77 : decode cX3_record 77 = .ok (.iload_n 1, 1) := dk_27 (dk_at dksX3_record_3 6 rfl rfl)
theorem dX3_record_78 : decode cX3_record 78 = .ok (.iaload, 1) := dk_46 (dk_at dksX3_record_3 7 rfl rfl)
theorem dX3_record_79 : decode cX3_record 79 = .ok (.iastore, 1) := dk_79 (dk_at dksX3_record_3 8 rfl rfl)
theorem dX3_record_80 : decode cX3_record 80 = .ok (.iinc 1 1, 3) := dk_132 1 1 (dk_at dksX3_record_3 9 rfl rfl)
theorem dX3_record_83 : decode cX3_record 83 = .ok (.goto (-31), 3) := dk_167 255 225 (dk_at dksX3_record_3 12 rfl rfl)
theorem dX3_record_86 : decode cX3_record 86 = .ok (.aload_n 0, 1) := dk_42 (dk_at dksX3_record_3 15 rfl rfl)
theorem dX3_record_87 : decode cX3_record 87 = .ok (.dup, 1) := dk_89 (dk_at dksX3_record_3 16 rfl rfl)
theorem dX3_record_88 : decode cX3_record 88 = .ok (.getfield 39, 3) := dk_180 0 39 (dk_at dksX3_record_3 17 rfl rfl)
theorem dX3_record_91 : decode cX3_record 91 = .ok (.iconst 1, 1) := dk_4 (dk_at dksX3_record_3 20 rfl rfl)
theorem dX3_record_92 : decode cX3_record 92 = .ok (.iadd, 1) := dk_96 (dk_at dksX3_record_3 21 rfl rfl)
theorem dX3_record_93 : decode cX3_record 93 = .ok (.putfield 39, 3) := dk_181 0 39 (dk_at dksX3_record_4 0 rfl rfl)
theorem dX3_record_96 : decode cX3_record 96 = .ok (.return_, 1) := dk_177 (dk_at dksX3_record_4 3 rfl rfl)
abbrev cX3_setsLand : ByteArray := prog_9_method_17_code
def yX3_setsLand : MethodName := ⟨RX3, "setsLand", "(II)I"⟩
def dkwX3_setsLand_2 : List UInt8 := [172]
abbrev dktX3_setsLand_2 : List UInt8 := dkwX3_setsLand_2 ++ []
def dkwX3_setsLand_1 : List UInt8 := [16, 80, 27, 96, 28, 6, 160, 0, 7, 3, 167, 0, 12, 42, 180, 0, 7, 16, 80, 27, 96, 46, 79, 29]
abbrev dktX3_setsLand_1 : List UInt8 := dkwX3_setsLand_1 ++ dktX3_setsLand_2
def dkwX3_setsLand_0 : List UInt8 := [42, 180, 0, 7, 16, 16, 27, 96, 46, 62, 42, 180, 0, 7, 16, 16, 27, 96, 28, 79, 42, 180, 0, 7]
abbrev dktX3_setsLand_0 : List UInt8 := dkwX3_setsLand_0 ++ dktX3_setsLand_1
theorem dksX3_setsLand_0 : cX3_setsLand.data.toList.drop 0 = dktX3_setsLand_0 := by decide +kernel
theorem dksX3_setsLand_1 : cX3_setsLand.data.toList.drop 24 = dktX3_setsLand_1 := dk_seg dksX3_setsLand_0 24 rfl rfl
theorem dksX3_setsLand_2 : cX3_setsLand.data.toList.drop 48 = dktX3_setsLand_2 := dk_seg dksX3_setsLand_1 24 rfl rfl
theorem dX3_setsLand_0 : decode cX3_setsLand 0 = .ok (.aload_n 0, 1) := dk_42 (dk_at dksX3_setsLand_0 0 rfl rfl)
theorem dX3_setsLand_1 : decode cX3_setsLand 1 = .ok (.getfield 7, 3) := dk_180 0 7 (dk_at dksX3_setsLand_0 1 rfl rfl)
theorem dX3_setsLand_4 : decode cX3_setsLand 4 = .ok (.bipush 16, 2) := dk_16 16 (dk_at dksX3_setsLand_0 4 rfl rfl)
theorem dX3_setsLand_6 : decode cX3_setsLand 6 = .ok (.iload_n 1, 1) := dk_27 (dk_at dksX3_setsLand_0 6 rfl rfl)
theorem dX3_setsLand_7 : decode cX3_setsLand 7 = .ok (.iadd, 1) := dk_96 (dk_at dksX3_setsLand_0 7 rfl rfl)
theorem dX3_setsLand_8 : decode cX3_setsLand 8 = .ok (.iaload, 1) := dk_46 (dk_at dksX3_setsLand_0 8 rfl rfl)
theorem dX3_setsLand_9 : decode cX3_setsLand 9 = .ok (.istore_n 3, 1) := dk_62 (dk_at dksX3_setsLand_0 9 rfl rfl)
theorem dX3_setsLand_10 : decode cX3_setsLand 10 = .ok (.aload_n 0, 1) := dk_42 (dk_at dksX3_setsLand_0 10 rfl rfl)
theorem dX3_setsLand_11 : decode cX3_setsLand 11 = .ok (.getfield 7, 3) := dk_180 0 7 (dk_at dksX3_setsLand_0 11 rfl rfl)
theorem dX3_setsLand_14 : decode cX3_setsLand 14 = .ok (.bipush 16, 2) := dk_16 16 (dk_at dksX3_setsLand_0 14 rfl rfl)
theorem dX3_setsLand_16 : decode cX3_setsLand 16 = .ok (.iload_n 1, 1) := dk_27 (dk_at dksX3_setsLand_0 16 rfl rfl)
theorem dX3_setsLand_17 : decode cX3_setsLand 17 = .ok (.iadd, 1) := dk_96 (dk_at dksX3_setsLand_0 17 rfl rfl)
theorem dX3_setsLand_18 : decode cX3_setsLand 18 = .ok (.iload_n 2, 1) := dk_28 (dk_at dksX3_setsLand_0 18 rfl rfl)
theorem dX3_setsLand_19 : decode cX3_setsLand 19 = .ok (.iastore, 1) := dk_79 (dk_at dksX3_setsLand_0 19 rfl rfl)
theorem dX3_setsLand_20 : decode cX3_setsLand 20 = .ok (.aload_n 0, 1) := dk_42 (dk_at dksX3_setsLand_0 20 rfl rfl)
theorem dX3_setsLand_21 : decode cX3_setsLand 21 = .ok (.getfield 7, 3) := dk_180 0 7 (dk_at dksX3_setsLand_0 21 rfl rfl)
theorem dX3_setsLand_24 : decode cX3_setsLand 24 = .ok (.bipush 80, 2) := dk_16 80 (dk_at dksX3_setsLand_1 0 rfl rfl)
theorem dX3_setsLand_26 : decode cX3_setsLand 26 = .ok (.iload_n 1, 1) := dk_27 (dk_at dksX3_setsLand_1 2 rfl rfl)
theorem dX3_setsLand_27 : decode cX3_setsLand 27 = .ok (.iadd, 1) := dk_96 (dk_at dksX3_setsLand_1 3 rfl rfl)
theorem dX3_setsLand_28 : decode cX3_setsLand 28 = .ok (.iload_n 2, 1) := dk_28 (dk_at dksX3_setsLand_1 4 rfl rfl)
theorem dX3_setsLand_29 : decode cX3_setsLand 29 = .ok (.iconst 3, 1) := dk_6 (dk_at dksX3_setsLand_1 5 rfl rfl)
theorem dX3_setsLand_30 : decode cX3_setsLand 30 = .ok (.if_icmp .ne 7, 3) := dk_160 0 7 (dk_at dksX3_setsLand_1 6 rfl rfl)
theorem dX3_setsLand_33 : decode cX3_setsLand 33 = .ok (.iconst 0, 1) := dk_3 (dk_at dksX3_setsLand_1 9 rfl rfl)
theorem dX3_setsLand_34 : decode cX3_setsLand 34 = .ok (.goto 12, 3) := dk_167 0 12 (dk_at dksX3_setsLand_1 10 rfl rfl)
theorem dX3_setsLand_37 : decode cX3_setsLand 37 = .ok (.aload_n 0, 1) := dk_42 (dk_at dksX3_setsLand_1 13 rfl rfl)
theorem dX3_setsLand_38 : decode cX3_setsLand 38 = .ok (.getfield 7, 3) := dk_180 0 7 (dk_at dksX3_setsLand_1 14 rfl rfl)
theorem dX3_setsLand_41 : decode cX3_setsLand 41 = .ok (.bipush 80, 2) := dk_16 80 (dk_at dksX3_setsLand_1 17 rfl rfl)
theorem dX3_setsLand_43 : decode cX3_setsLand 43 = .ok (.iload_n 1, 1) := dk_27 (dk_at dksX3_setsLand_1 19 rfl rfl)
theorem dX3_setsLand_44 : decode cX3_setsLand 44 = .ok (.iadd, 1) := dk_96 (dk_at dksX3_setsLand_1 20 rfl rfl)
theorem dX3_setsLand_45 : decode cX3_setsLand 45 = .ok (.iaload, 1) := dk_46 (dk_at dksX3_setsLand_1 21 rfl rfl)
theorem dX3_setsLand_46 : decode cX3_setsLand 46 = .ok (.iastore, 1) := dk_79 (dk_at dksX3_setsLand_1 22 rfl rfl)
theorem dX3_setsLand_47 : decode cX3_setsLand 47 = .ok (.iload_n 3, 1) := dk_29 (dk_at dksX3_setsLand_1 23 rfl rfl)
theorem dX3_setsLand_48 : decode cX3_setsLand 48 = .ok (.ireturn, 1) := dk_172 (dk_at dksX3_setsLand_2 0 rfl rfl)
abbrev cX3_buildRoad : ByteArray := prog_9_method_21_code
def yX3_buildRoad : MethodName := ⟨RX3, "buildRoad", "(IZ)I"⟩
def dkwX3_buildRoad_1 : List UInt8 := [172, 42, 182, 0, 79, 42, 27, 28, 182, 0, 88, 172]
abbrev dktX3_buildRoad_1 : List UInt8 := dkwX3_buildRoad_1 ++ []
def dkwX3_buildRoad_0 : List UInt8 := [42, 27, 184, 0, 85, 153, 0, 7, 3, 167, 0, 4, 4, 181, 0, 35, 42, 180, 0, 35, 158, 0, 5, 3]
abbrev dktX3_buildRoad_0 : List UInt8 := dkwX3_buildRoad_0 ++ dktX3_buildRoad_1
theorem dksX3_buildRoad_0 : cX3_buildRoad.data.toList.drop 0 = dktX3_buildRoad_0 := by decide +kernel
theorem dksX3_buildRoad_1 : cX3_buildRoad.data.toList.drop 24 = dktX3_buildRoad_1 := dk_seg dksX3_buildRoad_0 24 rfl rfl
theorem dX3_buildRoad_0 : decode cX3_buildRoad 0 = .ok (.aload_n 0, 1) := dk_42 (dk_at dksX3_buildRoad_0 0 rfl rfl)
theorem dX3_buildRoad_1 : decode cX3_buildRoad 1 = .ok (.iload_n 1, 1) := dk_27 (dk_at dksX3_buildRoad_0 1 rfl rfl)
theorem dX3_buildRoad_2 : decode cX3_buildRoad 2 = .ok (.invokestatic 85, 3) := dk_184 0 85 (dk_at dksX3_buildRoad_0 2 rfl rfl)
theorem dX3_buildRoad_5 : decode cX3_buildRoad 5 = .ok (.ifCond .eq 7, 3) := dk_153 0 7 (dk_at dksX3_buildRoad_0 5 rfl rfl)
theorem dX3_buildRoad_8 : decode cX3_buildRoad 8 = .ok (.iconst 0, 1) := dk_3 (dk_at dksX3_buildRoad_0 8 rfl rfl)
theorem dX3_buildRoad_9 : decode cX3_buildRoad 9 = .ok (.goto 4, 3) := dk_167 0 4 (dk_at dksX3_buildRoad_0 9 rfl rfl)
theorem dX3_buildRoad_12 : decode cX3_buildRoad 12 = .ok (.iconst 1, 1) := dk_4 (dk_at dksX3_buildRoad_0 12 rfl rfl)
theorem dX3_buildRoad_13 : decode cX3_buildRoad 13 = .ok (.putfield 35, 3) := dk_181 0 35 (dk_at dksX3_buildRoad_0 13 rfl rfl)
theorem dX3_buildRoad_16 : decode cX3_buildRoad 16 = .ok (.aload_n 0, 1) := dk_42 (dk_at dksX3_buildRoad_0 16 rfl rfl)
theorem dX3_buildRoad_17 : decode cX3_buildRoad 17 = .ok (.getfield 35, 3) := dk_180 0 35 (dk_at dksX3_buildRoad_0 17 rfl rfl)
theorem dX3_buildRoad_20 : decode cX3_buildRoad 20 = .ok (.ifCond .le 5, 3) := dk_158 0 5 (dk_at dksX3_buildRoad_0 20 rfl rfl)
theorem dX3_buildRoad_23 : decode cX3_buildRoad 23 = .ok (.iconst 0, 1) := dk_3 (dk_at dksX3_buildRoad_0 23 rfl rfl)
theorem dX3_buildRoad_24 : decode cX3_buildRoad 24 = .ok (.ireturn, 1) := dk_172 (dk_at dksX3_buildRoad_1 0 rfl rfl)
theorem dX3_buildRoad_25 : decode cX3_buildRoad 25 = .ok (.aload_n 0, 1) := dk_42 (dk_at dksX3_buildRoad_1 1 rfl rfl)
theorem dX3_buildRoad_26 : decode cX3_buildRoad 26 = .ok (.invokevirtual 79, 3) := dk_182 0 79 (dk_at dksX3_buildRoad_1 2 rfl rfl)
theorem dX3_buildRoad_29 : decode cX3_buildRoad 29 = .ok (.aload_n 0, 1) := dk_42 (dk_at dksX3_buildRoad_1 5 rfl rfl)
theorem dX3_buildRoad_30 : decode cX3_buildRoad 30 = .ok (.iload_n 1, 1) := dk_27 (dk_at dksX3_buildRoad_1 6 rfl rfl)
theorem dX3_buildRoad_31 : decode cX3_buildRoad 31 = .ok (.iload_n 2, 1) := dk_28 (dk_at dksX3_buildRoad_1 7 rfl rfl)
theorem dX3_buildRoad_32 : decode cX3_buildRoad 32 = .ok (.invokevirtual 88, 3) := dk_182 0 88 (dk_at dksX3_buildRoad_1 8 rfl rfl)
theorem dX3_buildRoad_35 : decode cX3_buildRoad 35 = .ok (.ireturn, 1) := dk_172 (dk_at dksX3_buildRoad_1 11 rfl rfl)
abbrev cX3_isLine : ByteArray := prog_9_method_20_code
def yX3_isLine : MethodName := ⟨RX3, "isLine", "(I)Z"⟩
def dkwX3_isLine_0 : List UInt8 := [26, 3, 16, 7, 184, 0, 42, 172]
abbrev dktX3_isLine_0 : List UInt8 := dkwX3_isLine_0 ++ []
theorem dksX3_isLine_0 : cX3_isLine.data.toList.drop 0 = dktX3_isLine_0 := by decide +kernel
theorem dX3_isLine_0 : decode cX3_isLine 0 = .ok (.iload_n 0, 1) := dk_26 (dk_at dksX3_isLine_0 0 rfl rfl)
theorem dX3_isLine_1 : decode cX3_isLine 1 = .ok (.iconst 0, 1) := dk_3 (dk_at dksX3_isLine_0 1 rfl rfl)
theorem dX3_isLine_2 : decode cX3_isLine 2 = .ok (.bipush 7, 2) := dk_16 7 (dk_at dksX3_isLine_0 2 rfl rfl)
theorem dX3_isLine_4 : decode cX3_isLine 4 = .ok (.invokestatic 42, 3) := dk_184 0 42 (dk_at dksX3_isLine_0 4 rfl rfl)
theorem dX3_isLine_7 : decode cX3_isLine 7 = .ok (.ireturn, 1) := dk_172 (dk_at dksX3_isLine_0 7 rfl rfl)
abbrev cX3_buildsRoad : ByteArray := prog_9_method_19_code
def yX3_buildsRoad : MethodName := ⟨RX3, "buildsRoad", "(IZ)I"⟩
def dkwX3_buildsRoad_3 : List UInt8 := [182, 0, 82, 87, 132, 3, 1, 132, 4, 1, 167, 255, 183, 29, 172]
abbrev dktX3_buildsRoad_3 : List UInt8 := dkwX3_buildsRoad_3 ++ []
def dkwX3_buildsRoad_2 : List UInt8 := [182, 0, 58, 154, 0, 7, 4, 167, 0, 4, 3, 54, 5, 21, 5, 153, 0, 14, 42, 21, 4, 6]
abbrev dktX3_buildsRoad_2 : List UInt8 := dkwX3_buildsRoad_2 ++ dktX3_buildsRoad_3
def dkwX3_buildsRoad_1 : List UInt8 := [21, 4, 16, 8, 112, 27, 160, 0, 26, 42, 21, 4, 182, 0, 70, 2, 160, 0, 16, 42, 21, 4]
abbrev dktX3_buildsRoad_1 : List UInt8 := dkwX3_buildsRoad_1 ++ dktX3_buildsRoad_2
def dkwX3_buildsRoad_0 : List UInt8 := [3, 62, 3, 54, 4, 21, 4, 16, 64, 162, 0, 72, 28, 153, 0, 11, 21, 4, 16, 8, 108, 167, 0, 8]
abbrev dktX3_buildsRoad_0 : List UInt8 := dkwX3_buildsRoad_0 ++ dktX3_buildsRoad_1
theorem dksX3_buildsRoad_0 : cX3_buildsRoad.data.toList.drop 0 = dktX3_buildsRoad_0 := by decide +kernel
theorem dksX3_buildsRoad_1 : cX3_buildsRoad.data.toList.drop 24 = dktX3_buildsRoad_1 := dk_seg dksX3_buildsRoad_0 24 rfl rfl
theorem dksX3_buildsRoad_2 : cX3_buildsRoad.data.toList.drop 46 = dktX3_buildsRoad_2 := dk_seg dksX3_buildsRoad_1 22 rfl rfl
theorem dksX3_buildsRoad_3 : cX3_buildsRoad.data.toList.drop 68 = dktX3_buildsRoad_3 := dk_seg dksX3_buildsRoad_2 22 rfl rfl
theorem dX3_buildsRoad_0 : decode cX3_buildsRoad 0 = .ok (.iconst 0, 1) := dk_3 (dk_at dksX3_buildsRoad_0 0 rfl rfl)
theorem dX3_buildsRoad_1 : decode cX3_buildsRoad 1 = .ok (.istore_n 3, 1) := dk_62 (dk_at dksX3_buildsRoad_0 1 rfl rfl)
theorem dX3_buildsRoad_2 : decode cX3_buildsRoad 2 = .ok (.iconst 0, 1) := dk_3 (dk_at dksX3_buildsRoad_0 2 rfl rfl)
theorem dX3_buildsRoad_3 : decode cX3_buildsRoad 3 = .ok (.istore 4, 2) := dk_54 4 (dk_at dksX3_buildsRoad_0 3 rfl rfl)
theorem dX3_buildsRoad_5 : decode cX3_buildsRoad 5 = .ok (.iload 4, 2) := dk_21 4 (dk_at dksX3_buildsRoad_0 5 rfl rfl)
theorem dX3_buildsRoad_7 : decode cX3_buildsRoad 7 = .ok (.bipush 64, 2) := dk_16 64 (dk_at dksX3_buildsRoad_0 7 rfl rfl)
theorem dX3_buildsRoad_9 : decode cX3_buildsRoad 9 = .ok (.if_icmp .ge 72, 3) := dk_162 0 72 (dk_at dksX3_buildsRoad_0 9 rfl rfl)
theorem dX3_buildsRoad_12 : decode cX3_buildsRoad 12 = .ok (.iload_n 2, 1) := dk_28 (dk_at dksX3_buildsRoad_0 12 rfl rfl)
theorem dX3_buildsRoad_13 : decode cX3_buildsRoad 13 = .ok (.ifCond .eq 11, 3) := dk_153 0 11 (dk_at dksX3_buildsRoad_0 13 rfl rfl)
theorem dX3_buildsRoad_16 : decode cX3_buildsRoad 16 = .ok (.iload 4, 2) := dk_21 4 (dk_at dksX3_buildsRoad_0 16 rfl rfl)
theorem dX3_buildsRoad_18 : decode cX3_buildsRoad 18 = .ok (.bipush 8, 2) := dk_16 8 (dk_at dksX3_buildsRoad_0 18 rfl rfl)
theorem dX3_buildsRoad_20 : decode cX3_buildsRoad 20 = .ok (.idiv, 1) := dk_108 (dk_at dksX3_buildsRoad_0 20 rfl rfl)
theorem dX3_buildsRoad_21 : decode cX3_buildsRoad 21 = .ok (.goto 8, 3) := dk_167 0 8 (dk_at dksX3_buildsRoad_0 21 rfl rfl)
theorem dX3_buildsRoad_24 : decode cX3_buildsRoad 24 = .ok (.iload 4, 2) := dk_21 4 (dk_at dksX3_buildsRoad_1 0 rfl rfl)
theorem dX3_buildsRoad_26 : decode cX3_buildsRoad 26 = .ok (.bipush 8, 2) := dk_16 8 (dk_at dksX3_buildsRoad_1 2 rfl rfl)
theorem dX3_buildsRoad_28 : decode cX3_buildsRoad 28 = .ok (.irem, 1) := dk_112 (dk_at dksX3_buildsRoad_1 4 rfl rfl)
theorem dX3_buildsRoad_29 : decode cX3_buildsRoad 29 = .ok (.iload_n 1, 1) := dk_27 (dk_at dksX3_buildsRoad_1 5 rfl rfl)
theorem dX3_buildsRoad_30 : decode cX3_buildsRoad 30 = .ok (.if_icmp .ne 26, 3) := dk_160 0 26 (dk_at dksX3_buildsRoad_1 6 rfl rfl)
theorem dX3_buildsRoad_33 : decode cX3_buildsRoad 33 = .ok (.aload_n 0, 1) := dk_42 (dk_at dksX3_buildsRoad_1 9 rfl rfl)
theorem dX3_buildsRoad_34 : decode cX3_buildsRoad 34 = .ok (.iload 4, 2) := dk_21 4 (dk_at dksX3_buildsRoad_1 10 rfl rfl)
theorem dX3_buildsRoad_36 : decode cX3_buildsRoad 36 = .ok (.invokevirtual 70, 3) := dk_182 0 70 (dk_at dksX3_buildsRoad_1 12 rfl rfl)
theorem dX3_buildsRoad_39 : decode cX3_buildsRoad 39 = .ok (.iconst (-1), 1) := dk_2 (dk_at dksX3_buildsRoad_1 15 rfl rfl)
theorem dX3_buildsRoad_40 : decode cX3_buildsRoad 40 = .ok (.if_icmp .ne 16, 3) := dk_160 0 16 (dk_at dksX3_buildsRoad_1 16 rfl rfl)
theorem dX3_buildsRoad_43 : decode cX3_buildsRoad 43 = .ok (.aload_n 0, 1) := dk_42 (dk_at dksX3_buildsRoad_1 19 rfl rfl)
theorem dX3_buildsRoad_44 : decode cX3_buildsRoad 44 = .ok (.iload 4, 2) := dk_21 4 (dk_at dksX3_buildsRoad_1 20 rfl rfl)
theorem dX3_buildsRoad_46 : decode cX3_buildsRoad 46 = .ok (.invokevirtual 58, 3) := dk_182 0 58 (dk_at dksX3_buildsRoad_2 0 rfl rfl)
theorem dX3_buildsRoad_49 : decode cX3_buildsRoad 49 = .ok (.ifCond .ne 7, 3) := dk_154 0 7 (dk_at dksX3_buildsRoad_2 3 rfl rfl)
theorem dX3_buildsRoad_52 : decode cX3_buildsRoad 52 = .ok (.iconst 1, 1) := dk_4 (dk_at dksX3_buildsRoad_2 6 rfl rfl)
theorem dX3_buildsRoad_53 : decode cX3_buildsRoad 53 = .ok (.goto 4, 3) := dk_167 0 4 (dk_at dksX3_buildsRoad_2 7 rfl rfl)
theorem dX3_buildsRoad_56 : decode cX3_buildsRoad 56 = .ok (.iconst 0, 1) := dk_3 (dk_at dksX3_buildsRoad_2 10 rfl rfl)
theorem dX3_buildsRoad_57 : decode cX3_buildsRoad 57 = .ok (.istore 5, 2) := dk_54 5 (dk_at dksX3_buildsRoad_2 11 rfl rfl)
theorem dX3_buildsRoad_59 : decode cX3_buildsRoad 59 = .ok (.iload 5, 2) := dk_21 5 (dk_at dksX3_buildsRoad_2 13 rfl rfl)
theorem dX3_buildsRoad_61 : decode cX3_buildsRoad 61 = .ok (.ifCond .eq 14, 3) := dk_153 0 14 (dk_at dksX3_buildsRoad_2 15 rfl rfl)
theorem dX3_buildsRoad_64 : decode cX3_buildsRoad 64 = .ok (.aload_n 0, 1) := dk_42 (dk_at dksX3_buildsRoad_2 18 rfl rfl)
theorem dX3_buildsRoad_65 : decode cX3_buildsRoad 65 = .ok (.iload 4, 2) := dk_21 4 (dk_at dksX3_buildsRoad_2 19 rfl rfl)
theorem dX3_buildsRoad_67 : decode cX3_buildsRoad 67 = .ok (.iconst 3, 1) := dk_6 (dk_at dksX3_buildsRoad_2 21 rfl rfl)
theorem dX3_buildsRoad_68 : decode cX3_buildsRoad 68 = .ok (.invokevirtual 82, 3) := dk_182 0 82 (dk_at dksX3_buildsRoad_3 0 rfl rfl)
theorem dX3_buildsRoad_71 : decode cX3_buildsRoad 71 = .ok (.pop, 1) := dk_87 (dk_at dksX3_buildsRoad_3 3 rfl rfl)
theorem dX3_buildsRoad_72 : decode cX3_buildsRoad 72 = .ok (.iinc 3 1, 3) := dk_132 3 1 (dk_at dksX3_buildsRoad_3 4 rfl rfl)
theorem dX3_buildsRoad_75 : decode cX3_buildsRoad 75 = .ok (.iinc 4 1, 3) := dk_132 4 1 (dk_at dksX3_buildsRoad_3 7 rfl rfl)
theorem dX3_buildsRoad_78 : decode cX3_buildsRoad 78 = .ok (.goto (-73), 3) := dk_167 255 183 (dk_at dksX3_buildsRoad_3 10 rfl rfl)
theorem dX3_buildsRoad_81 : decode cX3_buildsRoad 81 = .ok (.iload_n 3, 1) := dk_29 (dk_at dksX3_buildsRoad_3 13 rfl rfl)
theorem dX3_buildsRoad_82 : decode cX3_buildsRoad 82 = .ok (.ireturn, 1) := dk_172 (dk_at dksX3_buildsRoad_3 14 rfl rfl)
abbrev cX3_isRoad : ByteArray := prog_9_method_12_code
def yX3_isRoad : MethodName := ⟨RX3, "isRoad", "(I)Z"⟩
def dkwX3_isRoad_0 : List UInt8 := [42, 180, 0, 7, 16, 16, 27, 96, 46, 6, 160, 0, 7, 4, 167, 0, 4, 3, 172]
abbrev dktX3_isRoad_0 : List UInt8 := dkwX3_isRoad_0 ++ []
theorem dksX3_isRoad_0 : cX3_isRoad.data.toList.drop 0 = dktX3_isRoad_0 := by decide +kernel
theorem dX3_isRoad_0 : decode cX3_isRoad 0 = .ok (.aload_n 0, 1) := dk_42 (dk_at dksX3_isRoad_0 0 rfl rfl)
theorem dX3_isRoad_1 : decode cX3_isRoad 1 = .ok (.getfield 7, 3) := dk_180 0 7 (dk_at dksX3_isRoad_0 1 rfl rfl)
theorem dX3_isRoad_4 : decode cX3_isRoad 4 = .ok (.bipush 16, 2) := dk_16 16 (dk_at dksX3_isRoad_0 4 rfl rfl)
theorem dX3_isRoad_6 : decode cX3_isRoad 6 = .ok (.iload_n 1, 1) := dk_27 (dk_at dksX3_isRoad_0 6 rfl rfl)
theorem dX3_isRoad_7 : decode cX3_isRoad 7 = .ok (.iadd, 1) := dk_96 (dk_at dksX3_isRoad_0 7 rfl rfl)
theorem dX3_isRoad_8 : decode cX3_isRoad 8 = .ok (.iaload, 1) := dk_46 (dk_at dksX3_isRoad_0 8 rfl rfl)
theorem dX3_isRoad_9 : decode cX3_isRoad 9 = .ok (.iconst 3, 1) := dk_6 (dk_at dksX3_isRoad_0 9 rfl rfl)
theorem dX3_isRoad_10 : decode cX3_isRoad 10 = .ok (.if_icmp .ne 7, 3) := dk_160 0 7 (dk_at dksX3_isRoad_0 10 rfl rfl)
theorem dX3_isRoad_13 : decode cX3_isRoad 13 = .ok (.iconst 1, 1) := dk_4 (dk_at dksX3_isRoad_0 13 rfl rfl)
theorem dX3_isRoad_14 : decode cX3_isRoad 14 = .ok (.goto 4, 3) := dk_167 0 4 (dk_at dksX3_isRoad_0 14 rfl rfl)
theorem dX3_isRoad_17 : decode cX3_isRoad 17 = .ok (.iconst 0, 1) := dk_3 (dk_at dksX3_isRoad_0 17 rfl rfl)
theorem dX3_isRoad_18 : decode cX3_isRoad 18 = .ok (.ireturn, 1) := dk_172 (dk_at dksX3_isRoad_0 18 rfl rfl)
abbrev cX3_setVoles : ByteArray := prog_9_method_22_code
def yX3_setVoles : MethodName := ⟨RX3, "setVoles", "(II)I"⟩
def dkwX3_setVoles_3 : List UInt8 := [16, 80, 27, 96, 28, 79, 29, 172]
abbrev dktX3_setVoles_3 : List UInt8 := dkwX3_setVoles_3 ++ []
def dkwX3_setVoles_2 : List UInt8 := [158, 0, 5, 3, 172, 42, 182, 0, 79, 42, 180, 0, 7, 16, 80, 27, 96, 46, 62, 42, 180, 0, 7]
abbrev dktX3_setVoles_2 : List UInt8 := dkwX3_setVoles_2 ++ dktX3_setVoles_3
def dkwX3_setVoles_1 : List UInt8 := [167, 0, 16, 42, 27, 182, 0, 58, 153, 0, 7, 6, 167, 0, 4, 3, 181, 0, 35, 42, 180, 0, 35]
abbrev dktX3_setVoles_1 : List UInt8 := dkwX3_setVoles_1 ++ dktX3_setVoles_2
def dkwX3_setVoles_0 : List UInt8 := [42, 27, 184, 0, 73, 154, 0, 7, 4, 167, 0, 31, 28, 3, 17, 0, 160, 184, 0, 42, 154, 0, 7, 5]
abbrev dktX3_setVoles_0 : List UInt8 := dkwX3_setVoles_0 ++ dktX3_setVoles_1
theorem dksX3_setVoles_0 : cX3_setVoles.data.toList.drop 0 = dktX3_setVoles_0 := by decide +kernel
theorem dksX3_setVoles_1 : cX3_setVoles.data.toList.drop 24 = dktX3_setVoles_1 := dk_seg dksX3_setVoles_0 24 rfl rfl
theorem dksX3_setVoles_2 : cX3_setVoles.data.toList.drop 47 = dktX3_setVoles_2 := dk_seg dksX3_setVoles_1 23 rfl rfl
theorem dksX3_setVoles_3 : cX3_setVoles.data.toList.drop 70 = dktX3_setVoles_3 := dk_seg dksX3_setVoles_2 23 rfl rfl
theorem dX3_setVoles_0 : decode cX3_setVoles 0 = .ok (.aload_n 0, 1) := dk_42 (dk_at dksX3_setVoles_0 0 rfl rfl)
theorem dX3_setVoles_1 : decode cX3_setVoles 1 = .ok (.iload_n 1, 1) := dk_27 (dk_at dksX3_setVoles_0 1 rfl rfl)
theorem dX3_setVoles_2 : decode cX3_setVoles 2 = .ok (.invokestatic 73, 3) := dk_184 0 73 (dk_at dksX3_setVoles_0 2 rfl rfl)
theorem dX3_setVoles_5 : decode cX3_setVoles 5 = .ok (.ifCond .ne 7, 3) := dk_154 0 7 (dk_at dksX3_setVoles_0 5 rfl rfl)
theorem dX3_setVoles_8 : decode cX3_setVoles 8 = .ok (.iconst 1, 1) := dk_4 (dk_at dksX3_setVoles_0 8 rfl rfl)
theorem dX3_setVoles_9 : decode cX3_setVoles 9 = .ok (.goto 31, 3) := dk_167 0 31 (dk_at dksX3_setVoles_0 9 rfl rfl)
theorem dX3_setVoles_12 : decode cX3_setVoles 12 = .ok (.iload_n 2, 1) := dk_28 (dk_at dksX3_setVoles_0 12 rfl rfl)
theorem dX3_setVoles_13 : decode cX3_setVoles 13 = .ok (.iconst 0, 1) := dk_3 (dk_at dksX3_setVoles_0 13 rfl rfl)
theorem dX3_setVoles_14 : decode cX3_setVoles 14 = .ok (.sipush 160, 3) := dk_17 0 160 (dk_at dksX3_setVoles_0 14 rfl rfl)
theorem dX3_setVoles_17 : decode cX3_setVoles 17 = .ok (.invokestatic 42, 3) := dk_184 0 42 (dk_at dksX3_setVoles_0 17 rfl rfl)
theorem dX3_setVoles_20 : decode cX3_setVoles 20 = .ok (.ifCond .ne 7, 3) := dk_154 0 7 (dk_at dksX3_setVoles_0 20 rfl rfl)
theorem dX3_setVoles_23 : decode cX3_setVoles 23 = .ok (.iconst 2, 1) := dk_5 (dk_at dksX3_setVoles_0 23 rfl rfl)
theorem dX3_setVoles_24 : decode cX3_setVoles 24 = .ok (.goto 16, 3) := dk_167 0 16 (dk_at dksX3_setVoles_1 0 rfl rfl)
theorem dX3_setVoles_27 : decode cX3_setVoles 27 = .ok (.aload_n 0, 1) := dk_42 (dk_at dksX3_setVoles_1 3 rfl rfl)
theorem dX3_setVoles_28 : decode cX3_setVoles 28 = .ok (.iload_n 1, 1) := dk_27 (dk_at dksX3_setVoles_1 4 rfl rfl)
theorem dX3_setVoles_29 : decode cX3_setVoles 29 = .ok (.invokevirtual 58, 3) := dk_182 0 58 (dk_at dksX3_setVoles_1 5 rfl rfl)
theorem dX3_setVoles_32 : decode cX3_setVoles 32 = .ok (.ifCond .eq 7, 3) := dk_153 0 7 (dk_at dksX3_setVoles_1 8 rfl rfl)
theorem dX3_setVoles_35 : decode cX3_setVoles 35 = .ok (.iconst 3, 1) := dk_6 (dk_at dksX3_setVoles_1 11 rfl rfl)
theorem dX3_setVoles_36 : decode cX3_setVoles 36 = .ok (.goto 4, 3) := dk_167 0 4 (dk_at dksX3_setVoles_1 12 rfl rfl)
theorem dX3_setVoles_39 : decode cX3_setVoles 39 = .ok (.iconst 0, 1) := dk_3 (dk_at dksX3_setVoles_1 15 rfl rfl)
theorem dX3_setVoles_40 : decode cX3_setVoles 40 = .ok (.putfield 35, 3) := dk_181 0 35 (dk_at dksX3_setVoles_1 16 rfl rfl)
theorem dX3_setVoles_43 : decode cX3_setVoles 43 = .ok (.aload_n 0, 1) := dk_42 (dk_at dksX3_setVoles_1 19 rfl rfl)
theorem dX3_setVoles_44 : decode cX3_setVoles 44 = .ok (.getfield 35, 3) := dk_180 0 35 (dk_at dksX3_setVoles_1 20 rfl rfl)
theorem dX3_setVoles_47 : decode cX3_setVoles 47 = .ok (.ifCond .le 5, 3) := dk_158 0 5 (dk_at dksX3_setVoles_2 0 rfl rfl)
theorem dX3_setVoles_50 : decode cX3_setVoles 50 = .ok (.iconst 0, 1) := dk_3 (dk_at dksX3_setVoles_2 3 rfl rfl)
theorem dX3_setVoles_51 : decode cX3_setVoles 51 = .ok (.ireturn, 1) := dk_172 (dk_at dksX3_setVoles_2 4 rfl rfl)
theorem dX3_setVoles_52 : decode cX3_setVoles 52 = .ok (.aload_n 0, 1) := dk_42 (dk_at dksX3_setVoles_2 5 rfl rfl)
theorem dX3_setVoles_53 : decode cX3_setVoles 53 = .ok (.invokevirtual 79, 3) := dk_182 0 79 (dk_at dksX3_setVoles_2 6 rfl rfl)
theorem dX3_setVoles_56 : decode cX3_setVoles 56 = .ok (.aload_n 0, 1) := dk_42 (dk_at dksX3_setVoles_2 9 rfl rfl)
theorem dX3_setVoles_57 : decode cX3_setVoles 57 = .ok (.getfield 7, 3) := dk_180 0 7 (dk_at dksX3_setVoles_2 10 rfl rfl)
theorem dX3_setVoles_60 : decode cX3_setVoles 60 = .ok (.bipush 80, 2) := dk_16 80 (dk_at dksX3_setVoles_2 13 rfl rfl)
theorem dX3_setVoles_62 : decode cX3_setVoles 62 = .ok (.iload_n 1, 1) := dk_27 (dk_at dksX3_setVoles_2 15 rfl rfl)
theorem dX3_setVoles_63 : decode cX3_setVoles 63 = .ok (.iadd, 1) := dk_96 (dk_at dksX3_setVoles_2 16 rfl rfl)
theorem dX3_setVoles_64 : decode cX3_setVoles 64 = .ok (.iaload, 1) := dk_46 (dk_at dksX3_setVoles_2 17 rfl rfl)
theorem dX3_setVoles_65 : decode cX3_setVoles 65 = .ok (.istore_n 3, 1) := dk_62 (dk_at dksX3_setVoles_2 18 rfl rfl)
theorem dX3_setVoles_66 : decode cX3_setVoles 66 = .ok (.aload_n 0, 1) := dk_42 (dk_at dksX3_setVoles_2 19 rfl rfl)
theorem dX3_setVoles_67 : decode cX3_setVoles 67 = .ok (.getfield 7, 3) := dk_180 0 7 (dk_at dksX3_setVoles_2 20 rfl rfl)
theorem dX3_setVoles_70 : decode cX3_setVoles 70 = .ok (.bipush 80, 2) := dk_16 80 (dk_at dksX3_setVoles_3 0 rfl rfl)
theorem dX3_setVoles_72 : decode cX3_setVoles 72 = .ok (.iload_n 1, 1) := dk_27 (dk_at dksX3_setVoles_3 2 rfl rfl)
theorem dX3_setVoles_73 : decode cX3_setVoles 73 = .ok (.iadd, 1) := dk_96 (dk_at dksX3_setVoles_3 3 rfl rfl)
theorem dX3_setVoles_74 : decode cX3_setVoles 74 = .ok (.iload_n 2, 1) := dk_28 (dk_at dksX3_setVoles_3 4 rfl rfl)
theorem dX3_setVoles_75 : decode cX3_setVoles 75 = .ok (.iastore, 1) := dk_79 (dk_at dksX3_setVoles_3 5 rfl rfl)
theorem dX3_setVoles_76 : decode cX3_setVoles 76 = .ok (.iload_n 3, 1) := dk_29 (dk_at dksX3_setVoles_3 6 rfl rfl)
theorem dX3_setVoles_77 : decode cX3_setVoles 77 = .ok (.ireturn, 1) := dk_172 (dk_at dksX3_setVoles_3 7 rfl rfl)
abbrev cX3_setChances : ByteArray := prog_9_method_23_code
def yX3_setChances : MethodName := ⟨RX3, "setChances", "(I)I"⟩
def dkwX3_setChances_2 : List UInt8 := [172]
abbrev dktX3_setChances_2 : List UInt8 := dkwX3_setChances_2 ++ []
def dkwX3_setChances_1 : List UInt8 := [158, 0, 5, 3, 172, 42, 182, 0, 79, 42, 180, 0, 7, 4, 46, 61, 42, 180, 0, 7, 4, 27, 79, 28]
abbrev dktX3_setChances_1 : List UInt8 := dkwX3_setChances_1 ++ dktX3_setChances_2
def dkwX3_setChances_0 : List UInt8 := [42, 27, 3, 18, 92, 184, 0, 42, 153, 0, 7, 3, 167, 0, 4, 4, 181, 0, 35, 42, 180, 0, 35]
abbrev dktX3_setChances_0 : List UInt8 := dkwX3_setChances_0 ++ dktX3_setChances_1
theorem dksX3_setChances_0 : cX3_setChances.data.toList.drop 0 = dktX3_setChances_0 := by decide +kernel
theorem dksX3_setChances_1 : cX3_setChances.data.toList.drop 23 = dktX3_setChances_1 := dk_seg dksX3_setChances_0 23 rfl rfl
theorem dksX3_setChances_2 : cX3_setChances.data.toList.drop 47 = dktX3_setChances_2 := dk_seg dksX3_setChances_1 24 rfl rfl
theorem dX3_setChances_0 : decode cX3_setChances 0 = .ok (.aload_n 0, 1) := dk_42 (dk_at dksX3_setChances_0 0 rfl rfl)
theorem dX3_setChances_1 : decode cX3_setChances 1 = .ok (.iload_n 1, 1) := dk_27 (dk_at dksX3_setChances_0 1 rfl rfl)
theorem dX3_setChances_2 : decode cX3_setChances 2 = .ok (.iconst 0, 1) := dk_3 (dk_at dksX3_setChances_0 2 rfl rfl)
theorem dX3_setChances_3 : decode cX3_setChances 3 = .ok (.ldc 92, 2) := dk_18 92 (dk_at dksX3_setChances_0 3 rfl rfl)
theorem dX3_setChances_5 : decode cX3_setChances 5 = .ok (.invokestatic 42, 3) := dk_184 0 42 (dk_at dksX3_setChances_0 5 rfl rfl)
theorem dX3_setChances_8 : decode cX3_setChances 8 = .ok (.ifCond .eq 7, 3) := dk_153 0 7 (dk_at dksX3_setChances_0 8 rfl rfl)
theorem dX3_setChances_11 : decode cX3_setChances 11 = .ok (.iconst 0, 1) := dk_3 (dk_at dksX3_setChances_0 11 rfl rfl)
theorem dX3_setChances_12 : decode cX3_setChances 12 = .ok (.goto 4, 3) := dk_167 0 4 (dk_at dksX3_setChances_0 12 rfl rfl)
theorem dX3_setChances_15 : decode cX3_setChances 15 = .ok (.iconst 1, 1) := dk_4 (dk_at dksX3_setChances_0 15 rfl rfl)
theorem dX3_setChances_16 : decode cX3_setChances 16 = .ok (.putfield 35, 3) := dk_181 0 35 (dk_at dksX3_setChances_0 16 rfl rfl)
theorem dX3_setChances_19 : decode cX3_setChances 19 = .ok (.aload_n 0, 1) := dk_42 (dk_at dksX3_setChances_0 19 rfl rfl)
theorem dX3_setChances_20 : decode cX3_setChances 20 = .ok (.getfield 35, 3) := dk_180 0 35 (dk_at dksX3_setChances_0 20 rfl rfl)
theorem dX3_setChances_23 : decode cX3_setChances 23 = .ok (.ifCond .le 5, 3) := dk_158 0 5 (dk_at dksX3_setChances_1 0 rfl rfl)
theorem dX3_setChances_26 : decode cX3_setChances 26 = .ok (.iconst 0, 1) := dk_3 (dk_at dksX3_setChances_1 3 rfl rfl)
theorem dX3_setChances_27 : decode cX3_setChances 27 = .ok (.ireturn, 1) := dk_172 (dk_at dksX3_setChances_1 4 rfl rfl)
theorem dX3_setChances_28 : decode cX3_setChances 28 = .ok (.aload_n 0, 1) := dk_42 (dk_at dksX3_setChances_1 5 rfl rfl)
theorem dX3_setChances_29 : decode cX3_setChances 29 = .ok (.invokevirtual 79, 3) := dk_182 0 79 (dk_at dksX3_setChances_1 6 rfl rfl)
theorem dX3_setChances_32 : decode cX3_setChances 32 = .ok (.aload_n 0, 1) := dk_42 (dk_at dksX3_setChances_1 9 rfl rfl)
theorem dX3_setChances_33 : decode cX3_setChances 33 = .ok (.getfield 7, 3) := dk_180 0 7 (dk_at dksX3_setChances_1 10 rfl rfl)
theorem dX3_setChances_36 : decode cX3_setChances 36 = .ok (.iconst 1, 1) := dk_4 (dk_at dksX3_setChances_1 13 rfl rfl)
theorem dX3_setChances_37 : decode cX3_setChances 37 = .ok (.iaload, 1) := dk_46 (dk_at dksX3_setChances_1 14 rfl rfl)
theorem dX3_setChances_38 : decode cX3_setChances 38 = .ok (.istore_n 2, 1) := dk_61 (dk_at dksX3_setChances_1 15 rfl rfl)
theorem dX3_setChances_39 : decode cX3_setChances 39 = .ok (.aload_n 0, 1) := dk_42 (dk_at dksX3_setChances_1 16 rfl rfl)
theorem dX3_setChances_40 : decode cX3_setChances 40 = .ok (.getfield 7, 3) := dk_180 0 7 (dk_at dksX3_setChances_1 17 rfl rfl)
theorem dX3_setChances_43 : decode cX3_setChances 43 = .ok (.iconst 1, 1) := dk_4 (dk_at dksX3_setChances_1 20 rfl rfl)
theorem dX3_setChances_44 : decode cX3_setChances 44 = .ok (.iload_n 1, 1) := dk_27 (dk_at dksX3_setChances_1 21 rfl rfl)
theorem dX3_setChances_45 : decode cX3_setChances 45 = .ok (.iastore, 1) := dk_79 (dk_at dksX3_setChances_1 22 rfl rfl)
theorem dX3_setChances_46 : decode cX3_setChances 46 = .ok (.iload_n 2, 1) := dk_28 (dk_at dksX3_setChances_1 23 rfl rfl)
theorem dX3_setChances_47 : decode cX3_setChances 47 = .ok (.ireturn, 1) := dk_172 (dk_at dksX3_setChances_2 0 rfl rfl)
abbrev cX3_putBox : ByteArray := prog_9_method_39_code
def yX3_putBox : MethodName := ⟨RX3, "putBox", "(I)I"⟩
def dkwX3_putBox_1 : List UInt8 := [182, 0, 120, 172]
abbrev dktX3_putBox_1 : List UInt8 := dkwX3_putBox_1 ++ []
def dkwX3_putBox_0 : List UInt8 := [42, 42, 27, 182, 0, 117, 181, 0, 35, 42, 180, 0, 35, 158, 0, 5, 3, 172, 42, 182, 0, 79, 42, 27]
abbrev dktX3_putBox_0 : List UInt8 := dkwX3_putBox_0 ++ dktX3_putBox_1
theorem dksX3_putBox_0 : cX3_putBox.data.toList.drop 0 = dktX3_putBox_0 := by decide +kernel
theorem dksX3_putBox_1 : cX3_putBox.data.toList.drop 24 = dktX3_putBox_1 := dk_seg dksX3_putBox_0 24 rfl rfl
theorem dX3_putBox_0 : decode cX3_putBox 0 = .ok (.aload_n 0, 1) := dk_42 (dk_at dksX3_putBox_0 0 rfl rfl)
theorem dX3_putBox_1 : decode cX3_putBox 1 = .ok (.aload_n 0, 1) := dk_42 (dk_at dksX3_putBox_0 1 rfl rfl)
theorem dX3_putBox_2 : decode cX3_putBox 2 = .ok (.iload_n 1, 1) := dk_27 (dk_at dksX3_putBox_0 2 rfl rfl)
theorem dX3_putBox_3 : decode cX3_putBox 3 = .ok (.invokevirtual 117, 3) := dk_182 0 117 (dk_at dksX3_putBox_0 3 rfl rfl)
theorem dX3_putBox_6 : decode cX3_putBox 6 = .ok (.putfield 35, 3) := dk_181 0 35 (dk_at dksX3_putBox_0 6 rfl rfl)
theorem dX3_putBox_9 : decode cX3_putBox 9 = .ok (.aload_n 0, 1) := dk_42 (dk_at dksX3_putBox_0 9 rfl rfl)
theorem dX3_putBox_10 : decode cX3_putBox 10 = .ok (.getfield 35, 3) := dk_180 0 35 (dk_at dksX3_putBox_0 10 rfl rfl)
theorem dX3_putBox_13 : decode cX3_putBox 13 = .ok (.ifCond .le 5, 3) := dk_158 0 5 (dk_at dksX3_putBox_0 13 rfl rfl)
theorem dX3_putBox_16 : decode cX3_putBox 16 = .ok (.iconst 0, 1) := dk_3 (dk_at dksX3_putBox_0 16 rfl rfl)
theorem dX3_putBox_17 : decode cX3_putBox 17 = .ok (.ireturn, 1) := dk_172 (dk_at dksX3_putBox_0 17 rfl rfl)
theorem dX3_putBox_18 : decode cX3_putBox 18 = .ok (.aload_n 0, 1) := dk_42 (dk_at dksX3_putBox_0 18 rfl rfl)
theorem dX3_putBox_19 : decode cX3_putBox 19 = .ok (.invokevirtual 79, 3) := dk_182 0 79 (dk_at dksX3_putBox_0 19 rfl rfl)
theorem dX3_putBox_22 : decode cX3_putBox 22 = .ok (.aload_n 0, 1) := dk_42 (dk_at dksX3_putBox_0 22 rfl rfl)
theorem dX3_putBox_23 : decode cX3_putBox 23 = .ok (.iload_n 1, 1) := dk_27 (dk_at dksX3_putBox_0 23 rfl rfl)
theorem dX3_putBox_24 : decode cX3_putBox 24 = .ok (.invokevirtual 120, 3) := dk_182 0 120 (dk_at dksX3_putBox_1 0 rfl rfl)
theorem dX3_putBox_27 : decode cX3_putBox 27 = .ok (.ireturn, 1) := dk_172 (dk_at dksX3_putBox_1 3 rfl rfl)
abbrev cX3_whyNoBox : ByteArray := prog_9_method_37_code
def yX3_whyNoBox : MethodName := ⟨RX3, "whyNoBox", "(I)I"⟩
def dkwX3_whyNoBox_1 : List UInt8 := [182, 0, 58, 154, 0, 12, 42, 27, 182, 0, 70, 2, 159, 0, 7, 5, 167, 0, 4, 3, 172]
abbrev dktX3_whyNoBox_1 : List UInt8 := dkwX3_whyNoBox_1 ++ []
def dkwX3_whyNoBox_0 : List UInt8 := [27, 184, 0, 73, 154, 0, 7, 4, 167, 0, 36, 42, 180, 0, 7, 5, 46, 16, 10, 159, 0, 20, 42, 27]
abbrev dktX3_whyNoBox_0 : List UInt8 := dkwX3_whyNoBox_0 ++ dktX3_whyNoBox_1
theorem dksX3_whyNoBox_0 : cX3_whyNoBox.data.toList.drop 0 = dktX3_whyNoBox_0 := by decide +kernel
theorem dksX3_whyNoBox_1 : cX3_whyNoBox.data.toList.drop 24 = dktX3_whyNoBox_1 := dk_seg dksX3_whyNoBox_0 24 rfl rfl
theorem dX3_whyNoBox_0 : decode cX3_whyNoBox 0 = .ok (.iload_n 1, 1) := dk_27 (dk_at dksX3_whyNoBox_0 0 rfl rfl)
theorem dX3_whyNoBox_1 : decode cX3_whyNoBox 1 = .ok (.invokestatic 73, 3) := dk_184 0 73 (dk_at dksX3_whyNoBox_0 1 rfl rfl)
theorem dX3_whyNoBox_4 : decode cX3_whyNoBox 4 = .ok (.ifCond .ne 7, 3) := dk_154 0 7 (dk_at dksX3_whyNoBox_0 4 rfl rfl)
theorem dX3_whyNoBox_7 : decode cX3_whyNoBox 7 = .ok (.iconst 1, 1) := dk_4 (dk_at dksX3_whyNoBox_0 7 rfl rfl)
theorem dX3_whyNoBox_8 : decode cX3_whyNoBox 8 = .ok (.goto 36, 3) := dk_167 0 36 (dk_at dksX3_whyNoBox_0 8 rfl rfl)
theorem dX3_whyNoBox_11 : decode cX3_whyNoBox 11 = .ok (.aload_n 0, 1) := dk_42 (dk_at dksX3_whyNoBox_0 11 rfl rfl)
theorem dX3_whyNoBox_12 : decode cX3_whyNoBox 12 = .ok (.getfield 7, 3) := dk_180 0 7 (dk_at dksX3_whyNoBox_0 12 rfl rfl)
theorem dX3_whyNoBox_15 : decode cX3_whyNoBox 15 = .ok (.iconst 2, 1) := dk_5 (dk_at dksX3_whyNoBox_0 15 rfl rfl)
theorem dX3_whyNoBox_16 : decode cX3_whyNoBox 16 = .ok (.iaload, 1) := dk_46 (dk_at dksX3_whyNoBox_0 16 rfl rfl)
theorem dX3_whyNoBox_17 : decode cX3_whyNoBox 17 = .ok (.bipush 10, 2) := dk_16 10 (dk_at dksX3_whyNoBox_0 17 rfl rfl)
theorem dX3_whyNoBox_19 : decode cX3_whyNoBox 19 = .ok (.if_icmp .eq 20, 3) := dk_159 0 20 (dk_at dksX3_whyNoBox_0 19 rfl rfl)
theorem dX3_whyNoBox_22 : decode cX3_whyNoBox 22 = .ok (.aload_n 0, 1) := dk_42 (dk_at dksX3_whyNoBox_0 22 rfl rfl)
theorem dX3_whyNoBox_23 : decode cX3_whyNoBox 23 = .ok (.iload_n 1, 1) := dk_27 (dk_at dksX3_whyNoBox_0 23 rfl rfl)
theorem dX3_whyNoBox_24 : decode cX3_whyNoBox 24 = .ok (.invokevirtual 58, 3) := dk_182 0 58 (dk_at dksX3_whyNoBox_1 0 rfl rfl)
theorem dX3_whyNoBox_27 : decode cX3_whyNoBox 27 = .ok (.ifCond .ne 12, 3) := dk_154 0 12 (dk_at dksX3_whyNoBox_1 3 rfl rfl)
theorem dX3_whyNoBox_30 : decode cX3_whyNoBox 30 = .ok (.aload_n 0, 1) := dk_42 (dk_at dksX3_whyNoBox_1 6 rfl rfl)
theorem dX3_whyNoBox_31 : decode cX3_whyNoBox 31 = .ok (.iload_n 1, 1) := dk_27 (dk_at dksX3_whyNoBox_1 7 rfl rfl)
theorem dX3_whyNoBox_32 : decode cX3_whyNoBox 32 = .ok (.invokevirtual 70, 3) := dk_182 0 70 (dk_at dksX3_whyNoBox_1 8 rfl rfl)
theorem dX3_whyNoBox_35 : decode cX3_whyNoBox 35 = .ok (.iconst (-1), 1) := dk_2 (dk_at dksX3_whyNoBox_1 11 rfl rfl)
theorem dX3_whyNoBox_36 : decode cX3_whyNoBox 36 = .ok (.if_icmp .eq 7, 3) := dk_159 0 7 (dk_at dksX3_whyNoBox_1 12 rfl rfl)
theorem dX3_whyNoBox_39 : decode cX3_whyNoBox 39 = .ok (.iconst 2, 1) := dk_5 (dk_at dksX3_whyNoBox_1 15 rfl rfl)
theorem dX3_whyNoBox_40 : decode cX3_whyNoBox 40 = .ok (.goto 4, 3) := dk_167 0 4 (dk_at dksX3_whyNoBox_1 16 rfl rfl)
theorem dX3_whyNoBox_43 : decode cX3_whyNoBox 43 = .ok (.iconst 0, 1) := dk_3 (dk_at dksX3_whyNoBox_1 19 rfl rfl)
theorem dX3_whyNoBox_44 : decode cX3_whyNoBox 44 = .ok (.ireturn, 1) := dk_172 (dk_at dksX3_whyNoBox_1 20 rfl rfl)
abbrev cX3_putsBox : ByteArray := prog_9_method_38_code
def yX3_putsBox : MethodName := ⟨RX3, "putsBox", "(I)I"⟩
def dkwX3_putsBox_1 : List UInt8 := [96, 79, 42, 180, 0, 7, 5, 46, 4, 100, 172]
abbrev dktX3_putsBox_1 : List UInt8 := dkwX3_putsBox_1 ++ []
def dkwX3_putsBox_0 : List UInt8 := [42, 180, 0, 7, 17, 0, 144, 42, 180, 0, 7, 5, 46, 96, 27, 79, 42, 180, 0, 7, 5, 92, 46, 4]
abbrev dktX3_putsBox_0 : List UInt8 := dkwX3_putsBox_0 ++ dktX3_putsBox_1
theorem dksX3_putsBox_0 : cX3_putsBox.data.toList.drop 0 = dktX3_putsBox_0 := by decide +kernel
theorem dksX3_putsBox_1 : cX3_putsBox.data.toList.drop 24 = dktX3_putsBox_1 := dk_seg dksX3_putsBox_0 24 rfl rfl
theorem dX3_putsBox_0 : decode cX3_putsBox 0 = .ok (.aload_n 0, 1) := dk_42 (dk_at dksX3_putsBox_0 0 rfl rfl)
theorem dX3_putsBox_1 : decode cX3_putsBox 1 = .ok (.getfield 7, 3) := dk_180 0 7 (dk_at dksX3_putsBox_0 1 rfl rfl)
theorem dX3_putsBox_4 : decode cX3_putsBox 4 = .ok (.sipush 144, 3) := dk_17 0 144 (dk_at dksX3_putsBox_0 4 rfl rfl)
theorem dX3_putsBox_7 : decode cX3_putsBox 7 = .ok (.aload_n 0, 1) := dk_42 (dk_at dksX3_putsBox_0 7 rfl rfl)
theorem dX3_putsBox_8 : decode cX3_putsBox 8 = .ok (.getfield 7, 3) := dk_180 0 7 (dk_at dksX3_putsBox_0 8 rfl rfl)
theorem dX3_putsBox_11 : decode cX3_putsBox 11 = .ok (.iconst 2, 1) := dk_5 (dk_at dksX3_putsBox_0 11 rfl rfl)
theorem dX3_putsBox_12 : decode cX3_putsBox 12 = .ok (.iaload, 1) := dk_46 (dk_at dksX3_putsBox_0 12 rfl rfl)
theorem dX3_putsBox_13 : decode cX3_putsBox 13 = .ok (.iadd, 1) := dk_96 (dk_at dksX3_putsBox_0 13 rfl rfl)
theorem dX3_putsBox_14 : decode cX3_putsBox 14 = .ok (.iload_n 1, 1) := dk_27 (dk_at dksX3_putsBox_0 14 rfl rfl)
theorem dX3_putsBox_15 : decode cX3_putsBox 15 = .ok (.iastore, 1) := dk_79 (dk_at dksX3_putsBox_0 15 rfl rfl)
theorem dX3_putsBox_16 : decode cX3_putsBox 16 = .ok (.aload_n 0, 1) := dk_42 (dk_at dksX3_putsBox_0 16 rfl rfl)
theorem dX3_putsBox_17 : decode cX3_putsBox 17 = .ok (.getfield 7, 3) := dk_180 0 7 (dk_at dksX3_putsBox_0 17 rfl rfl)
theorem dX3_putsBox_20 : decode cX3_putsBox 20 = .ok (.iconst 2, 1) := dk_5 (dk_at dksX3_putsBox_0 20 rfl rfl)
theorem dX3_putsBox_21 : decode cX3_putsBox 21 = .ok (.dup2, 1) := dk_92 (dk_at dksX3_putsBox_0 21 rfl rfl)
theorem dX3_putsBox_22 : decode cX3_putsBox 22 = .ok (.iaload, 1) := dk_46 (dk_at dksX3_putsBox_0 22 rfl rfl)
theorem dX3_putsBox_23 : decode cX3_putsBox 23 = .ok (.iconst 1, 1) := dk_4 (dk_at dksX3_putsBox_0 23 rfl rfl)
theorem dX3_putsBox_24 : decode cX3_putsBox 24 = .ok (.iadd, 1) := dk_96 (dk_at dksX3_putsBox_1 0 rfl rfl)
theorem dX3_putsBox_25 : decode cX3_putsBox 25 = .ok (.iastore, 1) := dk_79 (dk_at dksX3_putsBox_1 1 rfl rfl)
theorem dX3_putsBox_26 : decode cX3_putsBox 26 = .ok (.aload_n 0, 1) := dk_42 (dk_at dksX3_putsBox_1 2 rfl rfl)
theorem dX3_putsBox_27 : decode cX3_putsBox 27 = .ok (.getfield 7, 3) := dk_180 0 7 (dk_at dksX3_putsBox_1 3 rfl rfl)
theorem dX3_putsBox_30 : decode cX3_putsBox 30 = .ok (.iconst 2, 1) := dk_5 (dk_at dksX3_putsBox_1 6 rfl rfl)
theorem dX3_putsBox_31 : decode cX3_putsBox 31 = .ok (.iaload, 1) := dk_46 (dk_at dksX3_putsBox_1 7 rfl rfl)
theorem dX3_putsBox_32 : decode cX3_putsBox 32 = .ok (.iconst 1, 1) := dk_4 (dk_at dksX3_putsBox_1 8 rfl rfl)
theorem dX3_putsBox_33 : decode cX3_putsBox 33 = .ok (.isub, 1) := dk_100 (dk_at dksX3_putsBox_1 9 rfl rfl)
theorem dX3_putsBox_34 : decode cX3_putsBox 34 = .ok (.ireturn, 1) := dk_172 (dk_at dksX3_putsBox_1 10 rfl rfl)
abbrev cX3_takeBox : ByteArray := prog_9_method_41_code
def yX3_takeBox : MethodName := ⟨RX3, "takeBox", "(I)I"⟩
def dkwX3_takeBox_6 : List UInt8 := [46, 96, 3, 79, 28, 172]
abbrev dktX3_takeBox_6 : List UInt8 := dkwX3_takeBox_6 ++ []
def dkwX3_takeBox_5 : List UInt8 := [29, 96, 4, 96, 46, 79, 132, 3, 1, 167, 255, 221, 42, 180, 0, 7, 17, 0, 144, 42, 180, 0, 7, 5]
abbrev dktX3_takeBox_5 : List UInt8 := dkwX3_takeBox_5 ++ dktX3_takeBox_6
def dkwX3_takeBox_4 : List UInt8 := [180, 0, 7, 5, 46, 162, 0, 31, 42, 180, 0, 7, 17, 0, 144, 29, 96, 42, 180, 0, 7, 17, 0, 144]
abbrev dktX3_takeBox_4 : List UInt8 := dkwX3_takeBox_4 ++ dktX3_takeBox_5
def dkwX3_takeBox_3 : List UInt8 := [182, 0, 99, 132, 3, 1, 167, 255, 204, 42, 180, 0, 7, 5, 92, 46, 4, 100, 79, 27, 62, 29, 42]
abbrev dktX3_takeBox_3 : List UInt8 := dkwX3_takeBox_3 ++ dktX3_takeBox_4
def dkwX3_takeBox_2 : List UInt8 := [160, 0, 7, 2, 167, 0, 18, 21, 4, 27, 164, 0, 10, 21, 4, 4, 100, 167, 0, 5, 21, 4]
abbrev dktX3_takeBox_2 : List UInt8 := dkwX3_takeBox_2 ++ dktX3_takeBox_3
def dkwX3_takeBox_1 : List UInt8 := [180, 0, 7, 6, 46, 162, 0, 48, 42, 29, 8, 182, 0, 93, 54, 4, 42, 29, 8, 21, 4, 27]
abbrev dktX3_takeBox_1 : List UInt8 := dkwX3_takeBox_1 ++ dktX3_takeBox_2
def dkwX3_takeBox_0 : List UInt8 := [42, 27, 182, 0, 126, 154, 0, 5, 3, 172, 42, 182, 0, 79, 42, 27, 182, 0, 107, 61, 3, 62, 29, 42]
abbrev dktX3_takeBox_0 : List UInt8 := dkwX3_takeBox_0 ++ dktX3_takeBox_1
theorem dksX3_takeBox_0 : cX3_takeBox.data.toList.drop 0 = dktX3_takeBox_0 := by decide +kernel
theorem dksX3_takeBox_1 : cX3_takeBox.data.toList.drop 24 = dktX3_takeBox_1 := dk_seg dksX3_takeBox_0 24 rfl rfl
theorem dksX3_takeBox_2 : cX3_takeBox.data.toList.drop 46 = dktX3_takeBox_2 := dk_seg dksX3_takeBox_1 22 rfl rfl
theorem dksX3_takeBox_3 : cX3_takeBox.data.toList.drop 68 = dktX3_takeBox_3 := dk_seg dksX3_takeBox_2 22 rfl rfl
theorem dksX3_takeBox_4 : cX3_takeBox.data.toList.drop 91 = dktX3_takeBox_4 := dk_seg dksX3_takeBox_3 23 rfl rfl
theorem dksX3_takeBox_5 : cX3_takeBox.data.toList.drop 115 = dktX3_takeBox_5 := dk_seg dksX3_takeBox_4 24 rfl rfl
theorem dksX3_takeBox_6 : cX3_takeBox.data.toList.drop 139 = dktX3_takeBox_6 := dk_seg dksX3_takeBox_5 24 rfl rfl
theorem dX3_takeBox_0 : decode cX3_takeBox 0 = .ok (.aload_n 0, 1) := dk_42 (dk_at dksX3_takeBox_0 0 rfl rfl)
theorem dX3_takeBox_1 : decode cX3_takeBox 1 = .ok (.iload_n 1, 1) := dk_27 (dk_at dksX3_takeBox_0 1 rfl rfl)
theorem dX3_takeBox_2 : decode cX3_takeBox 2 = .ok (.invokevirtual 126, 3) := dk_182 0 126 (dk_at dksX3_takeBox_0 2 rfl rfl)
theorem dX3_takeBox_5 : decode cX3_takeBox 5 = .ok (.ifCond .ne 5, 3) := dk_154 0 5 (dk_at dksX3_takeBox_0 5 rfl rfl)
theorem dX3_takeBox_8 : decode cX3_takeBox 8 = .ok (.iconst 0, 1) := dk_3 (dk_at dksX3_takeBox_0 8 rfl rfl)
theorem dX3_takeBox_9 : decode cX3_takeBox 9 = .ok (.ireturn, 1) := dk_172 (dk_at dksX3_takeBox_0 9 rfl rfl)
theorem dX3_takeBox_10 : decode cX3_takeBox 10 = .ok (.aload_n 0, 1) := dk_42 (dk_at dksX3_takeBox_0 10 rfl rfl)
theorem dX3_takeBox_11 : decode cX3_takeBox 11 = .ok (.invokevirtual 79, 3) := dk_182 0 79 (dk_at dksX3_takeBox_0 11 rfl rfl)
theorem dX3_takeBox_14 : decode cX3_takeBox 14 = .ok (.aload_n 0, 1) := dk_42 (dk_at dksX3_takeBox_0 14 rfl rfl)
theorem dX3_takeBox_15 : decode cX3_takeBox 15 = .ok (.iload_n 1, 1) := dk_27 (dk_at dksX3_takeBox_0 15 rfl rfl)
theorem dX3_takeBox_16 : decode cX3_takeBox 16 = .ok (.invokevirtual 107, 3) := dk_182 0 107 (dk_at dksX3_takeBox_0 16 rfl rfl)
theorem dX3_takeBox_19 : decode cX3_takeBox 19 = .ok (.istore_n 2, 1) := dk_61 (dk_at dksX3_takeBox_0 19 rfl rfl)
theorem dX3_takeBox_20 : decode cX3_takeBox 20 = .ok (.iconst 0, 1) := dk_3 (dk_at dksX3_takeBox_0 20 rfl rfl)
theorem dX3_takeBox_21 : decode cX3_takeBox 21 = .ok (.istore_n 3, 1) := dk_62 (dk_at dksX3_takeBox_0 21 rfl rfl)
theorem dX3_takeBox_22 : decode cX3_takeBox 22 = .ok (.iload_n 3, 1) := dk_29 (dk_at dksX3_takeBox_0 22 rfl rfl)
theorem dX3_takeBox_23 : decode cX3_takeBox 23 = .ok (.aload_n 0, 1) := dk_42 (dk_at dksX3_takeBox_0 23 rfl rfl)
theorem dX3_takeBox_24 : decode cX3_takeBox 24 = .ok (.getfield 7, 3) := dk_180 0 7 (dk_at dksX3_takeBox_1 0 rfl rfl)
theorem dX3_takeBox_27 : decode cX3_takeBox 27 = .ok (.iconst 3, 1) := dk_6 (dk_at dksX3_takeBox_1 3 rfl rfl)
theorem dX3_takeBox_28 : decode cX3_takeBox 28 = .ok (.iaload, 1) := dk_46 (dk_at dksX3_takeBox_1 4 rfl rfl)
theorem dX3_takeBox_29 : decode cX3_takeBox 29 = .ok (.if_icmp .ge 48, 3) := dk_162 0 48 (dk_at dksX3_takeBox_1 5 rfl rfl)
theorem dX3_takeBox_32 : decode cX3_takeBox 32 = .ok (.aload_n 0, 1) := dk_42 (dk_at dksX3_takeBox_1 8 rfl rfl)
theorem dX3_takeBox_33 : decode cX3_takeBox 33 = .ok (.iload_n 3, 1) := dk_29 (dk_at dksX3_takeBox_1 9 rfl rfl)
theorem dX3_takeBox_34 : decode cX3_takeBox 34 = .ok (.iconst 5, 1) := dk_8 (dk_at dksX3_takeBox_1 10 rfl rfl)
theorem dX3_takeBox_35 : decode cX3_takeBox 35 = .ok (.invokevirtual 93, 3) := dk_182 0 93 (dk_at dksX3_takeBox_1 11 rfl rfl)
theorem dX3_takeBox_38 : decode cX3_takeBox 38 = .ok (.istore 4, 2) := dk_54 4 (dk_at dksX3_takeBox_1 14 rfl rfl)
theorem dX3_takeBox_40 : decode cX3_takeBox 40 = .ok (.aload_n 0, 1) := dk_42 (dk_at dksX3_takeBox_1 16 rfl rfl)
theorem dX3_takeBox_41 : decode cX3_takeBox 41 = .ok (.iload_n 3, 1) := dk_29 (dk_at dksX3_takeBox_1 17 rfl rfl)
theorem dX3_takeBox_42 : decode cX3_takeBox 42 = .ok (.iconst 5, 1) := dk_8 (dk_at dksX3_takeBox_1 18 rfl rfl)
theorem dX3_takeBox_43 : decode cX3_takeBox 43 = .ok (.iload 4, 2) := dk_21 4 (dk_at dksX3_takeBox_1 19 rfl rfl)
theorem dX3_takeBox_45 : decode cX3_takeBox 45 = .ok (.iload_n 1, 1) := dk_27 (dk_at dksX3_takeBox_1 21 rfl rfl)
theorem dX3_takeBox_46 : decode cX3_takeBox 46 = .ok (.if_icmp .ne 7, 3) := dk_160 0 7 (dk_at dksX3_takeBox_2 0 rfl rfl)
theorem dX3_takeBox_49 : decode cX3_takeBox 49 = .ok (.iconst (-1), 1) := dk_2 (dk_at dksX3_takeBox_2 3 rfl rfl)
theorem dX3_takeBox_50 : decode cX3_takeBox 50 = .ok (.goto 18, 3) := dk_167 0 18 (dk_at dksX3_takeBox_2 4 rfl rfl)
theorem dX3_takeBox_53 : decode cX3_takeBox 53 = .ok (.iload 4, 2) := dk_21 4 (dk_at dksX3_takeBox_2 7 rfl rfl)
theorem dX3_takeBox_55 : decode cX3_takeBox 55 = .ok (.iload_n 1, 1) := dk_27 (dk_at dksX3_takeBox_2 9 rfl rfl)
theorem dX3_takeBox_56 : decode cX3_takeBox 56 = .ok (.if_icmp .le 10, 3) := dk_164 0 10 (dk_at dksX3_takeBox_2 10 rfl rfl)
theorem dX3_takeBox_59 : decode cX3_takeBox 59 = .ok (.iload 4, 2) := dk_21 4 (dk_at dksX3_takeBox_2 13 rfl rfl)
theorem dX3_takeBox_61 : decode cX3_takeBox 61 = .ok (.iconst 1, 1) := dk_4 (dk_at dksX3_takeBox_2 15 rfl rfl)
theorem dX3_takeBox_62 : decode cX3_takeBox 62 = .ok (.isub, 1) := dk_100 (dk_at dksX3_takeBox_2 16 rfl rfl)
theorem dX3_takeBox_63 : decode cX3_takeBox 63 = .ok (.goto 5, 3) := dk_167 0 5 (dk_at dksX3_takeBox_2 17 rfl rfl)
theorem dX3_takeBox_66 : decode cX3_takeBox 66 = .ok (.iload 4, 2) := dk_21 4 (dk_at dksX3_takeBox_2 20 rfl rfl)
theorem dX3_takeBox_68 : decode cX3_takeBox 68 = .ok (.invokevirtual 99, 3) := dk_182 0 99 (dk_at dksX3_takeBox_3 0 rfl rfl)
theorem dX3_takeBox_71 : decode cX3_takeBox 71 = .ok (.iinc 3 1, 3) := dk_132 3 1 (dk_at dksX3_takeBox_3 3 rfl rfl)
theorem dX3_takeBox_74 : decode cX3_takeBox 74 = .ok (.goto (-52), 3) := dk_167 255 204 (dk_at dksX3_takeBox_3 6 rfl rfl)
theorem dX3_takeBox_77 : decode cX3_takeBox 77 = .ok (.aload_n 0, 1) := dk_42 (dk_at dksX3_takeBox_3 9 rfl rfl)
theorem dX3_takeBox_78 : decode cX3_takeBox 78 = .ok (.getfield 7, 3) := dk_180 0 7 (dk_at dksX3_takeBox_3 10 rfl rfl)
theorem dX3_takeBox_81 : decode cX3_takeBox 81 = .ok (.iconst 2, 1) := dk_5 (dk_at dksX3_takeBox_3 13 rfl rfl)
theorem dX3_takeBox_82 : decode cX3_takeBox 82 = .ok (.dup2, 1) := dk_92 (dk_at dksX3_takeBox_3 14 rfl rfl)
theorem dX3_takeBox_83 : decode cX3_takeBox 83 = .ok (.iaload, 1) := dk_46 (dk_at dksX3_takeBox_3 15 rfl rfl)
theorem dX3_takeBox_84 : decode cX3_takeBox 84 = .ok (.iconst 1, 1) := dk_4 (dk_at dksX3_takeBox_3 16 rfl rfl)
theorem dX3_takeBox_85 : decode cX3_takeBox 85 = .ok (.isub, 1) := dk_100 (dk_at dksX3_takeBox_3 17 rfl rfl)
theorem dX3_takeBox_86 : decode cX3_takeBox 86 = .ok (.iastore, 1) := dk_79 (dk_at dksX3_takeBox_3 18 rfl rfl)
theorem dX3_takeBox_87 : decode cX3_takeBox 87 = .ok (.iload_n 1, 1) := dk_27 (dk_at dksX3_takeBox_3 19 rfl rfl)
theorem dX3_takeBox_88 : decode cX3_takeBox 88 = .ok (.istore_n 3, 1) := dk_62 (dk_at dksX3_takeBox_3 20 rfl rfl)
theorem dX3_takeBox_89 : decode cX3_takeBox 89 = .ok (.iload_n 3, 1) := dk_29 (dk_at dksX3_takeBox_3 21 rfl rfl)
theorem dX3_takeBox_90 : decode cX3_takeBox 90 = .ok (.aload_n 0, 1) := dk_42 (dk_at dksX3_takeBox_3 22 rfl rfl)
theorem dX3_takeBox_91 : decode cX3_takeBox 91 = .ok (.getfield 7, 3) := dk_180 0 7 (dk_at dksX3_takeBox_4 0 rfl rfl)
theorem dX3_takeBox_94 : decode cX3_takeBox 94 = .ok (.iconst 2, 1) := dk_5 (dk_at dksX3_takeBox_4 3 rfl rfl)
theorem dX3_takeBox_95 : decode cX3_takeBox 95 = .ok (.iaload, 1) := dk_46 (dk_at dksX3_takeBox_4 4 rfl rfl)
theorem dX3_takeBox_96 : decode cX3_takeBox 96 = .ok (.if_icmp .ge 31, 3) := dk_162 0 31 (dk_at dksX3_takeBox_4 5 rfl rfl)
theorem dX3_takeBox_99 : decode cX3_takeBox 99 = .ok (.aload_n 0, 1) := dk_42 (dk_at dksX3_takeBox_4 8 rfl rfl)
theorem dX3_takeBox_100 : decode cX3_takeBox 100 = .ok (.getfield 7, 3) := dk_180 0 7 (dk_at dksX3_takeBox_4 9 rfl rfl)
theorem dX3_takeBox_103 : decode cX3_takeBox 103 = .ok (.sipush 144, 3) := dk_17 0 144 (dk_at dksX3_takeBox_4 12 rfl rfl)
theorem dX3_takeBox_106 : decode cX3_takeBox 106 = .ok (.iload_n 3, 1) := dk_29 (dk_at dksX3_takeBox_4 15 rfl rfl)
theorem dX3_takeBox_107 : decode cX3_takeBox 107 = .ok (.iadd, 1) := dk_96 (dk_at dksX3_takeBox_4 16 rfl rfl)
theorem dX3_takeBox_108 : decode cX3_takeBox 108 = .ok (.aload_n 0, 1) := dk_42 (dk_at dksX3_takeBox_4 17 rfl rfl)
theorem dX3_takeBox_109 : decode cX3_takeBox 109 = .ok (.getfield 7, 3) := dk_180 0 7 (dk_at dksX3_takeBox_4 18 rfl rfl)
theorem dX3_takeBox_112 : decode cX3_takeBox 112 = .ok (.sipush 144, 3) := dk_17 0 144 (dk_at dksX3_takeBox_4 21 rfl rfl)
theorem dX3_takeBox_115 : decode cX3_takeBox 115 = .ok (.iload_n 3, 1) := dk_29 (dk_at dksX3_takeBox_5 0 rfl rfl)
theorem dX3_takeBox_116 : decode cX3_takeBox 116 = .ok (.iadd, 1) := dk_96 (dk_at dksX3_takeBox_5 1 rfl rfl)
theorem dX3_takeBox_117 : decode cX3_takeBox 117 = .ok (.iconst 1, 1) := dk_4 (dk_at dksX3_takeBox_5 2 rfl rfl)
theorem dX3_takeBox_118 : decode cX3_takeBox 118 = .ok (.iadd, 1) := dk_96 (dk_at dksX3_takeBox_5 3 rfl rfl)
theorem dX3_takeBox_119 : decode cX3_takeBox 119 = .ok (.iaload, 1) := dk_46 (dk_at dksX3_takeBox_5 4 rfl rfl)
theorem dX3_takeBox_120 : decode cX3_takeBox 120 = .ok (.iastore, 1) := dk_79 (dk_at dksX3_takeBox_5 5 rfl rfl)
theorem dX3_takeBox_121 : decode cX3_takeBox 121 = .ok (.iinc 3 1, 3) := dk_132 3 1 (dk_at dksX3_takeBox_5 6 rfl rfl)
theorem dX3_takeBox_124 : decode cX3_takeBox 124 = .ok (.goto (-35), 3) := dk_167 255 221 (dk_at dksX3_takeBox_5 9 rfl rfl)
theorem dX3_takeBox_127 : decode cX3_takeBox 127 = .ok (.aload_n 0, 1) := dk_42 (dk_at dksX3_takeBox_5 12 rfl rfl)
theorem dX3_takeBox_128 : decode cX3_takeBox 128 = .ok (.getfield 7, 3) := dk_180 0 7 (dk_at dksX3_takeBox_5 13 rfl rfl)
theorem dX3_takeBox_131 : decode cX3_takeBox 131 = .ok (.sipush 144, 3) := dk_17 0 144 (dk_at dksX3_takeBox_5 16 rfl rfl)
theorem dX3_takeBox_134 : decode cX3_takeBox 134 = .ok (.aload_n 0, 1) := dk_42 (dk_at dksX3_takeBox_5 19 rfl rfl)
theorem dX3_takeBox_135 : decode cX3_takeBox 135 = .ok (.getfield 7, 3) := dk_180 0 7 (dk_at dksX3_takeBox_5 20 rfl rfl)
theorem dX3_takeBox_138 : decode cX3_takeBox 138 = .ok (.iconst 2, 1) := dk_5 (dk_at dksX3_takeBox_5 23 rfl rfl)
theorem dX3_takeBox_139 : decode cX3_takeBox 139 = .ok (.iaload, 1) := dk_46 (dk_at dksX3_takeBox_6 0 rfl rfl)
theorem dX3_takeBox_140 : decode cX3_takeBox 140 = .ok (.iadd, 1) := dk_96 (dk_at dksX3_takeBox_6 1 rfl rfl)
theorem dX3_takeBox_141 : decode cX3_takeBox 141 = .ok (.iconst 0, 1) := dk_3 (dk_at dksX3_takeBox_6 2 rfl rfl)
theorem dX3_takeBox_142 : decode cX3_takeBox 142 = .ok (.iastore, 1) := dk_79 (dk_at dksX3_takeBox_6 3 rfl rfl)
theorem dX3_takeBox_143 : decode cX3_takeBox 143 = .ok (.iload_n 2, 1) := dk_28 (dk_at dksX3_takeBox_6 4 rfl rfl)
theorem dX3_takeBox_144 : decode cX3_takeBox 144 = .ok (.ireturn, 1) := dk_172 (dk_at dksX3_takeBox_6 5 rfl rfl)
abbrev cX3_asksBox : ByteArray := prog_9_method_40_code
def yX3_asksBox : MethodName := ⟨RX3, "asksBox", "(I)Z"⟩
def dkwX3_asksBox_1 : List UInt8 := [4, 167, 0, 4, 3, 172]
abbrev dktX3_asksBox_1 : List UInt8 := dkwX3_asksBox_1 ++ []
def dkwX3_asksBox_0 : List UInt8 := [42, 42, 27, 182, 0, 123, 153, 0, 7, 3, 167, 0, 4, 4, 181, 0, 35, 42, 180, 0, 35, 154, 0, 7]
abbrev dktX3_asksBox_0 : List UInt8 := dkwX3_asksBox_0 ++ dktX3_asksBox_1
theorem dksX3_asksBox_0 : cX3_asksBox.data.toList.drop 0 = dktX3_asksBox_0 := by decide +kernel
theorem dksX3_asksBox_1 : cX3_asksBox.data.toList.drop 24 = dktX3_asksBox_1 := dk_seg dksX3_asksBox_0 24 rfl rfl
theorem dX3_asksBox_0 : decode cX3_asksBox 0 = .ok (.aload_n 0, 1) := dk_42 (dk_at dksX3_asksBox_0 0 rfl rfl)
theorem dX3_asksBox_1 : decode cX3_asksBox 1 = .ok (.aload_n 0, 1) := dk_42 (dk_at dksX3_asksBox_0 1 rfl rfl)
theorem dX3_asksBox_2 : decode cX3_asksBox 2 = .ok (.iload_n 1, 1) := dk_27 (dk_at dksX3_asksBox_0 2 rfl rfl)
theorem dX3_asksBox_3 : decode cX3_asksBox 3 = .ok (.invokevirtual 123, 3) := dk_182 0 123 (dk_at dksX3_asksBox_0 3 rfl rfl)
theorem dX3_asksBox_6 : decode cX3_asksBox 6 = .ok (.ifCond .eq 7, 3) := dk_153 0 7 (dk_at dksX3_asksBox_0 6 rfl rfl)
theorem dX3_asksBox_9 : decode cX3_asksBox 9 = .ok (.iconst 0, 1) := dk_3 (dk_at dksX3_asksBox_0 9 rfl rfl)
theorem dX3_asksBox_10 : decode cX3_asksBox 10 = .ok (.goto 4, 3) := dk_167 0 4 (dk_at dksX3_asksBox_0 10 rfl rfl)
theorem dX3_asksBox_13 : decode cX3_asksBox 13 = .ok (.iconst 1, 1) := dk_4 (dk_at dksX3_asksBox_0 13 rfl rfl)
theorem dX3_asksBox_14 : decode cX3_asksBox 14 = .ok (.putfield 35, 3) := dk_181 0 35 (dk_at dksX3_asksBox_0 14 rfl rfl)
theorem dX3_asksBox_17 : decode cX3_asksBox 17 = .ok (.aload_n 0, 1) := dk_42 (dk_at dksX3_asksBox_0 17 rfl rfl)
theorem dX3_asksBox_18 : decode cX3_asksBox 18 = .ok (.getfield 35, 3) := dk_180 0 35 (dk_at dksX3_asksBox_0 18 rfl rfl)
theorem dX3_asksBox_21 : decode cX3_asksBox 21 = .ok (.ifCond .ne 7, 3) := dk_154 0 7 (dk_at dksX3_asksBox_0 21 rfl rfl)
theorem dX3_asksBox_24 : decode cX3_asksBox 24 = .ok (.iconst 1, 1) := dk_4 (dk_at dksX3_asksBox_1 0 rfl rfl)
theorem dX3_asksBox_25 : decode cX3_asksBox 25 = .ok (.goto 4, 3) := dk_167 0 4 (dk_at dksX3_asksBox_1 1 rfl rfl)
theorem dX3_asksBox_28 : decode cX3_asksBox 28 = .ok (.iconst 0, 1) := dk_3 (dk_at dksX3_asksBox_1 4 rfl rfl)
theorem dX3_asksBox_29 : decode cX3_asksBox 29 = .ok (.ireturn, 1) := dk_172 (dk_at dksX3_asksBox_1 5 rfl rfl)
abbrev cX3_isBox : ByteArray := prog_9_method_26_code
def yX3_isBox : MethodName := ⟨RX3, "isBox", "(I)Z"⟩
def dkwX3_isBox_0 : List UInt8 := [27, 3, 42, 180, 0, 7, 5, 46, 4, 100, 184, 0, 42, 172]
abbrev dktX3_isBox_0 : List UInt8 := dkwX3_isBox_0 ++ []
theorem dksX3_isBox_0 : cX3_isBox.data.toList.drop 0 = dktX3_isBox_0 := by decide +kernel
theorem dX3_isBox_0 : decode cX3_isBox 0 = .ok (.iload_n 1, 1) := dk_27 (dk_at dksX3_isBox_0 0 rfl rfl)
theorem dX3_isBox_1 : decode cX3_isBox 1 = .ok (.iconst 0, 1) := dk_3 (dk_at dksX3_isBox_0 1 rfl rfl)
theorem dX3_isBox_2 : decode cX3_isBox 2 = .ok (.aload_n 0, 1) := dk_42 (dk_at dksX3_isBox_0 2 rfl rfl)
theorem dX3_isBox_3 : decode cX3_isBox 3 = .ok (.getfield 7, 3) := dk_180 0 7 (dk_at dksX3_isBox_0 3 rfl rfl)
theorem dX3_isBox_6 : decode cX3_isBox 6 = .ok (.iconst 2, 1) := dk_5 (dk_at dksX3_isBox_0 6 rfl rfl)
theorem dX3_isBox_7 : decode cX3_isBox 7 = .ok (.iaload, 1) := dk_46 (dk_at dksX3_isBox_0 7 rfl rfl)
theorem dX3_isBox_8 : decode cX3_isBox 8 = .ok (.iconst 1, 1) := dk_4 (dk_at dksX3_isBox_0 8 rfl rfl)
theorem dX3_isBox_9 : decode cX3_isBox 9 = .ok (.isub, 1) := dk_100 (dk_at dksX3_isBox_0 9 rfl rfl)
theorem dX3_isBox_10 : decode cX3_isBox 10 = .ok (.invokestatic 42, 3) := dk_184 0 42 (dk_at dksX3_isBox_0 10 rfl rfl)
theorem dX3_isBox_13 : decode cX3_isBox 13 = .ok (.ireturn, 1) := dk_172 (dk_at dksX3_isBox_0 13 rfl rfl)
abbrev cX3_many : ByteArray := prog_9_method_28_code
def yX3_many : MethodName := ⟨RX3, "many", "(I)I"⟩
def dkwX3_many_1 : List UInt8 := [160, 0, 7, 3, 167, 0, 4, 4, 96, 172]
abbrev dktX3_many_1 : List UInt8 := dkwX3_many_1 ++ []
def dkwX3_many_0 : List UInt8 := [42, 27, 3, 182, 0, 96, 2, 160, 0, 7, 3, 167, 0, 4, 4, 42, 27, 4, 182, 0, 96, 2]
abbrev dktX3_many_0 : List UInt8 := dkwX3_many_0 ++ dktX3_many_1
theorem dksX3_many_0 : cX3_many.data.toList.drop 0 = dktX3_many_0 := by decide +kernel
theorem dksX3_many_1 : cX3_many.data.toList.drop 22 = dktX3_many_1 := dk_seg dksX3_many_0 22 rfl rfl
theorem dX3_many_0 : decode cX3_many 0 = .ok (.aload_n 0, 1) := dk_42 (dk_at dksX3_many_0 0 rfl rfl)
theorem dX3_many_1 : decode cX3_many 1 = .ok (.iload_n 1, 1) := dk_27 (dk_at dksX3_many_0 1 rfl rfl)
theorem dX3_many_2 : decode cX3_many 2 = .ok (.iconst 0, 1) := dk_3 (dk_at dksX3_many_0 2 rfl rfl)
theorem dX3_many_3 : decode cX3_many 3 = .ok (.invokevirtual 96, 3) := dk_182 0 96 (dk_at dksX3_many_0 3 rfl rfl)
theorem dX3_many_6 : decode cX3_many 6 = .ok (.iconst (-1), 1) := dk_2 (dk_at dksX3_many_0 6 rfl rfl)
theorem dX3_many_7 : decode cX3_many 7 = .ok (.if_icmp .ne 7, 3) := dk_160 0 7 (dk_at dksX3_many_0 7 rfl rfl)
theorem dX3_many_10 : decode cX3_many 10 = .ok (.iconst 0, 1) := dk_3 (dk_at dksX3_many_0 10 rfl rfl)
theorem dX3_many_11 : decode cX3_many 11 = .ok (.goto 4, 3) := dk_167 0 4 (dk_at dksX3_many_0 11 rfl rfl)
theorem dX3_many_14 : decode cX3_many 14 = .ok (.iconst 1, 1) := dk_4 (dk_at dksX3_many_0 14 rfl rfl)
theorem dX3_many_15 : decode cX3_many 15 = .ok (.aload_n 0, 1) := dk_42 (dk_at dksX3_many_0 15 rfl rfl)
theorem dX3_many_16 : decode cX3_many 16 = .ok (.iload_n 1, 1) := dk_27 (dk_at dksX3_many_0 16 rfl rfl)
theorem dX3_many_17 : decode cX3_many 17 = .ok (.iconst 1, 1) := dk_4 (dk_at dksX3_many_0 17 rfl rfl)
theorem dX3_many_18 : decode cX3_many 18 = .ok (.invokevirtual 96, 3) := dk_182 0 96 (dk_at dksX3_many_0 18 rfl rfl)
theorem dX3_many_21 : decode cX3_many 21 = .ok (.iconst (-1), 1) := dk_2 (dk_at dksX3_many_0 21 rfl rfl)
theorem dX3_many_22 : decode cX3_many 22 = .ok (.if_icmp .ne 7, 3) := dk_160 0 7 (dk_at dksX3_many_1 0 rfl rfl)
theorem dX3_many_25 : decode cX3_many 25 = .ok (.iconst 0, 1) := dk_3 (dk_at dksX3_many_1 3 rfl rfl)
theorem dX3_many_26 : decode cX3_many 26 = .ok (.goto 4, 3) := dk_167 0 4 (dk_at dksX3_many_1 4 rfl rfl)
theorem dX3_many_29 : decode cX3_many 29 = .ok (.iconst 1, 1) := dk_4 (dk_at dksX3_many_1 7 rfl rfl)
theorem dX3_many_30 : decode cX3_many 30 = .ok (.iadd, 1) := dk_96 (dk_at dksX3_many_1 8 rfl rfl)
theorem dX3_many_31 : decode cX3_many 31 = .ok (.ireturn, 1) := dk_172 (dk_at dksX3_many_1 9 rfl rfl)
abbrev cX3_owlIn : ByteArray := prog_9_method_27_code
def yX3_owlIn : MethodName := ⟨RX3, "owlIn", "(II)I"⟩
def dkwX3_owlIn_2 : List UInt8 := [167, 255, 213, 29, 172]
abbrev dktX3_owlIn_2 : List UInt8 := dkwX3_owlIn_2 ++ []
def dkwX3_owlIn_1 : List UInt8 := [160, 0, 19, 42, 21, 4, 4, 182, 0, 93, 28, 160, 0, 8, 21, 4, 167, 0, 4, 29, 62, 132, 4, 1]
abbrev dktX3_owlIn_1 : List UInt8 := dkwX3_owlIn_1 ++ dktX3_owlIn_2
def dkwX3_owlIn_0 : List UInt8 := [2, 62, 3, 54, 4, 21, 4, 42, 180, 0, 7, 6, 46, 162, 0, 38, 42, 21, 4, 8, 182, 0, 93, 27]
abbrev dktX3_owlIn_0 : List UInt8 := dkwX3_owlIn_0 ++ dktX3_owlIn_1
theorem dksX3_owlIn_0 : cX3_owlIn.data.toList.drop 0 = dktX3_owlIn_0 := by decide +kernel
theorem dksX3_owlIn_1 : cX3_owlIn.data.toList.drop 24 = dktX3_owlIn_1 := dk_seg dksX3_owlIn_0 24 rfl rfl
theorem dksX3_owlIn_2 : cX3_owlIn.data.toList.drop 48 = dktX3_owlIn_2 := dk_seg dksX3_owlIn_1 24 rfl rfl
theorem dX3_owlIn_0 : decode cX3_owlIn 0 = .ok (.iconst (-1), 1) := dk_2 (dk_at dksX3_owlIn_0 0 rfl rfl)
theorem dX3_owlIn_1 : decode cX3_owlIn 1 = .ok (.istore_n 3, 1) := dk_62 (dk_at dksX3_owlIn_0 1 rfl rfl)
theorem dX3_owlIn_2 : decode cX3_owlIn 2 = .ok (.iconst 0, 1) := dk_3 (dk_at dksX3_owlIn_0 2 rfl rfl)
theorem dX3_owlIn_3 : decode cX3_owlIn 3 = .ok (.istore 4, 2) := dk_54 4 (dk_at dksX3_owlIn_0 3 rfl rfl)
theorem dX3_owlIn_5 : decode cX3_owlIn 5 = .ok (.iload 4, 2) := dk_21 4 (dk_at dksX3_owlIn_0 5 rfl rfl)
theorem dX3_owlIn_7 : decode cX3_owlIn 7 = .ok (.aload_n 0, 1) := dk_42 (dk_at dksX3_owlIn_0 7 rfl rfl)
theorem dX3_owlIn_8 : decode cX3_owlIn 8 = .ok (.getfield 7, 3) := dk_180 0 7 (dk_at dksX3_owlIn_0 8 rfl rfl)
theorem dX3_owlIn_11 : decode cX3_owlIn 11 = .ok (.iconst 3, 1) := dk_6 (dk_at dksX3_owlIn_0 11 rfl rfl)
theorem dX3_owlIn_12 : decode cX3_owlIn 12 = .ok (.iaload, 1) := dk_46 (dk_at dksX3_owlIn_0 12 rfl rfl)
theorem dX3_owlIn_13 : decode cX3_owlIn 13 = .ok (.if_icmp .ge 38, 3) := dk_162 0 38 (dk_at dksX3_owlIn_0 13 rfl rfl)
theorem dX3_owlIn_16 : decode cX3_owlIn 16 = .ok (.aload_n 0, 1) := dk_42 (dk_at dksX3_owlIn_0 16 rfl rfl)
theorem dX3_owlIn_17 : decode cX3_owlIn 17 = .ok (.iload 4, 2) := dk_21 4 (dk_at dksX3_owlIn_0 17 rfl rfl)
theorem dX3_owlIn_19 : decode cX3_owlIn 19 = .ok (.iconst 5, 1) := dk_8 (dk_at dksX3_owlIn_0 19 rfl rfl)
theorem dX3_owlIn_20 : decode cX3_owlIn 20 = .ok (.invokevirtual 93, 3) := dk_182 0 93 (dk_at dksX3_owlIn_0 20 rfl rfl)
theorem dX3_owlIn_23 : decode cX3_owlIn 23 = .ok (.iload_n 1, 1) := dk_27 (dk_at dksX3_owlIn_0 23 rfl rfl)
theorem dX3_owlIn_24 : decode cX3_owlIn 24 = .ok (.if_icmp .ne 19, 3) := dk_160 0 19 (dk_at dksX3_owlIn_1 0 rfl rfl)
theorem dX3_owlIn_27 : decode cX3_owlIn 27 = .ok (.aload_n 0, 1) := dk_42 (dk_at dksX3_owlIn_1 3 rfl rfl)
theorem dX3_owlIn_28 : decode cX3_owlIn 28 = .ok (.iload 4, 2) := dk_21 4 (dk_at dksX3_owlIn_1 4 rfl rfl)
theorem dX3_owlIn_30 : decode cX3_owlIn 30 = .ok (.iconst 1, 1) := dk_4 (dk_at dksX3_owlIn_1 6 rfl rfl)
theorem dX3_owlIn_31 : decode cX3_owlIn 31 = .ok (.invokevirtual 93, 3) := dk_182 0 93 (dk_at dksX3_owlIn_1 7 rfl rfl)
theorem dX3_owlIn_34 : decode cX3_owlIn 34 = .ok (.iload_n 2, 1) := dk_28 (dk_at dksX3_owlIn_1 10 rfl rfl)
theorem dX3_owlIn_35 : decode cX3_owlIn 35 = .ok (.if_icmp .ne 8, 3) := dk_160 0 8 (dk_at dksX3_owlIn_1 11 rfl rfl)
theorem dX3_owlIn_38 : decode cX3_owlIn 38 = .ok (.iload 4, 2) := dk_21 4 (dk_at dksX3_owlIn_1 14 rfl rfl)
theorem dX3_owlIn_40 : decode cX3_owlIn 40 = .ok (.goto 4, 3) := dk_167 0 4 (dk_at dksX3_owlIn_1 16 rfl rfl)
theorem dX3_owlIn_43 : decode cX3_owlIn 43 = .ok (.iload_n 3, 1) := dk_29 (dk_at dksX3_owlIn_1 19 rfl rfl)
theorem dX3_owlIn_44 : decode cX3_owlIn 44 = .ok (.istore_n 3, 1) := dk_62 (dk_at dksX3_owlIn_1 20 rfl rfl)
theorem dX3_owlIn_45 : decode cX3_owlIn 45 = .ok (.iinc 4 1, 3) := dk_132 4 1 (dk_at dksX3_owlIn_1 21 rfl rfl)
theorem dX3_owlIn_48 : decode cX3_owlIn 48 = .ok (.goto (-43), 3) := dk_167 255 213 (dk_at dksX3_owlIn_2 0 rfl rfl)
theorem dX3_owlIn_51 : decode cX3_owlIn 51 = .ok (.iload_n 3, 1) := dk_29 (dk_at dksX3_owlIn_2 3 rfl rfl)
theorem dX3_owlIn_52 : decode cX3_owlIn 52 = .ok (.ireturn, 1) := dk_172 (dk_at dksX3_owlIn_2 4 rfl rfl)
abbrev cX3_of : ByteArray := prog_9_method_24_code
def yX3_of : MethodName := ⟨RX3, "of", "(II)I"⟩
def dkwX3_of_0 : List UInt8 := [42, 180, 0, 7, 17, 0, 154, 16, 6, 27, 104, 96, 28, 96, 46, 172]
abbrev dktX3_of_0 : List UInt8 := dkwX3_of_0 ++ []
theorem dksX3_of_0 : cX3_of.data.toList.drop 0 = dktX3_of_0 := by decide +kernel
theorem dX3_of_0 : decode cX3_of 0 = .ok (.aload_n 0, 1) := dk_42 (dk_at dksX3_of_0 0 rfl rfl)
theorem dX3_of_1 : decode cX3_of 1 = .ok (.getfield 7, 3) := dk_180 0 7 (dk_at dksX3_of_0 1 rfl rfl)
theorem dX3_of_4 : decode cX3_of 4 = .ok (.sipush 154, 3) := dk_17 0 154 (dk_at dksX3_of_0 4 rfl rfl)
theorem dX3_of_7 : decode cX3_of 7 = .ok (.bipush 6, 2) := dk_16 6 (dk_at dksX3_of_0 7 rfl rfl)
theorem dX3_of_9 : decode cX3_of 9 = .ok (.iload_n 1, 1) := dk_27 (dk_at dksX3_of_0 9 rfl rfl)
theorem dX3_of_10 : decode cX3_of 10 = .ok (.imul, 1) := dk_104 (dk_at dksX3_of_0 10 rfl rfl)
theorem dX3_of_11 : decode cX3_of 11 = .ok (.iadd, 1) := dk_96 (dk_at dksX3_of_0 11 rfl rfl)
theorem dX3_of_12 : decode cX3_of 12 = .ok (.iload_n 2, 1) := dk_28 (dk_at dksX3_of_0 12 rfl rfl)
theorem dX3_of_13 : decode cX3_of 13 = .ok (.iadd, 1) := dk_96 (dk_at dksX3_of_0 13 rfl rfl)
theorem dX3_of_14 : decode cX3_of 14 = .ok (.iaload, 1) := dk_46 (dk_at dksX3_of_0 14 rfl rfl)
theorem dX3_of_15 : decode cX3_of 15 = .ok (.ireturn, 1) := dk_172 (dk_at dksX3_of_0 15 rfl rfl)
abbrev cX3_puts : ByteArray := prog_9_method_25_code
def yX3_puts : MethodName := ⟨RX3, "puts", "(III)V"⟩
def dkwX3_puts_0 : List UInt8 := [42, 180, 0, 7, 17, 0, 154, 16, 6, 27, 104, 96, 28, 96, 29, 79, 177]
abbrev dktX3_puts_0 : List UInt8 := dkwX3_puts_0 ++ []
theorem dksX3_puts_0 : cX3_puts.data.toList.drop 0 = dktX3_puts_0 := by decide +kernel
theorem dX3_puts_0 : decode cX3_puts 0 = .ok (.aload_n 0, 1) := dk_42 (dk_at dksX3_puts_0 0 rfl rfl)
theorem dX3_puts_1 : decode cX3_puts 1 = .ok (.getfield 7, 3) := dk_180 0 7 (dk_at dksX3_puts_0 1 rfl rfl)
theorem dX3_puts_4 : decode cX3_puts 4 = .ok (.sipush 154, 3) := dk_17 0 154 (dk_at dksX3_puts_0 4 rfl rfl)
theorem dX3_puts_7 : decode cX3_puts 7 = .ok (.bipush 6, 2) := dk_16 6 (dk_at dksX3_puts_0 7 rfl rfl)
theorem dX3_puts_9 : decode cX3_puts 9 = .ok (.iload_n 1, 1) := dk_27 (dk_at dksX3_puts_0 9 rfl rfl)
theorem dX3_puts_10 : decode cX3_puts 10 = .ok (.imul, 1) := dk_104 (dk_at dksX3_puts_0 10 rfl rfl)
theorem dX3_puts_11 : decode cX3_puts 11 = .ok (.iadd, 1) := dk_96 (dk_at dksX3_puts_0 11 rfl rfl)
theorem dX3_puts_12 : decode cX3_puts 12 = .ok (.iload_n 2, 1) := dk_28 (dk_at dksX3_puts_0 12 rfl rfl)
theorem dX3_puts_13 : decode cX3_puts 13 = .ok (.iadd, 1) := dk_96 (dk_at dksX3_puts_0 13 rfl rfl)
theorem dX3_puts_14 : decode cX3_puts 14 = .ok (.iload_n 3, 1) := dk_29 (dk_at dksX3_puts_0 14 rfl rfl)
theorem dX3_puts_15 : decode cX3_puts 15 = .ok (.iastore, 1) := dk_79 (dk_at dksX3_puts_0 15 rfl rfl)
theorem dX3_puts_16 : decode cX3_puts 16 = .ok (.return_, 1) := dk_177 (dk_at dksX3_puts_0 16 rfl rfl)
abbrev cX3_letIn : ByteArray := prog_9_method_45_code
def yX3_letIn : MethodName := ⟨RX3, "letIn", "(III)I"⟩
def dkwX3_letIn_2 : List UInt8 := [181, 0, 35, 42, 180, 0, 35, 158, 0, 5, 3, 172, 42, 182, 0, 79, 42, 27, 28, 29, 182, 0, 139, 172]
abbrev dktX3_letIn_2 : List UInt8 := dkwX3_letIn_2 ++ []
def dkwX3_letIn_1 : List UInt8 := [184, 0, 42, 154, 0, 7, 5, 167, 0, 17, 42, 27, 28, 182, 0, 136, 153, 0, 7, 3, 167, 0, 4, 6]
abbrev dktX3_letIn_1 : List UInt8 := dkwX3_letIn_1 ++ dktX3_letIn_2
def dkwX3_letIn_0 : List UInt8 := [42, 42, 27, 182, 0, 123, 154, 0, 7, 4, 167, 0, 38, 28, 184, 0, 133, 153, 0, 13, 29, 3, 16, 9]
abbrev dktX3_letIn_0 : List UInt8 := dkwX3_letIn_0 ++ dktX3_letIn_1
theorem dksX3_letIn_0 : cX3_letIn.data.toList.drop 0 = dktX3_letIn_0 := by decide +kernel
theorem dksX3_letIn_1 : cX3_letIn.data.toList.drop 24 = dktX3_letIn_1 := dk_seg dksX3_letIn_0 24 rfl rfl
theorem dksX3_letIn_2 : cX3_letIn.data.toList.drop 48 = dktX3_letIn_2 := dk_seg dksX3_letIn_1 24 rfl rfl
theorem dX3_letIn_0 : decode cX3_letIn 0 = .ok (.aload_n 0, 1) := dk_42 (dk_at dksX3_letIn_0 0 rfl rfl)
theorem dX3_letIn_1 : decode cX3_letIn 1 = .ok (.aload_n 0, 1) := dk_42 (dk_at dksX3_letIn_0 1 rfl rfl)
theorem dX3_letIn_2 : decode cX3_letIn 2 = .ok (.iload_n 1, 1) := dk_27 (dk_at dksX3_letIn_0 2 rfl rfl)
theorem dX3_letIn_3 : decode cX3_letIn 3 = .ok (.invokevirtual 123, 3) := dk_182 0 123 (dk_at dksX3_letIn_0 3 rfl rfl)
theorem dX3_letIn_6 : decode cX3_letIn 6 = .ok (.ifCond .ne 7, 3) := dk_154 0 7 (dk_at dksX3_letIn_0 6 rfl rfl)
theorem dX3_letIn_9 : decode cX3_letIn 9 = .ok (.iconst 1, 1) := dk_4 (dk_at dksX3_letIn_0 9 rfl rfl)
theorem dX3_letIn_10 : decode cX3_letIn 10 = .ok (.goto 38, 3) := dk_167 0 38 (dk_at dksX3_letIn_0 10 rfl rfl)
theorem dX3_letIn_13 : decode cX3_letIn 13 = .ok (.iload_n 2, 1) := dk_28 (dk_at dksX3_letIn_0 13 rfl rfl)
theorem dX3_letIn_14 : decode cX3_letIn 14 = .ok (.invokestatic 133, 3) := dk_184 0 133 (dk_at dksX3_letIn_0 14 rfl rfl)
theorem dX3_letIn_17 : decode cX3_letIn 17 = .ok (.ifCond .eq 13, 3) := dk_153 0 13 (dk_at dksX3_letIn_0 17 rfl rfl)
theorem dX3_letIn_20 : decode cX3_letIn 20 = .ok (.iload_n 3, 1) := dk_29 (dk_at dksX3_letIn_0 20 rfl rfl)
theorem dX3_letIn_21 : decode cX3_letIn 21 = .ok (.iconst 0, 1) := dk_3 (dk_at dksX3_letIn_0 21 rfl rfl)
theorem dX3_letIn_22 : decode cX3_letIn 22 = .ok (.bipush 9, 2) := dk_16 9 (dk_at dksX3_letIn_0 22 rfl rfl)
theorem dX3_letIn_24 : decode cX3_letIn 24 = .ok (.invokestatic 42, 3) := dk_184 0 42 (dk_at dksX3_letIn_1 0 rfl rfl)
theorem dX3_letIn_27 : decode cX3_letIn 27 = .ok (.ifCond .ne 7, 3) := dk_154 0 7 (dk_at dksX3_letIn_1 3 rfl rfl)
theorem dX3_letIn_30 : decode cX3_letIn 30 = .ok (.iconst 2, 1) := dk_5 (dk_at dksX3_letIn_1 6 rfl rfl)
theorem dX3_letIn_31 : decode cX3_letIn 31 = .ok (.goto 17, 3) := dk_167 0 17 (dk_at dksX3_letIn_1 7 rfl rfl)
theorem dX3_letIn_34 : decode cX3_letIn 34 = .ok (.aload_n 0, 1) := dk_42 (dk_at dksX3_letIn_1 10 rfl rfl)
theorem dX3_letIn_35 : decode cX3_letIn 35 = .ok (.iload_n 1, 1) := dk_27 (dk_at dksX3_letIn_1 11 rfl rfl)
theorem dX3_letIn_36 : decode cX3_letIn 36 = .ok (.iload_n 2, 1) := dk_28 (dk_at dksX3_letIn_1 12 rfl rfl)
theorem dX3_letIn_37 : decode cX3_letIn 37 = .ok (.invokevirtual 136, 3) := dk_182 0 136 (dk_at dksX3_letIn_1 13 rfl rfl)
theorem dX3_letIn_40 : decode cX3_letIn 40 = .ok (.ifCond .eq 7, 3) := dk_153 0 7 (dk_at dksX3_letIn_1 16 rfl rfl)
theorem dX3_letIn_43 : decode cX3_letIn 43 = .ok (.iconst 0, 1) := dk_3 (dk_at dksX3_letIn_1 19 rfl rfl)
theorem dX3_letIn_44 : decode cX3_letIn 44 = .ok (.goto 4, 3) := dk_167 0 4 (dk_at dksX3_letIn_1 20 rfl rfl)
theorem dX3_letIn_47 : decode cX3_letIn 47 = .ok (.iconst 3, 1) := dk_6 (dk_at dksX3_letIn_1 23 rfl rfl)
theorem dX3_letIn_48 : decode cX3_letIn 48 = .ok (.putfield 35, 3) := dk_181 0 35 (dk_at dksX3_letIn_2 0 rfl rfl)
theorem dX3_letIn_51 : decode cX3_letIn 51 = .ok (.aload_n 0, 1) := dk_42 (dk_at dksX3_letIn_2 3 rfl rfl)
theorem dX3_letIn_52 : decode cX3_letIn 52 = .ok (.getfield 35, 3) := dk_180 0 35 (dk_at dksX3_letIn_2 4 rfl rfl)
theorem dX3_letIn_55 : decode cX3_letIn 55 = .ok (.ifCond .le 5, 3) := dk_158 0 5 (dk_at dksX3_letIn_2 7 rfl rfl)
theorem dX3_letIn_58 : decode cX3_letIn 58 = .ok (.iconst 0, 1) := dk_3 (dk_at dksX3_letIn_2 10 rfl rfl)
theorem dX3_letIn_59 : decode cX3_letIn 59 = .ok (.ireturn, 1) := dk_172 (dk_at dksX3_letIn_2 11 rfl rfl)
theorem dX3_letIn_60 : decode cX3_letIn 60 = .ok (.aload_n 0, 1) := dk_42 (dk_at dksX3_letIn_2 12 rfl rfl)
theorem dX3_letIn_61 : decode cX3_letIn 61 = .ok (.invokevirtual 79, 3) := dk_182 0 79 (dk_at dksX3_letIn_2 13 rfl rfl)
theorem dX3_letIn_64 : decode cX3_letIn 64 = .ok (.aload_n 0, 1) := dk_42 (dk_at dksX3_letIn_2 16 rfl rfl)
theorem dX3_letIn_65 : decode cX3_letIn 65 = .ok (.iload_n 1, 1) := dk_27 (dk_at dksX3_letIn_2 17 rfl rfl)
theorem dX3_letIn_66 : decode cX3_letIn 66 = .ok (.iload_n 2, 1) := dk_28 (dk_at dksX3_letIn_2 18 rfl rfl)
theorem dX3_letIn_67 : decode cX3_letIn 67 = .ok (.iload_n 3, 1) := dk_29 (dk_at dksX3_letIn_2 19 rfl rfl)
theorem dX3_letIn_68 : decode cX3_letIn 68 = .ok (.invokevirtual 139, 3) := dk_182 0 139 (dk_at dksX3_letIn_2 20 rfl rfl)
theorem dX3_letIn_71 : decode cX3_letIn 71 = .ok (.ireturn, 1) := dk_172 (dk_at dksX3_letIn_2 23 rfl rfl)
abbrev cX3_isSex : ByteArray := prog_9_method_44_code
def yX3_isSex : MethodName := ⟨RX3, "isSex", "(I)Z"⟩
def dkwX3_isSex_0 : List UInt8 := [26, 3, 4, 184, 0, 42, 172]
abbrev dktX3_isSex_0 : List UInt8 := dkwX3_isSex_0 ++ []
theorem dksX3_isSex_0 : cX3_isSex.data.toList.drop 0 = dktX3_isSex_0 := by decide +kernel
theorem dX3_isSex_0 : decode cX3_isSex 0 = .ok (.iload_n 0, 1) := dk_26 (dk_at dksX3_isSex_0 0 rfl rfl)
theorem dX3_isSex_1 : decode cX3_isSex 1 = .ok (.iconst 0, 1) := dk_3 (dk_at dksX3_isSex_0 1 rfl rfl)
theorem dX3_isSex_2 : decode cX3_isSex 2 = .ok (.iconst 1, 1) := dk_4 (dk_at dksX3_isSex_0 2 rfl rfl)
theorem dX3_isSex_3 : decode cX3_isSex 3 = .ok (.invokestatic 42, 3) := dk_184 0 42 (dk_at dksX3_isSex_0 3 rfl rfl)
theorem dX3_isSex_6 : decode cX3_isSex 6 = .ok (.ireturn, 1) := dk_172 (dk_at dksX3_isSex_0 6 rfl rfl)
abbrev cX3_canLetIn : ByteArray := prog_9_method_42_code
def yX3_canLetIn : MethodName := ⟨RX3, "canLetIn", "(II)Z"⟩
def dkwX3_canLetIn_1 : List UInt8 := [167, 0, 4, 3, 172]
abbrev dktX3_canLetIn_1 : List UInt8 := dkwX3_canLetIn_1 ++ []
def dkwX3_canLetIn_0 : List UInt8 := [42, 180, 0, 7, 6, 46, 16, 40, 162, 0, 17, 42, 27, 28, 182, 0, 96, 2, 160, 0, 7, 4]
abbrev dktX3_canLetIn_0 : List UInt8 := dkwX3_canLetIn_0 ++ dktX3_canLetIn_1
theorem dksX3_canLetIn_0 : cX3_canLetIn.data.toList.drop 0 = dktX3_canLetIn_0 := by decide +kernel
theorem dksX3_canLetIn_1 : cX3_canLetIn.data.toList.drop 22 = dktX3_canLetIn_1 := dk_seg dksX3_canLetIn_0 22 rfl rfl
theorem dX3_canLetIn_0 : decode cX3_canLetIn 0 = .ok (.aload_n 0, 1) := dk_42 (dk_at dksX3_canLetIn_0 0 rfl rfl)
theorem dX3_canLetIn_1 : decode cX3_canLetIn 1 = .ok (.getfield 7, 3) := dk_180 0 7 (dk_at dksX3_canLetIn_0 1 rfl rfl)
theorem dX3_canLetIn_4 : decode cX3_canLetIn 4 = .ok (.iconst 3, 1) := dk_6 (dk_at dksX3_canLetIn_0 4 rfl rfl)
theorem dX3_canLetIn_5 : decode cX3_canLetIn 5 = .ok (.iaload, 1) := dk_46 (dk_at dksX3_canLetIn_0 5 rfl rfl)
theorem dX3_canLetIn_6 : decode cX3_canLetIn 6 = .ok (.bipush 40, 2) := dk_16 40 (dk_at dksX3_canLetIn_0 6 rfl rfl)
theorem dX3_canLetIn_8 : decode cX3_canLetIn 8 = .ok (.if_icmp .ge 17, 3) := dk_162 0 17 (dk_at dksX3_canLetIn_0 8 rfl rfl)
theorem dX3_canLetIn_11 : decode cX3_canLetIn 11 = .ok (.aload_n 0, 1) := dk_42 (dk_at dksX3_canLetIn_0 11 rfl rfl)
theorem dX3_canLetIn_12 : decode cX3_canLetIn 12 = .ok (.iload_n 1, 1) := dk_27 (dk_at dksX3_canLetIn_0 12 rfl rfl)
theorem dX3_canLetIn_13 : decode cX3_canLetIn 13 = .ok (.iload_n 2, 1) := dk_28 (dk_at dksX3_canLetIn_0 13 rfl rfl)
theorem dX3_canLetIn_14 : decode cX3_canLetIn 14 = .ok (.invokevirtual 96, 3) := dk_182 0 96 (dk_at dksX3_canLetIn_0 14 rfl rfl)
theorem dX3_canLetIn_17 : decode cX3_canLetIn 17 = .ok (.iconst (-1), 1) := dk_2 (dk_at dksX3_canLetIn_0 17 rfl rfl)
theorem dX3_canLetIn_18 : decode cX3_canLetIn 18 = .ok (.if_icmp .ne 7, 3) := dk_160 0 7 (dk_at dksX3_canLetIn_0 18 rfl rfl)
theorem dX3_canLetIn_21 : decode cX3_canLetIn 21 = .ok (.iconst 1, 1) := dk_4 (dk_at dksX3_canLetIn_0 21 rfl rfl)
theorem dX3_canLetIn_22 : decode cX3_canLetIn 22 = .ok (.goto 4, 3) := dk_167 0 4 (dk_at dksX3_canLetIn_1 0 rfl rfl)
theorem dX3_canLetIn_25 : decode cX3_canLetIn 25 = .ok (.iconst 0, 1) := dk_3 (dk_at dksX3_canLetIn_1 3 rfl rfl)
theorem dX3_canLetIn_26 : decode cX3_canLetIn 26 = .ok (.ireturn, 1) := dk_172 (dk_at dksX3_canLetIn_1 4 rfl rfl)
abbrev cX3_letsIn : ByteArray := prog_9_method_43_code
def yX3_letsIn : MethodName := ⟨RX3, "letsIn", "(III)I"⟩
def dkwX3_letsIn_0 : List UInt8 := [42, 180, 0, 7, 16, 14, 92, 46, 4, 96, 79, 42, 28, 29, 2, 2, 27, 182, 0, 129, 172]
abbrev dktX3_letsIn_0 : List UInt8 := dkwX3_letsIn_0 ++ []
theorem dksX3_letsIn_0 : cX3_letsIn.data.toList.drop 0 = dktX3_letsIn_0 := by decide +kernel
theorem dX3_letsIn_0 : decode cX3_letsIn 0 = .ok (.aload_n 0, 1) := dk_42 (dk_at dksX3_letsIn_0 0 rfl rfl)
theorem dX3_letsIn_1 : decode cX3_letsIn 1 = .ok (.getfield 7, 3) := dk_180 0 7 (dk_at dksX3_letsIn_0 1 rfl rfl)
theorem dX3_letsIn_4 : decode cX3_letsIn 4 = .ok (.bipush 14, 2) := dk_16 14 (dk_at dksX3_letsIn_0 4 rfl rfl)
theorem dX3_letsIn_6 : decode cX3_letsIn 6 = .ok (.dup2, 1) := dk_92 (dk_at dksX3_letsIn_0 6 rfl rfl)
theorem dX3_letsIn_7 : decode cX3_letsIn 7 = .ok (.iaload, 1) := dk_46 (dk_at dksX3_letsIn_0 7 rfl rfl)
theorem dX3_letsIn_8 : decode cX3_letsIn 8 = .ok (.iconst 1, 1) := dk_4 (dk_at dksX3_letsIn_0 8 rfl rfl)
theorem dX3_letsIn_9 : decode cX3_letsIn 9 = .ok (.iadd, 1) := dk_96 (dk_at dksX3_letsIn_0 9 rfl rfl)
theorem dX3_letsIn_10 : decode cX3_letsIn 10 = .ok (.iastore, 1) := dk_79 (dk_at dksX3_letsIn_0 10 rfl rfl)
theorem dX3_letsIn_11 : decode cX3_letsIn 11 = .ok (.aload_n 0, 1) := dk_42 (dk_at dksX3_letsIn_0 11 rfl rfl)
theorem dX3_letsIn_12 : decode cX3_letsIn 12 = .ok (.iload_n 2, 1) := dk_28 (dk_at dksX3_letsIn_0 12 rfl rfl)
theorem dX3_letsIn_13 : decode cX3_letsIn 13 = .ok (.iload_n 3, 1) := dk_29 (dk_at dksX3_letsIn_0 13 rfl rfl)
theorem dX3_letsIn_14 : decode cX3_letsIn 14 = .ok (.iconst (-1), 1) := dk_2 (dk_at dksX3_letsIn_0 14 rfl rfl)
theorem dX3_letsIn_15 : decode cX3_letsIn 15 = .ok (.iconst (-1), 1) := dk_2 (dk_at dksX3_letsIn_0 15 rfl rfl)
theorem dX3_letsIn_16 : decode cX3_letsIn 16 = .ok (.iload_n 1, 1) := dk_27 (dk_at dksX3_letsIn_0 16 rfl rfl)
theorem dX3_letsIn_17 : decode cX3_letsIn 17 = .ok (.invokevirtual 129, 3) := dk_182 0 129 (dk_at dksX3_letsIn_0 17 rfl rfl)
theorem dX3_letsIn_20 : decode cX3_letsIn 20 = .ok (.ireturn, 1) := dk_172 (dk_at dksX3_letsIn_0 20 rfl rfl)
abbrev cX3_adds : ByteArray := prog_9_method_30_code
def yX3_adds : MethodName := ⟨RX3, "adds", "(IIIII)I"⟩
def dkwX3_adds_3 : List UInt8 := [7, 21, 4, 182, 0, 99, 42, 21, 6, 8, 21, 5, 182, 0, 99, 21, 7, 172]
abbrev dktX3_adds_3 : List UInt8 := dkwX3_adds_3 ++ []
def dkwX3_adds_2 : List UInt8 := [4, 27, 182, 0, 99, 42, 21, 6, 5, 28, 182, 0, 99, 42, 21, 6, 6, 29, 182, 0, 99, 42, 21, 6]
abbrev dktX3_adds_2 : List UInt8 := dkwX3_adds_2 ++ dktX3_adds_3
def dkwX3_adds_1 : List UInt8 := [96, 79, 42, 180, 0, 7, 7, 92, 46, 4, 96, 79, 42, 21, 6, 3, 21, 7, 182, 0, 99, 42, 21, 6]
abbrev dktX3_adds_1 : List UInt8 := dkwX3_adds_1 ++ dktX3_adds_2
def dkwX3_adds_0 : List UInt8 := [42, 180, 0, 7, 6, 46, 54, 6, 42, 180, 0, 7, 7, 46, 54, 7, 42, 180, 0, 7, 6, 92, 46, 4]
abbrev dktX3_adds_0 : List UInt8 := dkwX3_adds_0 ++ dktX3_adds_1
theorem dksX3_adds_0 : cX3_adds.data.toList.drop 0 = dktX3_adds_0 := by decide +kernel
theorem dksX3_adds_1 : cX3_adds.data.toList.drop 24 = dktX3_adds_1 := dk_seg dksX3_adds_0 24 rfl rfl
theorem dksX3_adds_2 : cX3_adds.data.toList.drop 48 = dktX3_adds_2 := dk_seg dksX3_adds_1 24 rfl rfl
theorem dksX3_adds_3 : cX3_adds.data.toList.drop 72 = dktX3_adds_3 := dk_seg dksX3_adds_2 24 rfl rfl
theorem dX3_adds_0 : decode cX3_adds 0 = .ok (.aload_n 0, 1) := dk_42 (dk_at dksX3_adds_0 0 rfl rfl)
theorem dX3_adds_1 : decode cX3_adds 1 = .ok (.getfield 7, 3) := dk_180 0 7 (dk_at dksX3_adds_0 1 rfl rfl)
theorem dX3_adds_4 : decode cX3_adds 4 = .ok (.iconst 3, 1) := dk_6 (dk_at dksX3_adds_0 4 rfl rfl)
theorem dX3_adds_5 : decode cX3_adds 5 = .ok (.iaload, 1) := dk_46 (dk_at dksX3_adds_0 5 rfl rfl)
theorem dX3_adds_6 : decode cX3_adds 6 = .ok (.istore 6, 2) := dk_54 6 (dk_at dksX3_adds_0 6 rfl rfl)
theorem dX3_adds_8 : decode cX3_adds 8 = .ok (.aload_n 0, 1) := dk_42 (dk_at dksX3_adds_0 8 rfl rfl)
theorem dX3_adds_9 : decode cX3_adds 9 = .ok (.getfield 7, 3) := dk_180 0 7 (dk_at dksX3_adds_0 9 rfl rfl)
theorem dX3_adds_12 : decode cX3_adds 12 = .ok (.iconst 4, 1) := dk_7 (dk_at dksX3_adds_0 12 rfl rfl)
theorem dX3_adds_13 : decode cX3_adds 13 = .ok (.iaload, 1) := dk_46 (dk_at dksX3_adds_0 13 rfl rfl)
theorem dX3_adds_14 : decode cX3_adds 14 = .ok (.istore 7, 2) := dk_54 7 (dk_at dksX3_adds_0 14 rfl rfl)
theorem dX3_adds_16 : decode cX3_adds 16 = .ok (.aload_n 0, 1) := dk_42 (dk_at dksX3_adds_0 16 rfl rfl)
theorem dX3_adds_17 : decode cX3_adds 17 = .ok (.getfield 7, 3) := dk_180 0 7 (dk_at dksX3_adds_0 17 rfl rfl)
theorem dX3_adds_20 : decode cX3_adds 20 = .ok (.iconst 3, 1) := dk_6 (dk_at dksX3_adds_0 20 rfl rfl)
theorem dX3_adds_21 : decode cX3_adds 21 = .ok (.dup2, 1) := dk_92 (dk_at dksX3_adds_0 21 rfl rfl)
theorem dX3_adds_22 : decode cX3_adds 22 = .ok (.iaload, 1) := dk_46 (dk_at dksX3_adds_0 22 rfl rfl)
theorem dX3_adds_23 : decode cX3_adds 23 = .ok (.iconst 1, 1) := dk_4 (dk_at dksX3_adds_0 23 rfl rfl)
theorem dX3_adds_24 : decode cX3_adds 24 = .ok (.iadd, 1) := dk_96 (dk_at dksX3_adds_1 0 rfl rfl)
theorem dX3_adds_25 : decode cX3_adds 25 = .ok (.iastore, 1) := dk_79 (dk_at dksX3_adds_1 1 rfl rfl)
theorem dX3_adds_26 : decode cX3_adds 26 = .ok (.aload_n 0, 1) := dk_42 (dk_at dksX3_adds_1 2 rfl rfl)
theorem dX3_adds_27 : decode cX3_adds 27 = .ok (.getfield 7, 3) := dk_180 0 7 (dk_at dksX3_adds_1 3 rfl rfl)
theorem dX3_adds_30 : decode cX3_adds 30 = .ok (.iconst 4, 1) := dk_7 (dk_at dksX3_adds_1 6 rfl rfl)
theorem dX3_adds_31 : decode cX3_adds 31 = .ok (.dup2, 1) := dk_92 (dk_at dksX3_adds_1 7 rfl rfl)
theorem dX3_adds_32 : decode cX3_adds 32 = .ok (.iaload, 1) := dk_46 (dk_at dksX3_adds_1 8 rfl rfl)
theorem dX3_adds_33 : decode cX3_adds 33 = .ok (.iconst 1, 1) := dk_4 (dk_at dksX3_adds_1 9 rfl rfl)
theorem dX3_adds_34 : decode cX3_adds 34 = .ok (.iadd, 1) := dk_96 (dk_at dksX3_adds_1 10 rfl rfl)
theorem dX3_adds_35 : decode cX3_adds 35 = .ok (.iastore, 1) := dk_79 (dk_at dksX3_adds_1 11 rfl rfl)
theorem dX3_adds_36 : decode cX3_adds 36 = .ok (.aload_n 0, 1) := dk_42 (dk_at dksX3_adds_1 12 rfl rfl)
theorem dX3_adds_37 : decode cX3_adds 37 = .ok (.iload 6, 2) := dk_21 6 (dk_at dksX3_adds_1 13 rfl rfl)
theorem dX3_adds_39 : decode cX3_adds 39 = .ok (.iconst 0, 1) := dk_3 (dk_at dksX3_adds_1 15 rfl rfl)
theorem dX3_adds_40 : decode cX3_adds 40 = .ok (.iload 7, 2) := dk_21 7 (dk_at dksX3_adds_1 16 rfl rfl)
theorem dX3_adds_42 : decode cX3_adds 42 = .ok (.invokevirtual 99, 3) := dk_182 0 99 (dk_at dksX3_adds_1 18 rfl rfl)
theorem dX3_adds_45 : decode cX3_adds 45 = .ok (.aload_n 0, 1) := dk_42 (dk_at dksX3_adds_1 21 rfl rfl)
theorem dX3_adds_46 : decode cX3_adds 46 = .ok (.iload 6, 2) := dk_21 6 (dk_at dksX3_adds_1 22 rfl rfl)
theorem dX3_adds_48 : decode cX3_adds 48 = .ok (.iconst 1, 1) := dk_4 (dk_at dksX3_adds_2 0 rfl rfl)
theorem dX3_adds_49 : decode cX3_adds 49 = .ok (.iload_n 1, 1) := dk_27 (dk_at dksX3_adds_2 1 rfl rfl)
theorem dX3_adds_50 : decode cX3_adds 50 = .ok (.invokevirtual 99, 3) := dk_182 0 99 (dk_at dksX3_adds_2 2 rfl rfl)
theorem dX3_adds_53 : decode cX3_adds 53 = .ok (.aload_n 0, 1) := dk_42 (dk_at dksX3_adds_2 5 rfl rfl)
theorem dX3_adds_54 : decode cX3_adds 54 = .ok (.iload 6, 2) := dk_21 6 (dk_at dksX3_adds_2 6 rfl rfl)
theorem dX3_adds_56 : decode cX3_adds 56 = .ok (.iconst 2, 1) := dk_5 (dk_at dksX3_adds_2 8 rfl rfl)
theorem dX3_adds_57 : decode cX3_adds 57 = .ok (.iload_n 2, 1) := dk_28 (dk_at dksX3_adds_2 9 rfl rfl)
theorem dX3_adds_58 : decode cX3_adds 58 = .ok (.invokevirtual 99, 3) := dk_182 0 99 (dk_at dksX3_adds_2 10 rfl rfl)
theorem dX3_adds_61 : decode cX3_adds 61 = .ok (.aload_n 0, 1) := dk_42 (dk_at dksX3_adds_2 13 rfl rfl)
theorem dX3_adds_62 : decode cX3_adds 62 = .ok (.iload 6, 2) := dk_21 6 (dk_at dksX3_adds_2 14 rfl rfl)
theorem dX3_adds_64 : decode cX3_adds 64 = .ok (.iconst 3, 1) := dk_6 (dk_at dksX3_adds_2 16 rfl rfl)
theorem dX3_adds_65 : decode cX3_adds 65 = .ok (.iload_n 3, 1) := dk_29 (dk_at dksX3_adds_2 17 rfl rfl)
theorem dX3_adds_66 : decode cX3_adds 66 = .ok (.invokevirtual 99, 3) := dk_182 0 99 (dk_at dksX3_adds_2 18 rfl rfl)
theorem dX3_adds_69 : decode cX3_adds 69 = .ok (.aload_n 0, 1) := dk_42 (dk_at dksX3_adds_2 21 rfl rfl)
theorem dX3_adds_70 : decode cX3_adds 70 = .ok (.iload 6, 2) := dk_21 6 (dk_at dksX3_adds_2 22 rfl rfl)
theorem dX3_adds_72 : decode cX3_adds 72 = .ok (.iconst 4, 1) := dk_7 (dk_at dksX3_adds_3 0 rfl rfl)
theorem dX3_adds_73 : decode cX3_adds 73 = .ok (.iload 4, 2) := dk_21 4 (dk_at dksX3_adds_3 1 rfl rfl)
theorem dX3_adds_75 : decode cX3_adds 75 = .ok (.invokevirtual 99, 3) := dk_182 0 99 (dk_at dksX3_adds_3 3 rfl rfl)
theorem dX3_adds_78 : decode cX3_adds 78 = .ok (.aload_n 0, 1) := dk_42 (dk_at dksX3_adds_3 6 rfl rfl)
theorem dX3_adds_79 : decode cX3_adds 79 = .ok (.iload 6, 2) := dk_21 6 (dk_at dksX3_adds_3 7 rfl rfl)
theorem dX3_adds_81 : decode cX3_adds 81 = .ok (.iconst 5, 1) := dk_8 (dk_at dksX3_adds_3 9 rfl rfl)
theorem dX3_adds_82 : decode cX3_adds 82 = .ok (.iload 5, 2) := dk_21 5 (dk_at dksX3_adds_3 10 rfl rfl)
theorem dX3_adds_84 : decode cX3_adds 84 = .ok (.invokevirtual 99, 3) := dk_182 0 99 (dk_at dksX3_adds_3 12 rfl rfl)
theorem dX3_adds_87 : decode cX3_adds 87 = .ok (.iload 7, 2) := dk_21 7 (dk_at dksX3_adds_3 15 rfl rfl)
theorem dX3_adds_89 : decode cX3_adds 89 = .ok (.ireturn, 1) := dk_172 (dk_at dksX3_adds_3 17 rfl rfl)
abbrev cX3_takeOut : ByteArray := prog_9_method_46_code
def yX3_takeOut : MethodName := ⟨RX3, "takeOut", "(I)I"⟩
def dkwX3_takeOut_2 : List UInt8 := [4, 96, 79, 42, 28, 182, 0, 103, 29, 172]
abbrev dktX3_takeOut_2 : List UInt8 := dkwX3_takeOut_2 ++ []
def dkwX3_takeOut_1 : List UInt8 := [158, 0, 5, 3, 172, 42, 182, 0, 79, 42, 28, 5, 182, 0, 93, 62, 42, 180, 0, 7, 16, 6, 92, 46]
abbrev dktX3_takeOut_1 : List UInt8 := dkwX3_takeOut_1 ++ dktX3_takeOut_2
def dkwX3_takeOut_0 : List UInt8 := [42, 27, 182, 0, 143, 61, 42, 28, 2, 160, 0, 7, 4, 167, 0, 4, 3, 181, 0, 35, 42, 180, 0, 35]
abbrev dktX3_takeOut_0 : List UInt8 := dkwX3_takeOut_0 ++ dktX3_takeOut_1
theorem dksX3_takeOut_0 : cX3_takeOut.data.toList.drop 0 = dktX3_takeOut_0 := by decide +kernel
theorem dksX3_takeOut_1 : cX3_takeOut.data.toList.drop 24 = dktX3_takeOut_1 := dk_seg dksX3_takeOut_0 24 rfl rfl
theorem dksX3_takeOut_2 : cX3_takeOut.data.toList.drop 48 = dktX3_takeOut_2 := dk_seg dksX3_takeOut_1 24 rfl rfl
theorem dX3_takeOut_0 : decode cX3_takeOut 0 = .ok (.aload_n 0, 1) := dk_42 (dk_at dksX3_takeOut_0 0 rfl rfl)
theorem dX3_takeOut_1 : decode cX3_takeOut 1 = .ok (.iload_n 1, 1) := dk_27 (dk_at dksX3_takeOut_0 1 rfl rfl)
theorem dX3_takeOut_2 : decode cX3_takeOut 2 = .ok (.invokevirtual 143, 3) := dk_182 0 143 (dk_at dksX3_takeOut_0 2 rfl rfl)
theorem dX3_takeOut_5 : decode cX3_takeOut 5 = .ok (.istore_n 2, 1) := dk_61 (dk_at dksX3_takeOut_0 5 rfl rfl)
theorem dX3_takeOut_6 : decode cX3_takeOut 6 = .ok (.aload_n 0, 1) := dk_42 (dk_at dksX3_takeOut_0 6 rfl rfl)
theorem dX3_takeOut_7 : decode cX3_takeOut 7 = .ok (.iload_n 2, 1) := dk_28 (dk_at dksX3_takeOut_0 7 rfl rfl)
theorem dX3_takeOut_8 : decode cX3_takeOut 8 = .ok (.iconst (-1), 1) := dk_2 (dk_at dksX3_takeOut_0 8 rfl rfl)
theorem dX3_takeOut_9 : decode cX3_takeOut 9 = .ok (.if_icmp .ne 7, 3) := dk_160 0 7 (dk_at dksX3_takeOut_0 9 rfl rfl)
theorem dX3_takeOut_12 : decode cX3_takeOut 12 = .ok (.iconst 1, 1) := dk_4 (dk_at dksX3_takeOut_0 12 rfl rfl)
theorem dX3_takeOut_13 : decode cX3_takeOut 13 = .ok (.goto 4, 3) := dk_167 0 4 (dk_at dksX3_takeOut_0 13 rfl rfl)
theorem dX3_takeOut_16 : decode cX3_takeOut 16 = .ok (.iconst 0, 1) := dk_3 (dk_at dksX3_takeOut_0 16 rfl rfl)
theorem dX3_takeOut_17 : decode cX3_takeOut 17 = .ok (.putfield 35, 3) := dk_181 0 35 (dk_at dksX3_takeOut_0 17 rfl rfl)
theorem dX3_takeOut_20 : decode cX3_takeOut 20 = .ok (.aload_n 0, 1) := dk_42 (dk_at dksX3_takeOut_0 20 rfl rfl)
theorem dX3_takeOut_21 : decode cX3_takeOut 21 = .ok (.getfield 35, 3) := dk_180 0 35 (dk_at dksX3_takeOut_0 21 rfl rfl)
theorem dX3_takeOut_24 : decode cX3_takeOut 24 = .ok (.ifCond .le 5, 3) := dk_158 0 5 (dk_at dksX3_takeOut_1 0 rfl rfl)
theorem dX3_takeOut_27 : decode cX3_takeOut 27 = .ok (.iconst 0, 1) := dk_3 (dk_at dksX3_takeOut_1 3 rfl rfl)
theorem dX3_takeOut_28 : decode cX3_takeOut 28 = .ok (.ireturn, 1) := dk_172 (dk_at dksX3_takeOut_1 4 rfl rfl)
theorem dX3_takeOut_29 : decode cX3_takeOut 29 = .ok (.aload_n 0, 1) := dk_42 (dk_at dksX3_takeOut_1 5 rfl rfl)
theorem dX3_takeOut_30 : decode cX3_takeOut 30 = .ok (.invokevirtual 79, 3) := dk_182 0 79 (dk_at dksX3_takeOut_1 6 rfl rfl)
theorem dX3_takeOut_33 : decode cX3_takeOut 33 = .ok (.aload_n 0, 1) := dk_42 (dk_at dksX3_takeOut_1 9 rfl rfl)
theorem dX3_takeOut_34 : decode cX3_takeOut 34 = .ok (.iload_n 2, 1) := dk_28 (dk_at dksX3_takeOut_1 10 rfl rfl)
theorem dX3_takeOut_35 : decode cX3_takeOut 35 = .ok (.iconst 2, 1) := dk_5 (dk_at dksX3_takeOut_1 11 rfl rfl)
theorem dX3_takeOut_36 : decode cX3_takeOut 36 = .ok (.invokevirtual 93, 3) := dk_182 0 93 (dk_at dksX3_takeOut_1 12 rfl rfl)
theorem dX3_takeOut_39 : decode cX3_takeOut 39 = .ok (.istore_n 3, 1) := dk_62 (dk_at dksX3_takeOut_1 15 rfl rfl)
theorem dX3_takeOut_40 : decode cX3_takeOut 40 = .ok (.aload_n 0, 1) := dk_42 (dk_at dksX3_takeOut_1 16 rfl rfl)
theorem dX3_takeOut_41 : decode cX3_takeOut 41 = .ok (.getfield 7, 3) := dk_180 0 7 (dk_at dksX3_takeOut_1 17 rfl rfl)
theorem dX3_takeOut_44 : decode cX3_takeOut 44 = .ok (.bipush 6, 2) := dk_16 6 (dk_at dksX3_takeOut_1 20 rfl rfl)
theorem dX3_takeOut_46 : decode cX3_takeOut 46 = .ok (.dup2, 1) := dk_92 (dk_at dksX3_takeOut_1 22 rfl rfl)
theorem dX3_takeOut_47 : decode cX3_takeOut 47 = .ok (.iaload, 1) := dk_46 (dk_at dksX3_takeOut_1 23 rfl rfl)
theorem dX3_takeOut_48 : decode cX3_takeOut 48 = .ok (.iconst 1, 1) := dk_4 (dk_at dksX3_takeOut_2 0 rfl rfl)
theorem dX3_takeOut_49 : decode cX3_takeOut 49 = .ok (.iadd, 1) := dk_96 (dk_at dksX3_takeOut_2 1 rfl rfl)
theorem dX3_takeOut_50 : decode cX3_takeOut 50 = .ok (.iastore, 1) := dk_79 (dk_at dksX3_takeOut_2 2 rfl rfl)
theorem dX3_takeOut_51 : decode cX3_takeOut 51 = .ok (.aload_n 0, 1) := dk_42 (dk_at dksX3_takeOut_2 3 rfl rfl)
theorem dX3_takeOut_52 : decode cX3_takeOut 52 = .ok (.iload_n 2, 1) := dk_28 (dk_at dksX3_takeOut_2 4 rfl rfl)
theorem dX3_takeOut_53 : decode cX3_takeOut 53 = .ok (.invokevirtual 103, 3) := dk_182 0 103 (dk_at dksX3_takeOut_2 5 rfl rfl)
theorem dX3_takeOut_56 : decode cX3_takeOut 56 = .ok (.iload_n 3, 1) := dk_29 (dk_at dksX3_takeOut_2 8 rfl rfl)
theorem dX3_takeOut_57 : decode cX3_takeOut 57 = .ok (.ireturn, 1) := dk_172 (dk_at dksX3_takeOut_2 9 rfl rfl)
abbrev cX3_placeOf : ByteArray := prog_9_method_29_code
def yX3_placeOf : MethodName := ⟨RX3, "placeOf", "(I)I"⟩
def dkwX3_placeOf_1 : List UInt8 := [29, 167, 0, 4, 28, 61, 132, 3, 1, 167, 255, 227, 28, 172]
abbrev dktX3_placeOf_1 : List UInt8 := dkwX3_placeOf_1 ++ []
def dkwX3_placeOf_0 : List UInt8 := [2, 61, 3, 62, 29, 42, 180, 0, 7, 6, 46, 162, 0, 25, 42, 29, 3, 182, 0, 93, 27, 160, 0, 7]
abbrev dktX3_placeOf_0 : List UInt8 := dkwX3_placeOf_0 ++ dktX3_placeOf_1
theorem dksX3_placeOf_0 : cX3_placeOf.data.toList.drop 0 = dktX3_placeOf_0 := by decide +kernel
theorem dksX3_placeOf_1 : cX3_placeOf.data.toList.drop 24 = dktX3_placeOf_1 := dk_seg dksX3_placeOf_0 24 rfl rfl
theorem dX3_placeOf_0 : decode cX3_placeOf 0 = .ok (.iconst (-1), 1) := dk_2 (dk_at dksX3_placeOf_0 0 rfl rfl)
theorem dX3_placeOf_1 : decode cX3_placeOf 1 = .ok (.istore_n 2, 1) := dk_61 (dk_at dksX3_placeOf_0 1 rfl rfl)
theorem dX3_placeOf_2 : decode cX3_placeOf 2 = .ok (.iconst 0, 1) := dk_3 (dk_at dksX3_placeOf_0 2 rfl rfl)
theorem dX3_placeOf_3 : decode cX3_placeOf 3 = .ok (.istore_n 3, 1) := dk_62 (dk_at dksX3_placeOf_0 3 rfl rfl)
theorem dX3_placeOf_4 : decode cX3_placeOf 4 = .ok (.iload_n 3, 1) := dk_29 (dk_at dksX3_placeOf_0 4 rfl rfl)
theorem dX3_placeOf_5 : decode cX3_placeOf 5 = .ok (.aload_n 0, 1) := dk_42 (dk_at dksX3_placeOf_0 5 rfl rfl)
theorem dX3_placeOf_6 : decode cX3_placeOf 6 = .ok (.getfield 7, 3) := dk_180 0 7 (dk_at dksX3_placeOf_0 6 rfl rfl)
theorem dX3_placeOf_9 : decode cX3_placeOf 9 = .ok (.iconst 3, 1) := dk_6 (dk_at dksX3_placeOf_0 9 rfl rfl)
theorem dX3_placeOf_10 : decode cX3_placeOf 10 = .ok (.iaload, 1) := dk_46 (dk_at dksX3_placeOf_0 10 rfl rfl)
theorem dX3_placeOf_11 : decode cX3_placeOf 11 = .ok (.if_icmp .ge 25, 3) := dk_162 0 25 (dk_at dksX3_placeOf_0 11 rfl rfl)
theorem dX3_placeOf_14 : decode cX3_placeOf 14 = .ok (.aload_n 0, 1) := dk_42 (dk_at dksX3_placeOf_0 14 rfl rfl)
theorem dX3_placeOf_15 : decode cX3_placeOf 15 = .ok (.iload_n 3, 1) := dk_29 (dk_at dksX3_placeOf_0 15 rfl rfl)
theorem dX3_placeOf_16 : decode cX3_placeOf 16 = .ok (.iconst 0, 1) := dk_3 (dk_at dksX3_placeOf_0 16 rfl rfl)
theorem dX3_placeOf_17 : decode cX3_placeOf 17 = .ok (.invokevirtual 93, 3) := dk_182 0 93 (dk_at dksX3_placeOf_0 17 rfl rfl)
theorem dX3_placeOf_20 : decode cX3_placeOf 20 = .ok (.iload_n 1, 1) := dk_27 (dk_at dksX3_placeOf_0 20 rfl rfl)
theorem dX3_placeOf_21 : decode cX3_placeOf 21 = .ok (.if_icmp .ne 7, 3) := dk_160 0 7 (dk_at dksX3_placeOf_0 21 rfl rfl)
theorem dX3_placeOf_24 : decode cX3_placeOf 24 = .ok (.iload_n 3, 1) := dk_29 (dk_at dksX3_placeOf_1 0 rfl rfl)
theorem dX3_placeOf_25 : decode cX3_placeOf 25 = .ok (.goto 4, 3) := dk_167 0 4 (dk_at dksX3_placeOf_1 1 rfl rfl)
theorem dX3_placeOf_28 : decode cX3_placeOf 28 = .ok (.iload_n 2, 1) := dk_28 (dk_at dksX3_placeOf_1 4 rfl rfl)
theorem dX3_placeOf_29 : decode cX3_placeOf 29 = .ok (.istore_n 2, 1) := dk_61 (dk_at dksX3_placeOf_1 5 rfl rfl)
theorem dX3_placeOf_30 : decode cX3_placeOf 30 = .ok (.iinc 3 1, 3) := dk_132 3 1 (dk_at dksX3_placeOf_1 6 rfl rfl)
theorem dX3_placeOf_33 : decode cX3_placeOf 33 = .ok (.goto (-29), 3) := dk_167 255 227 (dk_at dksX3_placeOf_1 9 rfl rfl)
theorem dX3_placeOf_36 : decode cX3_placeOf 36 = .ok (.iload_n 2, 1) := dk_28 (dk_at dksX3_placeOf_1 12 rfl rfl)
theorem dX3_placeOf_37 : decode cX3_placeOf 37 = .ok (.ireturn, 1) := dk_172 (dk_at dksX3_placeOf_1 13 rfl rfl)
abbrev cX3_drops : ByteArray := prog_9_method_31_code
def yX3_drops : MethodName := ⟨RX3, "drops", "(I)V"⟩
def dkwX3_drops_5 : List UInt8 := [16, 6, 162, 0, 21, 42, 42, 180, 0, 7, 6, 46, 29, 3, 182, 0, 99, 132, 3, 1, 167, 255, 235, 177]
abbrev dktX3_drops_5 : List UInt8 := dkwX3_drops_5 ++ []
def dkwX3_drops_4 : List UInt8 := [180, 0, 7, 29, 42, 180, 0, 7, 29, 16, 6, 96, 46, 79, 132, 3, 1, 167, 255, 221, 3, 62, 29]
abbrev dktX3_drops_4 : List UInt8 := dkwX3_drops_4 ++ dktX3_drops_5
def dkwX3_drops_3 : List UInt8 := [16, 6, 27, 104, 96, 62, 29, 17, 0, 154, 16, 6, 42, 180, 0, 7, 6, 46, 104, 96, 162, 0, 24, 42]
abbrev dktX3_drops_3 : List UInt8 := dkwX3_drops_3 ++ dktX3_drops_4
def dkwX3_drops_2 : List UInt8 := [182, 0, 93, 79, 132, 3, 1, 167, 255, 225, 42, 180, 0, 7, 6, 92, 46, 4, 100, 79, 17, 0, 154]
abbrev dktX3_drops_2 : List UInt8 := dkwX3_drops_2 ++ dktX3_drops_3
def dkwX3_drops_1 : List UInt8 := [162, 0, 32, 42, 180, 0, 7, 17, 1, 138, 8, 28, 16, 60, 112, 104, 96, 29, 96, 42, 27, 29]
abbrev dktX3_drops_1 : List UInt8 := dkwX3_drops_1 ++ dktX3_drops_2
def dkwX3_drops_0 : List UInt8 := [42, 27, 3, 182, 0, 93, 61, 28, 42, 180, 0, 7, 7, 46, 16, 60, 100, 161, 0, 39, 3, 62, 29, 8]
abbrev dktX3_drops_0 : List UInt8 := dkwX3_drops_0 ++ dktX3_drops_1
theorem dksX3_drops_0 : cX3_drops.data.toList.drop 0 = dktX3_drops_0 := by decide +kernel
theorem dksX3_drops_1 : cX3_drops.data.toList.drop 24 = dktX3_drops_1 := dk_seg dksX3_drops_0 24 rfl rfl
theorem dksX3_drops_2 : cX3_drops.data.toList.drop 46 = dktX3_drops_2 := dk_seg dksX3_drops_1 22 rfl rfl
theorem dksX3_drops_3 : cX3_drops.data.toList.drop 69 = dktX3_drops_3 := dk_seg dksX3_drops_2 23 rfl rfl
theorem dksX3_drops_4 : cX3_drops.data.toList.drop 93 = dktX3_drops_4 := dk_seg dksX3_drops_3 24 rfl rfl
theorem dksX3_drops_5 : cX3_drops.data.toList.drop 116 = dktX3_drops_5 := dk_seg dksX3_drops_4 23 rfl rfl
theorem dX3_drops_0 : decode cX3_drops 0 = .ok (.aload_n 0, 1) := dk_42 (dk_at dksX3_drops_0 0 rfl rfl)
theorem dX3_drops_1 : decode cX3_drops 1 = .ok (.iload_n 1, 1) := dk_27 (dk_at dksX3_drops_0 1 rfl rfl)
theorem dX3_drops_2 : decode cX3_drops 2 = .ok (.iconst 0, 1) := dk_3 (dk_at dksX3_drops_0 2 rfl rfl)
theorem dX3_drops_3 : decode cX3_drops 3 = .ok (.invokevirtual 93, 3) := dk_182 0 93 (dk_at dksX3_drops_0 3 rfl rfl)
theorem dX3_drops_6 : decode cX3_drops 6 = .ok (.istore_n 2, 1) := dk_61 (dk_at dksX3_drops_0 6 rfl rfl)
theorem dX3_drops_7 : decode cX3_drops 7 = .ok (.iload_n 2, 1) := dk_28 (dk_at dksX3_drops_0 7 rfl rfl)
theorem dX3_drops_8 : decode cX3_drops 8 = .ok (.aload_n 0, 1) := dk_42 (dk_at dksX3_drops_0 8 rfl rfl)
theorem dX3_drops_9 : decode cX3_drops 9 = .ok (.getfield 7, 3) := dk_180 0 7 (dk_at dksX3_drops_0 9 rfl rfl)
theorem dX3_drops_12 : decode cX3_drops 12 = .ok (.iconst 4, 1) := dk_7 (dk_at dksX3_drops_0 12 rfl rfl)
theorem dX3_drops_13 : decode cX3_drops 13 = .ok (.iaload, 1) := dk_46 (dk_at dksX3_drops_0 13 rfl rfl)
theorem dX3_drops_14 : decode cX3_drops 14 = .ok (.bipush 60, 2) := dk_16 60 (dk_at dksX3_drops_0 14 rfl rfl)
theorem dX3_drops_16 : decode cX3_drops 16 = .ok (.isub, 1) := dk_100 (dk_at dksX3_drops_0 16 rfl rfl)
theorem dX3_drops_17 : decode cX3_drops 17 = .ok (.if_icmp .lt 39, 3) := dk_161 0 39 (dk_at dksX3_drops_0 17 rfl rfl)
theorem dX3_drops_20 : decode cX3_drops 20 = .ok (.iconst 0, 1) := dk_3 (dk_at dksX3_drops_0 20 rfl rfl)
theorem dX3_drops_21 : decode cX3_drops 21 = .ok (.istore_n 3, 1) := dk_62 (dk_at dksX3_drops_0 21 rfl rfl)
theorem dX3_drops_22 : decode cX3_drops 22 = .ok (.iload_n 3, 1) := dk_29 (dk_at dksX3_drops_0 22 rfl rfl)
theorem dX3_drops_23 : decode cX3_drops 23 = .ok (.iconst 5, 1) := dk_8 (dk_at dksX3_drops_0 23 rfl rfl)
theorem dX3_drops_24 : decode cX3_drops 24 = .ok (.if_icmp .ge 32, 3) := dk_162 0 32 (dk_at dksX3_drops_1 0 rfl rfl)
theorem dX3_drops_27 : decode cX3_drops 27 = .ok (.aload_n 0, 1) := dk_42 (dk_at dksX3_drops_1 3 rfl rfl)
theorem dX3_drops_28 : decode cX3_drops 28 = .ok (.getfield 7, 3) := dk_180 0 7 (dk_at dksX3_drops_1 4 rfl rfl)
theorem dX3_drops_31 : decode cX3_drops 31 = .ok (.sipush 394, 3) := dk_17 1 138 (dk_at dksX3_drops_1 7 rfl rfl)
theorem dX3_drops_34 : decode cX3_drops 34 = .ok (.iconst 5, 1) := dk_8 (dk_at dksX3_drops_1 10 rfl rfl)
theorem dX3_drops_35 : decode cX3_drops 35 = .ok (.iload_n 2, 1) := dk_28 (dk_at dksX3_drops_1 11 rfl rfl)
theorem dX3_drops_36 : decode cX3_drops 36 = .ok (.bipush 60, 2) := dk_16 60 (dk_at dksX3_drops_1 12 rfl rfl)
theorem dX3_drops_38 : decode cX3_drops 38 = .ok (.irem, 1) := dk_112 (dk_at dksX3_drops_1 14 rfl rfl)
theorem dX3_drops_39 : decode cX3_drops 39 = .ok (.imul, 1) := dk_104 (dk_at dksX3_drops_1 15 rfl rfl)
theorem dX3_drops_40 : decode cX3_drops 40 = .ok (.iadd, 1) := dk_96 (dk_at dksX3_drops_1 16 rfl rfl)
theorem dX3_drops_41 : decode cX3_drops 41 = .ok (.iload_n 3, 1) := dk_29 (dk_at dksX3_drops_1 17 rfl rfl)
theorem dX3_drops_42 : decode cX3_drops 42 = .ok (.iadd, 1) := dk_96 (dk_at dksX3_drops_1 18 rfl rfl)
theorem dX3_drops_43 : decode cX3_drops 43 = .ok (.aload_n 0, 1) := dk_42 (dk_at dksX3_drops_1 19 rfl rfl)
theorem dX3_drops_44 : decode cX3_drops 44 = .ok (.iload_n 1, 1) := dk_27 (dk_at dksX3_drops_1 20 rfl rfl)
theorem dX3_drops_45 : decode cX3_drops 45 = .ok (.iload_n 3, 1) := dk_29 (dk_at dksX3_drops_1 21 rfl rfl)
theorem dX3_drops_46 : decode cX3_drops 46 = .ok (.invokevirtual 93, 3) := dk_182 0 93 (dk_at dksX3_drops_2 0 rfl rfl)
theorem dX3_drops_49 : decode cX3_drops 49 = .ok (.iastore, 1) := dk_79 (dk_at dksX3_drops_2 3 rfl rfl)
theorem dX3_drops_50 : decode cX3_drops 50 = .ok (.iinc 3 1, 3) := dk_132 3 1 (dk_at dksX3_drops_2 4 rfl rfl)
theorem dX3_drops_53 : decode cX3_drops 53 = .ok (.goto (-31), 3) := dk_167 255 225 (dk_at dksX3_drops_2 7 rfl rfl)
theorem dX3_drops_56 : decode cX3_drops 56 = .ok (.aload_n 0, 1) := dk_42 (dk_at dksX3_drops_2 10 rfl rfl)
theorem dX3_drops_57 : decode cX3_drops 57 = .ok (.getfield 7, 3) := dk_180 0 7 (dk_at dksX3_drops_2 11 rfl rfl)
theorem dX3_drops_60 : decode cX3_drops 60 = .ok (.iconst 3, 1) := dk_6 (dk_at dksX3_drops_2 14 rfl rfl)
theorem dX3_drops_61 : decode cX3_drops 61 = .ok (.dup2, 1) := dk_92 (dk_at dksX3_drops_2 15 rfl rfl)
theorem dX3_drops_62 : decode cX3_drops 62 = .ok (.iaload, 1) := dk_46 (dk_at dksX3_drops_2 16 rfl rfl)
theorem dX3_drops_63 : decode cX3_drops 63 = .ok (.iconst 1, 1) := dk_4 (dk_at dksX3_drops_2 17 rfl rfl)
theorem dX3_drops_64 : decode cX3_drops 64 = .ok (.isub, 1) := dk_100 (dk_at dksX3_drops_2 18 rfl rfl)
theorem dX3_drops_65 : decode cX3_drops 65 = .ok (.iastore, 1) := dk_79 (dk_at dksX3_drops_2 19 rfl rfl)
theorem dX3_drops_66 : decode cX3_drops 66 = .ok (.sipush 154, 3) := dk_17 0 154 (dk_at dksX3_drops_2 20 rfl rfl)
theorem dX3_drops_69 : decode cX3_drops 69 = .ok (.bipush 6, 2) := dk_16 6 (dk_at dksX3_drops_3 0 rfl rfl)
theorem dX3_drops_71 : decode cX3_drops 71 = .ok (.iload_n 1, 1) := dk_27 (dk_at dksX3_drops_3 2 rfl rfl)
theorem dX3_drops_72 : decode cX3_drops 72 = .ok (.imul, 1) := dk_104 (dk_at dksX3_drops_3 3 rfl rfl)
theorem dX3_drops_73 : decode cX3_drops 73 = .ok (.iadd, 1) := dk_96 (dk_at dksX3_drops_3 4 rfl rfl)
theorem dX3_drops_74 : decode cX3_drops 74 = .ok (.istore_n 3, 1) := dk_62 (dk_at dksX3_drops_3 5 rfl rfl)
theorem dX3_drops_75 : decode cX3_drops 75 = .ok (.iload_n 3, 1) := dk_29 (dk_at dksX3_drops_3 6 rfl rfl)
theorem dX3_drops_76 : decode cX3_drops 76 = .ok (.sipush 154, 3) := dk_17 0 154 (dk_at dksX3_drops_3 7 rfl rfl)
theorem dX3_drops_79 : decode cX3_drops 79 = .ok (.bipush 6, 2) := dk_16 6 (dk_at dksX3_drops_3 10 rfl rfl)
theorem dX3_drops_81 : decode cX3_drops 81 = .ok (.aload_n 0, 1) := dk_42 (dk_at dksX3_drops_3 12 rfl rfl)
theorem dX3_drops_82 : decode cX3_drops 82 = .ok (.getfield 7, 3) := dk_180 0 7 (dk_at dksX3_drops_3 13 rfl rfl)
theorem dX3_drops_85 : decode cX3_drops 85 = .ok (.iconst 3, 1) := dk_6 (dk_at dksX3_drops_3 16 rfl rfl)
theorem dX3_drops_86 : decode cX3_drops 86 = .ok (.iaload, 1) := dk_46 (dk_at dksX3_drops_3 17 rfl rfl)
theorem dX3_drops_87 : decode cX3_drops 87 = .ok (.imul, 1) := dk_104 (dk_at dksX3_drops_3 18 rfl rfl)
theorem dX3_drops_88 : decode cX3_drops 88 = .ok (.iadd, 1) := dk_96 (dk_at dksX3_drops_3 19 rfl rfl)
theorem dX3_drops_89 : decode cX3_drops 89 = .ok (.if_icmp .ge 24, 3) := dk_162 0 24 (dk_at dksX3_drops_3 20 rfl rfl)
theorem dX3_drops_92 : decode cX3_drops 92 = .ok (.aload_n 0, 1) := dk_42 (dk_at dksX3_drops_3 23 rfl rfl)
theorem dX3_drops_93 : decode cX3_drops 93 = .ok (.getfield 7, 3) := dk_180 0 7 (dk_at dksX3_drops_4 0 rfl rfl)
theorem dX3_drops_96 : decode cX3_drops 96 = .ok (.iload_n 3, 1) := dk_29 (dk_at dksX3_drops_4 3 rfl rfl)
theorem dX3_drops_97 : decode cX3_drops 97 = .ok (.aload_n 0, 1) := dk_42 (dk_at dksX3_drops_4 4 rfl rfl)
theorem dX3_drops_98 : decode cX3_drops 98 = .ok (.getfield 7, 3) := dk_180 0 7 (dk_at dksX3_drops_4 5 rfl rfl)
theorem dX3_drops_101 : decode cX3_drops 101 = .ok (.iload_n 3, 1) := dk_29 (dk_at dksX3_drops_4 8 rfl rfl)
theorem dX3_drops_102 : decode cX3_drops 102 = .ok (.bipush 6, 2) := dk_16 6 (dk_at dksX3_drops_4 9 rfl rfl)
theorem dX3_drops_104 : decode cX3_drops 104 = .ok (.iadd, 1) := dk_96 (dk_at dksX3_drops_4 11 rfl rfl)
theorem dX3_drops_105 : decode cX3_drops 105 = .ok (.iaload, 1) := dk_46 (dk_at dksX3_drops_4 12 rfl rfl)
theorem dX3_drops_106 : decode cX3_drops 106 = .ok (.iastore, 1) := dk_79 (dk_at dksX3_drops_4 13 rfl rfl)
theorem dX3_drops_107 : decode cX3_drops 107 = .ok (.iinc 3 1, 3) := dk_132 3 1 (dk_at dksX3_drops_4 14 rfl rfl)
theorem dX3_drops_110 : decode cX3_drops 110 = .ok (.goto (-35), 3) := dk_167 255 221 (dk_at dksX3_drops_4 17 rfl rfl)
theorem dX3_drops_113 : decode cX3_drops 113 = .ok (.iconst 0, 1) := dk_3 (dk_at dksX3_drops_4 20 rfl rfl)
theorem dX3_drops_114 : decode cX3_drops 114 = .ok (.istore_n 3, 1) := dk_62 (dk_at dksX3_drops_4 21 rfl rfl)
theorem dX3_drops_115 : decode cX3_drops 115 = .ok (.iload_n 3, 1) := dk_29 (dk_at dksX3_drops_4 22 rfl rfl)
theorem dX3_drops_116 : decode cX3_drops 116 = .ok (.bipush 6, 2) := dk_16 6 (dk_at dksX3_drops_5 0 rfl rfl)
theorem dX3_drops_118 : decode cX3_drops 118 = .ok (.if_icmp .ge 21, 3) := dk_162 0 21 (dk_at dksX3_drops_5 2 rfl rfl)
theorem dX3_drops_121 : decode cX3_drops 121 = .ok (.aload_n 0, 1) := dk_42 (dk_at dksX3_drops_5 5 rfl rfl)
theorem dX3_drops_122 : decode cX3_drops 122 = .ok (.aload_n 0, 1) := dk_42 (dk_at dksX3_drops_5 6 rfl rfl)
theorem dX3_drops_123 : decode cX3_drops 123 = .ok (.getfield 7, 3) := dk_180 0 7 (dk_at dksX3_drops_5 7 rfl rfl)
theorem dX3_drops_126 : decode cX3_drops 126 = .ok (.iconst 3, 1) := dk_6 (dk_at dksX3_drops_5 10 rfl rfl)
theorem dX3_drops_127 : decode cX3_drops 127 = .ok (.iaload, 1) := dk_46 (dk_at dksX3_drops_5 11 rfl rfl)
theorem dX3_drops_128 : decode cX3_drops 128 = .ok (.iload_n 3, 1) := dk_29 (dk_at dksX3_drops_5 12 rfl rfl)
theorem dX3_drops_129 : decode cX3_drops 129 = .ok (.iconst 0, 1) := dk_3 (dk_at dksX3_drops_5 13 rfl rfl)
theorem dX3_drops_130 : decode cX3_drops 130 = .ok (.invokevirtual 99, 3) := dk_182 0 99 (dk_at dksX3_drops_5 14 rfl rfl)
theorem dX3_drops_133 : decode cX3_drops 133 = .ok (.iinc 3 1, 3) := dk_132 3 1 (dk_at dksX3_drops_5 17 rfl rfl)
theorem dX3_drops_136 : decode cX3_drops 136 = .ok (.goto (-21), 3) := dk_167 255 235 (dk_at dksX3_drops_5 20 rfl rfl)
theorem dX3_drops_139 : decode cX3_drops 139 = .ok (.return_, 1) := dk_177 (dk_at dksX3_drops_5 23 rfl rfl)
abbrev cX3_pass : ByteArray := prog_9_method_59_code
def yX3_pass : MethodName := ⟨RX3, "pass", "(I)I"⟩
def dkwX3_pass_2 : List UInt8 := [42, 27, 182, 0, 193, 172]
abbrev dktX3_pass_2 : List UInt8 := dkwX3_pass_2 ++ []
def dkwX3_pass_1 : List UInt8 := [164, 0, 7, 5, 167, 0, 4, 3, 181, 0, 35, 42, 180, 0, 35, 158, 0, 5, 3, 172, 42, 182, 0, 79]
abbrev dktX3_pass_1 : List UInt8 := dkwX3_pass_1 ++ dktX3_pass_2
def dkwX3_pass_0 : List UInt8 := [42, 27, 184, 0, 190, 154, 0, 7, 4, 167, 0, 22, 42, 180, 0, 7, 3, 46, 27, 96, 17, 3, 231]
abbrev dktX3_pass_0 : List UInt8 := dkwX3_pass_0 ++ dktX3_pass_1
theorem dksX3_pass_0 : cX3_pass.data.toList.drop 0 = dktX3_pass_0 := by decide +kernel
theorem dksX3_pass_1 : cX3_pass.data.toList.drop 23 = dktX3_pass_1 := dk_seg dksX3_pass_0 23 rfl rfl
theorem dksX3_pass_2 : cX3_pass.data.toList.drop 47 = dktX3_pass_2 := dk_seg dksX3_pass_1 24 rfl rfl
theorem dX3_pass_0 : decode cX3_pass 0 = .ok (.aload_n 0, 1) := dk_42 (dk_at dksX3_pass_0 0 rfl rfl)
theorem dX3_pass_1 : decode cX3_pass 1 = .ok (.iload_n 1, 1) := dk_27 (dk_at dksX3_pass_0 1 rfl rfl)
theorem dX3_pass_2 : decode cX3_pass 2 = .ok (.invokestatic 190, 3) := dk_184 0 190 (dk_at dksX3_pass_0 2 rfl rfl)
theorem dX3_pass_5 : decode cX3_pass 5 = .ok (.ifCond .ne 7, 3) := dk_154 0 7 (dk_at dksX3_pass_0 5 rfl rfl)
theorem dX3_pass_8 : decode cX3_pass 8 = .ok (.iconst 1, 1) := dk_4 (dk_at dksX3_pass_0 8 rfl rfl)
theorem dX3_pass_9 : decode cX3_pass 9 = .ok (.goto 22, 3) := dk_167 0 22 (dk_at dksX3_pass_0 9 rfl rfl)
theorem dX3_pass_12 : decode cX3_pass 12 = .ok (.aload_n 0, 1) := dk_42 (dk_at dksX3_pass_0 12 rfl rfl)
theorem dX3_pass_13 : decode cX3_pass 13 = .ok (.getfield 7, 3) := dk_180 0 7 (dk_at dksX3_pass_0 13 rfl rfl)
theorem dX3_pass_16 : decode cX3_pass 16 = .ok (.iconst 0, 1) := dk_3 (dk_at dksX3_pass_0 16 rfl rfl)
theorem dX3_pass_17 : decode cX3_pass 17 = .ok (.iaload, 1) := dk_46 (dk_at dksX3_pass_0 17 rfl rfl)
theorem dX3_pass_18 : decode cX3_pass 18 = .ok (.iload_n 1, 1) := dk_27 (dk_at dksX3_pass_0 18 rfl rfl)
theorem dX3_pass_19 : decode cX3_pass 19 = .ok (.iadd, 1) := dk_96 (dk_at dksX3_pass_0 19 rfl rfl)
theorem dX3_pass_20 : decode cX3_pass 20 = .ok (.sipush 999, 3) := dk_17 3 231 (dk_at dksX3_pass_0 20 rfl rfl)
theorem dX3_pass_23 : decode cX3_pass 23 = .ok (.if_icmp .le 7, 3) := dk_164 0 7 (dk_at dksX3_pass_1 0 rfl rfl)
theorem dX3_pass_26 : decode cX3_pass 26 = .ok (.iconst 2, 1) := dk_5 (dk_at dksX3_pass_1 3 rfl rfl)
theorem dX3_pass_27 : decode cX3_pass 27 = .ok (.goto 4, 3) := dk_167 0 4 (dk_at dksX3_pass_1 4 rfl rfl)
theorem dX3_pass_30 : decode cX3_pass 30 = .ok (.iconst 0, 1) := dk_3 (dk_at dksX3_pass_1 7 rfl rfl)
theorem dX3_pass_31 : decode cX3_pass 31 = .ok (.putfield 35, 3) := dk_181 0 35 (dk_at dksX3_pass_1 8 rfl rfl)
theorem dX3_pass_34 : decode cX3_pass 34 = .ok (.aload_n 0, 1) := dk_42 (dk_at dksX3_pass_1 11 rfl rfl)
theorem dX3_pass_35 : decode cX3_pass 35 = .ok (.getfield 35, 3) := dk_180 0 35 (dk_at dksX3_pass_1 12 rfl rfl)
theorem dX3_pass_38 : decode cX3_pass 38 = .ok (.ifCond .le 5, 3) := dk_158 0 5 (dk_at dksX3_pass_1 15 rfl rfl)
theorem dX3_pass_41 : decode cX3_pass 41 = .ok (.iconst 0, 1) := dk_3 (dk_at dksX3_pass_1 18 rfl rfl)
theorem dX3_pass_42 : decode cX3_pass 42 = .ok (.ireturn, 1) := dk_172 (dk_at dksX3_pass_1 19 rfl rfl)
theorem dX3_pass_43 : decode cX3_pass 43 = .ok (.aload_n 0, 1) := dk_42 (dk_at dksX3_pass_1 20 rfl rfl)
theorem dX3_pass_44 : decode cX3_pass 44 = .ok (.invokevirtual 79, 3) := dk_182 0 79 (dk_at dksX3_pass_1 21 rfl rfl)
theorem dX3_pass_47 : decode cX3_pass 47 = .ok (.aload_n 0, 1) := dk_42 (dk_at dksX3_pass_2 0 rfl rfl)
theorem dX3_pass_48 : decode cX3_pass 48 = .ok (.iload_n 1, 1) := dk_27 (dk_at dksX3_pass_2 1 rfl rfl)
theorem dX3_pass_49 : decode cX3_pass 49 = .ok (.invokevirtual 193, 3) := dk_182 0 193 (dk_at dksX3_pass_2 2 rfl rfl)
theorem dX3_pass_52 : decode cX3_pass 52 = .ok (.ireturn, 1) := dk_172 (dk_at dksX3_pass_2 5 rfl rfl)
abbrev cX3_areYears : ByteArray := prog_9_method_58_code
def yX3_areYears : MethodName := ⟨RX3, "areYears", "(I)Z"⟩
def dkwX3_areYears_0 : List UInt8 := [26, 4, 16, 20, 184, 0, 42, 172]
abbrev dktX3_areYears_0 : List UInt8 := dkwX3_areYears_0 ++ []
theorem dksX3_areYears_0 : cX3_areYears.data.toList.drop 0 = dktX3_areYears_0 := by decide +kernel
theorem dX3_areYears_0 : decode cX3_areYears 0 = .ok (.iload_n 0, 1) := dk_26 (dk_at dksX3_areYears_0 0 rfl rfl)
theorem dX3_areYears_1 : decode cX3_areYears 1 = .ok (.iconst 1, 1) := dk_4 (dk_at dksX3_areYears_0 1 rfl rfl)
theorem dX3_areYears_2 : decode cX3_areYears 2 = .ok (.bipush 20, 2) := dk_16 20 (dk_at dksX3_areYears_0 2 rfl rfl)
theorem dX3_areYears_4 : decode cX3_areYears 4 = .ok (.invokestatic 42, 3) := dk_184 0 42 (dk_at dksX3_areYears_0 4 rfl rfl)
theorem dX3_areYears_7 : decode cX3_areYears 7 = .ok (.ireturn, 1) := dk_172 (dk_at dksX3_areYears_0 7 rfl rfl)
abbrev cX3_years : ByteArray := prog_9_method_57_code
def yX3_years : MethodName := ⟨RX3, "years", "(I)I"⟩
def dkwX3_years_0 : List UInt8 := [3, 61, 28, 27, 162, 0, 13, 42, 182, 0, 187, 132, 2, 1, 167, 255, 244, 42, 180, 0, 7, 6, 46, 172]
abbrev dktX3_years_0 : List UInt8 := dkwX3_years_0 ++ []
theorem dksX3_years_0 : cX3_years.data.toList.drop 0 = dktX3_years_0 := by decide +kernel
theorem dX3_years_0 : decode cX3_years 0 = .ok (.iconst 0, 1) := dk_3 (dk_at dksX3_years_0 0 rfl rfl)
theorem dX3_years_1 : decode cX3_years 1 = .ok (.istore_n 2, 1) := dk_61 (dk_at dksX3_years_0 1 rfl rfl)
theorem dX3_years_2 : decode cX3_years 2 = .ok (.iload_n 2, 1) := dk_28 (dk_at dksX3_years_0 2 rfl rfl)
theorem dX3_years_3 : decode cX3_years 3 = .ok (.iload_n 1, 1) := dk_27 (dk_at dksX3_years_0 3 rfl rfl)
theorem dX3_years_4 : decode cX3_years 4 = .ok (.if_icmp .ge 13, 3) := dk_162 0 13 (dk_at dksX3_years_0 4 rfl rfl)
theorem dX3_years_7 : decode cX3_years 7 = .ok (.aload_n 0, 1) := dk_42 (dk_at dksX3_years_0 7 rfl rfl)
theorem dX3_years_8 : decode cX3_years 8 = .ok (.invokevirtual 187, 3) := dk_182 0 187 (dk_at dksX3_years_0 8 rfl rfl)
theorem dX3_years_11 : decode cX3_years 11 = .ok (.iinc 2 1, 3) := dk_132 2 1 (dk_at dksX3_years_0 11 rfl rfl)
theorem dX3_years_14 : decode cX3_years 14 = .ok (.goto (-12), 3) := dk_167 255 244 (dk_at dksX3_years_0 14 rfl rfl)
theorem dX3_years_17 : decode cX3_years 17 = .ok (.aload_n 0, 1) := dk_42 (dk_at dksX3_years_0 17 rfl rfl)
theorem dX3_years_18 : decode cX3_years 18 = .ok (.getfield 7, 3) := dk_180 0 7 (dk_at dksX3_years_0 18 rfl rfl)
theorem dX3_years_21 : decode cX3_years 21 = .ok (.iconst 3, 1) := dk_6 (dk_at dksX3_years_0 21 rfl rfl)
theorem dX3_years_22 : decode cX3_years 22 = .ok (.iaload, 1) := dk_46 (dk_at dksX3_years_0 22 rfl rfl)
theorem dX3_years_23 : decode cX3_years 23 = .ok (.ireturn, 1) := dk_172 (dk_at dksX3_years_0 23 rfl rfl)
abbrev cX3_passesYear : ByteArray := prog_9_method_56_code
def yX3_passesYear : MethodName := ⟨RX3, "passesYear", "()V"⟩
def dkwX3_passesYear_7 : List UInt8 := [180, 0, 7, 6, 46, 167, 0, 10, 42, 180, 0, 7, 16, 8, 46, 79, 177]
abbrev dktX3_passesYear_7 : List UInt8 := dkwX3_passesYear_7 ++ []
def dkwX3_passesYear_6 : List UInt8 := [180, 0, 7, 16, 8, 42, 180, 0, 7, 6, 46, 42, 180, 0, 7, 16, 8, 46, 164, 0, 12, 42]
abbrev dktX3_passesYear_6 : List UInt8 := dkwX3_passesYear_6 ++ dktX3_passesYear_7
def dkwX3_passesYear_5 : List UInt8 := [42, 27, 182, 0, 184, 132, 1, 1, 167, 255, 218, 42, 180, 0, 7, 3, 92, 46, 4, 96, 79, 42]
abbrev dktX3_passesYear_5 : List UInt8 := dkwX3_passesYear_5 ++ dktX3_passesYear_6
def dkwX3_passesYear_4 : List UInt8 := [46, 162, 0, 34, 42, 27, 8, 182, 0, 93, 2, 160, 0, 18, 42, 27, 5, 182, 0, 93, 4, 161, 0, 8]
abbrev dktX3_passesYear_4 : List UInt8 := dkwX3_passesYear_4 ++ dktX3_passesYear_5
def dkwX3_passesYear_3 : List UInt8 := [5, 46, 162, 0, 14, 42, 27, 182, 0, 181, 132, 1, 1, 167, 255, 238, 3, 60, 27, 42, 180, 0, 7, 6]
abbrev dktX3_passesYear_3 : List UInt8 := dkwX3_passesYear_3 ++ dktX3_passesYear_4
def dkwX3_passesYear_2 : List UInt8 := [182, 0, 172, 132, 1, 1, 167, 255, 238, 42, 182, 0, 175, 42, 182, 0, 178, 3, 60, 27, 42, 180, 0, 7]
abbrev dktX3_passesYear_2 : List UInt8 := dkwX3_passesYear_2 ++ dktX3_passesYear_3
def dkwX3_passesYear_1 : List UInt8 := [182, 0, 169, 79, 132, 1, 1, 167, 255, 233, 3, 60, 27, 42, 180, 0, 7, 5, 46, 162, 0, 14, 42, 27]
abbrev dktX3_passesYear_1 : List UInt8 := dkwX3_passesYear_1 ++ dktX3_passesYear_2
def dkwX3_passesYear_0 : List UInt8 := [42, 182, 0, 166, 3, 60, 27, 16, 64, 162, 0, 23, 42, 180, 0, 7, 16, 80, 27, 96, 42, 27]
abbrev dktX3_passesYear_0 : List UInt8 := dkwX3_passesYear_0 ++ dktX3_passesYear_1
theorem dksX3_passesYear_0 : cX3_passesYear.data.toList.drop 0 = dktX3_passesYear_0 := by decide +kernel
theorem dksX3_passesYear_1 : cX3_passesYear.data.toList.drop 22 = dktX3_passesYear_1 := dk_seg dksX3_passesYear_0 22 rfl rfl
theorem dksX3_passesYear_2 : cX3_passesYear.data.toList.drop 46 = dktX3_passesYear_2 := dk_seg dksX3_passesYear_1 24 rfl rfl
theorem dksX3_passesYear_3 : cX3_passesYear.data.toList.drop 70 = dktX3_passesYear_3 := dk_seg dksX3_passesYear_2 24 rfl rfl
theorem dksX3_passesYear_4 : cX3_passesYear.data.toList.drop 94 = dktX3_passesYear_4 := dk_seg dksX3_passesYear_3 24 rfl rfl
theorem dksX3_passesYear_5 : cX3_passesYear.data.toList.drop 118 = dktX3_passesYear_5 := dk_seg dksX3_passesYear_4 24 rfl rfl
theorem dksX3_passesYear_6 : cX3_passesYear.data.toList.drop 140 = dktX3_passesYear_6 := dk_seg dksX3_passesYear_5 22 rfl rfl
theorem dksX3_passesYear_7 : cX3_passesYear.data.toList.drop 162 = dktX3_passesYear_7 := dk_seg dksX3_passesYear_6 22 rfl rfl
theorem dX3_passesYear_0 : decode cX3_passesYear 0 = .ok (.aload_n 0, 1) := dk_42 (dk_at dksX3_passesYear_0 0 rfl rfl)
theorem dX3_passesYear_1 : decode cX3_passesYear 1 = .ok (.invokevirtual 166, 3) := dk_182 0 166 (dk_at dksX3_passesYear_0 1 rfl rfl)
theorem dX3_passesYear_4 : decode cX3_passesYear 4 = .ok (.iconst 0, 1) := dk_3 (dk_at dksX3_passesYear_0 4 rfl rfl)
theorem dX3_passesYear_5 : decode cX3_passesYear 5 = .ok (.istore_n 1, 1) := dk_60 (dk_at dksX3_passesYear_0 5 rfl rfl)
theorem dX3_passesYear_6 : decode cX3_passesYear 6 = .ok (.iload_n 1, 1) := dk_27 (dk_at dksX3_passesYear_0 6 rfl rfl)
theorem dX3_passesYear_7 : decode cX3_passesYear 7 = .ok (.bipush 64, 2) := dk_16 64 (dk_at dksX3_passesYear_0 7 rfl rfl)
theorem dX3_passesYear_9 : decode cX3_passesYear 9 = .ok (.if_icmp .ge 23, 3) := dk_162 0 23 (dk_at dksX3_passesYear_0 9 rfl rfl)
theorem dX3_passesYear_12 : decode cX3_passesYear 12 = .ok (.aload_n 0, 1) := dk_42 (dk_at dksX3_passesYear_0 12 rfl rfl)
theorem dX3_passesYear_13 : decode cX3_passesYear 13 = .ok (.getfield 7, 3) := dk_180 0 7 (dk_at dksX3_passesYear_0 13 rfl rfl)
theorem dX3_passesYear_16 : decode cX3_passesYear 16 = .ok (.bipush 80, 2) := dk_16 80 (dk_at dksX3_passesYear_0 16 rfl rfl)
theorem dX3_passesYear_18 : decode cX3_passesYear 18 = .ok (.iload_n 1, 1) := dk_27 (dk_at dksX3_passesYear_0 18 rfl rfl)
theorem dX3_passesYear_19 : decode cX3_passesYear 19 = .ok (.iadd, 1) := dk_96 (dk_at dksX3_passesYear_0 19 rfl rfl)
theorem dX3_passesYear_20 : decode cX3_passesYear 20 = .ok (.aload_n 0, 1) := dk_42 (dk_at dksX3_passesYear_0 20 rfl rfl)
theorem dX3_passesYear_21 : decode cX3_passesYear 21 = .ok (.iload_n 1, 1) := dk_27 (dk_at dksX3_passesYear_0 21 rfl rfl)
theorem dX3_passesYear_22 : decode cX3_passesYear 22 = .ok (.invokevirtual 169, 3) := dk_182 0 169 (dk_at dksX3_passesYear_1 0 rfl rfl)
theorem dX3_passesYear_25 : decode cX3_passesYear 25 = .ok (.iastore, 1) := dk_79 (dk_at dksX3_passesYear_1 3 rfl rfl)
theorem dX3_passesYear_26 : decode cX3_passesYear 26 = .ok (.iinc 1 1, 3) := dk_132 1 1 (dk_at dksX3_passesYear_1 4 rfl rfl)
theorem dX3_passesYear_29 : decode cX3_passesYear 29 = .ok (.goto (-23), 3) := dk_167 255 233 (dk_at dksX3_passesYear_1 7 rfl rfl)
theorem dX3_passesYear_32 : decode cX3_passesYear 32 = .ok (.iconst 0, 1) := dk_3 (dk_at dksX3_passesYear_1 10 rfl rfl)
theorem dX3_passesYear_33 : decode cX3_passesYear 33 = .ok (.istore_n 1, 1) := dk_60 (dk_at dksX3_passesYear_1 11 rfl rfl)
theorem dX3_passesYear_34 : decode cX3_passesYear 34 = .ok (.iload_n 1, 1) := dk_27 (dk_at dksX3_passesYear_1 12 rfl rfl)
theorem dX3_passesYear_35 : decode cX3_passesYear 35 = .ok (.aload_n 0, 1) := dk_42 (dk_at dksX3_passesYear_1 13 rfl rfl)
theorem dX3_passesYear_36 : decode cX3_passesYear 36 = .ok (.getfield 7, 3) := dk_180 0 7 (dk_at dksX3_passesYear_1 14 rfl rfl)
theorem dX3_passesYear_39 : decode cX3_passesYear 39 = .ok (.iconst 2, 1) := dk_5 (dk_at dksX3_passesYear_1 17 rfl rfl)
theorem dX3_passesYear_40 : decode cX3_passesYear 40 = .ok (.iaload, 1) := dk_46 (dk_at dksX3_passesYear_1 18 rfl rfl)
theorem dX3_passesYear_41 : decode cX3_passesYear 41 = .ok (.if_icmp .ge 14, 3) := dk_162 0 14 (dk_at dksX3_passesYear_1 19 rfl rfl)
theorem dX3_passesYear_44 : decode cX3_passesYear 44 = .ok (.aload_n 0, 1) := dk_42 (dk_at dksX3_passesYear_1 22 rfl rfl)
theorem dX3_passesYear_45 : decode cX3_passesYear 45 = .ok (.iload_n 1, 1) := dk_27 (dk_at dksX3_passesYear_1 23 rfl rfl)
theorem dX3_passesYear_46 : decode cX3_passesYear 46 = .ok (.invokevirtual 172, 3) := dk_182 0 172 (dk_at dksX3_passesYear_2 0 rfl rfl)
theorem dX3_passesYear_49 : decode cX3_passesYear 49 = .ok (.iinc 1 1, 3) := dk_132 1 1 (dk_at dksX3_passesYear_2 3 rfl rfl)
theorem dX3_passesYear_52 : decode cX3_passesYear 52 = .ok (.goto (-18), 3) := dk_167 255 238 (dk_at dksX3_passesYear_2 6 rfl rfl)
theorem dX3_passesYear_55 : decode cX3_passesYear 55 = .ok (.aload_n 0, 1) := dk_42 (dk_at dksX3_passesYear_2 9 rfl rfl)
theorem dX3_passesYear_56 : decode cX3_passesYear 56 = .ok (.invokevirtual 175, 3) := dk_182 0 175 (dk_at dksX3_passesYear_2 10 rfl rfl)
theorem dX3_passesYear_59 : decode cX3_passesYear 59 = .ok (.aload_n 0, 1) := dk_42 (dk_at dksX3_passesYear_2 13 rfl rfl)
theorem dX3_passesYear_60 : decode cX3_passesYear 60 = .ok (.invokevirtual 178, 3) := dk_182 0 178 (dk_at dksX3_passesYear_2 14 rfl rfl)
theorem dX3_passesYear_63 : decode cX3_passesYear 63 = .ok (.iconst 0, 1) := dk_3 (dk_at dksX3_passesYear_2 17 rfl rfl)
theorem dX3_passesYear_64 : decode cX3_passesYear 64 = .ok (.istore_n 1, 1) := dk_60 (dk_at dksX3_passesYear_2 18 rfl rfl)
theorem dX3_passesYear_65 : decode cX3_passesYear 65 = .ok (.iload_n 1, 1) := dk_27 (dk_at dksX3_passesYear_2 19 rfl rfl)
theorem dX3_passesYear_66 : decode cX3_passesYear 66 = .ok (.aload_n 0, 1) := dk_42 (dk_at dksX3_passesYear_2 20 rfl rfl)
theorem dX3_passesYear_67 : decode cX3_passesYear 67 = .ok (.getfield 7, 3) := dk_180 0 7 (dk_at dksX3_passesYear_2 21 rfl rfl)
theorem dX3_passesYear_70 : decode cX3_passesYear 70 = .ok (.iconst 2, 1) := dk_5 (dk_at dksX3_passesYear_3 0 rfl rfl)
theorem dX3_passesYear_71 : decode cX3_passesYear 71 = .ok (.iaload, 1) := dk_46 (dk_at dksX3_passesYear_3 1 rfl rfl)
theorem dX3_passesYear_72 : decode cX3_passesYear 72 = .ok (.if_icmp .ge 14, 3) := dk_162 0 14 (dk_at dksX3_passesYear_3 2 rfl rfl)
theorem dX3_passesYear_75 : decode cX3_passesYear 75 = .ok (.aload_n 0, 1) := dk_42 (dk_at dksX3_passesYear_3 5 rfl rfl)
theorem dX3_passesYear_76 : decode cX3_passesYear 76 = .ok (.iload_n 1, 1) := dk_27 (dk_at dksX3_passesYear_3 6 rfl rfl)
theorem dX3_passesYear_77 : decode cX3_passesYear 77 = .ok (.invokevirtual 181, 3) := dk_182 0 181 (dk_at dksX3_passesYear_3 7 rfl rfl)
theorem dX3_passesYear_80 : decode cX3_passesYear 80 = .ok (.iinc 1 1, 3) := dk_132 1 1 (dk_at dksX3_passesYear_3 10 rfl rfl)
theorem dX3_passesYear_83 : decode cX3_passesYear 83 = .ok (.goto (-18), 3) := dk_167 255 238 (dk_at dksX3_passesYear_3 13 rfl rfl)
theorem dX3_passesYear_86 : decode cX3_passesYear 86 = .ok (.iconst 0, 1) := dk_3 (dk_at dksX3_passesYear_3 16 rfl rfl)
theorem dX3_passesYear_87 : decode cX3_passesYear 87 = .ok (.istore_n 1, 1) := dk_60 (dk_at dksX3_passesYear_3 17 rfl rfl)
theorem dX3_passesYear_88 : decode cX3_passesYear 88 = .ok (.iload_n 1, 1) := dk_27 (dk_at dksX3_passesYear_3 18 rfl rfl)
theorem dX3_passesYear_89 : decode cX3_passesYear 89 = .ok (.aload_n 0, 1) := dk_42 (dk_at dksX3_passesYear_3 19 rfl rfl)
theorem dX3_passesYear_90 : decode cX3_passesYear 90 = .ok (.getfield 7, 3) := dk_180 0 7 (dk_at dksX3_passesYear_3 20 rfl rfl)
theorem dX3_passesYear_93 : decode cX3_passesYear 93 = .ok (.iconst 3, 1) := dk_6 (dk_at dksX3_passesYear_3 23 rfl rfl)
theorem dX3_passesYear_94 : decode cX3_passesYear 94 = .ok (.iaload, 1) := dk_46 (dk_at dksX3_passesYear_4 0 rfl rfl)
theorem dX3_passesYear_95 : decode cX3_passesYear 95 = .ok (.if_icmp .ge 34, 3) := dk_162 0 34 (dk_at dksX3_passesYear_4 1 rfl rfl)
theorem dX3_passesYear_98 : decode cX3_passesYear 98 = .ok (.aload_n 0, 1) := dk_42 (dk_at dksX3_passesYear_4 4 rfl rfl)
theorem dX3_passesYear_99 : decode cX3_passesYear 99 = .ok (.iload_n 1, 1) := dk_27 (dk_at dksX3_passesYear_4 5 rfl rfl)
theorem dX3_passesYear_100 : decode cX3_passesYear 100 = .ok (.iconst 5, 1) := dk_8 (dk_at dksX3_passesYear_4 6 rfl rfl)
theorem dX3_passesYear_101 : decode cX3_passesYear 101 = .ok (.invokevirtual 93, 3) := dk_182 0 93 (dk_at dksX3_passesYear_4 7 rfl rfl)
theorem dX3_passesYear_104 : decode cX3_passesYear 104 = .ok (.iconst (-1), 1) := dk_2 (dk_at dksX3_passesYear_4 10 rfl rfl)
theorem dX3_passesYear_105 : decode cX3_passesYear 105 = .ok (.if_icmp .ne 18, 3) := dk_160 0 18 (dk_at dksX3_passesYear_4 11 rfl rfl)
theorem dX3_passesYear_108 : decode cX3_passesYear 108 = .ok (.aload_n 0, 1) := dk_42 (dk_at dksX3_passesYear_4 14 rfl rfl)
theorem dX3_passesYear_109 : decode cX3_passesYear 109 = .ok (.iload_n 1, 1) := dk_27 (dk_at dksX3_passesYear_4 15 rfl rfl)
theorem dX3_passesYear_110 : decode cX3_passesYear 110 = .ok (.iconst 2, 1) := dk_5 (dk_at dksX3_passesYear_4 16 rfl rfl)
theorem dX3_passesYear_111 : decode cX3_passesYear 111 = .ok (.invokevirtual 93, 3) := dk_182 0 93 (dk_at dksX3_passesYear_4 17 rfl rfl)
theorem dX3_passesYear_114 : decode cX3_passesYear 114 = .ok (.iconst 1, 1) := dk_4 (dk_at dksX3_passesYear_4 20 rfl rfl)
theorem dX3_passesYear_115 : decode cX3_passesYear 115 = .ok (.if_icmp .lt 8, 3) := dk_161 0 8 (dk_at dksX3_passesYear_4 21 rfl rfl)
theorem dX3_passesYear_118 : decode cX3_passesYear 118 = .ok (.aload_n 0, 1) := dk_42 (dk_at dksX3_passesYear_5 0 rfl rfl)
theorem dX3_passesYear_119 : decode cX3_passesYear 119 = .ok (.iload_n 1, 1) := dk_27 (dk_at dksX3_passesYear_5 1 rfl rfl)
theorem dX3_passesYear_120 : decode cX3_passesYear 120 = .ok (.invokevirtual 184, 3) := dk_182 0 184 (dk_at dksX3_passesYear_5 2 rfl rfl)
theorem dX3_passesYear_123 : decode cX3_passesYear 123 = .ok (.iinc 1 1, 3) := dk_132 1 1 (dk_at dksX3_passesYear_5 5 rfl rfl)
theorem dX3_passesYear_126 : decode cX3_passesYear 126 = .ok (.goto (-38), 3) := dk_167 255 218 (dk_at dksX3_passesYear_5 8 rfl rfl)
theorem dX3_passesYear_129 : decode cX3_passesYear 129 = .ok (.aload_n 0, 1) := dk_42 (dk_at dksX3_passesYear_5 11 rfl rfl)
theorem dX3_passesYear_130 : decode cX3_passesYear 130 = .ok (.getfield 7, 3) := dk_180 0 7 (dk_at dksX3_passesYear_5 12 rfl rfl)
theorem dX3_passesYear_133 : decode cX3_passesYear 133 = .ok (.iconst 0, 1) := dk_3 (dk_at dksX3_passesYear_5 15 rfl rfl)
theorem dX3_passesYear_134 : decode cX3_passesYear 134 = .ok (.dup2, 1) := dk_92 (dk_at dksX3_passesYear_5 16 rfl rfl)
theorem dX3_passesYear_135 : decode cX3_passesYear 135 = .ok (.iaload, 1) := dk_46 (dk_at dksX3_passesYear_5 17 rfl rfl)
theorem dX3_passesYear_136 : decode cX3_passesYear 136 = .ok (.iconst 1, 1) := dk_4 (dk_at dksX3_passesYear_5 18 rfl rfl)
theorem dX3_passesYear_137 : decode cX3_passesYear 137 = .ok (.iadd, 1) := dk_96 (dk_at dksX3_passesYear_5 19 rfl rfl)
theorem dX3_passesYear_138 : decode cX3_passesYear 138 = .ok (.iastore, 1) := dk_79 (dk_at dksX3_passesYear_5 20 rfl rfl)
theorem dX3_passesYear_139 : decode cX3_passesYear 139 = .ok (.aload_n 0, 1) := dk_42 (dk_at dksX3_passesYear_5 21 rfl rfl)
theorem dX3_passesYear_140 : decode cX3_passesYear 140 = .ok (.getfield 7, 3) := dk_180 0 7 (dk_at dksX3_passesYear_6 0 rfl rfl)
theorem dX3_passesYear_143 : decode cX3_passesYear 143 = .ok (.bipush 8, 2) := dk_16 8 (dk_at dksX3_passesYear_6 3 rfl rfl)
theorem dX3_passesYear_145 : decode cX3_passesYear 145 = .ok (.aload_n 0, 1) := dk_42 (dk_at dksX3_passesYear_6 5 rfl rfl)
theorem dX3_passesYear_146 : decode cX3_passesYear 146 = .ok (.getfield 7, 3) := dk_180 0 7 (dk_at dksX3_passesYear_6 6 rfl rfl)
theorem dX3_passesYear_149 : decode cX3_passesYear 149 = .ok (.iconst 3, 1) := dk_6 (dk_at dksX3_passesYear_6 9 rfl rfl)
theorem dX3_passesYear_150 : decode cX3_passesYear 150 = .ok (.iaload, 1) := dk_46 (dk_at dksX3_passesYear_6 10 rfl rfl)
theorem dX3_passesYear_151 : decode cX3_passesYear 151 = .ok (.aload_n 0, 1) := dk_42 (dk_at dksX3_passesYear_6 11 rfl rfl)
theorem dX3_passesYear_152 : decode cX3_passesYear 152 = .ok (.getfield 7, 3) := dk_180 0 7 (dk_at dksX3_passesYear_6 12 rfl rfl)
theorem dX3_passesYear_155 : decode cX3_passesYear 155 = .ok (.bipush 8, 2) := dk_16 8 (dk_at dksX3_passesYear_6 15 rfl rfl)
theorem dX3_passesYear_157 : decode cX3_passesYear 157 = .ok (.iaload, 1) := dk_46 (dk_at dksX3_passesYear_6 17 rfl rfl)
theorem dX3_passesYear_158 : decode cX3_passesYear 158 = .ok (.if_icmp .le 12, 3) := dk_164 0 12 (dk_at dksX3_passesYear_6 18 rfl rfl)
theorem dX3_passesYear_161 : decode cX3_passesYear 161 = .ok (.aload_n 0, 1) := dk_42 (dk_at dksX3_passesYear_6 21 rfl rfl)
theorem dX3_passesYear_162 : decode cX3_passesYear 162 = .ok (.getfield 7, 3) := dk_180 0 7 (dk_at dksX3_passesYear_7 0 rfl rfl)
theorem dX3_passesYear_165 : decode cX3_passesYear 165 = .ok (.iconst 3, 1) := dk_6 (dk_at dksX3_passesYear_7 3 rfl rfl)
theorem dX3_passesYear_166 : decode cX3_passesYear 166 = .ok (.iaload, 1) := dk_46 (dk_at dksX3_passesYear_7 4 rfl rfl)
theorem dX3_passesYear_167 : decode cX3_passesYear 167 = .ok (.goto 10, 3) := dk_167 0 10 (dk_at dksX3_passesYear_7 5 rfl rfl)
theorem dX3_passesYear_170 : decode cX3_passesYear 170 = .ok (.aload_n 0, 1) := dk_42 (dk_at dksX3_passesYear_7 8 rfl rfl)
theorem dX3_passesYear_171 : decode cX3_passesYear 171 = .ok (.getfield 7, 3) := dk_180 0 7 (dk_at dksX3_passesYear_7 9 rfl rfl)
theorem dX3_passesYear_174 : decode cX3_passesYear 174 = .ok (.bipush 8, 2) := dk_16 8 (dk_at dksX3_passesYear_7 12 rfl rfl)
theorem dX3_passesYear_176 : decode cX3_passesYear 176 = .ok (.iaload, 1) := dk_46 (dk_at dksX3_passesYear_7 14 rfl rfl)
theorem dX3_passesYear_177 : decode cX3_passesYear 177 = .ok (.iastore, 1) := dk_79 (dk_at dksX3_passesYear_7 15 rfl rfl)
theorem dX3_passesYear_178 : decode cX3_passesYear 178 = .ok (.return_, 1) := dk_177 (dk_at dksX3_passesYear_7 16 rfl rfl)
abbrev cX3_laysRanges : ByteArray := prog_9_method_15_code
def yX3_laysRanges : MethodName := ⟨RX3, "laysRanges", "()V"⟩
def dkwX3_laysRanges_1 : List UInt8 := [17, 0, 144, 27, 96, 46, 182, 0, 66, 80, 132, 1, 1, 167, 255, 223, 177]
abbrev dktX3_laysRanges_1 : List UInt8 := dkwX3_laysRanges_1 ++ []
def dkwX3_laysRanges_0 : List UInt8 := [3, 60, 27, 42, 180, 0, 7, 5, 46, 162, 0, 29, 42, 180, 0, 22, 27, 42, 42, 180, 0, 7]
abbrev dktX3_laysRanges_0 : List UInt8 := dkwX3_laysRanges_0 ++ dktX3_laysRanges_1
theorem dksX3_laysRanges_0 : cX3_laysRanges.data.toList.drop 0 = dktX3_laysRanges_0 := by decide +kernel
theorem dksX3_laysRanges_1 : cX3_laysRanges.data.toList.drop 22 = dktX3_laysRanges_1 := dk_seg dksX3_laysRanges_0 22 rfl rfl
theorem dX3_laysRanges_0 : decode cX3_laysRanges 0 = .ok (.iconst 0, 1) := dk_3 (dk_at dksX3_laysRanges_0 0 rfl rfl)
theorem dX3_laysRanges_1 : decode cX3_laysRanges 1 = .ok (.istore_n 1, 1) := dk_60 (dk_at dksX3_laysRanges_0 1 rfl rfl)
theorem dX3_laysRanges_2 : decode cX3_laysRanges 2 = .ok (.iload_n 1, 1) := dk_27 (dk_at dksX3_laysRanges_0 2 rfl rfl)
theorem dX3_laysRanges_3 : decode cX3_laysRanges 3 = .ok (.aload_n 0, 1) := dk_42 (dk_at dksX3_laysRanges_0 3 rfl rfl)
theorem dX3_laysRanges_4 : decode cX3_laysRanges 4 = .ok (.getfield 7, 3) := dk_180 0 7 (dk_at dksX3_laysRanges_0 4 rfl rfl)
theorem dX3_laysRanges_7 : decode cX3_laysRanges 7 = .ok (.iconst 2, 1) := dk_5 (dk_at dksX3_laysRanges_0 7 rfl rfl)
theorem dX3_laysRanges_8 : decode cX3_laysRanges 8 = .ok (.iaload, 1) := dk_46 (dk_at dksX3_laysRanges_0 8 rfl rfl)
theorem dX3_laysRanges_9 : decode cX3_laysRanges 9 = .ok (.if_icmp .ge 29, 3) := dk_162 0 29 (dk_at dksX3_laysRanges_0 9 rfl rfl)
theorem dX3_laysRanges_12 : decode cX3_laysRanges 12 = .ok (.aload_n 0, 1) := dk_42 (dk_at dksX3_laysRanges_0 12 rfl rfl)
theorem dX3_laysRanges_13 : decode cX3_laysRanges 13 = .ok (.getfield 22, 3) := dk_180 0 22 (dk_at dksX3_laysRanges_0 13 rfl rfl)
theorem dX3_laysRanges_16 : decode cX3_laysRanges 16 = .ok (.iload_n 1, 1) := dk_27 (dk_at dksX3_laysRanges_0 16 rfl rfl)
theorem dX3_laysRanges_17 : decode cX3_laysRanges 17 = .ok (.aload_n 0, 1) := dk_42 (dk_at dksX3_laysRanges_0 17 rfl rfl)
theorem dX3_laysRanges_18 : decode cX3_laysRanges 18 = .ok (.aload_n 0, 1) := dk_42 (dk_at dksX3_laysRanges_0 18 rfl rfl)
theorem dX3_laysRanges_19 : decode cX3_laysRanges 19 = .ok (.getfield 7, 3) := dk_180 0 7 (dk_at dksX3_laysRanges_0 19 rfl rfl)
theorem dX3_laysRanges_22 : decode cX3_laysRanges 22 = .ok (.sipush 144, 3) := dk_17 0 144 (dk_at dksX3_laysRanges_1 0 rfl rfl)
theorem dX3_laysRanges_25 : decode cX3_laysRanges 25 = .ok (.iload_n 1, 1) := dk_27 (dk_at dksX3_laysRanges_1 3 rfl rfl)
theorem dX3_laysRanges_26 : decode cX3_laysRanges 26 = .ok (.iadd, 1) := dk_96 (dk_at dksX3_laysRanges_1 4 rfl rfl)
theorem dX3_laysRanges_27 : decode cX3_laysRanges 27 = .ok (.iaload, 1) := dk_46 (dk_at dksX3_laysRanges_1 5 rfl rfl)
theorem dX3_laysRanges_28 : decode cX3_laysRanges 28 = .ok (.invokevirtual 66, 3) := dk_182 0 66 (dk_at dksX3_laysRanges_1 6 rfl rfl)
theorem dX3_laysRanges_31 : decode cX3_laysRanges 31 = .ok (.lastore, 1) := dk_80 (dk_at dksX3_laysRanges_1 9 rfl rfl)
theorem dX3_laysRanges_32 : decode cX3_laysRanges 32 = .ok (.iinc 1 1, 3) := dk_132 1 1 (dk_at dksX3_laysRanges_1 10 rfl rfl)
theorem dX3_laysRanges_35 : decode cX3_laysRanges 35 = .ok (.goto (-33), 3) := dk_167 255 223 (dk_at dksX3_laysRanges_1 13 rfl rfl)
theorem dX3_laysRanges_38 : decode cX3_laysRanges 38 = .ok (.return_, 1) := dk_177 (dk_at dksX3_laysRanges_1 16 rfl rfl)
abbrev cX3_rangeFrom : ByteArray := prog_9_method_14_code
def yX3_rangeFrom : MethodName := ⟨RX3, "rangeFrom", "(I)J"⟩
def dkwX3_rangeFrom_5 : List UInt8 := [167, 255, 163, 167, 255, 147, 32, 173]
abbrev dktX3_rangeFrom_5 : List UInt8 := dkwX3_rangeFrom_5 ++ []
def dkwX3_rangeFrom_4 : List UInt8 := [184, 0, 62, 153, 0, 10, 32, 10, 21, 6, 121, 129, 65, 132, 8, 1, 167, 255, 214, 132, 6, 1]
abbrev dktX3_rangeFrom_4 : List UInt8 := dkwX3_rangeFrom_4 ++ dktX3_rangeFrom_5
def dkwX3_rangeFrom_3 : List UInt8 := [162, 0, 41, 21, 7, 153, 0, 36, 22, 4, 21, 8, 184, 0, 50, 153, 0, 20, 21, 6, 21, 8]
abbrev dktX3_rangeFrom_3 : List UInt8 := dkwX3_rangeFrom_3 ++ dktX3_rangeFrom_4
def dkwX3_rangeFrom_2 : List UInt8 := [21, 6, 182, 0, 58, 154, 0, 7, 4, 167, 0, 4, 3, 54, 7, 3, 54, 8, 21, 8, 16, 64]
abbrev dktX3_rangeFrom_2 : List UInt8 := dkwX3_rangeFrom_2 ++ dktX3_rangeFrom_3
def dkwX3_rangeFrom_1 : List UInt8 := [162, 0, 92, 32, 21, 6, 184, 0, 50, 154, 0, 26, 27, 21, 6, 184, 0, 54, 6, 162, 0, 16, 42]
abbrev dktX3_rangeFrom_1 : List UInt8 := dkwX3_rangeFrom_1 ++ dktX3_rangeFrom_2
def dkwX3_rangeFrom_0 : List UInt8 := [10, 27, 121, 65, 9, 55, 4, 32, 22, 4, 148, 153, 0, 108, 32, 55, 4, 3, 54, 6, 21, 6, 16, 64]
abbrev dktX3_rangeFrom_0 : List UInt8 := dkwX3_rangeFrom_0 ++ dktX3_rangeFrom_1
theorem dksX3_rangeFrom_0 : cX3_rangeFrom.data.toList.drop 0 = dktX3_rangeFrom_0 := by decide +kernel
theorem dksX3_rangeFrom_1 : cX3_rangeFrom.data.toList.drop 24 = dktX3_rangeFrom_1 := dk_seg dksX3_rangeFrom_0 24 rfl rfl
theorem dksX3_rangeFrom_2 : cX3_rangeFrom.data.toList.drop 47 = dktX3_rangeFrom_2 := dk_seg dksX3_rangeFrom_1 23 rfl rfl
theorem dksX3_rangeFrom_3 : cX3_rangeFrom.data.toList.drop 69 = dktX3_rangeFrom_3 := dk_seg dksX3_rangeFrom_2 22 rfl rfl
theorem dksX3_rangeFrom_4 : cX3_rangeFrom.data.toList.drop 91 = dktX3_rangeFrom_4 := dk_seg dksX3_rangeFrom_3 22 rfl rfl
theorem dksX3_rangeFrom_5 : cX3_rangeFrom.data.toList.drop 113 = dktX3_rangeFrom_5 := dk_seg dksX3_rangeFrom_4 22 rfl rfl
theorem dX3_rangeFrom_0 : decode cX3_rangeFrom 0 = .ok (.lconst 1, 1) := dk_10 (dk_at dksX3_rangeFrom_0 0 rfl rfl)
theorem dX3_rangeFrom_1 : decode cX3_rangeFrom 1 = .ok (.iload_n 1, 1) := dk_27 (dk_at dksX3_rangeFrom_0 1 rfl rfl)
theorem dX3_rangeFrom_2 : decode cX3_rangeFrom 2 = .ok (.lshl, 1) := dk_121 (dk_at dksX3_rangeFrom_0 2 rfl rfl)
theorem dX3_rangeFrom_3 : decode cX3_rangeFrom 3 = .ok (.lstore_n 2, 1) := dk_65 (dk_at dksX3_rangeFrom_0 3 rfl rfl)
theorem dX3_rangeFrom_4 : decode cX3_rangeFrom 4 = .ok (.lconst 0, 1) := dk_9 (dk_at dksX3_rangeFrom_0 4 rfl rfl)
theorem dX3_rangeFrom_5 : decode cX3_rangeFrom 5 = .ok (.lstore 4, 2) := dk_55 4 (dk_at dksX3_rangeFrom_0 5 rfl rfl)
theorem dX3_rangeFrom_7 : decode cX3_rangeFrom 7 = .ok (.lload_n 2, 1) := dk_32 (dk_at dksX3_rangeFrom_0 7 rfl rfl)
theorem dX3_rangeFrom_8 : decode cX3_rangeFrom 8 = .ok (.lload 4, 2) := dk_22 4 (dk_at dksX3_rangeFrom_0 8 rfl rfl)
theorem dX3_rangeFrom_10 : decode cX3_rangeFrom 10 = .ok (.lcmp, 1) := dk_148 (dk_at dksX3_rangeFrom_0 10 rfl rfl)
theorem dX3_rangeFrom_11 : decode cX3_rangeFrom 11 = .ok (.ifCond .eq 108, 3) := dk_153 0 108 (dk_at dksX3_rangeFrom_0 11 rfl rfl)
theorem dX3_rangeFrom_14 : decode cX3_rangeFrom 14 = .ok (.lload_n 2, 1) := dk_32 (dk_at dksX3_rangeFrom_0 14 rfl rfl)
theorem dX3_rangeFrom_15 : decode cX3_rangeFrom 15 = .ok (.lstore 4, 2) := dk_55 4 (dk_at dksX3_rangeFrom_0 15 rfl rfl)
theorem dX3_rangeFrom_17 : decode cX3_rangeFrom 17 = .ok (.iconst 0, 1) := dk_3 (dk_at dksX3_rangeFrom_0 17 rfl rfl)
theorem dX3_rangeFrom_18 : decode cX3_rangeFrom 18 = .ok (.istore 6, 2) := dk_54 6 (dk_at dksX3_rangeFrom_0 18 rfl rfl)
theorem dX3_rangeFrom_20 : decode cX3_rangeFrom 20 = .ok (.iload 6, 2) := dk_21 6 (dk_at dksX3_rangeFrom_0 20 rfl rfl)
theorem dX3_rangeFrom_22 : decode cX3_rangeFrom 22 = .ok (.bipush 64, 2) := dk_16 64 (dk_at dksX3_rangeFrom_0 22 rfl rfl)
theorem dX3_rangeFrom_24 : decode cX3_rangeFrom 24 = .ok (.if_icmp .ge 92, 3) := dk_162 0 92 (dk_at dksX3_rangeFrom_1 0 rfl rfl)
theorem dX3_rangeFrom_27 : decode cX3_rangeFrom 27 = .ok (.lload_n 2, 1) := dk_32 (dk_at dksX3_rangeFrom_1 3 rfl rfl)
theorem dX3_rangeFrom_28 : decode cX3_rangeFrom 28 = .ok (.iload 6, 2) := dk_21 6 (dk_at dksX3_rangeFrom_1 4 rfl rfl)
theorem dX3_rangeFrom_30 : decode cX3_rangeFrom 30 = .ok (.invokestatic 50, 3) := dk_184 0 50 (dk_at dksX3_rangeFrom_1 6 rfl rfl)
theorem dX3_rangeFrom_33 : decode cX3_rangeFrom 33 = .ok (.ifCond .ne 26, 3) := dk_154 0 26 (dk_at dksX3_rangeFrom_1 9 rfl rfl)
theorem dX3_rangeFrom_36 : decode cX3_rangeFrom 36 = .ok (.iload_n 1, 1) := dk_27 (dk_at dksX3_rangeFrom_1 12 rfl rfl)
theorem dX3_rangeFrom_37 : decode cX3_rangeFrom 37 = .ok (.iload 6, 2) := dk_21 6 (dk_at dksX3_rangeFrom_1 13 rfl rfl)
theorem dX3_rangeFrom_39 : decode cX3_rangeFrom 39 = .ok (.invokestatic 54, 3) := dk_184 0 54 (dk_at dksX3_rangeFrom_1 15 rfl rfl)
theorem dX3_rangeFrom_42 : decode cX3_rangeFrom 42 = .ok (.iconst 3, 1) := dk_6 (dk_at dksX3_rangeFrom_1 18 rfl rfl)
theorem dX3_rangeFrom_43 : decode cX3_rangeFrom 43 = .ok (.if_icmp .ge 16, 3) := dk_162 0 16 (dk_at dksX3_rangeFrom_1 19 rfl rfl)
theorem dX3_rangeFrom_46 : decode cX3_rangeFrom 46 = .ok (.aload_n 0, 1) := dk_42 (dk_at dksX3_rangeFrom_1 22 rfl rfl)
theorem dX3_rangeFrom_47 : decode cX3_rangeFrom 47 = .ok (.iload 6, 2) := dk_21 6 (dk_at dksX3_rangeFrom_2 0 rfl rfl)
theorem dX3_rangeFrom_49 : decode cX3_rangeFrom 49 = .ok (.invokevirtual 58, 3) := dk_182 0 58 (dk_at dksX3_rangeFrom_2 2 rfl rfl)
theorem dX3_rangeFrom_52 : decode cX3_rangeFrom 52 = .ok (.ifCond .ne 7, 3) := dk_154 0 7 (dk_at dksX3_rangeFrom_2 5 rfl rfl)
theorem dX3_rangeFrom_55 : decode cX3_rangeFrom 55 = .ok (.iconst 1, 1) := dk_4 (dk_at dksX3_rangeFrom_2 8 rfl rfl)
theorem dX3_rangeFrom_56 : decode cX3_rangeFrom 56 = .ok (.goto 4, 3) := dk_167 0 4 (dk_at dksX3_rangeFrom_2 9 rfl rfl)
theorem dX3_rangeFrom_59 : decode cX3_rangeFrom 59 = .ok (.iconst 0, 1) := dk_3 (dk_at dksX3_rangeFrom_2 12 rfl rfl)
theorem dX3_rangeFrom_60 : decode cX3_rangeFrom 60 = .ok (.istore 7, 2) := dk_54 7 (dk_at dksX3_rangeFrom_2 13 rfl rfl)
theorem dX3_rangeFrom_62 : decode cX3_rangeFrom 62 = .ok (.iconst 0, 1) := dk_3 (dk_at dksX3_rangeFrom_2 15 rfl rfl)
theorem dX3_rangeFrom_63 : decode cX3_rangeFrom 63 = .ok (.istore 8, 2) := dk_54 8 (dk_at dksX3_rangeFrom_2 16 rfl rfl)
theorem dX3_rangeFrom_65 : decode cX3_rangeFrom 65 = .ok (.iload 8, 2) := dk_21 8 (dk_at dksX3_rangeFrom_2 18 rfl rfl)
theorem dX3_rangeFrom_67 : decode cX3_rangeFrom 67 = .ok (.bipush 64, 2) := dk_16 64 (dk_at dksX3_rangeFrom_2 20 rfl rfl)
theorem dX3_rangeFrom_69 : decode cX3_rangeFrom 69 = .ok (.if_icmp .ge 41, 3) := dk_162 0 41 (dk_at dksX3_rangeFrom_3 0 rfl rfl)
theorem dX3_rangeFrom_72 : decode cX3_rangeFrom 72 = .ok (.iload 7, 2) := dk_21 7 (dk_at dksX3_rangeFrom_3 3 rfl rfl)
theorem dX3_rangeFrom_74 : decode cX3_rangeFrom 74 = .ok (.ifCond .eq 36, 3) := dk_153 0 36 (dk_at dksX3_rangeFrom_3 5 rfl rfl)
theorem dX3_rangeFrom_77 : decode cX3_rangeFrom 77 = .ok (.lload 4, 2) := dk_22 4 (dk_at dksX3_rangeFrom_3 8 rfl rfl)
theorem dX3_rangeFrom_79 : decode cX3_rangeFrom 79 = .ok (.iload 8, 2) := dk_21 8 (dk_at dksX3_rangeFrom_3 10 rfl rfl)
theorem dX3_rangeFrom_81 : decode cX3_rangeFrom 81 = .ok (.invokestatic 50, 3) := dk_184 0 50 (dk_at dksX3_rangeFrom_3 12 rfl rfl)
theorem dX3_rangeFrom_84 : decode cX3_rangeFrom 84 = .ok (.ifCond .eq 20, 3) := dk_153 0 20 (dk_at dksX3_rangeFrom_3 15 rfl rfl)
theorem dX3_rangeFrom_87 : decode cX3_rangeFrom 87 = .ok (.iload 6, 2) := dk_21 6 (dk_at dksX3_rangeFrom_3 18 rfl rfl)
theorem dX3_rangeFrom_89 : decode cX3_rangeFrom 89 = .ok (.iload 8, 2) := dk_21 8 (dk_at dksX3_rangeFrom_3 20 rfl rfl)
theorem dX3_rangeFrom_91 : decode cX3_rangeFrom 91 = .ok (.invokestatic 62, 3) := dk_184 0 62 (dk_at dksX3_rangeFrom_4 0 rfl rfl)
theorem dX3_rangeFrom_94 : decode cX3_rangeFrom 94 = .ok (.ifCond .eq 10, 3) := dk_153 0 10 (dk_at dksX3_rangeFrom_4 3 rfl rfl)
theorem dX3_rangeFrom_97 : decode cX3_rangeFrom 97 = .ok (.lload_n 2, 1) := dk_32 (dk_at dksX3_rangeFrom_4 6 rfl rfl)
theorem dX3_rangeFrom_98 : decode cX3_rangeFrom 98 = .ok (.lconst 1, 1) := dk_10 (dk_at dksX3_rangeFrom_4 7 rfl rfl)
theorem dX3_rangeFrom_99 : decode cX3_rangeFrom 99 = .ok (.iload 6, 2) := dk_21 6 (dk_at dksX3_rangeFrom_4 8 rfl rfl)
theorem dX3_rangeFrom_101 : decode cX3_rangeFrom 101 = .ok (.lshl, 1) := dk_121 (dk_at dksX3_rangeFrom_4 10 rfl rfl)
theorem dX3_rangeFrom_102 : decode cX3_rangeFrom 102 = .ok (.lor, 1) := dk_129 (dk_at dksX3_rangeFrom_4 11 rfl rfl)
theorem dX3_rangeFrom_103 : decode cX3_rangeFrom 103 = .ok (.lstore_n 2, 1) := dk_65 (dk_at dksX3_rangeFrom_4 12 rfl rfl)
theorem dX3_rangeFrom_104 : decode cX3_rangeFrom 104 = .ok (.iinc 8 1, 3) := dk_132 8 1 (dk_at dksX3_rangeFrom_4 13 rfl rfl)
theorem dX3_rangeFrom_107 : decode cX3_rangeFrom 107 = .ok (.goto (-42), 3) := dk_167 255 214 (dk_at dksX3_rangeFrom_4 16 rfl rfl)
theorem dX3_rangeFrom_110 : decode cX3_rangeFrom 110 = .ok (.iinc 6 1, 3) := dk_132 6 1 (dk_at dksX3_rangeFrom_4 19 rfl rfl)
theorem dX3_rangeFrom_113 : decode cX3_rangeFrom 113 = .ok (.goto (-93), 3) := dk_167 255 163 (dk_at dksX3_rangeFrom_5 0 rfl rfl)
theorem dX3_rangeFrom_116 : decode cX3_rangeFrom 116 = .ok (.goto (-109), 3) := dk_167 255 147 (dk_at dksX3_rangeFrom_5 3 rfl rfl)
theorem dX3_rangeFrom_119 : decode cX3_rangeFrom 119 = .ok (.lload_n 2, 1) := dk_32 (dk_at dksX3_rangeFrom_5 6 rfl rfl)
theorem dX3_rangeFrom_120 : decode cX3_rangeFrom 120 = .ok (.lreturn, 1) := dk_173 (dk_at dksX3_rangeFrom_5 7 rfl rfl)
abbrev cX3_has : ByteArray := prog_9_method_11_code
def yX3_has : MethodName := ⟨RX3, "has", "(JI)Z"⟩
def dkwX3_has_0 : List UInt8 := [30, 28, 123, 10, 127, 10, 148, 154, 0, 7, 4, 167, 0, 4, 3, 172]
abbrev dktX3_has_0 : List UInt8 := dkwX3_has_0 ++ []
theorem dksX3_has_0 : cX3_has.data.toList.drop 0 = dktX3_has_0 := by decide +kernel
theorem dX3_has_0 : decode cX3_has 0 = .ok (.lload_n 0, 1) := dk_30 (dk_at dksX3_has_0 0 rfl rfl)
theorem dX3_has_1 : decode cX3_has 1 = .ok (.iload_n 2, 1) := dk_28 (dk_at dksX3_has_0 1 rfl rfl)
theorem dX3_has_2 : decode cX3_has 2 = .ok (.lshr, 1) := dk_123 (dk_at dksX3_has_0 2 rfl rfl)
theorem dX3_has_3 : decode cX3_has 3 = .ok (.lconst 1, 1) := dk_10 (dk_at dksX3_has_0 3 rfl rfl)
theorem dX3_has_4 : decode cX3_has 4 = .ok (.land, 1) := dk_127 (dk_at dksX3_has_0 4 rfl rfl)
theorem dX3_has_5 : decode cX3_has 5 = .ok (.lconst 1, 1) := dk_10 (dk_at dksX3_has_0 5 rfl rfl)
theorem dX3_has_6 : decode cX3_has 6 = .ok (.lcmp, 1) := dk_148 (dk_at dksX3_has_0 6 rfl rfl)
theorem dX3_has_7 : decode cX3_has 7 = .ok (.ifCond .ne 7, 3) := dk_154 0 7 (dk_at dksX3_has_0 7 rfl rfl)
theorem dX3_has_10 : decode cX3_has 10 = .ok (.iconst 1, 1) := dk_4 (dk_at dksX3_has_0 10 rfl rfl)
theorem dX3_has_11 : decode cX3_has 11 = .ok (.goto 4, 3) := dk_167 0 4 (dk_at dksX3_has_0 11 rfl rfl)
theorem dX3_has_14 : decode cX3_has 14 = .ok (.iconst 0, 1) := dk_3 (dk_at dksX3_has_0 14 rfl rfl)
theorem dX3_has_15 : decode cX3_has 15 = .ok (.ireturn, 1) := dk_172 (dk_at dksX3_has_0 15 rfl rfl)
abbrev cX3_far : ByteArray := prog_9_method_9_code
def yX3_far : MethodName := ⟨RX3, "far", "(II)I"⟩
def dkwX3_far_1 : List UInt8 := [184, 0, 46, 62, 28, 29, 164, 0, 7, 28, 167, 0, 4, 29, 172]
abbrev dktX3_far_1 : List UInt8 := dkwX3_far_1 ++ []
def dkwX3_far_0 : List UInt8 := [26, 16, 8, 108, 27, 16, 8, 108, 100, 184, 0, 46, 61, 26, 16, 8, 112, 27, 16, 8, 112, 100]
abbrev dktX3_far_0 : List UInt8 := dkwX3_far_0 ++ dktX3_far_1
theorem dksX3_far_0 : cX3_far.data.toList.drop 0 = dktX3_far_0 := by decide +kernel
theorem dksX3_far_1 : cX3_far.data.toList.drop 22 = dktX3_far_1 := dk_seg dksX3_far_0 22 rfl rfl
theorem dX3_far_0 : decode cX3_far 0 = .ok (.iload_n 0, 1) := dk_26 (dk_at dksX3_far_0 0 rfl rfl)
theorem dX3_far_1 : decode cX3_far 1 = .ok (.bipush 8, 2) := dk_16 8 (dk_at dksX3_far_0 1 rfl rfl)
theorem dX3_far_3 : decode cX3_far 3 = .ok (.idiv, 1) := dk_108 (dk_at dksX3_far_0 3 rfl rfl)
theorem dX3_far_4 : decode cX3_far 4 = .ok (.iload_n 1, 1) := dk_27 (dk_at dksX3_far_0 4 rfl rfl)
theorem dX3_far_5 : decode cX3_far 5 = .ok (.bipush 8, 2) := dk_16 8 (dk_at dksX3_far_0 5 rfl rfl)
theorem dX3_far_7 : decode cX3_far 7 = .ok (.idiv, 1) := dk_108 (dk_at dksX3_far_0 7 rfl rfl)
theorem dX3_far_8 : decode cX3_far 8 = .ok (.isub, 1) := dk_100 (dk_at dksX3_far_0 8 rfl rfl)
theorem dX3_far_9 : decode cX3_far 9 = .ok (.invokestatic 46, 3) := dk_184 0 46 (dk_at dksX3_far_0 9 rfl rfl)
theorem dX3_far_12 : decode cX3_far 12 = .ok (.istore_n 2, 1) := dk_61 (dk_at dksX3_far_0 12 rfl rfl)
theorem dX3_far_13 : decode cX3_far 13 = .ok (.iload_n 0, 1) := dk_26 (dk_at dksX3_far_0 13 rfl rfl)
theorem dX3_far_14 : decode cX3_far 14 = .ok (.bipush 8, 2) := dk_16 8 (dk_at dksX3_far_0 14 rfl rfl)
theorem dX3_far_16 : decode cX3_far 16 = .ok (.irem, 1) := dk_112 (dk_at dksX3_far_0 16 rfl rfl)
theorem dX3_far_17 : decode cX3_far 17 = .ok (.iload_n 1, 1) := dk_27 (dk_at dksX3_far_0 17 rfl rfl)
theorem dX3_far_18 : decode cX3_far 18 = .ok (.bipush 8, 2) := dk_16 8 (dk_at dksX3_far_0 18 rfl rfl)
theorem dX3_far_20 : decode cX3_far 20 = .ok (.irem, 1) := dk_112 (dk_at dksX3_far_0 20 rfl rfl)
theorem dX3_far_21 : decode cX3_far 21 = .ok (.isub, 1) := dk_100 (dk_at dksX3_far_0 21 rfl rfl)
theorem dX3_far_22 : decode cX3_far 22 = .ok (.invokestatic 46, 3) := dk_184 0 46 (dk_at dksX3_far_1 0 rfl rfl)
theorem dX3_far_25 : decode cX3_far 25 = .ok (.istore_n 3, 1) := dk_62 (dk_at dksX3_far_1 3 rfl rfl)
theorem dX3_far_26 : decode cX3_far 26 = .ok (.iload_n 2, 1) := dk_28 (dk_at dksX3_far_1 4 rfl rfl)
theorem dX3_far_27 : decode cX3_far 27 = .ok (.iload_n 3, 1) := dk_29 (dk_at dksX3_far_1 5 rfl rfl)
theorem dX3_far_28 : decode cX3_far 28 = .ok (.if_icmp .le 7, 3) := dk_164 0 7 (dk_at dksX3_far_1 6 rfl rfl)
theorem dX3_far_31 : decode cX3_far 31 = .ok (.iload_n 2, 1) := dk_28 (dk_at dksX3_far_1 9 rfl rfl)
theorem dX3_far_32 : decode cX3_far 32 = .ok (.goto 4, 3) := dk_167 0 4 (dk_at dksX3_far_1 10 rfl rfl)
theorem dX3_far_35 : decode cX3_far 35 = .ok (.iload_n 3, 1) := dk_29 (dk_at dksX3_far_1 13 rfl rfl)
theorem dX3_far_36 : decode cX3_far 36 = .ok (.ireturn, 1) := dk_172 (dk_at dksX3_far_1 14 rfl rfl)
abbrev cX3_size : ByteArray := prog_9_method_8_code
def yX3_size : MethodName := ⟨RX3, "size", "(I)I"⟩
def dkwX3_size_0 : List UInt8 := [26, 156, 0, 8, 26, 116, 167, 0, 4, 26, 172]
abbrev dktX3_size_0 : List UInt8 := dkwX3_size_0 ++ []
theorem dksX3_size_0 : cX3_size.data.toList.drop 0 = dktX3_size_0 := by decide +kernel
theorem dX3_size_0 : decode cX3_size 0 = .ok (.iload_n 0, 1) := dk_26 (dk_at dksX3_size_0 0 rfl rfl)
theorem dX3_size_1 : decode cX3_size 1 = .ok (.ifCond .ge 8, 3) := dk_156 0 8 (dk_at dksX3_size_0 1 rfl rfl)
theorem dX3_size_4 : decode cX3_size 4 = .ok (.iload_n 0, 1) := dk_26 (dk_at dksX3_size_0 4 rfl rfl)
theorem dX3_size_5 : decode cX3_size 5 = .ok (.ineg, 1) := dk_116 (dk_at dksX3_size_0 5 rfl rfl)
theorem dX3_size_6 : decode cX3_size 6 = .ok (.goto 4, 3) := dk_167 0 4 (dk_at dksX3_size_0 6 rfl rfl)
theorem dX3_size_9 : decode cX3_size 9 = .ok (.iload_n 0, 1) := dk_26 (dk_at dksX3_size_0 9 rfl rfl)
theorem dX3_size_10 : decode cX3_size 10 = .ok (.ireturn, 1) := dk_172 (dk_at dksX3_size_0 10 rfl rfl)
abbrev cX3_areBeside : ByteArray := prog_9_method_10_code
def yX3_areBeside : MethodName := ⟨RX3, "areBeside", "(II)Z"⟩
def dkwX3_areBeside_1 : List UInt8 := [96, 4, 160, 0, 7, 4, 167, 0, 4, 3, 172]
abbrev dktX3_areBeside_1 : List UInt8 := dkwX3_areBeside_1 ++ []
def dkwX3_areBeside_0 : List UInt8 := [26, 16, 8, 108, 27, 16, 8, 108, 100, 184, 0, 46, 26, 16, 8, 112, 27, 16, 8, 112, 100, 184, 0, 46]
abbrev dktX3_areBeside_0 : List UInt8 := dkwX3_areBeside_0 ++ dktX3_areBeside_1
theorem dksX3_areBeside_0 : cX3_areBeside.data.toList.drop 0 = dktX3_areBeside_0 := by decide +kernel
theorem dksX3_areBeside_1 : cX3_areBeside.data.toList.drop 24 = dktX3_areBeside_1 := dk_seg dksX3_areBeside_0 24 rfl rfl
theorem dX3_areBeside_0 : decode cX3_areBeside 0 = .ok (.iload_n 0, 1) := dk_26 (dk_at dksX3_areBeside_0 0 rfl rfl)
theorem dX3_areBeside_1 : decode cX3_areBeside 1 = .ok (.bipush 8, 2) := dk_16 8 (dk_at dksX3_areBeside_0 1 rfl rfl)
theorem dX3_areBeside_3 : decode cX3_areBeside 3 = .ok (.idiv, 1) := dk_108 (dk_at dksX3_areBeside_0 3 rfl rfl)
theorem dX3_areBeside_4 : decode cX3_areBeside 4 = .ok (.iload_n 1, 1) := dk_27 (dk_at dksX3_areBeside_0 4 rfl rfl)
theorem dX3_areBeside_5 : decode cX3_areBeside 5 = .ok (.bipush 8, 2) := dk_16 8 (dk_at dksX3_areBeside_0 5 rfl rfl)
theorem dX3_areBeside_7 : decode cX3_areBeside 7 = .ok (.idiv, 1) := dk_108 (dk_at dksX3_areBeside_0 7 rfl rfl)
theorem dX3_areBeside_8 : decode cX3_areBeside 8 = .ok (.isub, 1) := dk_100 (dk_at dksX3_areBeside_0 8 rfl rfl)
theorem dX3_areBeside_9 : decode cX3_areBeside 9 = .ok (.invokestatic 46, 3) := dk_184 0 46 (dk_at dksX3_areBeside_0 9 rfl rfl)
theorem dX3_areBeside_12 : decode cX3_areBeside 12 = .ok (.iload_n 0, 1) := dk_26 (dk_at dksX3_areBeside_0 12 rfl rfl)
theorem dX3_areBeside_13 : decode cX3_areBeside 13 = .ok (.bipush 8, 2) := dk_16 8 (dk_at dksX3_areBeside_0 13 rfl rfl)
theorem dX3_areBeside_15 : decode cX3_areBeside 15 = .ok (.irem, 1) := dk_112 (dk_at dksX3_areBeside_0 15 rfl rfl)
theorem dX3_areBeside_16 : decode cX3_areBeside 16 = .ok (.iload_n 1, 1) := dk_27 (dk_at dksX3_areBeside_0 16 rfl rfl)
theorem dX3_areBeside_17 : decode cX3_areBeside 17 = .ok (.bipush 8, 2) := dk_16 8 (dk_at dksX3_areBeside_0 17 rfl rfl)
theorem dX3_areBeside_19 : decode cX3_areBeside 19 = .ok (.irem, 1) := dk_112 (dk_at dksX3_areBeside_0 19 rfl rfl)
theorem dX3_areBeside_20 : decode cX3_areBeside 20 = .ok (.isub, 1) := dk_100 (dk_at dksX3_areBeside_0 20 rfl rfl)
theorem dX3_areBeside_21 : decode cX3_areBeside 21 = .ok (.invokestatic 46, 3) := dk_184 0 46 (dk_at dksX3_areBeside_0 21 rfl rfl)
theorem dX3_areBeside_24 : decode cX3_areBeside 24 = .ok (.iadd, 1) := dk_96 (dk_at dksX3_areBeside_1 0 rfl rfl)
theorem dX3_areBeside_25 : decode cX3_areBeside 25 = .ok (.iconst 1, 1) := dk_4 (dk_at dksX3_areBeside_1 1 rfl rfl)
theorem dX3_areBeside_26 : decode cX3_areBeside 26 = .ok (.if_icmp .ne 7, 3) := dk_160 0 7 (dk_at dksX3_areBeside_1 2 rfl rfl)
theorem dX3_areBeside_29 : decode cX3_areBeside 29 = .ok (.iconst 1, 1) := dk_4 (dk_at dksX3_areBeside_1 5 rfl rfl)
theorem dX3_areBeside_30 : decode cX3_areBeside 30 = .ok (.goto 4, 3) := dk_167 0 4 (dk_at dksX3_areBeside_1 6 rfl rfl)
theorem dX3_areBeside_33 : decode cX3_areBeside 33 = .ok (.iconst 0, 1) := dk_3 (dk_at dksX3_areBeside_1 9 rfl rfl)
theorem dX3_areBeside_34 : decode cX3_areBeside 34 = .ok (.ireturn, 1) := dk_172 (dk_at dksX3_areBeside_1 10 rfl rfl)
abbrev cX3_next : ByteArray := prog_9_method_47_code
def yX3_next : MethodName := ⟨RX3, "next", "(I)I"⟩
def dkwX3_next_8 : List UInt8 := [21, 6, 172]
abbrev dktX3_next_8 : List UInt8 := dkwX3_next_8 ++ []
def dkwX3_next_7 : List UInt8 := [167, 0, 5, 16, 90, 54, 6, 21, 5, 5, 96, 21, 6, 162, 0, 10, 21, 5, 5, 96, 167, 0, 5]
abbrev dktX3_next_7 : List UInt8 := dkwX3_next_7 ++ dktX3_next_8
def dkwX3_next_6 : List UInt8 := [160, 0, 11, 28, 28, 7, 108, 96, 167, 0, 6, 28, 5, 108, 54, 5, 21, 4, 154, 0, 9, 17, 0, 160]
abbrev dktX3_next_6 : List UInt8 := dkwX3_next_6 ++ dktX3_next_7
def dkwX3_next_5 : List UInt8 := [154, 0, 7, 28, 167, 0, 32, 29, 4, 160, 0, 11, 28, 28, 5, 108, 96, 167, 0, 19, 29, 5]
abbrev dktX3_next_5 : List UInt8 := dkwX3_next_5 ++ dktX3_next_6
def dkwX3_next_4 : List UInt8 := [167, 0, 59, 29, 5, 160, 0, 11, 28, 28, 5, 108, 96, 167, 0, 46, 28, 7, 108, 167, 0, 40, 29]
abbrev dktX3_next_4 : List UInt8 := dkwX3_next_4 ++ dktX3_next_5
def dkwX3_next_3 : List UInt8 := [154, 0, 45, 29, 154, 0, 11, 28, 28, 7, 108, 96, 167, 0, 70, 29, 4, 160, 0, 9, 5, 28, 104]
abbrev dktX3_next_3 : List UInt8 := dkwX3_next_3 ++ dktX3_next_4
def dkwX3_next_2 : List UInt8 := [96, 5, 108, 16, 40, 162, 0, 12, 28, 16, 20, 96, 5, 108, 167, 0, 5, 16, 40, 172, 21, 4]
abbrev dktX3_next_2 : List UInt8 := dkwX3_next_2 ++ dktX3_next_3
def dkwX3_next_1 : List UInt8 := [16, 16, 27, 96, 46, 54, 4, 21, 4, 6, 160, 0, 5, 3, 172, 21, 4, 4, 160, 0, 26, 28, 16, 20]
abbrev dktX3_next_1 : List UInt8 := dkwX3_next_1 ++ dktX3_next_2
def dkwX3_next_0 : List UInt8 := [42, 180, 0, 7, 16, 80, 27, 96, 46, 61, 42, 180, 0, 7, 3, 46, 7, 112, 62, 42, 180, 0, 7]
abbrev dktX3_next_0 : List UInt8 := dkwX3_next_0 ++ dktX3_next_1
theorem dksX3_next_0 : cX3_next.data.toList.drop 0 = dktX3_next_0 := by decide +kernel
theorem dksX3_next_1 : cX3_next.data.toList.drop 23 = dktX3_next_1 := dk_seg dksX3_next_0 23 rfl rfl
theorem dksX3_next_2 : cX3_next.data.toList.drop 47 = dktX3_next_2 := dk_seg dksX3_next_1 24 rfl rfl
theorem dksX3_next_3 : cX3_next.data.toList.drop 69 = dktX3_next_3 := dk_seg dksX3_next_2 22 rfl rfl
theorem dksX3_next_4 : cX3_next.data.toList.drop 92 = dktX3_next_4 := dk_seg dksX3_next_3 23 rfl rfl
theorem dksX3_next_5 : cX3_next.data.toList.drop 115 = dktX3_next_5 := dk_seg dksX3_next_4 23 rfl rfl
theorem dksX3_next_6 : cX3_next.data.toList.drop 137 = dktX3_next_6 := dk_seg dksX3_next_5 22 rfl rfl
theorem dksX3_next_7 : cX3_next.data.toList.drop 161 = dktX3_next_7 := dk_seg dksX3_next_6 24 rfl rfl
theorem dksX3_next_8 : cX3_next.data.toList.drop 184 = dktX3_next_8 := dk_seg dksX3_next_7 23 rfl rfl
theorem dX3_next_0 : decode cX3_next 0 = .ok (.aload_n 0, 1) := dk_42 (dk_at dksX3_next_0 0 rfl rfl)
theorem dX3_next_1 : decode cX3_next 1 = .ok (.getfield 7, 3) := dk_180 0 7 (dk_at dksX3_next_0 1 rfl rfl)
theorem dX3_next_4 : decode cX3_next 4 = .ok (.bipush 80, 2) := dk_16 80 (dk_at dksX3_next_0 4 rfl rfl)
theorem dX3_next_6 : decode cX3_next 6 = .ok (.iload_n 1, 1) := dk_27 (dk_at dksX3_next_0 6 rfl rfl)
theorem dX3_next_7 : decode cX3_next 7 = .ok (.iadd, 1) := dk_96 (dk_at dksX3_next_0 7 rfl rfl)
theorem dX3_next_8 : decode cX3_next 8 = .ok (.iaload, 1) := dk_46 (dk_at dksX3_next_0 8 rfl rfl)
theorem dX3_next_9 : decode cX3_next 9 = .ok (.istore_n 2, 1) := dk_61 (dk_at dksX3_next_0 9 rfl rfl)
theorem dX3_next_10 : decode cX3_next 10 = .ok (.aload_n 0, 1) := dk_42 (dk_at dksX3_next_0 10 rfl rfl)
theorem dX3_next_11 : decode cX3_next 11 = .ok (.getfield 7, 3) := dk_180 0 7 (dk_at dksX3_next_0 11 rfl rfl)
theorem dX3_next_14 : decode cX3_next 14 = .ok (.iconst 0, 1) := dk_3 (dk_at dksX3_next_0 14 rfl rfl)
theorem dX3_next_15 : decode cX3_next 15 = .ok (.iaload, 1) := dk_46 (dk_at dksX3_next_0 15 rfl rfl)
theorem dX3_next_16 : decode cX3_next 16 = .ok (.iconst 4, 1) := dk_7 (dk_at dksX3_next_0 16 rfl rfl)
theorem dX3_next_17 : decode cX3_next 17 = .ok (.irem, 1) := dk_112 (dk_at dksX3_next_0 17 rfl rfl)
theorem dX3_next_18 : decode cX3_next 18 = .ok (.istore_n 3, 1) := dk_62 (dk_at dksX3_next_0 18 rfl rfl)
theorem dX3_next_19 : decode cX3_next 19 = .ok (.aload_n 0, 1) := dk_42 (dk_at dksX3_next_0 19 rfl rfl)
theorem dX3_next_20 : decode cX3_next 20 = .ok (.getfield 7, 3) := dk_180 0 7 (dk_at dksX3_next_0 20 rfl rfl)
theorem dX3_next_23 : decode cX3_next 23 = .ok (.bipush 16, 2) := dk_16 16 (dk_at dksX3_next_1 0 rfl rfl)
theorem dX3_next_25 : decode cX3_next 25 = .ok (.iload_n 1, 1) := dk_27 (dk_at dksX3_next_1 2 rfl rfl)
theorem dX3_next_26 : decode cX3_next 26 = .ok (.iadd, 1) := dk_96 (dk_at dksX3_next_1 3 rfl rfl)
theorem dX3_next_27 : decode cX3_next 27 = .ok (.iaload, 1) := dk_46 (dk_at dksX3_next_1 4 rfl rfl)
theorem dX3_next_28 : decode cX3_next 28 = .ok (.istore 4, 2) := dk_54 4 (dk_at dksX3_next_1 5 rfl rfl)
theorem dX3_next_30 : decode cX3_next 30 = .ok (.iload 4, 2) := dk_21 4 (dk_at dksX3_next_1 7 rfl rfl)
theorem dX3_next_32 : decode cX3_next 32 = .ok (.iconst 3, 1) := dk_6 (dk_at dksX3_next_1 9 rfl rfl)
theorem dX3_next_33 : decode cX3_next 33 = .ok (.if_icmp .ne 5, 3) := dk_160 0 5 (dk_at dksX3_next_1 10 rfl rfl)
theorem dX3_next_36 : decode cX3_next 36 = .ok (.iconst 0, 1) := dk_3 (dk_at dksX3_next_1 13 rfl rfl)
theorem dX3_next_37 : decode cX3_next 37 = .ok (.ireturn, 1) := dk_172 (dk_at dksX3_next_1 14 rfl rfl)
theorem dX3_next_38 : decode cX3_next 38 = .ok (.iload 4, 2) := dk_21 4 (dk_at dksX3_next_1 15 rfl rfl)
theorem dX3_next_40 : decode cX3_next 40 = .ok (.iconst 1, 1) := dk_4 (dk_at dksX3_next_1 17 rfl rfl)
theorem dX3_next_41 : decode cX3_next 41 = .ok (.if_icmp .ne 26, 3) := dk_160 0 26 (dk_at dksX3_next_1 18 rfl rfl)
theorem dX3_next_44 : decode cX3_next 44 = .ok (.iload_n 2, 1) := dk_28 (dk_at dksX3_next_1 21 rfl rfl)
theorem dX3_next_45 : decode cX3_next 45 = .ok (.bipush 20, 2) := dk_16 20 (dk_at dksX3_next_1 22 rfl rfl)
theorem dX3_next_47 : decode cX3_next 47 = .ok (.iadd, 1) := dk_96 (dk_at dksX3_next_2 0 rfl rfl)
theorem dX3_next_48 : decode cX3_next 48 = .ok (.iconst 2, 1) := dk_5 (dk_at dksX3_next_2 1 rfl rfl)
theorem dX3_next_49 : decode cX3_next 49 = .ok (.idiv, 1) := dk_108 (dk_at dksX3_next_2 2 rfl rfl)
theorem dX3_next_50 : decode cX3_next 50 = .ok (.bipush 40, 2) := dk_16 40 (dk_at dksX3_next_2 3 rfl rfl)
theorem dX3_next_52 : decode cX3_next 52 = .ok (.if_icmp .ge 12, 3) := dk_162 0 12 (dk_at dksX3_next_2 5 rfl rfl)
theorem dX3_next_55 : decode cX3_next 55 = .ok (.iload_n 2, 1) := dk_28 (dk_at dksX3_next_2 8 rfl rfl)
theorem dX3_next_56 : decode cX3_next 56 = .ok (.bipush 20, 2) := dk_16 20 (dk_at dksX3_next_2 9 rfl rfl)
theorem dX3_next_58 : decode cX3_next 58 = .ok (.iadd, 1) := dk_96 (dk_at dksX3_next_2 11 rfl rfl)
theorem dX3_next_59 : decode cX3_next 59 = .ok (.iconst 2, 1) := dk_5 (dk_at dksX3_next_2 12 rfl rfl)
theorem dX3_next_60 : decode cX3_next 60 = .ok (.idiv, 1) := dk_108 (dk_at dksX3_next_2 13 rfl rfl)
theorem dX3_next_61 : decode cX3_next 61 = .ok (.goto 5, 3) := dk_167 0 5 (dk_at dksX3_next_2 14 rfl rfl)
theorem dX3_next_64 : decode cX3_next 64 = .ok (.bipush 40, 2) := dk_16 40 (dk_at dksX3_next_2 17 rfl rfl)
theorem dX3_next_66 : decode cX3_next 66 = .ok (.ireturn, 1) := dk_172 (dk_at dksX3_next_2 19 rfl rfl)
theorem dX3_next_67 : decode cX3_next 67 = .ok (.iload 4, 2) := dk_21 4 (dk_at dksX3_next_2 20 rfl rfl)
theorem dX3_next_69 : decode cX3_next 69 = .ok (.ifCond .ne 45, 3) := dk_154 0 45 (dk_at dksX3_next_3 0 rfl rfl)
theorem dX3_next_72 : decode cX3_next 72 = .ok (.iload_n 3, 1) := dk_29 (dk_at dksX3_next_3 3 rfl rfl)
theorem dX3_next_73 : decode cX3_next 73 = .ok (.ifCond .ne 11, 3) := dk_154 0 11 (dk_at dksX3_next_3 4 rfl rfl)
theorem dX3_next_76 : decode cX3_next 76 = .ok (.iload_n 2, 1) := dk_28 (dk_at dksX3_next_3 7 rfl rfl)
theorem dX3_next_77 : decode cX3_next 77 = .ok (.iload_n 2, 1) := dk_28 (dk_at dksX3_next_3 8 rfl rfl)
theorem dX3_next_78 : decode cX3_next 78 = .ok (.iconst 4, 1) := dk_7 (dk_at dksX3_next_3 9 rfl rfl)
theorem dX3_next_79 : decode cX3_next 79 = .ok (.idiv, 1) := dk_108 (dk_at dksX3_next_3 10 rfl rfl)
theorem dX3_next_80 : decode cX3_next 80 = .ok (.iadd, 1) := dk_96 (dk_at dksX3_next_3 11 rfl rfl)
theorem dX3_next_81 : decode cX3_next 81 = .ok (.goto 70, 3) := dk_167 0 70 (dk_at dksX3_next_3 12 rfl rfl)
theorem dX3_next_84 : decode cX3_next 84 = .ok (.iload_n 3, 1) := dk_29 (dk_at dksX3_next_3 15 rfl rfl)
theorem dX3_next_85 : decode cX3_next 85 = .ok (.iconst 1, 1) := dk_4 (dk_at dksX3_next_3 16 rfl rfl)
theorem dX3_next_86 : decode cX3_next 86 = .ok (.if_icmp .ne 9, 3) := dk_160 0 9 (dk_at dksX3_next_3 17 rfl rfl)
theorem dX3_next_89 : decode cX3_next 89 = .ok (.iconst 2, 1) := dk_5 (dk_at dksX3_next_3 20 rfl rfl)
theorem dX3_next_90 : decode cX3_next 90 = .ok (.iload_n 2, 1) := dk_28 (dk_at dksX3_next_3 21 rfl rfl)
theorem dX3_next_91 : decode cX3_next 91 = .ok (.imul, 1) := dk_104 (dk_at dksX3_next_3 22 rfl rfl)
theorem dX3_next_92 : decode cX3_next 92 = .ok (.goto 59, 3) := dk_167 0 59 (dk_at dksX3_next_4 0 rfl rfl)
theorem dX3_next_95 : decode cX3_next 95 = .ok (.iload_n 3, 1) := dk_29 (dk_at dksX3_next_4 3 rfl rfl)
theorem dX3_next_96 : decode cX3_next 96 = .ok (.iconst 2, 1) := dk_5 (dk_at dksX3_next_4 4 rfl rfl)
theorem dX3_next_97 : decode cX3_next 97 = .ok (.if_icmp .ne 11, 3) := dk_160 0 11 (dk_at dksX3_next_4 5 rfl rfl)
theorem dX3_next_100 : decode cX3_next 100 = .ok (.iload_n 2, 1) := dk_28 (dk_at dksX3_next_4 8 rfl rfl)
theorem dX3_next_101 : decode cX3_next 101 = .ok (.iload_n 2, 1) := dk_28 (dk_at dksX3_next_4 9 rfl rfl)
theorem dX3_next_102 : decode cX3_next 102 = .ok (.iconst 2, 1) := dk_5 (dk_at dksX3_next_4 10 rfl rfl)
theorem dX3_next_103 : decode cX3_next 103 = .ok (.idiv, 1) := dk_108 (dk_at dksX3_next_4 11 rfl rfl)
theorem dX3_next_104 : decode cX3_next 104 = .ok (.iadd, 1) := dk_96 (dk_at dksX3_next_4 12 rfl rfl)
theorem dX3_next_105 : decode cX3_next 105 = .ok (.goto 46, 3) := dk_167 0 46 (dk_at dksX3_next_4 13 rfl rfl)
theorem dX3_next_108 : decode cX3_next 108 = .ok (.iload_n 2, 1) := dk_28 (dk_at dksX3_next_4 16 rfl rfl)
theorem dX3_next_109 : decode cX3_next 109 = .ok (.iconst 4, 1) := dk_7 (dk_at dksX3_next_4 17 rfl rfl)
theorem dX3_next_110 : decode cX3_next 110 = .ok (.idiv, 1) := dk_108 (dk_at dksX3_next_4 18 rfl rfl)
theorem dX3_next_111 : decode cX3_next 111 = .ok (.goto 40, 3) := dk_167 0 40 (dk_at dksX3_next_4 19 rfl rfl)
theorem dX3_next_114 : decode cX3_next 114 = .ok (.iload_n 3, 1) := dk_29 (dk_at dksX3_next_4 22 rfl rfl)
theorem dX3_next_115 : decode cX3_next 115 = .ok (.ifCond .ne 7, 3) := dk_154 0 7 (dk_at dksX3_next_5 0 rfl rfl)
theorem dX3_next_118 : decode cX3_next 118 = .ok (.iload_n 2, 1) := dk_28 (dk_at dksX3_next_5 3 rfl rfl)
theorem dX3_next_119 : decode cX3_next 119 = .ok (.goto 32, 3) := dk_167 0 32 (dk_at dksX3_next_5 4 rfl rfl)
theorem dX3_next_122 : decode cX3_next 122 = .ok (.iload_n 3, 1) := dk_29 (dk_at dksX3_next_5 7 rfl rfl)
theorem dX3_next_123 : decode cX3_next 123 = .ok (.iconst 1, 1) := dk_4 (dk_at dksX3_next_5 8 rfl rfl)
theorem dX3_next_124 : decode cX3_next 124 = .ok (.if_icmp .ne 11, 3) := dk_160 0 11 (dk_at dksX3_next_5 9 rfl rfl)
theorem dX3_next_127 : decode cX3_next 127 = .ok (.iload_n 2, 1) := dk_28 (dk_at dksX3_next_5 12 rfl rfl)
theorem dX3_next_128 : decode cX3_next 128 = .ok (.iload_n 2, 1) := dk_28 (dk_at dksX3_next_5 13 rfl rfl)
theorem dX3_next_129 : decode cX3_next 129 = .ok (.iconst 2, 1) := dk_5 (dk_at dksX3_next_5 14 rfl rfl)
theorem dX3_next_130 : decode cX3_next 130 = .ok (.idiv, 1) := dk_108 (dk_at dksX3_next_5 15 rfl rfl)
theorem dX3_next_131 : decode cX3_next 131 = .ok (.iadd, 1) := dk_96 (dk_at dksX3_next_5 16 rfl rfl)
theorem dX3_next_132 : decode cX3_next 132 = .ok (.goto 19, 3) := dk_167 0 19 (dk_at dksX3_next_5 17 rfl rfl)
theorem dX3_next_135 : decode cX3_next 135 = .ok (.iload_n 3, 1) := dk_29 (dk_at dksX3_next_5 20 rfl rfl)
theorem dX3_next_136 : decode cX3_next 136 = .ok (.iconst 2, 1) := dk_5 (dk_at dksX3_next_5 21 rfl rfl)
theorem dX3_next_137 : decode cX3_next 137 = .ok (.if_icmp .ne 11, 3) := dk_160 0 11 (dk_at dksX3_next_6 0 rfl rfl)
theorem dX3_next_140 : decode cX3_next 140 = .ok (.iload_n 2, 1) := dk_28 (dk_at dksX3_next_6 3 rfl rfl)
theorem dX3_next_141 : decode cX3_next 141 = .ok (.iload_n 2, 1) := dk_28 (dk_at dksX3_next_6 4 rfl rfl)
theorem dX3_next_142 : decode cX3_next 142 = .ok (.iconst 4, 1) := dk_7 (dk_at dksX3_next_6 5 rfl rfl)
theorem dX3_next_143 : decode cX3_next 143 = .ok (.idiv, 1) := dk_108 (dk_at dksX3_next_6 6 rfl rfl)
theorem dX3_next_144 : decode cX3_next 144 = .ok (.iadd, 1) := dk_96 (dk_at dksX3_next_6 7 rfl rfl)
theorem dX3_next_145 : decode cX3_next 145 = .ok (.goto 6, 3) := dk_167 0 6 (dk_at dksX3_next_6 8 rfl rfl)
theorem dX3_next_148 : decode cX3_next 148 = .ok (.iload_n 2, 1) := dk_28 (dk_at dksX3_next_6 11 rfl rfl)
theorem dX3_next_149 : decode cX3_next 149 = .ok (.iconst 2, 1) := dk_5 (dk_at dksX3_next_6 12 rfl rfl)
theorem dX3_next_150 : decode cX3_next 150 = .ok (.idiv, 1) := dk_108 (dk_at dksX3_next_6 13 rfl rfl)
theorem dX3_next_151 : decode cX3_next 151 = .ok (.istore 5, 2) := dk_54 5 (dk_at dksX3_next_6 14 rfl rfl)
theorem dX3_next_153 : decode cX3_next 153 = .ok (.iload 4, 2) := dk_21 4 (dk_at dksX3_next_6 16 rfl rfl)
theorem dX3_next_155 : decode cX3_next 155 = .ok (.ifCond .ne 9, 3) := dk_154 0 9 (dk_at dksX3_next_6 18 rfl rfl)
theorem dX3_next_158 : decode cX3_next 158 = .ok (.sipush 160, 3) := dk_17 0 160 (dk_at dksX3_next_6 21 rfl rfl)
theorem dX3_next_161 : decode cX3_next 161 = .ok (.goto 5, 3) := dk_167 0 5 (dk_at dksX3_next_7 0 rfl rfl)
theorem dX3_next_164 : decode cX3_next 164 = .ok (.bipush 90, 2) := dk_16 90 (dk_at dksX3_next_7 3 rfl rfl)
theorem dX3_next_166 : decode cX3_next 166 = .ok (.istore 6, 2) := dk_54 6 (dk_at dksX3_next_7 5 rfl rfl)
theorem dX3_next_168 : decode cX3_next 168 = .ok (.iload 5, 2) := dk_21 5 (dk_at dksX3_next_7 7 rfl rfl)
theorem dX3_next_170 : decode cX3_next 170 = .ok (.iconst 2, 1) := dk_5 (dk_at dksX3_next_7 9 rfl rfl)
theorem dX3_next_171 : decode cX3_next 171 = .ok (.iadd, 1) := dk_96 (dk_at dksX3_next_7 10 rfl rfl)
theorem dX3_next_172 : decode cX3_next 172 = .ok (.iload 6, 2) := dk_21 6 (dk_at dksX3_next_7 11 rfl rfl)
theorem dX3_next_174 : decode cX3_next 174 = .ok (.if_icmp .ge 10, 3) := dk_162 0 10 (dk_at dksX3_next_7 13 rfl rfl)
theorem dX3_next_177 : decode cX3_next 177 = .ok (.iload 5, 2) := dk_21 5 (dk_at dksX3_next_7 16 rfl rfl)
theorem dX3_next_179 : decode cX3_next 179 = .ok (.iconst 2, 1) := dk_5 (dk_at dksX3_next_7 18 rfl rfl)
theorem dX3_next_180 : decode cX3_next 180 = .ok (.iadd, 1) := dk_96 (dk_at dksX3_next_7 19 rfl rfl)
theorem dX3_next_181 : decode cX3_next 181 = .ok (.goto 5, 3) := dk_167 0 5 (dk_at dksX3_next_7 20 rfl rfl)
theorem dX3_next_184 : decode cX3_next 184 = .ok (.iload 6, 2) := dk_21 6 (dk_at dksX3_next_8 0 rfl rfl)
theorem dX3_next_186 : decode cX3_next 186 = .ok (.ireturn, 1) := dk_172 (dk_at dksX3_next_8 2 rfl rfl)
abbrev cX3_feeds : ByteArray := prog_9_method_49_code
def yX3_feeds : MethodName := ⟨RX3, "feeds", "(I)V"⟩
def dkwX3_feeds_11 : List UInt8 := [132, 5, 1, 167, 255, 168, 177]
abbrev dktX3_feeds_11 : List UInt8 := dkwX3_feeds_11 ++ []
def dkwX3_feeds_10 : List UInt8 := [21, 7, 100, 79, 42, 180, 0, 7, 16, 7, 92, 46, 21, 7, 96, 79, 21, 4, 21, 7, 100, 54, 4]
abbrev dktX3_feeds_10 : List UInt8 := dkwX3_feeds_10 ++ dktX3_feeds_11
def dkwX3_feeds_9 : List UInt8 := [42, 180, 0, 7, 16, 80, 21, 5, 96, 42, 180, 0, 7, 16, 80, 21, 5, 96, 46, 17, 3, 232, 112]
abbrev dktX3_feeds_9 : List UInt8 := dkwX3_feeds_9 ++ dktX3_feeds_10
def dkwX3_feeds_8 : List UInt8 := [96, 46, 17, 3, 232, 108, 54, 6, 21, 6, 21, 4, 162, 0, 8, 21, 6, 167, 0, 5, 21, 4, 54, 7]
abbrev dktX3_feeds_8 : List UInt8 := dkwX3_feeds_8 ++ dktX3_feeds_9
def dkwX3_feeds_7 : List UInt8 := [182, 0, 107, 104, 54, 4, 3, 54, 5, 21, 5, 16, 64, 162, 0, 87, 42, 180, 0, 7, 16, 80, 21, 5]
abbrev dktX3_feeds_7 : List UInt8 := dkwX3_feeds_7 ++ dktX3_feeds_8
def dkwX3_feeds_6 : List UInt8 := [42, 42, 27, 3, 182, 0, 96, 42, 27, 4, 182, 0, 96, 182, 0, 153, 3, 182, 0, 149, 16, 60, 42, 27]
abbrev dktX3_feeds_6 : List UInt8 := dkwX3_feeds_6 ++ dktX3_feeds_7
def dkwX3_feeds_5 : List UInt8 := [21, 5, 3, 182, 0, 149, 132, 4, 1, 167, 255, 225, 167, 0, 32, 29, 16, 60, 28, 104, 162, 0, 24, 42]
abbrev dktX3_feeds_5 : List UInt8 := dkwX3_feeds_5 ++ dktX3_feeds_6
def dkwX3_feeds_4 : List UInt8 := [54, 4, 21, 4, 4, 163, 0, 31, 42, 27, 21, 4, 182, 0, 96, 54, 5, 21, 5, 2, 159, 0, 10, 42]
abbrev dktX3_feeds_4 : List UInt8 := dkwX3_feeds_4 ++ dktX3_feeds_5
def dkwX3_feeds_3 : List UInt8 := [182, 0, 110, 108, 104, 167, 0, 4, 3, 96, 79, 132, 4, 1, 167, 255, 194, 29, 16, 60, 162, 0, 43, 3]
abbrev dktX3_feeds_3 : List UInt8 := dkwX3_feeds_3 ++ dktX3_feeds_4
def dkwX3_feeds_2 : List UInt8 := [184, 0, 50, 153, 0, 27, 17, 3, 232, 42, 180, 0, 7, 16, 80, 21, 4, 96, 46, 42, 21, 4]
abbrev dktX3_feeds_2 : List UInt8 := dkwX3_feeds_2 ++ dktX3_feeds_3
def dkwX3_feeds_1 : List UInt8 := [162, 0, 61, 42, 180, 0, 7, 16, 80, 21, 4, 96, 92, 46, 42, 180, 0, 22, 27, 47, 21, 4]
abbrev dktX3_feeds_1 : List UInt8 := dkwX3_feeds_1 ++ dktX3_feeds_2
def dkwX3_feeds_0 : List UInt8 := [42, 27, 182, 0, 107, 61, 28, 154, 0, 4, 177, 42, 27, 182, 0, 146, 62, 3, 54, 4, 21, 4, 16, 64]
abbrev dktX3_feeds_0 : List UInt8 := dkwX3_feeds_0 ++ dktX3_feeds_1
theorem dksX3_feeds_0 : cX3_feeds.data.toList.drop 0 = dktX3_feeds_0 := by decide +kernel
theorem dksX3_feeds_1 : cX3_feeds.data.toList.drop 24 = dktX3_feeds_1 := dk_seg dksX3_feeds_0 24 rfl rfl
theorem dksX3_feeds_2 : cX3_feeds.data.toList.drop 46 = dktX3_feeds_2 := dk_seg dksX3_feeds_1 22 rfl rfl
theorem dksX3_feeds_3 : cX3_feeds.data.toList.drop 68 = dktX3_feeds_3 := dk_seg dksX3_feeds_2 22 rfl rfl
theorem dksX3_feeds_4 : cX3_feeds.data.toList.drop 92 = dktX3_feeds_4 := dk_seg dksX3_feeds_3 24 rfl rfl
theorem dksX3_feeds_5 : cX3_feeds.data.toList.drop 116 = dktX3_feeds_5 := dk_seg dksX3_feeds_4 24 rfl rfl
theorem dksX3_feeds_6 : cX3_feeds.data.toList.drop 140 = dktX3_feeds_6 := dk_seg dksX3_feeds_5 24 rfl rfl
theorem dksX3_feeds_7 : cX3_feeds.data.toList.drop 164 = dktX3_feeds_7 := dk_seg dksX3_feeds_6 24 rfl rfl
theorem dksX3_feeds_8 : cX3_feeds.data.toList.drop 188 = dktX3_feeds_8 := dk_seg dksX3_feeds_7 24 rfl rfl
theorem dksX3_feeds_9 : cX3_feeds.data.toList.drop 212 = dktX3_feeds_9 := dk_seg dksX3_feeds_8 24 rfl rfl
theorem dksX3_feeds_10 : cX3_feeds.data.toList.drop 235 = dktX3_feeds_10 := dk_seg dksX3_feeds_9 23 rfl rfl
theorem dksX3_feeds_11 : cX3_feeds.data.toList.drop 258 = dktX3_feeds_11 := dk_seg dksX3_feeds_10 23 rfl rfl
theorem dX3_feeds_0 : decode cX3_feeds 0 = .ok (.aload_n 0, 1) := dk_42 (dk_at dksX3_feeds_0 0 rfl rfl)
theorem dX3_feeds_1 : decode cX3_feeds 1 = .ok (.iload_n 1, 1) := dk_27 (dk_at dksX3_feeds_0 1 rfl rfl)
theorem dX3_feeds_2 : decode cX3_feeds 2 = .ok (.invokevirtual 107, 3) := dk_182 0 107 (dk_at dksX3_feeds_0 2 rfl rfl)
theorem dX3_feeds_5 : decode cX3_feeds 5 = .ok (.istore_n 2, 1) := dk_61 (dk_at dksX3_feeds_0 5 rfl rfl)
theorem dX3_feeds_6 : decode cX3_feeds 6 = .ok (.iload_n 2, 1) := dk_28 (dk_at dksX3_feeds_0 6 rfl rfl)
theorem dX3_feeds_7 : decode cX3_feeds 7 = .ok (.ifCond .ne 4, 3) := dk_154 0 4 (dk_at dksX3_feeds_0 7 rfl rfl)
theorem dX3_feeds_10 : decode cX3_feeds 10 = .ok (.return_, 1) := dk_177 (dk_at dksX3_feeds_0 10 rfl rfl)
theorem dX3_feeds_11 : decode cX3_feeds 11 = .ok (.aload_n 0, 1) := dk_42 (dk_at dksX3_feeds_0 11 rfl rfl)
theorem dX3_feeds_12 : decode cX3_feeds 12 = .ok (.iload_n 1, 1) := dk_27 (dk_at dksX3_feeds_0 12 rfl rfl)
theorem dX3_feeds_13 : decode cX3_feeds 13 = .ok (.invokevirtual 146, 3) := dk_182 0 146 (dk_at dksX3_feeds_0 13 rfl rfl)
theorem dX3_feeds_16 : decode cX3_feeds 16 = .ok (.istore_n 3, 1) := dk_62 (dk_at dksX3_feeds_0 16 rfl rfl)
theorem dX3_feeds_17 : decode cX3_feeds 17 = .ok (.iconst 0, 1) := dk_3 (dk_at dksX3_feeds_0 17 rfl rfl)
theorem dX3_feeds_18 : decode cX3_feeds 18 = .ok (.istore 4, 2) := dk_54 4 (dk_at dksX3_feeds_0 18 rfl rfl)
theorem dX3_feeds_20 : decode cX3_feeds 20 = .ok (.iload 4, 2) := dk_21 4 (dk_at dksX3_feeds_0 20 rfl rfl)
theorem dX3_feeds_22 : decode cX3_feeds 22 = .ok (.bipush 64, 2) := dk_16 64 (dk_at dksX3_feeds_0 22 rfl rfl)
theorem dX3_feeds_24 : decode cX3_feeds 24 = .ok (.if_icmp .ge 61, 3) := dk_162 0 61 (dk_at dksX3_feeds_1 0 rfl rfl)
theorem dX3_feeds_27 : decode cX3_feeds 27 = .ok (.aload_n 0, 1) := dk_42 (dk_at dksX3_feeds_1 3 rfl rfl)
theorem dX3_feeds_28 : decode cX3_feeds 28 = .ok (.getfield 7, 3) := dk_180 0 7 (dk_at dksX3_feeds_1 4 rfl rfl)
theorem dX3_feeds_31 : decode cX3_feeds 31 = .ok (.bipush 80, 2) := dk_16 80 (dk_at dksX3_feeds_1 7 rfl rfl)
theorem dX3_feeds_33 : decode cX3_feeds 33 = .ok (.iload 4, 2) := dk_21 4 (dk_at dksX3_feeds_1 9 rfl rfl)
theorem dX3_feeds_35 : decode cX3_feeds 35 = .ok (.iadd, 1) := dk_96 (dk_at dksX3_feeds_1 11 rfl rfl)
theorem dX3_feeds_36 : decode cX3_feeds 36 = .ok (.dup2, 1) := dk_92 (dk_at dksX3_feeds_1 12 rfl rfl)
theorem dX3_feeds_37 : decode cX3_feeds 37 = .ok (.iaload, 1) := dk_46 (dk_at dksX3_feeds_1 13 rfl rfl)
theorem dX3_feeds_38 : decode cX3_feeds 38 = .ok (.aload_n 0, 1) := dk_42 (dk_at dksX3_feeds_1 14 rfl rfl)
theorem dX3_feeds_39 : decode cX3_feeds 39 = .ok (.getfield 22, 3) := dk_180 0 22 (dk_at dksX3_feeds_1 15 rfl rfl)
theorem dX3_feeds_42 : decode cX3_feeds 42 = .ok (.iload_n 1, 1) := dk_27 (dk_at dksX3_feeds_1 18 rfl rfl)
theorem dX3_feeds_43 : decode cX3_feeds 43 = .ok (.laload, 1) := dk_47 (dk_at dksX3_feeds_1 19 rfl rfl)
theorem dX3_feeds_44 : decode cX3_feeds 44 = .ok (.iload 4, 2) := dk_21 4 (dk_at dksX3_feeds_1 20 rfl rfl)
theorem dX3_feeds_46 : decode cX3_feeds 46 = .ok (.invokestatic 50, 3) := dk_184 0 50 (dk_at dksX3_feeds_2 0 rfl rfl)
theorem dX3_feeds_49 : decode cX3_feeds 49 = .ok (.ifCond .eq 27, 3) := dk_153 0 27 (dk_at dksX3_feeds_2 3 rfl rfl)
theorem dX3_feeds_52 : decode cX3_feeds 52 = .ok (.sipush 1000, 3) := dk_17 3 232 (dk_at dksX3_feeds_2 6 rfl rfl)
theorem dX3_feeds_55 : decode cX3_feeds 55 = .ok (.aload_n 0, 1) := dk_42 (dk_at dksX3_feeds_2 9 rfl rfl)
theorem dX3_feeds_56 : decode cX3_feeds 56 = .ok (.getfield 7, 3) := dk_180 0 7 (dk_at dksX3_feeds_2 10 rfl rfl)
theorem dX3_feeds_59 : decode cX3_feeds 59 = .ok (.bipush 80, 2) := dk_16 80 (dk_at dksX3_feeds_2 13 rfl rfl)
theorem dX3_feeds_61 : decode cX3_feeds 61 = .ok (.iload 4, 2) := dk_21 4 (dk_at dksX3_feeds_2 15 rfl rfl)
theorem dX3_feeds_63 : decode cX3_feeds 63 = .ok (.iadd, 1) := dk_96 (dk_at dksX3_feeds_2 17 rfl rfl)
theorem dX3_feeds_64 : decode cX3_feeds 64 = .ok (.iaload, 1) := dk_46 (dk_at dksX3_feeds_2 18 rfl rfl)
theorem dX3_feeds_65 : decode cX3_feeds 65 = .ok (.aload_n 0, 1) := dk_42 (dk_at dksX3_feeds_2 19 rfl rfl)
theorem dX3_feeds_66 : decode cX3_feeds 66 = .ok (.iload 4, 2) := dk_21 4 (dk_at dksX3_feeds_2 20 rfl rfl)
theorem dX3_feeds_68 : decode cX3_feeds 68 = .ok (.invokevirtual 110, 3) := dk_182 0 110 (dk_at dksX3_feeds_3 0 rfl rfl)
theorem dX3_feeds_71 : decode cX3_feeds 71 = .ok (.idiv, 1) := dk_108 (dk_at dksX3_feeds_3 3 rfl rfl)
theorem dX3_feeds_72 : decode cX3_feeds 72 = .ok (.imul, 1) := dk_104 (dk_at dksX3_feeds_3 4 rfl rfl)
theorem dX3_feeds_73 : decode cX3_feeds 73 = .ok (.goto 4, 3) := dk_167 0 4 (dk_at dksX3_feeds_3 5 rfl rfl)
theorem dX3_feeds_76 : decode cX3_feeds 76 = .ok (.iconst 0, 1) := dk_3 (dk_at dksX3_feeds_3 8 rfl rfl)
theorem dX3_feeds_77 : decode cX3_feeds 77 = .ok (.iadd, 1) := dk_96 (dk_at dksX3_feeds_3 9 rfl rfl)
theorem dX3_feeds_78 : decode cX3_feeds 78 = .ok (.iastore, 1) := dk_79 (dk_at dksX3_feeds_3 10 rfl rfl)
theorem dX3_feeds_79 : decode cX3_feeds 79 = .ok (.iinc 4 1, 3) := dk_132 4 1 (dk_at dksX3_feeds_3 11 rfl rfl)
theorem dX3_feeds_82 : decode cX3_feeds 82 = .ok (.goto (-62), 3) := dk_167 255 194 (dk_at dksX3_feeds_3 14 rfl rfl)
theorem dX3_feeds_85 : decode cX3_feeds 85 = .ok (.iload_n 3, 1) := dk_29 (dk_at dksX3_feeds_3 17 rfl rfl)
theorem dX3_feeds_86 : decode cX3_feeds 86 = .ok (.bipush 60, 2) := dk_16 60 (dk_at dksX3_feeds_3 18 rfl rfl)
theorem dX3_feeds_88 : decode cX3_feeds 88 = .ok (.if_icmp .ge 43, 3) := dk_162 0 43 (dk_at dksX3_feeds_3 20 rfl rfl)
theorem dX3_feeds_91 : decode cX3_feeds 91 = .ok (.iconst 0, 1) := dk_3 (dk_at dksX3_feeds_3 23 rfl rfl)
theorem dX3_feeds_92 : decode cX3_feeds 92 = .ok (.istore 4, 2) := dk_54 4 (dk_at dksX3_feeds_4 0 rfl rfl)
theorem dX3_feeds_94 : decode cX3_feeds 94 = .ok (.iload 4, 2) := dk_21 4 (dk_at dksX3_feeds_4 2 rfl rfl)
theorem dX3_feeds_96 : decode cX3_feeds 96 = .ok (.iconst 1, 1) := dk_4 (dk_at dksX3_feeds_4 4 rfl rfl)
theorem dX3_feeds_97 : decode cX3_feeds 97 = .ok (.if_icmp .gt 31, 3) := dk_163 0 31 (dk_at dksX3_feeds_4 5 rfl rfl)
theorem dX3_feeds_100 : decode cX3_feeds 100 = .ok (.aload_n 0, 1) := dk_42 (dk_at dksX3_feeds_4 8 rfl rfl)
theorem dX3_feeds_101 : decode cX3_feeds 101 = .ok (.iload_n 1, 1) := dk_27 (dk_at dksX3_feeds_4 9 rfl rfl)
theorem dX3_feeds_102 : decode cX3_feeds 102 = .ok (.iload 4, 2) := dk_21 4 (dk_at dksX3_feeds_4 10 rfl rfl)
theorem dX3_feeds_104 : decode cX3_feeds 104 = .ok (.invokevirtual 96, 3) := dk_182 0 96 (dk_at dksX3_feeds_4 12 rfl rfl)
theorem dX3_feeds_107 : decode cX3_feeds 107 = .ok (.istore 5, 2) := dk_54 5 (dk_at dksX3_feeds_4 15 rfl rfl)
theorem dX3_feeds_109 : decode cX3_feeds 109 = .ok (.iload 5, 2) := dk_21 5 (dk_at dksX3_feeds_4 17 rfl rfl)
theorem dX3_feeds_111 : decode cX3_feeds 111 = .ok (.iconst (-1), 1) := dk_2 (dk_at dksX3_feeds_4 19 rfl rfl)
theorem dX3_feeds_112 : decode cX3_feeds 112 = .ok (.if_icmp .eq 10, 3) := dk_159 0 10 (dk_at dksX3_feeds_4 20 rfl rfl)
theorem dX3_feeds_115 : decode cX3_feeds 115 = .ok (.aload_n 0, 1) := dk_42 (dk_at dksX3_feeds_4 23 rfl rfl)
theorem dX3_feeds_116 : decode cX3_feeds 116 = .ok (.iload 5, 2) := dk_21 5 (dk_at dksX3_feeds_5 0 rfl rfl)
theorem dX3_feeds_118 : decode cX3_feeds 118 = .ok (.iconst 0, 1) := dk_3 (dk_at dksX3_feeds_5 2 rfl rfl)
theorem dX3_feeds_119 : decode cX3_feeds 119 = .ok (.invokevirtual 149, 3) := dk_182 0 149 (dk_at dksX3_feeds_5 3 rfl rfl)
theorem dX3_feeds_122 : decode cX3_feeds 122 = .ok (.iinc 4 1, 3) := dk_132 4 1 (dk_at dksX3_feeds_5 6 rfl rfl)
theorem dX3_feeds_125 : decode cX3_feeds 125 = .ok (.goto (-31), 3) := dk_167 255 225 (dk_at dksX3_feeds_5 9 rfl rfl)
theorem dX3_feeds_128 : decode cX3_feeds 128 = .ok (.goto 32, 3) := dk_167 0 32 (dk_at dksX3_feeds_5 12 rfl rfl)
theorem dX3_feeds_131 : decode cX3_feeds 131 = .ok (.iload_n 3, 1) := dk_29 (dk_at dksX3_feeds_5 15 rfl rfl)
theorem dX3_feeds_132 : decode cX3_feeds 132 = .ok (.bipush 60, 2) := dk_16 60 (dk_at dksX3_feeds_5 16 rfl rfl)
theorem dX3_feeds_134 : decode cX3_feeds 134 = .ok (.iload_n 2, 1) := dk_28 (dk_at dksX3_feeds_5 18 rfl rfl)
theorem dX3_feeds_135 : decode cX3_feeds 135 = .ok (.imul, 1) := dk_104 (dk_at dksX3_feeds_5 19 rfl rfl)
theorem dX3_feeds_136 : decode cX3_feeds 136 = .ok (.if_icmp .ge 24, 3) := dk_162 0 24 (dk_at dksX3_feeds_5 20 rfl rfl)
theorem dX3_feeds_139 : decode cX3_feeds 139 = .ok (.aload_n 0, 1) := dk_42 (dk_at dksX3_feeds_5 23 rfl rfl)
theorem dX3_feeds_140 : decode cX3_feeds 140 = .ok (.aload_n 0, 1) := dk_42 (dk_at dksX3_feeds_6 0 rfl rfl)
theorem dX3_feeds_141 : decode cX3_feeds 141 = .ok (.aload_n 0, 1) := dk_42 (dk_at dksX3_feeds_6 1 rfl rfl)
theorem dX3_feeds_142 : decode cX3_feeds 142 = .ok (.iload_n 1, 1) := dk_27 (dk_at dksX3_feeds_6 2 rfl rfl)
theorem dX3_feeds_143 : decode cX3_feeds 143 = .ok (.iconst 0, 1) := dk_3 (dk_at dksX3_feeds_6 3 rfl rfl)
theorem dX3_feeds_144 : decode cX3_feeds 144 = .ok (.invokevirtual 96, 3) := dk_182 0 96 (dk_at dksX3_feeds_6 4 rfl rfl)
theorem dX3_feeds_147 : decode cX3_feeds 147 = .ok (.aload_n 0, 1) := dk_42 (dk_at dksX3_feeds_6 7 rfl rfl)
theorem dX3_feeds_148 : decode cX3_feeds 148 = .ok (.iload_n 1, 1) := dk_27 (dk_at dksX3_feeds_6 8 rfl rfl)
theorem dX3_feeds_149 : decode cX3_feeds 149 = .ok (.iconst 1, 1) := dk_4 (dk_at dksX3_feeds_6 9 rfl rfl)
theorem dX3_feeds_150 : decode cX3_feeds 150 = .ok (.invokevirtual 96, 3) := dk_182 0 96 (dk_at dksX3_feeds_6 10 rfl rfl)
theorem dX3_feeds_153 : decode cX3_feeds 153 = .ok (.invokevirtual 153, 3) := dk_182 0 153 (dk_at dksX3_feeds_6 13 rfl rfl)
theorem dX3_feeds_156 : decode cX3_feeds 156 = .ok (.iconst 0, 1) := dk_3 (dk_at dksX3_feeds_6 16 rfl rfl)
theorem dX3_feeds_157 : decode cX3_feeds 157 = .ok (.invokevirtual 149, 3) := dk_182 0 149 (dk_at dksX3_feeds_6 17 rfl rfl)
theorem dX3_feeds_160 : decode cX3_feeds 160 = .ok (.bipush 60, 2) := dk_16 60 (dk_at dksX3_feeds_6 20 rfl rfl)
theorem dX3_feeds_162 : decode cX3_feeds 162 = .ok (.aload_n 0, 1) := dk_42 (dk_at dksX3_feeds_6 22 rfl rfl)
theorem dX3_feeds_163 : decode cX3_feeds 163 = .ok (.iload_n 1, 1) := dk_27 (dk_at dksX3_feeds_6 23 rfl rfl)
theorem dX3_feeds_164 : decode cX3_feeds 164 = .ok (.invokevirtual 107, 3) := dk_182 0 107 (dk_at dksX3_feeds_7 0 rfl rfl)
theorem dX3_feeds_167 : decode cX3_feeds 167 = .ok (.imul, 1) := dk_104 (dk_at dksX3_feeds_7 3 rfl rfl)
theorem dX3_feeds_168 : decode cX3_feeds 168 = .ok (.istore 4, 2) := dk_54 4 (dk_at dksX3_feeds_7 4 rfl rfl)
theorem dX3_feeds_170 : decode cX3_feeds 170 = .ok (.iconst 0, 1) := dk_3 (dk_at dksX3_feeds_7 6 rfl rfl)
theorem dX3_feeds_171 : decode cX3_feeds 171 = .ok (.istore 5, 2) := dk_54 5 (dk_at dksX3_feeds_7 7 rfl rfl)
theorem dX3_feeds_173 : decode cX3_feeds 173 = .ok (.iload 5, 2) := dk_21 5 (dk_at dksX3_feeds_7 9 rfl rfl)
theorem dX3_feeds_175 : decode cX3_feeds 175 = .ok (.bipush 64, 2) := dk_16 64 (dk_at dksX3_feeds_7 11 rfl rfl)
theorem dX3_feeds_177 : decode cX3_feeds 177 = .ok (.if_icmp .ge 87, 3) := dk_162 0 87 (dk_at dksX3_feeds_7 13 rfl rfl)
theorem dX3_feeds_180 : decode cX3_feeds 180 = .ok (.aload_n 0, 1) := dk_42 (dk_at dksX3_feeds_7 16 rfl rfl)
theorem dX3_feeds_181 : decode cX3_feeds 181 = .ok (.getfield 7, 3) := dk_180 0 7 (dk_at dksX3_feeds_7 17 rfl rfl)
theorem dX3_feeds_184 : decode cX3_feeds 184 = .ok (.bipush 80, 2) := dk_16 80 (dk_at dksX3_feeds_7 20 rfl rfl)
theorem dX3_feeds_186 : decode cX3_feeds 186 = .ok (.iload 5, 2) := dk_21 5 (dk_at dksX3_feeds_7 22 rfl rfl)
theorem dX3_feeds_188 : decode cX3_feeds 188 = .ok (.iadd, 1) := dk_96 (dk_at dksX3_feeds_8 0 rfl rfl)
theorem dX3_feeds_189 : decode cX3_feeds 189 = .ok (.iaload, 1) := dk_46 (dk_at dksX3_feeds_8 1 rfl rfl)
theorem dX3_feeds_190 : decode cX3_feeds 190 = .ok (.sipush 1000, 3) := dk_17 3 232 (dk_at dksX3_feeds_8 2 rfl rfl)
theorem dX3_feeds_193 : decode cX3_feeds 193 = .ok (.idiv, 1) := dk_108 (dk_at dksX3_feeds_8 5 rfl rfl)
theorem dX3_feeds_194 : decode cX3_feeds 194 = .ok (.istore 6, 2) := dk_54 6 (dk_at dksX3_feeds_8 6 rfl rfl)
theorem dX3_feeds_196 : decode cX3_feeds 196 = .ok (.iload 6, 2) := dk_21 6 (dk_at dksX3_feeds_8 8 rfl rfl)
theorem dX3_feeds_198 : decode cX3_feeds 198 = .ok (.iload 4, 2) := dk_21 4 (dk_at dksX3_feeds_8 10 rfl rfl)
theorem dX3_feeds_200 : decode cX3_feeds 200 = .ok (.if_icmp .ge 8, 3) := dk_162 0 8 (dk_at dksX3_feeds_8 12 rfl rfl)
theorem dX3_feeds_203 : decode cX3_feeds 203 = .ok (.iload 6, 2) := dk_21 6 (dk_at dksX3_feeds_8 15 rfl rfl)
theorem dX3_feeds_205 : decode cX3_feeds 205 = .ok (.goto 5, 3) := dk_167 0 5 (dk_at dksX3_feeds_8 17 rfl rfl)
theorem dX3_feeds_208 : decode cX3_feeds 208 = .ok (.iload 4, 2) := dk_21 4 (dk_at dksX3_feeds_8 20 rfl rfl)
theorem dX3_feeds_210 : decode cX3_feeds 210 = .ok (.istore 7, 2) := dk_54 7 (dk_at dksX3_feeds_8 22 rfl rfl)
theorem dX3_feeds_212 : decode cX3_feeds 212 = .ok (.aload_n 0, 1) := dk_42 (dk_at dksX3_feeds_9 0 rfl rfl)
theorem dX3_feeds_213 : decode cX3_feeds 213 = .ok (.getfield 7, 3) := dk_180 0 7 (dk_at dksX3_feeds_9 1 rfl rfl)
theorem dX3_feeds_216 : decode cX3_feeds 216 = .ok (.bipush 80, 2) := dk_16 80 (dk_at dksX3_feeds_9 4 rfl rfl)
theorem dX3_feeds_218 : decode cX3_feeds 218 = .ok (.iload 5, 2) := dk_21 5 (dk_at dksX3_feeds_9 6 rfl rfl)
theorem dX3_feeds_220 : decode cX3_feeds 220 = .ok (.iadd, 1) := dk_96 (dk_at dksX3_feeds_9 8 rfl rfl)
theorem dX3_feeds_221 : decode cX3_feeds 221 = .ok (.aload_n 0, 1) := dk_42 (dk_at dksX3_feeds_9 9 rfl rfl)
theorem dX3_feeds_222 : decode cX3_feeds 222 = .ok (.getfield 7, 3) := dk_180 0 7 (dk_at dksX3_feeds_9 10 rfl rfl)
theorem dX3_feeds_225 : decode cX3_feeds 225 = .ok (.bipush 80, 2) := dk_16 80 (dk_at dksX3_feeds_9 13 rfl rfl)
theorem dX3_feeds_227 : decode cX3_feeds 227 = .ok (.iload 5, 2) := dk_21 5 (dk_at dksX3_feeds_9 15 rfl rfl)
theorem dX3_feeds_229 : decode cX3_feeds 229 = .ok (.iadd, 1) := dk_96 (dk_at dksX3_feeds_9 17 rfl rfl)
theorem dX3_feeds_230 : decode cX3_feeds 230 = .ok (.iaload, 1) := dk_46 (dk_at dksX3_feeds_9 18 rfl rfl)
theorem dX3_feeds_231 : decode cX3_feeds 231 = .ok (.sipush 1000, 3) := dk_17 3 232 (dk_at dksX3_feeds_9 19 rfl rfl)
theorem dX3_feeds_234 : decode cX3_feeds 234 = .ok (.irem, 1) := dk_112 (dk_at dksX3_feeds_9 22 rfl rfl)
theorem dX3_feeds_235 : decode cX3_feeds 235 = .ok (.iload 7, 2) := dk_21 7 (dk_at dksX3_feeds_10 0 rfl rfl)
theorem dX3_feeds_237 : decode cX3_feeds 237 = .ok (.isub, 1) := dk_100 (dk_at dksX3_feeds_10 2 rfl rfl)
theorem dX3_feeds_238 : decode cX3_feeds 238 = .ok (.iastore, 1) := dk_79 (dk_at dksX3_feeds_10 3 rfl rfl)
theorem dX3_feeds_239 : decode cX3_feeds 239 = .ok (.aload_n 0, 1) := dk_42 (dk_at dksX3_feeds_10 4 rfl rfl)
theorem dX3_feeds_240 : decode cX3_feeds 240 = .ok (.getfield 7, 3) := dk_180 0 7 (dk_at dksX3_feeds_10 5 rfl rfl)
theorem dX3_feeds_243 : decode cX3_feeds 243 = .ok (.bipush 7, 2) := dk_16 7 (dk_at dksX3_feeds_10 8 rfl rfl)
theorem dX3_feeds_245 : decode cX3_feeds 245 = .ok (.dup2, 1) := dk_92 (dk_at dksX3_feeds_10 10 rfl rfl)
theorem dX3_feeds_246 : decode cX3_feeds 246 = .ok (.iaload, 1) := dk_46 (dk_at dksX3_feeds_10 11 rfl rfl)
theorem dX3_feeds_247 : decode cX3_feeds 247 = .ok (.iload 7, 2) := dk_21 7 (dk_at dksX3_feeds_10 12 rfl rfl)
theorem dX3_feeds_249 : decode cX3_feeds 249 = .ok (.iadd, 1) := dk_96 (dk_at dksX3_feeds_10 14 rfl rfl)
theorem dX3_feeds_250 : decode cX3_feeds 250 = .ok (.iastore, 1) := dk_79 (dk_at dksX3_feeds_10 15 rfl rfl)
theorem dX3_feeds_251 : decode cX3_feeds 251 = .ok (.iload 4, 2) := dk_21 4 (dk_at dksX3_feeds_10 16 rfl rfl)
theorem dX3_feeds_253 : decode cX3_feeds 253 = .ok (.iload 7, 2) := dk_21 7 (dk_at dksX3_feeds_10 18 rfl rfl)
theorem dX3_feeds_255 : decode cX3_feeds 255 = .ok (.isub, 1) := dk_100 (dk_at dksX3_feeds_10 20 rfl rfl)
theorem dX3_feeds_256 : decode cX3_feeds 256 = .ok (.istore 4, 2) := dk_54 4 (dk_at dksX3_feeds_10 21 rfl rfl)
theorem dX3_feeds_258 : decode cX3_feeds 258 = .ok (.iinc 5 1, 3) := dk_132 5 1 (dk_at dksX3_feeds_11 0 rfl rfl)
theorem dX3_feeds_261 : decode cX3_feeds 261 = .ok (.goto (-88), 3) := dk_167 255 168 (dk_at dksX3_feeds_11 3 rfl rfl)
theorem dX3_feeds_264 : decode cX3_feeds 264 = .ok (.return_, 1) := dk_177 (dk_at dksX3_feeds_11 6 rfl rfl)
abbrev cX3_share : ByteArray := prog_9_method_35_code
def yX3_share : MethodName := ⟨RX3, "share", "(I)I"⟩
def dkwX3_share_0 : List UInt8 := [42, 42, 180, 0, 22, 27, 47, 42, 27, 182, 0, 107, 158, 0, 7, 3, 167, 0, 4, 4, 182, 0, 113, 172]
abbrev dktX3_share_0 : List UInt8 := dkwX3_share_0 ++ []
theorem dksX3_share_0 : cX3_share.data.toList.drop 0 = dktX3_share_0 := by decide +kernel
theorem dX3_share_0 : decode cX3_share 0 = .ok (.aload_n 0, 1) := dk_42 (dk_at dksX3_share_0 0 rfl rfl)
theorem dX3_share_1 : decode cX3_share 1 = .ok (.aload_n 0, 1) := dk_42 (dk_at dksX3_share_0 1 rfl rfl)
theorem dX3_share_2 : decode cX3_share 2 = .ok (.getfield 22, 3) := dk_180 0 22 (dk_at dksX3_share_0 2 rfl rfl)
theorem dX3_share_5 : decode cX3_share 5 = .ok (.iload_n 1, 1) := dk_27 (dk_at dksX3_share_0 5 rfl rfl)
theorem dX3_share_6 : decode cX3_share 6 = .ok (.laload, 1) := dk_47 (dk_at dksX3_share_0 6 rfl rfl)
theorem dX3_share_7 : decode cX3_share 7 = .ok (.aload_n 0, 1) := dk_42 (dk_at dksX3_share_0 7 rfl rfl)
theorem dX3_share_8 : decode cX3_share 8 = .ok (.iload_n 1, 1) := dk_27 (dk_at dksX3_share_0 8 rfl rfl)
theorem dX3_share_9 : decode cX3_share 9 = .ok (.invokevirtual 107, 3) := dk_182 0 107 (dk_at dksX3_share_0 9 rfl rfl)
theorem dX3_share_12 : decode cX3_share 12 = .ok (.ifCond .le 7, 3) := dk_158 0 7 (dk_at dksX3_share_0 12 rfl rfl)
theorem dX3_share_15 : decode cX3_share 15 = .ok (.iconst 0, 1) := dk_3 (dk_at dksX3_share_0 15 rfl rfl)
theorem dX3_share_16 : decode cX3_share 16 = .ok (.goto 4, 3) := dk_167 0 4 (dk_at dksX3_share_0 16 rfl rfl)
theorem dX3_share_19 : decode cX3_share 19 = .ok (.iconst 1, 1) := dk_4 (dk_at dksX3_share_0 19 rfl rfl)
theorem dX3_share_20 : decode cX3_share 20 = .ok (.invokevirtual 113, 3) := dk_182 0 113 (dk_at dksX3_share_0 20 rfl rfl)
theorem dX3_share_23 : decode cX3_share 23 = .ok (.ireturn, 1) := dk_172 (dk_at dksX3_share_0 23 rfl rfl)
abbrev cX3_shareIn : ByteArray := prog_9_method_34_code
def yX3_shareIn : MethodName := ⟨RX3, "shareIn", "(JI)I"⟩
def dkwX3_shareIn_2 : List UInt8 := [54, 4, 132, 5, 1, 167, 255, 209, 21, 4, 172]
abbrev dktX3_shareIn_2 : List UInt8 := dkwX3_shareIn_2 ++ []
def dkwX3_shareIn_1 : List UInt8 := [42, 180, 0, 7, 16, 80, 21, 5, 96, 46, 42, 21, 5, 182, 0, 110, 29, 96, 108, 167, 0, 4, 3, 96]
abbrev dktX3_shareIn_1 : List UInt8 := dkwX3_shareIn_1 ++ dktX3_shareIn_2
def dkwX3_shareIn_0 : List UInt8 := [3, 54, 4, 3, 54, 5, 21, 5, 16, 64, 162, 0, 46, 21, 4, 31, 21, 5, 184, 0, 50, 153, 0, 25]
abbrev dktX3_shareIn_0 : List UInt8 := dkwX3_shareIn_0 ++ dktX3_shareIn_1
theorem dksX3_shareIn_0 : cX3_shareIn.data.toList.drop 0 = dktX3_shareIn_0 := by decide +kernel
theorem dksX3_shareIn_1 : cX3_shareIn.data.toList.drop 24 = dktX3_shareIn_1 := dk_seg dksX3_shareIn_0 24 rfl rfl
theorem dksX3_shareIn_2 : cX3_shareIn.data.toList.drop 48 = dktX3_shareIn_2 := dk_seg dksX3_shareIn_1 24 rfl rfl
theorem dX3_shareIn_0 : decode cX3_shareIn 0 = .ok (.iconst 0, 1) := dk_3 (dk_at dksX3_shareIn_0 0 rfl rfl)
theorem dX3_shareIn_1 : decode cX3_shareIn 1 = .ok (.istore 4, 2) := dk_54 4 (dk_at dksX3_shareIn_0 1 rfl rfl)
theorem dX3_shareIn_3 : decode cX3_shareIn 3 = .ok (.iconst 0, 1) := dk_3 (dk_at dksX3_shareIn_0 3 rfl rfl)
theorem dX3_shareIn_4 : decode cX3_shareIn 4 = .ok (.istore 5, 2) := dk_54 5 (dk_at dksX3_shareIn_0 4 rfl rfl)
theorem dX3_shareIn_6 : decode cX3_shareIn 6 = .ok (.iload 5, 2) := dk_21 5 (dk_at dksX3_shareIn_0 6 rfl rfl)
theorem dX3_shareIn_8 : decode cX3_shareIn 8 = .ok (.bipush 64, 2) := dk_16 64 (dk_at dksX3_shareIn_0 8 rfl rfl)
theorem dX3_shareIn_10 : decode cX3_shareIn 10 = .ok (.if_icmp .ge 46, 3) := dk_162 0 46 (dk_at dksX3_shareIn_0 10 rfl rfl)
theorem dX3_shareIn_13 : decode cX3_shareIn 13 = .ok (.iload 4, 2) := dk_21 4 (dk_at dksX3_shareIn_0 13 rfl rfl)
theorem dX3_shareIn_15 : decode cX3_shareIn 15 = .ok (.lload_n 1, 1) := dk_31 (dk_at dksX3_shareIn_0 15 rfl rfl)
theorem dX3_shareIn_16 : decode cX3_shareIn 16 = .ok (.iload 5, 2) := dk_21 5 (dk_at dksX3_shareIn_0 16 rfl rfl)
theorem dX3_shareIn_18 : decode cX3_shareIn 18 = .ok (.invokestatic 50, 3) := dk_184 0 50 (dk_at dksX3_shareIn_0 18 rfl rfl)
theorem dX3_shareIn_21 : decode cX3_shareIn 21 = .ok (.ifCond .eq 25, 3) := dk_153 0 25 (dk_at dksX3_shareIn_0 21 rfl rfl)
theorem dX3_shareIn_24 : decode cX3_shareIn 24 = .ok (.aload_n 0, 1) := dk_42 (dk_at dksX3_shareIn_1 0 rfl rfl)
theorem dX3_shareIn_25 : decode cX3_shareIn 25 = .ok (.getfield 7, 3) := dk_180 0 7 (dk_at dksX3_shareIn_1 1 rfl rfl)
theorem dX3_shareIn_28 : decode cX3_shareIn 28 = .ok (.bipush 80, 2) := dk_16 80 (dk_at dksX3_shareIn_1 4 rfl rfl)
theorem dX3_shareIn_30 : decode cX3_shareIn 30 = .ok (.iload 5, 2) := dk_21 5 (dk_at dksX3_shareIn_1 6 rfl rfl)
theorem dX3_shareIn_32 : decode cX3_shareIn 32 = .ok (.iadd, 1) := dk_96 (dk_at dksX3_shareIn_1 8 rfl rfl)
theorem dX3_shareIn_33 : decode cX3_shareIn 33 = .ok (.iaload, 1) := dk_46 (dk_at dksX3_shareIn_1 9 rfl rfl)
theorem dX3_shareIn_34 : decode cX3_shareIn 34 = .ok (.aload_n 0, 1) := dk_42 (dk_at dksX3_shareIn_1 10 rfl rfl)
theorem dX3_shareIn_35 : decode cX3_shareIn 35 = .ok (.iload 5, 2) := dk_21 5 (dk_at dksX3_shareIn_1 11 rfl rfl)
theorem dX3_shareIn_37 : decode cX3_shareIn 37 = .ok (.invokevirtual 110, 3) := dk_182 0 110 (dk_at dksX3_shareIn_1 13 rfl rfl)
theorem dX3_shareIn_40 : decode cX3_shareIn 40 = .ok (.iload_n 3, 1) := dk_29 (dk_at dksX3_shareIn_1 16 rfl rfl)
theorem dX3_shareIn_41 : decode cX3_shareIn 41 = .ok (.iadd, 1) := dk_96 (dk_at dksX3_shareIn_1 17 rfl rfl)
theorem dX3_shareIn_42 : decode cX3_shareIn 42 = .ok (.idiv, 1) := dk_108 (dk_at dksX3_shareIn_1 18 rfl rfl)
theorem dX3_shareIn_43 : decode cX3_shareIn 43 = .ok (.goto 4, 3) := dk_167 0 4 (dk_at dksX3_shareIn_1 19 rfl rfl)
theorem dX3_shareIn_46 : decode cX3_shareIn 46 = .ok (.iconst 0, 1) := dk_3 (dk_at dksX3_shareIn_1 22 rfl rfl)
theorem dX3_shareIn_47 : decode cX3_shareIn 47 = .ok (.iadd, 1) := dk_96 (dk_at dksX3_shareIn_1 23 rfl rfl)
theorem dX3_shareIn_48 : decode cX3_shareIn 48 = .ok (.istore 4, 2) := dk_54 4 (dk_at dksX3_shareIn_2 0 rfl rfl)
theorem dX3_shareIn_50 : decode cX3_shareIn 50 = .ok (.iinc 5 1, 3) := dk_132 5 1 (dk_at dksX3_shareIn_2 2 rfl rfl)
theorem dX3_shareIn_53 : decode cX3_shareIn 53 = .ok (.goto (-47), 3) := dk_167 255 209 (dk_at dksX3_shareIn_2 5 rfl rfl)
theorem dX3_shareIn_56 : decode cX3_shareIn 56 = .ok (.iload 4, 2) := dk_21 4 (dk_at dksX3_shareIn_2 8 rfl rfl)
theorem dX3_shareIn_58 : decode cX3_shareIn 58 = .ok (.ireturn, 1) := dk_172 (dk_at dksX3_shareIn_2 10 rfl rfl)
abbrev cX3_crowd : ByteArray := prog_9_method_33_code
def yX3_crowd : MethodName := ⟨RX3, "crowd", "(I)I"⟩
def dkwX3_crowd_2 : List UInt8 := [167, 255, 214, 28, 172]
abbrev dktX3_crowd_2 : List UInt8 := dkwX3_crowd_2 ++ []
def dkwX3_crowd_1 : List UInt8 := [184, 0, 50, 153, 0, 15, 42, 29, 182, 0, 107, 158, 0, 7, 4, 167, 0, 4, 3, 96, 61, 132, 3, 1]
abbrev dktX3_crowd_1 : List UInt8 := dkwX3_crowd_1 ++ dktX3_crowd_2
def dkwX3_crowd_0 : List UInt8 := [3, 61, 3, 62, 29, 42, 180, 0, 7, 5, 46, 162, 0, 38, 28, 42, 180, 0, 22, 29, 47, 27]
abbrev dktX3_crowd_0 : List UInt8 := dkwX3_crowd_0 ++ dktX3_crowd_1
theorem dksX3_crowd_0 : cX3_crowd.data.toList.drop 0 = dktX3_crowd_0 := by decide +kernel
theorem dksX3_crowd_1 : cX3_crowd.data.toList.drop 22 = dktX3_crowd_1 := dk_seg dksX3_crowd_0 22 rfl rfl
theorem dksX3_crowd_2 : cX3_crowd.data.toList.drop 46 = dktX3_crowd_2 := dk_seg dksX3_crowd_1 24 rfl rfl
theorem dX3_crowd_0 : decode cX3_crowd 0 = .ok (.iconst 0, 1) := dk_3 (dk_at dksX3_crowd_0 0 rfl rfl)
theorem dX3_crowd_1 : decode cX3_crowd 1 = .ok (.istore_n 2, 1) := dk_61 (dk_at dksX3_crowd_0 1 rfl rfl)
theorem dX3_crowd_2 : decode cX3_crowd 2 = .ok (.iconst 0, 1) := dk_3 (dk_at dksX3_crowd_0 2 rfl rfl)
theorem dX3_crowd_3 : decode cX3_crowd 3 = .ok (.istore_n 3, 1) := dk_62 (dk_at dksX3_crowd_0 3 rfl rfl)
theorem dX3_crowd_4 : decode cX3_crowd 4 = .ok (.iload_n 3, 1) := dk_29 (dk_at dksX3_crowd_0 4 rfl rfl)
theorem dX3_crowd_5 : decode cX3_crowd 5 = .ok (.aload_n 0, 1) := dk_42 (dk_at dksX3_crowd_0 5 rfl rfl)
theorem dX3_crowd_6 : decode cX3_crowd 6 = .ok (.getfield 7, 3) := dk_180 0 7 (dk_at dksX3_crowd_0 6 rfl rfl)
theorem dX3_crowd_9 : decode cX3_crowd 9 = .ok (.iconst 2, 1) := dk_5 (dk_at dksX3_crowd_0 9 rfl rfl)
theorem dX3_crowd_10 : decode cX3_crowd 10 = .ok (.iaload, 1) := dk_46 (dk_at dksX3_crowd_0 10 rfl rfl)
theorem dX3_crowd_11 : decode cX3_crowd 11 = .ok (.if_icmp .ge 38, 3) := dk_162 0 38 (dk_at dksX3_crowd_0 11 rfl rfl)
theorem dX3_crowd_14 : decode cX3_crowd 14 = .ok (.iload_n 2, 1) := dk_28 (dk_at dksX3_crowd_0 14 rfl rfl)
theorem dX3_crowd_15 : decode cX3_crowd 15 = .ok (.aload_n 0, 1) := dk_42 (dk_at dksX3_crowd_0 15 rfl rfl)
theorem dX3_crowd_16 : decode cX3_crowd 16 = .ok (.getfield 22, 3) := dk_180 0 22 (dk_at dksX3_crowd_0 16 rfl rfl)
theorem dX3_crowd_19 : decode cX3_crowd 19 = .ok (.iload_n 3, 1) := dk_29 (dk_at dksX3_crowd_0 19 rfl rfl)
theorem dX3_crowd_20 : decode cX3_crowd 20 = .ok (.laload, 1) := dk_47 (dk_at dksX3_crowd_0 20 rfl rfl)
theorem dX3_crowd_21 : decode cX3_crowd 21 = .ok (.iload_n 1, 1) := dk_27 (dk_at dksX3_crowd_0 21 rfl rfl)
theorem dX3_crowd_22 : decode cX3_crowd 22 = .ok (.invokestatic 50, 3) := dk_184 0 50 (dk_at dksX3_crowd_1 0 rfl rfl)
theorem dX3_crowd_25 : decode cX3_crowd 25 = .ok (.ifCond .eq 15, 3) := dk_153 0 15 (dk_at dksX3_crowd_1 3 rfl rfl)
theorem dX3_crowd_28 : decode cX3_crowd 28 = .ok (.aload_n 0, 1) := dk_42 (dk_at dksX3_crowd_1 6 rfl rfl)
theorem dX3_crowd_29 : decode cX3_crowd 29 = .ok (.iload_n 3, 1) := dk_29 (dk_at dksX3_crowd_1 7 rfl rfl)
theorem dX3_crowd_30 : decode cX3_crowd 30 = .ok (.invokevirtual 107, 3) := dk_182 0 107 (dk_at dksX3_crowd_1 8 rfl rfl)
theorem dX3_crowd_33 : decode cX3_crowd 33 = .ok (.ifCond .le 7, 3) := dk_158 0 7 (dk_at dksX3_crowd_1 11 rfl rfl)
theorem dX3_crowd_36 : decode cX3_crowd 36 = .ok (.iconst 1, 1) := dk_4 (dk_at dksX3_crowd_1 14 rfl rfl)
theorem dX3_crowd_37 : decode cX3_crowd 37 = .ok (.goto 4, 3) := dk_167 0 4 (dk_at dksX3_crowd_1 15 rfl rfl)
theorem dX3_crowd_40 : decode cX3_crowd 40 = .ok (.iconst 0, 1) := dk_3 (dk_at dksX3_crowd_1 18 rfl rfl)
theorem dX3_crowd_41 : decode cX3_crowd 41 = .ok (.iadd, 1) := dk_96 (dk_at dksX3_crowd_1 19 rfl rfl)
theorem dX3_crowd_42 : decode cX3_crowd 42 = .ok (.istore_n 2, 1) := dk_61 (dk_at dksX3_crowd_1 20 rfl rfl)
theorem dX3_crowd_43 : decode cX3_crowd 43 = .ok (.iinc 3 1, 3) := dk_132 3 1 (dk_at dksX3_crowd_1 21 rfl rfl)
theorem dX3_crowd_46 : decode cX3_crowd 46 = .ok (.goto (-42), 3) := dk_167 255 214 (dk_at dksX3_crowd_2 0 rfl rfl)
theorem dX3_crowd_49 : decode cX3_crowd 49 = .ok (.iload_n 2, 1) := dk_28 (dk_at dksX3_crowd_2 3 rfl rfl)
theorem dX3_crowd_50 : decode cX3_crowd 50 = .ok (.ireturn, 1) := dk_172 (dk_at dksX3_crowd_2 4 rfl rfl)
abbrev cX3_dies : ByteArray := prog_9_method_32_code
def yX3_dies : MethodName := ⟨RX3, "dies", "(II)V"⟩
def dkwX3_dies_5 : List UInt8 := [3, 46, 79, 42, 180, 0, 7, 16, 9, 92, 46, 4, 96, 79, 42, 27, 182, 0, 103, 177]
abbrev dktX3_dies_5 : List UInt8 := dkwX3_dies_5 ++ []
def dkwX3_dies_4 : List UInt8 := [182, 0, 93, 79, 42, 180, 0, 7, 29, 4, 96, 28, 79, 42, 180, 0, 7, 29, 5, 96, 42, 180, 0, 7]
abbrev dktX3_dies_4 : List UInt8 := dkwX3_dies_4 ++ dktX3_dies_5
def dkwX3_dies_3 : List UInt8 := [100, 79, 17, 2, 182, 6, 42, 180, 0, 7, 16, 9, 46, 104, 96, 62, 42, 180, 0, 7, 29, 42, 27, 3]
abbrev dktX3_dies_3 : List UInt8 := dkwX3_dies_3 ++ dktX3_dies_4
def dkwX3_dies_2 : List UInt8 := [17, 2, 182, 29, 96, 6, 96, 46, 79, 132, 3, 1, 167, 255, 225, 42, 180, 0, 7, 16, 9, 92, 46, 4]
abbrev dktX3_dies_2 : List UInt8 := dkwX3_dies_2 ++ dktX3_dies_3
def dkwX3_dies_1 : List UInt8 := [160, 0, 50, 3, 62, 29, 16, 57, 162, 0, 31, 42, 180, 0, 7, 17, 2, 182, 29, 96, 42, 180, 0, 7]
abbrev dktX3_dies_1 : List UInt8 := dkwX3_dies_1 ++ dktX3_dies_2
def dkwX3_dies_0 : List UInt8 := [42, 180, 0, 7, 16, 10, 28, 96, 92, 46, 4, 96, 79, 42, 180, 0, 7, 16, 9, 46, 16, 20]
abbrev dktX3_dies_0 : List UInt8 := dkwX3_dies_0 ++ dktX3_dies_1
theorem dksX3_dies_0 : cX3_dies.data.toList.drop 0 = dktX3_dies_0 := by decide +kernel
theorem dksX3_dies_1 : cX3_dies.data.toList.drop 22 = dktX3_dies_1 := dk_seg dksX3_dies_0 22 rfl rfl
theorem dksX3_dies_2 : cX3_dies.data.toList.drop 46 = dktX3_dies_2 := dk_seg dksX3_dies_1 24 rfl rfl
theorem dksX3_dies_3 : cX3_dies.data.toList.drop 70 = dktX3_dies_3 := dk_seg dksX3_dies_2 24 rfl rfl
theorem dksX3_dies_4 : cX3_dies.data.toList.drop 94 = dktX3_dies_4 := dk_seg dksX3_dies_3 24 rfl rfl
theorem dksX3_dies_5 : cX3_dies.data.toList.drop 118 = dktX3_dies_5 := dk_seg dksX3_dies_4 24 rfl rfl
theorem dX3_dies_0 : decode cX3_dies 0 = .ok (.aload_n 0, 1) := dk_42 (dk_at dksX3_dies_0 0 rfl rfl)
theorem dX3_dies_1 : decode cX3_dies 1 = .ok (.getfield 7, 3) := dk_180 0 7 (dk_at dksX3_dies_0 1 rfl rfl)
theorem dX3_dies_4 : decode cX3_dies 4 = .ok (.bipush 10, 2) := dk_16 10 (dk_at dksX3_dies_0 4 rfl rfl)
theorem dX3_dies_6 : decode cX3_dies 6 = .ok (.iload_n 2, 1) := dk_28 (dk_at dksX3_dies_0 6 rfl rfl)
theorem dX3_dies_7 : decode cX3_dies 7 = .ok (.iadd, 1) := dk_96 (dk_at dksX3_dies_0 7 rfl rfl)
theorem dX3_dies_8 : decode cX3_dies 8 = .ok (.dup2, 1) := dk_92 (dk_at dksX3_dies_0 8 rfl rfl)
theorem dX3_dies_9 : decode cX3_dies 9 = .ok (.iaload, 1) := dk_46 (dk_at dksX3_dies_0 9 rfl rfl)
theorem dX3_dies_10 : decode cX3_dies 10 = .ok (.iconst 1, 1) := dk_4 (dk_at dksX3_dies_0 10 rfl rfl)
theorem dX3_dies_11 : decode cX3_dies 11 = .ok (.iadd, 1) := dk_96 (dk_at dksX3_dies_0 11 rfl rfl)
theorem dX3_dies_12 : decode cX3_dies 12 = .ok (.iastore, 1) := dk_79 (dk_at dksX3_dies_0 12 rfl rfl)
theorem dX3_dies_13 : decode cX3_dies 13 = .ok (.aload_n 0, 1) := dk_42 (dk_at dksX3_dies_0 13 rfl rfl)
theorem dX3_dies_14 : decode cX3_dies 14 = .ok (.getfield 7, 3) := dk_180 0 7 (dk_at dksX3_dies_0 14 rfl rfl)
theorem dX3_dies_17 : decode cX3_dies 17 = .ok (.bipush 9, 2) := dk_16 9 (dk_at dksX3_dies_0 17 rfl rfl)
theorem dX3_dies_19 : decode cX3_dies 19 = .ok (.iaload, 1) := dk_46 (dk_at dksX3_dies_0 19 rfl rfl)
theorem dX3_dies_20 : decode cX3_dies 20 = .ok (.bipush 20, 2) := dk_16 20 (dk_at dksX3_dies_0 20 rfl rfl)
theorem dX3_dies_22 : decode cX3_dies 22 = .ok (.if_icmp .ne 50, 3) := dk_160 0 50 (dk_at dksX3_dies_1 0 rfl rfl)
theorem dX3_dies_25 : decode cX3_dies 25 = .ok (.iconst 0, 1) := dk_3 (dk_at dksX3_dies_1 3 rfl rfl)
theorem dX3_dies_26 : decode cX3_dies 26 = .ok (.istore_n 3, 1) := dk_62 (dk_at dksX3_dies_1 4 rfl rfl)
theorem dX3_dies_27 : decode cX3_dies 27 = .ok (.iload_n 3, 1) := dk_29 (dk_at dksX3_dies_1 5 rfl rfl)
theorem dX3_dies_28 : decode cX3_dies 28 = .ok (.bipush 57, 2) := dk_16 57 (dk_at dksX3_dies_1 6 rfl rfl)
theorem dX3_dies_30 : decode cX3_dies 30 = .ok (.if_icmp .ge 31, 3) := dk_162 0 31 (dk_at dksX3_dies_1 8 rfl rfl)
theorem dX3_dies_33 : decode cX3_dies 33 = .ok (.aload_n 0, 1) := dk_42 (dk_at dksX3_dies_1 11 rfl rfl)
theorem dX3_dies_34 : decode cX3_dies 34 = .ok (.getfield 7, 3) := dk_180 0 7 (dk_at dksX3_dies_1 12 rfl rfl)
theorem dX3_dies_37 : decode cX3_dies 37 = .ok (.sipush 694, 3) := dk_17 2 182 (dk_at dksX3_dies_1 15 rfl rfl)
theorem dX3_dies_40 : decode cX3_dies 40 = .ok (.iload_n 3, 1) := dk_29 (dk_at dksX3_dies_1 18 rfl rfl)
theorem dX3_dies_41 : decode cX3_dies 41 = .ok (.iadd, 1) := dk_96 (dk_at dksX3_dies_1 19 rfl rfl)
theorem dX3_dies_42 : decode cX3_dies 42 = .ok (.aload_n 0, 1) := dk_42 (dk_at dksX3_dies_1 20 rfl rfl)
theorem dX3_dies_43 : decode cX3_dies 43 = .ok (.getfield 7, 3) := dk_180 0 7 (dk_at dksX3_dies_1 21 rfl rfl)
theorem dX3_dies_46 : decode cX3_dies 46 = .ok (.sipush 694, 3) := dk_17 2 182 (dk_at dksX3_dies_2 0 rfl rfl)
theorem dX3_dies_49 : decode cX3_dies 49 = .ok (.iload_n 3, 1) := dk_29 (dk_at dksX3_dies_2 3 rfl rfl)
theorem dX3_dies_50 : decode cX3_dies 50 = .ok (.iadd, 1) := dk_96 (dk_at dksX3_dies_2 4 rfl rfl)
theorem dX3_dies_51 : decode cX3_dies 51 = .ok (.iconst 3, 1) := dk_6 (dk_at dksX3_dies_2 5 rfl rfl)
theorem dX3_dies_52 : decode cX3_dies 52 = .ok (.iadd, 1) := dk_96 (dk_at dksX3_dies_2 6 rfl rfl)
theorem dX3_dies_53 : decode cX3_dies 53 = .ok (.iaload, 1) := dk_46 (dk_at dksX3_dies_2 7 rfl rfl)
theorem dX3_dies_54 : decode cX3_dies 54 = .ok (.iastore, 1) := dk_79 (dk_at dksX3_dies_2 8 rfl rfl)
theorem dX3_dies_55 : decode cX3_dies 55 = .ok (.iinc 3 1, 3) := dk_132 3 1 (dk_at dksX3_dies_2 9 rfl rfl)
theorem dX3_dies_58 : decode cX3_dies 58 = .ok (.goto (-31), 3) := dk_167 255 225 (dk_at dksX3_dies_2 12 rfl rfl)
theorem dX3_dies_61 : decode cX3_dies 61 = .ok (.aload_n 0, 1) := dk_42 (dk_at dksX3_dies_2 15 rfl rfl)
theorem dX3_dies_62 : decode cX3_dies 62 = .ok (.getfield 7, 3) := dk_180 0 7 (dk_at dksX3_dies_2 16 rfl rfl)
theorem dX3_dies_65 : decode cX3_dies 65 = .ok (.bipush 9, 2) := dk_16 9 (dk_at dksX3_dies_2 19 rfl rfl)
theorem dX3_dies_67 : decode cX3_dies 67 = .ok (.dup2, 1) := dk_92 (dk_at dksX3_dies_2 21 rfl rfl)
theorem dX3_dies_68 : decode cX3_dies 68 = .ok (.iaload, 1) := dk_46 (dk_at dksX3_dies_2 22 rfl rfl)
theorem dX3_dies_69 : decode cX3_dies 69 = .ok (.iconst 1, 1) := dk_4 (dk_at dksX3_dies_2 23 rfl rfl)
theorem dX3_dies_70 : decode cX3_dies 70 = .ok (.isub, 1) := dk_100 (dk_at dksX3_dies_3 0 rfl rfl)
theorem dX3_dies_71 : decode cX3_dies 71 = .ok (.iastore, 1) := dk_79 (dk_at dksX3_dies_3 1 rfl rfl)
theorem dX3_dies_72 : decode cX3_dies 72 = .ok (.sipush 694, 3) := dk_17 2 182 (dk_at dksX3_dies_3 2 rfl rfl)
theorem dX3_dies_75 : decode cX3_dies 75 = .ok (.iconst 3, 1) := dk_6 (dk_at dksX3_dies_3 5 rfl rfl)
theorem dX3_dies_76 : decode cX3_dies 76 = .ok (.aload_n 0, 1) := dk_42 (dk_at dksX3_dies_3 6 rfl rfl)
theorem dX3_dies_77 : decode cX3_dies 77 = .ok (.getfield 7, 3) := dk_180 0 7 (dk_at dksX3_dies_3 7 rfl rfl)
theorem dX3_dies_80 : decode cX3_dies 80 = .ok (.bipush 9, 2) := dk_16 9 (dk_at dksX3_dies_3 10 rfl rfl)
theorem dX3_dies_82 : decode cX3_dies 82 = .ok (.iaload, 1) := dk_46 (dk_at dksX3_dies_3 12 rfl rfl)
theorem dX3_dies_83 : decode cX3_dies 83 = .ok (.imul, 1) := dk_104 (dk_at dksX3_dies_3 13 rfl rfl)
theorem dX3_dies_84 : decode cX3_dies 84 = .ok (.iadd, 1) := dk_96 (dk_at dksX3_dies_3 14 rfl rfl)
theorem dX3_dies_85 : decode cX3_dies 85 = .ok (.istore_n 3, 1) := dk_62 (dk_at dksX3_dies_3 15 rfl rfl)
theorem dX3_dies_86 : decode cX3_dies 86 = .ok (.aload_n 0, 1) := dk_42 (dk_at dksX3_dies_3 16 rfl rfl)
theorem dX3_dies_87 : decode cX3_dies 87 = .ok (.getfield 7, 3) := dk_180 0 7 (dk_at dksX3_dies_3 17 rfl rfl)
theorem dX3_dies_90 : decode cX3_dies 90 = .ok (.iload_n 3, 1) := dk_29 (dk_at dksX3_dies_3 20 rfl rfl)
theorem dX3_dies_91 : decode cX3_dies 91 = .ok (.aload_n 0, 1) := dk_42 (dk_at dksX3_dies_3 21 rfl rfl)
theorem dX3_dies_92 : decode cX3_dies 92 = .ok (.iload_n 1, 1) := dk_27 (dk_at dksX3_dies_3 22 rfl rfl)
theorem dX3_dies_93 : decode cX3_dies 93 = .ok (.iconst 0, 1) := dk_3 (dk_at dksX3_dies_3 23 rfl rfl)
theorem dX3_dies_94 : decode cX3_dies 94 = .ok (.invokevirtual 93, 3) := dk_182 0 93 (dk_at dksX3_dies_4 0 rfl rfl)
theorem dX3_dies_97 : decode cX3_dies 97 = .ok (.iastore, 1) := dk_79 (dk_at dksX3_dies_4 3 rfl rfl)
theorem dX3_dies_98 : decode cX3_dies 98 = .ok (.aload_n 0, 1) := dk_42 (dk_at dksX3_dies_4 4 rfl rfl)
theorem dX3_dies_99 : decode cX3_dies 99 = .ok (.getfield 7, 3) := dk_180 0 7 (dk_at dksX3_dies_4 5 rfl rfl)
theorem dX3_dies_102 : decode cX3_dies 102 = .ok (.iload_n 3, 1) := dk_29 (dk_at dksX3_dies_4 8 rfl rfl)
theorem dX3_dies_103 : decode cX3_dies 103 = .ok (.iconst 1, 1) := dk_4 (dk_at dksX3_dies_4 9 rfl rfl)
theorem dX3_dies_104 : decode cX3_dies 104 = .ok (.iadd, 1) := dk_96 (dk_at dksX3_dies_4 10 rfl rfl)
theorem dX3_dies_105 : decode cX3_dies 105 = .ok (.iload_n 2, 1) := dk_28 (dk_at dksX3_dies_4 11 rfl rfl)
theorem dX3_dies_106 : decode cX3_dies 106 = .ok (.iastore, 1) := dk_79 (dk_at dksX3_dies_4 12 rfl rfl)
theorem dX3_dies_107 : decode cX3_dies 107 = .ok (.aload_n 0, 1) := dk_42 (dk_at dksX3_dies_4 13 rfl rfl)
theorem dX3_dies_108 : decode cX3_dies 108 = .ok (.getfield 7, 3) := dk_180 0 7 (dk_at dksX3_dies_4 14 rfl rfl)
theorem dX3_dies_111 : decode cX3_dies 111 = .ok (.iload_n 3, 1) := dk_29 (dk_at dksX3_dies_4 17 rfl rfl)
theorem dX3_dies_112 : decode cX3_dies 112 = .ok (.iconst 2, 1) := dk_5 (dk_at dksX3_dies_4 18 rfl rfl)
theorem dX3_dies_113 : decode cX3_dies 113 = .ok (.iadd, 1) := dk_96 (dk_at dksX3_dies_4 19 rfl rfl)
theorem dX3_dies_114 : decode cX3_dies 114 = .ok (.aload_n 0, 1) := dk_42 (dk_at dksX3_dies_4 20 rfl rfl)
theorem dX3_dies_115 : decode cX3_dies 115 = .ok (.getfield 7, 3) := dk_180 0 7 (dk_at dksX3_dies_4 21 rfl rfl)
theorem dX3_dies_118 : decode cX3_dies 118 = .ok (.iconst 0, 1) := dk_3 (dk_at dksX3_dies_5 0 rfl rfl)
theorem dX3_dies_119 : decode cX3_dies 119 = .ok (.iaload, 1) := dk_46 (dk_at dksX3_dies_5 1 rfl rfl)
theorem dX3_dies_120 : decode cX3_dies 120 = .ok (.iastore, 1) := dk_79 (dk_at dksX3_dies_5 2 rfl rfl)
theorem dX3_dies_121 : decode cX3_dies 121 = .ok (.aload_n 0, 1) := dk_42 (dk_at dksX3_dies_5 3 rfl rfl)
theorem dX3_dies_122 : decode cX3_dies 122 = .ok (.getfield 7, 3) := dk_180 0 7 (dk_at dksX3_dies_5 4 rfl rfl)
theorem dX3_dies_125 : decode cX3_dies 125 = .ok (.bipush 9, 2) := dk_16 9 (dk_at dksX3_dies_5 7 rfl rfl)
theorem dX3_dies_127 : decode cX3_dies 127 = .ok (.dup2, 1) := dk_92 (dk_at dksX3_dies_5 9 rfl rfl)
theorem dX3_dies_128 : decode cX3_dies 128 = .ok (.iaload, 1) := dk_46 (dk_at dksX3_dies_5 10 rfl rfl)
theorem dX3_dies_129 : decode cX3_dies 129 = .ok (.iconst 1, 1) := dk_4 (dk_at dksX3_dies_5 11 rfl rfl)
theorem dX3_dies_130 : decode cX3_dies 130 = .ok (.iadd, 1) := dk_96 (dk_at dksX3_dies_5 12 rfl rfl)
theorem dX3_dies_131 : decode cX3_dies 131 = .ok (.iastore, 1) := dk_79 (dk_at dksX3_dies_5 13 rfl rfl)
theorem dX3_dies_132 : decode cX3_dies 132 = .ok (.aload_n 0, 1) := dk_42 (dk_at dksX3_dies_5 14 rfl rfl)
theorem dX3_dies_133 : decode cX3_dies 133 = .ok (.iload_n 1, 1) := dk_27 (dk_at dksX3_dies_5 15 rfl rfl)
theorem dX3_dies_134 : decode cX3_dies 134 = .ok (.invokevirtual 103, 3) := dk_182 0 103 (dk_at dksX3_dies_5 16 rfl rfl)
theorem dX3_dies_137 : decode cX3_dies 137 = .ok (.return_, 1) := dk_177 (dk_at dksX3_dies_5 19 rfl rfl)
abbrev cX3_younger : ByteArray := prog_9_method_48_code
def yX3_younger : MethodName := ⟨RX3, "younger", "(II)I"⟩
def dkwX3_younger_1 : List UInt8 := [3, 182, 0, 93, 42, 28, 3, 182, 0, 93, 164, 0, 7, 27, 167, 0, 4, 28, 172]
abbrev dktX3_younger_1 : List UInt8 := dkwX3_younger_1 ++ []
def dkwX3_younger_0 : List UInt8 := [42, 27, 5, 182, 0, 93, 42, 28, 5, 182, 0, 93, 100, 62, 29, 155, 0, 22, 29, 154, 0, 22, 42, 27]
abbrev dktX3_younger_0 : List UInt8 := dkwX3_younger_0 ++ dktX3_younger_1
theorem dksX3_younger_0 : cX3_younger.data.toList.drop 0 = dktX3_younger_0 := by decide +kernel
theorem dksX3_younger_1 : cX3_younger.data.toList.drop 24 = dktX3_younger_1 := dk_seg dksX3_younger_0 24 rfl rfl
theorem dX3_younger_0 : decode cX3_younger 0 = .ok (.aload_n 0, 1) := dk_42 (dk_at dksX3_younger_0 0 rfl rfl)
theorem dX3_younger_1 : decode cX3_younger 1 = .ok (.iload_n 1, 1) := dk_27 (dk_at dksX3_younger_0 1 rfl rfl)
theorem dX3_younger_2 : decode cX3_younger 2 = .ok (.iconst 2, 1) := dk_5 (dk_at dksX3_younger_0 2 rfl rfl)
theorem dX3_younger_3 : decode cX3_younger 3 = .ok (.invokevirtual 93, 3) := dk_182 0 93 (dk_at dksX3_younger_0 3 rfl rfl)
theorem dX3_younger_6 : decode cX3_younger 6 = .ok (.aload_n 0, 1) := dk_42 (dk_at dksX3_younger_0 6 rfl rfl)
theorem dX3_younger_7 : decode cX3_younger 7 = .ok (.iload_n 2, 1) := dk_28 (dk_at dksX3_younger_0 7 rfl rfl)
theorem dX3_younger_8 : decode cX3_younger 8 = .ok (.iconst 2, 1) := dk_5 (dk_at dksX3_younger_0 8 rfl rfl)
theorem dX3_younger_9 : decode cX3_younger 9 = .ok (.invokevirtual 93, 3) := dk_182 0 93 (dk_at dksX3_younger_0 9 rfl rfl)
theorem dX3_younger_12 : decode cX3_younger 12 = .ok (.isub, 1) := dk_100 (dk_at dksX3_younger_0 12 rfl rfl)
theorem dX3_younger_13 : decode cX3_younger 13 = .ok (.istore_n 3, 1) := dk_62 (dk_at dksX3_younger_0 13 rfl rfl)
theorem dX3_younger_14 : decode cX3_younger 14 = .ok (.iload_n 3, 1) := dk_29 (dk_at dksX3_younger_0 14 rfl rfl)
theorem dX3_younger_15 : decode cX3_younger 15 = .ok (.ifCond .lt 22, 3) := dk_155 0 22 (dk_at dksX3_younger_0 15 rfl rfl)
theorem dX3_younger_18 : decode cX3_younger 18 = .ok (.iload_n 3, 1) := dk_29 (dk_at dksX3_younger_0 18 rfl rfl)
theorem dX3_younger_19 : decode cX3_younger 19 = .ok (.ifCond .ne 22, 3) := dk_154 0 22 (dk_at dksX3_younger_0 19 rfl rfl)
theorem dX3_younger_22 : decode cX3_younger 22 = .ok (.aload_n 0, 1) := dk_42 (dk_at dksX3_younger_0 22 rfl rfl)
theorem dX3_younger_23 : decode cX3_younger 23 = .ok (.iload_n 1, 1) := dk_27 (dk_at dksX3_younger_0 23 rfl rfl)
theorem dX3_younger_24 : decode cX3_younger 24 = .ok (.iconst 0, 1) := dk_3 (dk_at dksX3_younger_1 0 rfl rfl)
theorem dX3_younger_25 : decode cX3_younger 25 = .ok (.invokevirtual 93, 3) := dk_182 0 93 (dk_at dksX3_younger_1 1 rfl rfl)
theorem dX3_younger_28 : decode cX3_younger 28 = .ok (.aload_n 0, 1) := dk_42 (dk_at dksX3_younger_1 4 rfl rfl)
theorem dX3_younger_29 : decode cX3_younger 29 = .ok (.iload_n 2, 1) := dk_28 (dk_at dksX3_younger_1 5 rfl rfl)
theorem dX3_younger_30 : decode cX3_younger 30 = .ok (.iconst 0, 1) := dk_3 (dk_at dksX3_younger_1 6 rfl rfl)
theorem dX3_younger_31 : decode cX3_younger 31 = .ok (.invokevirtual 93, 3) := dk_182 0 93 (dk_at dksX3_younger_1 7 rfl rfl)
theorem dX3_younger_34 : decode cX3_younger 34 = .ok (.if_icmp .le 7, 3) := dk_164 0 7 (dk_at dksX3_younger_1 10 rfl rfl)
theorem dX3_younger_37 : decode cX3_younger 37 = .ok (.iload_n 1, 1) := dk_27 (dk_at dksX3_younger_1 13 rfl rfl)
theorem dX3_younger_38 : decode cX3_younger 38 = .ok (.goto 4, 3) := dk_167 0 4 (dk_at dksX3_younger_1 14 rfl rfl)
theorem dX3_younger_41 : decode cX3_younger 41 = .ok (.iload_n 2, 1) := dk_28 (dk_at dksX3_younger_1 17 rfl rfl)
theorem dX3_younger_42 : decode cX3_younger 42 = .ok (.ireturn, 1) := dk_172 (dk_at dksX3_younger_1 18 rfl rfl)
abbrev cX3_meetsRoads : ByteArray := prog_9_method_50_code
def yX3_meetsRoads : MethodName := ⟨RX3, "meetsRoads", "()V"⟩
def dkwX3_meetsRoads_4 : List UInt8 := [167, 0, 6, 132, 1, 1, 167, 255, 158, 177]
abbrev dktX3_meetsRoads_4 : List UInt8 := dkwX3_meetsRoads_4 ++ []
def dkwX3_meetsRoads_3 : List UInt8 := [79, 28, 158, 0, 25, 42, 180, 0, 7, 4, 46, 16, 100, 112, 28, 162, 0, 12, 42, 27, 4, 182, 0, 149]
abbrev dktX3_meetsRoads_3 : List UInt8 := dkwX3_meetsRoads_3 ++ dktX3_meetsRoads_4
def dkwX3_meetsRoads_2 : List UInt8 := [16, 75, 42, 180, 0, 7, 4, 46, 104, 16, 74, 96, 18, 159, 112, 167, 0, 9, 42, 180, 0, 7, 4, 46]
abbrev dktX3_meetsRoads_2 : List UInt8 := dkwX3_meetsRoads_2 ++ dktX3_meetsRoads_3
def dkwX3_meetsRoads_1 : List UInt8 := [167, 0, 13, 42, 42, 27, 8, 182, 0, 93, 182, 0, 156, 61, 42, 180, 0, 7, 4, 28, 158, 0, 21]
abbrev dktX3_meetsRoads_1 : List UInt8 := dkwX3_meetsRoads_1 ++ dktX3_meetsRoads_2
def dkwX3_meetsRoads_0 : List UInt8 := [3, 60, 27, 42, 180, 0, 7, 6, 46, 162, 0, 94, 42, 27, 8, 182, 0, 93, 2, 160, 0, 7, 3]
abbrev dktX3_meetsRoads_0 : List UInt8 := dkwX3_meetsRoads_0 ++ dktX3_meetsRoads_1
theorem dksX3_meetsRoads_0 : cX3_meetsRoads.data.toList.drop 0 = dktX3_meetsRoads_0 := by decide +kernel
theorem dksX3_meetsRoads_1 : cX3_meetsRoads.data.toList.drop 23 = dktX3_meetsRoads_1 := dk_seg dksX3_meetsRoads_0 23 rfl rfl
theorem dksX3_meetsRoads_2 : cX3_meetsRoads.data.toList.drop 46 = dktX3_meetsRoads_2 := dk_seg dksX3_meetsRoads_1 23 rfl rfl
theorem dksX3_meetsRoads_3 : cX3_meetsRoads.data.toList.drop 70 = dktX3_meetsRoads_3 := dk_seg dksX3_meetsRoads_2 24 rfl rfl
theorem dksX3_meetsRoads_4 : cX3_meetsRoads.data.toList.drop 94 = dktX3_meetsRoads_4 := dk_seg dksX3_meetsRoads_3 24 rfl rfl
theorem dX3_meetsRoads_0 : decode cX3_meetsRoads 0 = .ok (.iconst 0, 1) := dk_3 (dk_at dksX3_meetsRoads_0 0 rfl rfl)
theorem dX3_meetsRoads_1 : decode cX3_meetsRoads 1 = .ok (.istore_n 1, 1) := dk_60 (dk_at dksX3_meetsRoads_0 1 rfl rfl)
theorem dX3_meetsRoads_2 : decode cX3_meetsRoads 2 = .ok (.iload_n 1, 1) := dk_27 (dk_at dksX3_meetsRoads_0 2 rfl rfl)
theorem dX3_meetsRoads_3 : decode cX3_meetsRoads 3 = .ok (.aload_n 0, 1) := dk_42 (dk_at dksX3_meetsRoads_0 3 rfl rfl)
theorem dX3_meetsRoads_4 : decode cX3_meetsRoads 4 = .ok (.getfield 7, 3) := dk_180 0 7 (dk_at dksX3_meetsRoads_0 4 rfl rfl)
theorem dX3_meetsRoads_7 : decode cX3_meetsRoads 7 = .ok (.iconst 3, 1) := dk_6 (dk_at dksX3_meetsRoads_0 7 rfl rfl)
theorem dX3_meetsRoads_8 : decode cX3_meetsRoads 8 = .ok (.iaload, 1) := dk_46 (dk_at dksX3_meetsRoads_0 8 rfl rfl)
theorem dX3_meetsRoads_9 : decode cX3_meetsRoads 9 = .ok (.if_icmp .ge 94, 3) := dk_162 0 94 (dk_at dksX3_meetsRoads_0 9 rfl rfl)
theorem dX3_meetsRoads_12 : decode cX3_meetsRoads 12 = .ok (.aload_n 0, 1) := dk_42 (dk_at dksX3_meetsRoads_0 12 rfl rfl)
theorem dX3_meetsRoads_13 : decode cX3_meetsRoads 13 = .ok (.iload_n 1, 1) := dk_27 (dk_at dksX3_meetsRoads_0 13 rfl rfl)
theorem dX3_meetsRoads_14 : decode cX3_meetsRoads 14 = .ok (.iconst 5, 1) := dk_8 (dk_at dksX3_meetsRoads_0 14 rfl rfl)
theorem dX3_meetsRoads_15 : decode cX3_meetsRoads 15 = .ok (.invokevirtual 93, 3) := dk_182 0 93 (dk_at dksX3_meetsRoads_0 15 rfl rfl)
theorem dX3_meetsRoads_18 : decode cX3_meetsRoads 18 = .ok (.iconst (-1), 1) := dk_2 (dk_at dksX3_meetsRoads_0 18 rfl rfl)
theorem dX3_meetsRoads_19 : decode cX3_meetsRoads 19 = .ok (.if_icmp .ne 7, 3) := dk_160 0 7 (dk_at dksX3_meetsRoads_0 19 rfl rfl)
theorem dX3_meetsRoads_22 : decode cX3_meetsRoads 22 = .ok (.iconst 0, 1) := dk_3 (dk_at dksX3_meetsRoads_0 22 rfl rfl)
theorem dX3_meetsRoads_23 : decode cX3_meetsRoads 23 = .ok (.goto 13, 3) := dk_167 0 13 (dk_at dksX3_meetsRoads_1 0 rfl rfl)
theorem dX3_meetsRoads_26 : decode cX3_meetsRoads 26 = .ok (.aload_n 0, 1) := dk_42 (dk_at dksX3_meetsRoads_1 3 rfl rfl)
theorem dX3_meetsRoads_27 : decode cX3_meetsRoads 27 = .ok (.aload_n 0, 1) := dk_42 (dk_at dksX3_meetsRoads_1 4 rfl rfl)
theorem dX3_meetsRoads_28 : decode cX3_meetsRoads 28 = .ok (.iload_n 1, 1) := dk_27 (dk_at dksX3_meetsRoads_1 5 rfl rfl)
theorem dX3_meetsRoads_29 : decode cX3_meetsRoads 29 = .ok (.iconst 5, 1) := dk_8 (dk_at dksX3_meetsRoads_1 6 rfl rfl)
theorem dX3_meetsRoads_30 : decode cX3_meetsRoads 30 = .ok (.invokevirtual 93, 3) := dk_182 0 93 (dk_at dksX3_meetsRoads_1 7 rfl rfl)
theorem dX3_meetsRoads_33 : decode cX3_meetsRoads 33 = .ok (.invokevirtual 156, 3) := dk_182 0 156 (dk_at dksX3_meetsRoads_1 10 rfl rfl)
theorem dX3_meetsRoads_36 : decode cX3_meetsRoads 36 = .ok (.istore_n 2, 1) := dk_61 (dk_at dksX3_meetsRoads_1 13 rfl rfl)
theorem dX3_meetsRoads_37 : decode cX3_meetsRoads 37 = .ok (.aload_n 0, 1) := dk_42 (dk_at dksX3_meetsRoads_1 14 rfl rfl)
theorem dX3_meetsRoads_38 : decode cX3_meetsRoads 38 = .ok (.getfield 7, 3) := dk_180 0 7 (dk_at dksX3_meetsRoads_1 15 rfl rfl)
theorem dX3_meetsRoads_41 : decode cX3_meetsRoads 41 = .ok (.iconst 1, 1) := dk_4 (dk_at dksX3_meetsRoads_1 18 rfl rfl)
theorem dX3_meetsRoads_42 : decode cX3_meetsRoads 42 = .ok (.iload_n 2, 1) := dk_28 (dk_at dksX3_meetsRoads_1 19 rfl rfl)
theorem dX3_meetsRoads_43 : decode cX3_meetsRoads 43 = .ok (.ifCond .le 21, 3) := dk_158 0 21 (dk_at dksX3_meetsRoads_1 20 rfl rfl)
theorem dX3_meetsRoads_46 : decode cX3_meetsRoads 46 = .ok (.bipush 75, 2) := dk_16 75 (dk_at dksX3_meetsRoads_2 0 rfl rfl)
theorem dX3_meetsRoads_48 : decode cX3_meetsRoads 48 = .ok (.aload_n 0, 1) := dk_42 (dk_at dksX3_meetsRoads_2 2 rfl rfl)
theorem dX3_meetsRoads_49 : decode cX3_meetsRoads 49 = .ok (.getfield 7, 3) := dk_180 0 7 (dk_at dksX3_meetsRoads_2 3 rfl rfl)
theorem dX3_meetsRoads_52 : decode cX3_meetsRoads 52 = .ok (.iconst 1, 1) := dk_4 (dk_at dksX3_meetsRoads_2 6 rfl rfl)
theorem dX3_meetsRoads_53 : decode cX3_meetsRoads 53 = .ok (.iaload, 1) := dk_46 (dk_at dksX3_meetsRoads_2 7 rfl rfl)
theorem dX3_meetsRoads_54 : decode cX3_meetsRoads 54 = .ok (.imul, 1) := dk_104 (dk_at dksX3_meetsRoads_2 8 rfl rfl)
theorem dX3_meetsRoads_55 : decode cX3_meetsRoads 55 = .ok (.bipush 74, 2) := dk_16 74 (dk_at dksX3_meetsRoads_2 9 rfl rfl)
theorem dX3_meetsRoads_57 : decode cX3_meetsRoads 57 = .ok (.iadd, 1) := dk_96 (dk_at dksX3_meetsRoads_2 11 rfl rfl)
theorem dX3_meetsRoads_58 : decode cX3_meetsRoads 58 = .ok (.ldc 159, 2) := dk_18 159 (dk_at dksX3_meetsRoads_2 12 rfl rfl)
theorem dX3_meetsRoads_60 : decode cX3_meetsRoads 60 = .ok (.irem, 1) := dk_112 (dk_at dksX3_meetsRoads_2 14 rfl rfl)
theorem dX3_meetsRoads_61 : decode cX3_meetsRoads 61 = .ok (.goto 9, 3) := dk_167 0 9 (dk_at dksX3_meetsRoads_2 15 rfl rfl)
theorem dX3_meetsRoads_64 : decode cX3_meetsRoads 64 = .ok (.aload_n 0, 1) := dk_42 (dk_at dksX3_meetsRoads_2 18 rfl rfl)
theorem dX3_meetsRoads_65 : decode cX3_meetsRoads 65 = .ok (.getfield 7, 3) := dk_180 0 7 (dk_at dksX3_meetsRoads_2 19 rfl rfl)
theorem dX3_meetsRoads_68 : decode cX3_meetsRoads 68 = .ok (.iconst 1, 1) := dk_4 (dk_at dksX3_meetsRoads_2 22 rfl rfl)
theorem dX3_meetsRoads_69 : decode cX3_meetsRoads 69 = .ok (.iaload, 1) := dk_46 (dk_at dksX3_meetsRoads_2 23 rfl rfl)
theorem dX3_meetsRoads_70 : decode cX3_meetsRoads 70 = .ok (.iastore, 1) := dk_79 (dk_at dksX3_meetsRoads_3 0 rfl rfl)
theorem dX3_meetsRoads_71 : decode cX3_meetsRoads 71 = .ok (.iload_n 2, 1) := dk_28 (dk_at dksX3_meetsRoads_3 1 rfl rfl)
theorem dX3_meetsRoads_72 : decode cX3_meetsRoads 72 = .ok (.ifCond .le 25, 3) := dk_158 0 25 (dk_at dksX3_meetsRoads_3 2 rfl rfl)
theorem dX3_meetsRoads_75 : decode cX3_meetsRoads 75 = .ok (.aload_n 0, 1) := dk_42 (dk_at dksX3_meetsRoads_3 5 rfl rfl)
theorem dX3_meetsRoads_76 : decode cX3_meetsRoads 76 = .ok (.getfield 7, 3) := dk_180 0 7 (dk_at dksX3_meetsRoads_3 6 rfl rfl)
theorem dX3_meetsRoads_79 : decode cX3_meetsRoads 79 = .ok (.iconst 1, 1) := dk_4 (dk_at dksX3_meetsRoads_3 9 rfl rfl)
theorem dX3_meetsRoads_80 : decode cX3_meetsRoads 80 = .ok (.iaload, 1) := dk_46 (dk_at dksX3_meetsRoads_3 10 rfl rfl)
theorem dX3_meetsRoads_81 : decode cX3_meetsRoads 81 = .ok (.bipush 100, 2) := dk_16 100 (dk_at dksX3_meetsRoads_3 11 rfl rfl)
theorem dX3_meetsRoads_83 : decode cX3_meetsRoads 83 = .ok (.irem, 1) := dk_112 (dk_at dksX3_meetsRoads_3 13 rfl rfl)
theorem dX3_meetsRoads_84 : decode cX3_meetsRoads 84 = .ok (.iload_n 2, 1) := dk_28 (dk_at dksX3_meetsRoads_3 14 rfl rfl)
theorem dX3_meetsRoads_85 : decode cX3_meetsRoads 85 = .ok (.if_icmp .ge 12, 3) := dk_162 0 12 (dk_at dksX3_meetsRoads_3 15 rfl rfl)
theorem dX3_meetsRoads_88 : decode cX3_meetsRoads 88 = .ok (.aload_n 0, 1) := dk_42 (dk_at dksX3_meetsRoads_3 18 rfl rfl)
theorem dX3_meetsRoads_89 : decode cX3_meetsRoads 89 = .ok (.iload_n 1, 1) := dk_27 (dk_at dksX3_meetsRoads_3 19 rfl rfl)
theorem dX3_meetsRoads_90 : decode cX3_meetsRoads 90 = .ok (.iconst 1, 1) := dk_4 (dk_at dksX3_meetsRoads_3 20 rfl rfl)
theorem dX3_meetsRoads_91 : decode cX3_meetsRoads 91 = .ok (.invokevirtual 149, 3) := dk_182 0 149 (dk_at dksX3_meetsRoads_3 21 rfl rfl)
theorem dX3_meetsRoads_94 : decode cX3_meetsRoads 94 = .ok (.goto 6, 3) := dk_167 0 6 (dk_at dksX3_meetsRoads_4 0 rfl rfl)
theorem dX3_meetsRoads_97 : decode cX3_meetsRoads 97 = .ok (.iinc 1 1, 3) := dk_132 1 1 (dk_at dksX3_meetsRoads_4 3 rfl rfl)
theorem dX3_meetsRoads_100 : decode cX3_meetsRoads 100 = .ok (.goto (-98), 3) := dk_167 255 158 (dk_at dksX3_meetsRoads_4 6 rfl rfl)
theorem dX3_meetsRoads_103 : decode cX3_meetsRoads 103 = .ok (.return_, 1) := dk_177 (dk_at dksX3_meetsRoads_4 9 rfl rfl)
abbrev cX3_risk : ByteArray := prog_9_method_36_code
def yX3_risk : MethodName := ⟨RX3, "risk", "(I)I"⟩
def dkwX3_risk_2 : List UInt8 := [167, 255, 213, 28, 172]
abbrev dktX3_risk_2 : List UInt8 := dkwX3_risk_2 ++ []
def dkwX3_risk_1 : List UInt8 := [17, 0, 144, 27, 96, 46, 184, 0, 54, 6, 162, 0, 7, 7, 167, 0, 4, 3, 96, 61, 132, 3, 1]
abbrev dktX3_risk_1 : List UInt8 := dkwX3_risk_1 ++ dktX3_risk_2
def dkwX3_risk_0 : List UInt8 := [3, 61, 3, 62, 29, 16, 64, 162, 0, 43, 28, 42, 29, 182, 0, 58, 153, 0, 25, 29, 42, 180, 0, 7]
abbrev dktX3_risk_0 : List UInt8 := dkwX3_risk_0 ++ dktX3_risk_1
theorem dksX3_risk_0 : cX3_risk.data.toList.drop 0 = dktX3_risk_0 := by decide +kernel
theorem dksX3_risk_1 : cX3_risk.data.toList.drop 24 = dktX3_risk_1 := dk_seg dksX3_risk_0 24 rfl rfl
theorem dksX3_risk_2 : cX3_risk.data.toList.drop 47 = dktX3_risk_2 := dk_seg dksX3_risk_1 23 rfl rfl
theorem dX3_risk_0 : decode cX3_risk 0 = .ok (.iconst 0, 1) := dk_3 (dk_at dksX3_risk_0 0 rfl rfl)
theorem dX3_risk_1 : decode cX3_risk 1 = .ok (.istore_n 2, 1) := dk_61 (dk_at dksX3_risk_0 1 rfl rfl)
theorem dX3_risk_2 : decode cX3_risk 2 = .ok (.iconst 0, 1) := dk_3 (dk_at dksX3_risk_0 2 rfl rfl)
theorem dX3_risk_3 : decode cX3_risk 3 = .ok (.istore_n 3, 1) := dk_62 (dk_at dksX3_risk_0 3 rfl rfl)
theorem dX3_risk_4 : decode cX3_risk 4 = .ok (.iload_n 3, 1) := dk_29 (dk_at dksX3_risk_0 4 rfl rfl)
theorem dX3_risk_5 : decode cX3_risk 5 = .ok (.bipush 64, 2) := dk_16 64 (dk_at dksX3_risk_0 5 rfl rfl)
theorem dX3_risk_7 : decode cX3_risk 7 = .ok (.if_icmp .ge 43, 3) := dk_162 0 43 (dk_at dksX3_risk_0 7 rfl rfl)
theorem dX3_risk_10 : decode cX3_risk 10 = .ok (.iload_n 2, 1) := dk_28 (dk_at dksX3_risk_0 10 rfl rfl)
theorem dX3_risk_11 : decode cX3_risk 11 = .ok (.aload_n 0, 1) := dk_42 (dk_at dksX3_risk_0 11 rfl rfl)
theorem dX3_risk_12 : decode cX3_risk 12 = .ok (.iload_n 3, 1) := dk_29 (dk_at dksX3_risk_0 12 rfl rfl)
theorem dX3_risk_13 : decode cX3_risk 13 = .ok (.invokevirtual 58, 3) := dk_182 0 58 (dk_at dksX3_risk_0 13 rfl rfl)
theorem dX3_risk_16 : decode cX3_risk 16 = .ok (.ifCond .eq 25, 3) := dk_153 0 25 (dk_at dksX3_risk_0 16 rfl rfl)
theorem dX3_risk_19 : decode cX3_risk 19 = .ok (.iload_n 3, 1) := dk_29 (dk_at dksX3_risk_0 19 rfl rfl)
theorem dX3_risk_20 : decode cX3_risk 20 = .ok (.aload_n 0, 1) := dk_42 (dk_at dksX3_risk_0 20 rfl rfl)
theorem dX3_risk_21 : decode cX3_risk 21 = .ok (.getfield 7, 3) := dk_180 0 7 (dk_at dksX3_risk_0 21 rfl rfl)
theorem dX3_risk_24 : decode cX3_risk 24 = .ok (.sipush 144, 3) := dk_17 0 144 (dk_at dksX3_risk_1 0 rfl rfl)
theorem dX3_risk_27 : decode cX3_risk 27 = .ok (.iload_n 1, 1) := dk_27 (dk_at dksX3_risk_1 3 rfl rfl)
theorem dX3_risk_28 : decode cX3_risk 28 = .ok (.iadd, 1) := dk_96 (dk_at dksX3_risk_1 4 rfl rfl)
theorem dX3_risk_29 : decode cX3_risk 29 = .ok (.iaload, 1) := dk_46 (dk_at dksX3_risk_1 5 rfl rfl)
theorem dX3_risk_30 : decode cX3_risk 30 = .ok (.invokestatic 54, 3) := dk_184 0 54 (dk_at dksX3_risk_1 6 rfl rfl)
theorem dX3_risk_33 : decode cX3_risk 33 = .ok (.iconst 3, 1) := dk_6 (dk_at dksX3_risk_1 9 rfl rfl)
theorem dX3_risk_34 : decode cX3_risk 34 = .ok (.if_icmp .ge 7, 3) := dk_162 0 7 (dk_at dksX3_risk_1 10 rfl rfl)
theorem dX3_risk_37 : decode cX3_risk 37 = .ok (.iconst 4, 1) := dk_7 (dk_at dksX3_risk_1 13 rfl rfl)
theorem dX3_risk_38 : decode cX3_risk 38 = .ok (.goto 4, 3) := dk_167 0 4 (dk_at dksX3_risk_1 14 rfl rfl)
theorem dX3_risk_41 : decode cX3_risk 41 = .ok (.iconst 0, 1) := dk_3 (dk_at dksX3_risk_1 17 rfl rfl)
theorem dX3_risk_42 : decode cX3_risk 42 = .ok (.iadd, 1) := dk_96 (dk_at dksX3_risk_1 18 rfl rfl)
theorem dX3_risk_43 : decode cX3_risk 43 = .ok (.istore_n 2, 1) := dk_61 (dk_at dksX3_risk_1 19 rfl rfl)
theorem dX3_risk_44 : decode cX3_risk 44 = .ok (.iinc 3 1, 3) := dk_132 3 1 (dk_at dksX3_risk_1 20 rfl rfl)
theorem dX3_risk_47 : decode cX3_risk 47 = .ok (.goto (-43), 3) := dk_167 255 213 (dk_at dksX3_risk_2 0 rfl rfl)
theorem dX3_risk_50 : decode cX3_risk 50 = .ok (.iload_n 2, 1) := dk_28 (dk_at dksX3_risk_2 3 rfl rfl)
theorem dX3_risk_51 : decode cX3_risk 51 = .ok (.ireturn, 1) := dk_172 (dk_at dksX3_risk_2 4 rfl rfl)
abbrev cX3_ages : ByteArray := prog_9_method_51_code
def yX3_ages : MethodName := ⟨RX3, "ages", "()V"⟩
def dkwX3_ages_3 : List UInt8 := [153, 0, 7, 5, 167, 0, 4, 6, 182, 0, 149, 167, 0, 6, 132, 1, 1, 167, 255, 171, 177]
abbrev dktX3_ages_3 : List UInt8 := dkwX3_ages_3 ++ []
def dkwX3_ages_2 : List UInt8 := [42, 27, 8, 182, 0, 93, 2, 160, 0, 30, 42, 27, 5, 182, 0, 93, 5, 161, 0, 20, 42, 27, 28]
abbrev dktX3_ages_2 : List UInt8 := dkwX3_ages_2 ++ dktX3_ages_3
def dkwX3_ages_1 : List UInt8 := [182, 0, 99, 42, 27, 5, 182, 0, 93, 16, 10, 160, 0, 7, 4, 167, 0, 4, 3, 61, 28, 154, 0, 23]
abbrev dktX3_ages_1 : List UInt8 := dkwX3_ages_1 ++ dktX3_ages_2
def dkwX3_ages_0 : List UInt8 := [3, 60, 27, 42, 180, 0, 7, 6, 46, 162, 0, 81, 42, 27, 5, 42, 27, 5, 182, 0, 93, 4, 96]
abbrev dktX3_ages_0 : List UInt8 := dkwX3_ages_0 ++ dktX3_ages_1
theorem dksX3_ages_0 : cX3_ages.data.toList.drop 0 = dktX3_ages_0 := by decide +kernel
theorem dksX3_ages_1 : cX3_ages.data.toList.drop 23 = dktX3_ages_1 := dk_seg dksX3_ages_0 23 rfl rfl
theorem dksX3_ages_2 : cX3_ages.data.toList.drop 47 = dktX3_ages_2 := dk_seg dksX3_ages_1 24 rfl rfl
theorem dksX3_ages_3 : cX3_ages.data.toList.drop 70 = dktX3_ages_3 := dk_seg dksX3_ages_2 23 rfl rfl
theorem dX3_ages_0 : decode cX3_ages 0 = .ok (.iconst 0, 1) := dk_3 (dk_at dksX3_ages_0 0 rfl rfl)
theorem dX3_ages_1 : decode cX3_ages 1 = .ok (.istore_n 1, 1) := dk_60 (dk_at dksX3_ages_0 1 rfl rfl)
theorem dX3_ages_2 : decode cX3_ages 2 = .ok (.iload_n 1, 1) := dk_27 (dk_at dksX3_ages_0 2 rfl rfl)
theorem dX3_ages_3 : decode cX3_ages 3 = .ok (.aload_n 0, 1) := dk_42 (dk_at dksX3_ages_0 3 rfl rfl)
theorem dX3_ages_4 : decode cX3_ages 4 = .ok (.getfield 7, 3) := dk_180 0 7 (dk_at dksX3_ages_0 4 rfl rfl)
theorem dX3_ages_7 : decode cX3_ages 7 = .ok (.iconst 3, 1) := dk_6 (dk_at dksX3_ages_0 7 rfl rfl)
theorem dX3_ages_8 : decode cX3_ages 8 = .ok (.iaload, 1) := dk_46 (dk_at dksX3_ages_0 8 rfl rfl)
theorem dX3_ages_9 : decode cX3_ages 9 = .ok (.if_icmp .ge 81, 3) := dk_162 0 81 (dk_at dksX3_ages_0 9 rfl rfl)
theorem dX3_ages_12 : decode cX3_ages 12 = .ok (.aload_n 0, 1) := dk_42 (dk_at dksX3_ages_0 12 rfl rfl)
theorem dX3_ages_13 : decode cX3_ages 13 = .ok (.iload_n 1, 1) := dk_27 (dk_at dksX3_ages_0 13 rfl rfl)
theorem dX3_ages_14 : decode cX3_ages 14 = .ok (.iconst 2, 1) := dk_5 (dk_at dksX3_ages_0 14 rfl rfl)
theorem dX3_ages_15 : decode cX3_ages 15 = .ok (.aload_n 0, 1) := dk_42 (dk_at dksX3_ages_0 15 rfl rfl)
theorem dX3_ages_16 : decode cX3_ages 16 = .ok (.iload_n 1, 1) := dk_27 (dk_at dksX3_ages_0 16 rfl rfl)
theorem dX3_ages_17 : decode cX3_ages 17 = .ok (.iconst 2, 1) := dk_5 (dk_at dksX3_ages_0 17 rfl rfl)
theorem dX3_ages_18 : decode cX3_ages 18 = .ok (.invokevirtual 93, 3) := dk_182 0 93 (dk_at dksX3_ages_0 18 rfl rfl)
theorem dX3_ages_21 : decode cX3_ages 21 = .ok (.iconst 1, 1) := dk_4 (dk_at dksX3_ages_0 21 rfl rfl)
theorem dX3_ages_22 : decode cX3_ages 22 = .ok (.iadd, 1) := dk_96 (dk_at dksX3_ages_0 22 rfl rfl)
theorem dX3_ages_23 : decode cX3_ages 23 = .ok (.invokevirtual 99, 3) := dk_182 0 99 (dk_at dksX3_ages_1 0 rfl rfl)
theorem dX3_ages_26 : decode cX3_ages 26 = .ok (.aload_n 0, 1) := dk_42 (dk_at dksX3_ages_1 3 rfl rfl)
theorem dX3_ages_27 : decode cX3_ages 27 = .ok (.iload_n 1, 1) := dk_27 (dk_at dksX3_ages_1 4 rfl rfl)
theorem dX3_ages_28 : decode cX3_ages 28 = .ok (.iconst 2, 1) := dk_5 (dk_at dksX3_ages_1 5 rfl rfl)
theorem dX3_ages_29 : decode cX3_ages 29 = .ok (.invokevirtual 93, 3) := dk_182 0 93 (dk_at dksX3_ages_1 6 rfl rfl)
theorem dX3_ages_32 : decode cX3_ages 32 = .ok (.bipush 10, 2) := dk_16 10 (dk_at dksX3_ages_1 9 rfl rfl)
theorem dX3_ages_34 : decode cX3_ages 34 = .ok (.if_icmp .ne 7, 3) := dk_160 0 7 (dk_at dksX3_ages_1 11 rfl rfl)
theorem dX3_ages_37 : decode cX3_ages 37 = .ok (.iconst 1, 1) := dk_4 (dk_at dksX3_ages_1 14 rfl rfl)
theorem dX3_ages_38 : decode cX3_ages 38 = .ok (.goto 4, 3) := dk_167 0 4 (dk_at dksX3_ages_1 15 rfl rfl)
theorem dX3_ages_41 : decode cX3_ages 41 = .ok (.iconst 0, 1) := dk_3 (dk_at dksX3_ages_1 18 rfl rfl)
theorem dX3_ages_42 : decode cX3_ages 42 = .ok (.istore_n 2, 1) := dk_61 (dk_at dksX3_ages_1 19 rfl rfl)
theorem dX3_ages_43 : decode cX3_ages 43 = .ok (.iload_n 2, 1) := dk_28 (dk_at dksX3_ages_1 20 rfl rfl)
theorem dX3_ages_44 : decode cX3_ages 44 = .ok (.ifCond .ne 23, 3) := dk_154 0 23 (dk_at dksX3_ages_1 21 rfl rfl)
theorem dX3_ages_47 : decode cX3_ages 47 = .ok (.aload_n 0, 1) := dk_42 (dk_at dksX3_ages_2 0 rfl rfl)
theorem dX3_ages_48 : decode cX3_ages 48 = .ok (.iload_n 1, 1) := dk_27 (dk_at dksX3_ages_2 1 rfl rfl)
theorem dX3_ages_49 : decode cX3_ages 49 = .ok (.iconst 5, 1) := dk_8 (dk_at dksX3_ages_2 2 rfl rfl)
theorem dX3_ages_50 : decode cX3_ages 50 = .ok (.invokevirtual 93, 3) := dk_182 0 93 (dk_at dksX3_ages_2 3 rfl rfl)
theorem dX3_ages_53 : decode cX3_ages 53 = .ok (.iconst (-1), 1) := dk_2 (dk_at dksX3_ages_2 6 rfl rfl)
theorem dX3_ages_54 : decode cX3_ages 54 = .ok (.if_icmp .ne 30, 3) := dk_160 0 30 (dk_at dksX3_ages_2 7 rfl rfl)
theorem dX3_ages_57 : decode cX3_ages 57 = .ok (.aload_n 0, 1) := dk_42 (dk_at dksX3_ages_2 10 rfl rfl)
theorem dX3_ages_58 : decode cX3_ages 58 = .ok (.iload_n 1, 1) := dk_27 (dk_at dksX3_ages_2 11 rfl rfl)
theorem dX3_ages_59 : decode cX3_ages 59 = .ok (.iconst 2, 1) := dk_5 (dk_at dksX3_ages_2 12 rfl rfl)
theorem dX3_ages_60 : decode cX3_ages 60 = .ok (.invokevirtual 93, 3) := dk_182 0 93 (dk_at dksX3_ages_2 13 rfl rfl)
theorem dX3_ages_63 : decode cX3_ages 63 = .ok (.iconst 2, 1) := dk_5 (dk_at dksX3_ages_2 16 rfl rfl)
theorem dX3_ages_64 : decode cX3_ages 64 = .ok (.if_icmp .lt 20, 3) := dk_161 0 20 (dk_at dksX3_ages_2 17 rfl rfl)
theorem dX3_ages_67 : decode cX3_ages 67 = .ok (.aload_n 0, 1) := dk_42 (dk_at dksX3_ages_2 20 rfl rfl)
theorem dX3_ages_68 : decode cX3_ages 68 = .ok (.iload_n 1, 1) := dk_27 (dk_at dksX3_ages_2 21 rfl rfl)
theorem dX3_ages_69 : decode cX3_ages 69 = .ok (.iload_n 2, 1) := dk_28 (dk_at dksX3_ages_2 22 rfl rfl)
theorem dX3_ages_70 : decode cX3_ages 70 = .ok (.ifCond .eq 7, 3) := dk_153 0 7 (dk_at dksX3_ages_3 0 rfl rfl)
theorem dX3_ages_73 : decode cX3_ages 73 = .ok (.iconst 2, 1) := dk_5 (dk_at dksX3_ages_3 3 rfl rfl)
theorem dX3_ages_74 : decode cX3_ages 74 = .ok (.goto 4, 3) := dk_167 0 4 (dk_at dksX3_ages_3 4 rfl rfl)
theorem dX3_ages_77 : decode cX3_ages 77 = .ok (.iconst 3, 1) := dk_6 (dk_at dksX3_ages_3 7 rfl rfl)
theorem dX3_ages_78 : decode cX3_ages 78 = .ok (.invokevirtual 149, 3) := dk_182 0 149 (dk_at dksX3_ages_3 8 rfl rfl)
theorem dX3_ages_81 : decode cX3_ages 81 = .ok (.goto 6, 3) := dk_167 0 6 (dk_at dksX3_ages_3 11 rfl rfl)
theorem dX3_ages_84 : decode cX3_ages 84 = .ok (.iinc 1 1, 3) := dk_132 1 1 (dk_at dksX3_ages_3 14 rfl rfl)
theorem dX3_ages_87 : decode cX3_ages 87 = .ok (.goto (-85), 3) := dk_167 255 171 (dk_at dksX3_ages_3 17 rfl rfl)
theorem dX3_ages_90 : decode cX3_ages 90 = .ok (.return_, 1) := dk_177 (dk_at dksX3_ages_3 20 rfl rfl)
abbrev cX3_breeds : ByteArray := prog_9_method_54_code
def yX3_breeds : MethodName := ⟨RX3, "breeds", "(I)V"⟩
def dkwX3_breeds_4 : List UInt8 := [132, 5, 1, 167, 255, 211, 177]
abbrev dktX3_breeds_4 : List UInt8 := dkwX3_breeds_4 ++ []
def dkwX3_breeds_3 : List UInt8 := [167, 0, 4, 4, 3, 29, 21, 4, 2, 182, 0, 129, 87, 42, 180, 0, 7, 8, 92, 46, 4, 96, 79]
abbrev dktX3_breeds_3 : List UInt8 := dkwX3_breeds_3 ++ dktX3_breeds_4
def dkwX3_breeds_2 : List UInt8 := [54, 4, 3, 54, 5, 21, 5, 28, 162, 0, 45, 42, 42, 180, 0, 7, 7, 46, 5, 112, 154, 0, 7, 3]
abbrev dktX3_breeds_2 : List UInt8 := dkwX3_breeds_2 ++ dktX3_breeds_3
def dkwX3_breeds_1 : List UInt8 := [182, 0, 93, 62, 28, 154, 0, 7, 2, 167, 0, 14, 42, 42, 27, 4, 182, 0, 96, 3, 182, 0, 93]
abbrev dktX3_breeds_1 : List UInt8 := dkwX3_breeds_1 ++ dktX3_breeds_2
def dkwX3_breeds_0 : List UInt8 := [42, 27, 182, 0, 163, 61, 28, 154, 0, 7, 2, 167, 0, 14, 42, 42, 27, 3, 182, 0, 96, 3]
abbrev dktX3_breeds_0 : List UInt8 := dkwX3_breeds_0 ++ dktX3_breeds_1
theorem dksX3_breeds_0 : cX3_breeds.data.toList.drop 0 = dktX3_breeds_0 := by decide +kernel
theorem dksX3_breeds_1 : cX3_breeds.data.toList.drop 22 = dktX3_breeds_1 := dk_seg dksX3_breeds_0 22 rfl rfl
theorem dksX3_breeds_2 : cX3_breeds.data.toList.drop 45 = dktX3_breeds_2 := dk_seg dksX3_breeds_1 23 rfl rfl
theorem dksX3_breeds_3 : cX3_breeds.data.toList.drop 69 = dktX3_breeds_3 := dk_seg dksX3_breeds_2 24 rfl rfl
theorem dksX3_breeds_4 : cX3_breeds.data.toList.drop 92 = dktX3_breeds_4 := dk_seg dksX3_breeds_3 23 rfl rfl
theorem dX3_breeds_0 : decode cX3_breeds 0 = .ok (.aload_n 0, 1) := dk_42 (dk_at dksX3_breeds_0 0 rfl rfl)
theorem dX3_breeds_1 : decode cX3_breeds 1 = .ok (.iload_n 1, 1) := dk_27 (dk_at dksX3_breeds_0 1 rfl rfl)
theorem dX3_breeds_2 : decode cX3_breeds 2 = .ok (.invokevirtual 163, 3) := dk_182 0 163 (dk_at dksX3_breeds_0 2 rfl rfl)
theorem dX3_breeds_5 : decode cX3_breeds 5 = .ok (.istore_n 2, 1) := dk_61 (dk_at dksX3_breeds_0 5 rfl rfl)
theorem dX3_breeds_6 : decode cX3_breeds 6 = .ok (.iload_n 2, 1) := dk_28 (dk_at dksX3_breeds_0 6 rfl rfl)
theorem dX3_breeds_7 : decode cX3_breeds 7 = .ok (.ifCond .ne 7, 3) := dk_154 0 7 (dk_at dksX3_breeds_0 7 rfl rfl)
theorem dX3_breeds_10 : decode cX3_breeds 10 = .ok (.iconst (-1), 1) := dk_2 (dk_at dksX3_breeds_0 10 rfl rfl)
theorem dX3_breeds_11 : decode cX3_breeds 11 = .ok (.goto 14, 3) := dk_167 0 14 (dk_at dksX3_breeds_0 11 rfl rfl)
theorem dX3_breeds_14 : decode cX3_breeds 14 = .ok (.aload_n 0, 1) := dk_42 (dk_at dksX3_breeds_0 14 rfl rfl)
theorem dX3_breeds_15 : decode cX3_breeds 15 = .ok (.aload_n 0, 1) := dk_42 (dk_at dksX3_breeds_0 15 rfl rfl)
theorem dX3_breeds_16 : decode cX3_breeds 16 = .ok (.iload_n 1, 1) := dk_27 (dk_at dksX3_breeds_0 16 rfl rfl)
theorem dX3_breeds_17 : decode cX3_breeds 17 = .ok (.iconst 0, 1) := dk_3 (dk_at dksX3_breeds_0 17 rfl rfl)
theorem dX3_breeds_18 : decode cX3_breeds 18 = .ok (.invokevirtual 96, 3) := dk_182 0 96 (dk_at dksX3_breeds_0 18 rfl rfl)
theorem dX3_breeds_21 : decode cX3_breeds 21 = .ok (.iconst 0, 1) := dk_3 (dk_at dksX3_breeds_0 21 rfl rfl)
theorem dX3_breeds_22 : decode cX3_breeds 22 = .ok (.invokevirtual 93, 3) := dk_182 0 93 (dk_at dksX3_breeds_1 0 rfl rfl)
theorem dX3_breeds_25 : decode cX3_breeds 25 = .ok (.istore_n 3, 1) := dk_62 (dk_at dksX3_breeds_1 3 rfl rfl)
theorem dX3_breeds_26 : decode cX3_breeds 26 = .ok (.iload_n 2, 1) := dk_28 (dk_at dksX3_breeds_1 4 rfl rfl)
theorem dX3_breeds_27 : decode cX3_breeds 27 = .ok (.ifCond .ne 7, 3) := dk_154 0 7 (dk_at dksX3_breeds_1 5 rfl rfl)
theorem dX3_breeds_30 : decode cX3_breeds 30 = .ok (.iconst (-1), 1) := dk_2 (dk_at dksX3_breeds_1 8 rfl rfl)
theorem dX3_breeds_31 : decode cX3_breeds 31 = .ok (.goto 14, 3) := dk_167 0 14 (dk_at dksX3_breeds_1 9 rfl rfl)
theorem dX3_breeds_34 : decode cX3_breeds 34 = .ok (.aload_n 0, 1) := dk_42 (dk_at dksX3_breeds_1 12 rfl rfl)
theorem dX3_breeds_35 : decode cX3_breeds 35 = .ok (.aload_n 0, 1) := dk_42 (dk_at dksX3_breeds_1 13 rfl rfl)
theorem dX3_breeds_36 : decode cX3_breeds 36 = .ok (.iload_n 1, 1) := dk_27 (dk_at dksX3_breeds_1 14 rfl rfl)
theorem dX3_breeds_37 : decode cX3_breeds 37 = .ok (.iconst 1, 1) := dk_4 (dk_at dksX3_breeds_1 15 rfl rfl)
theorem dX3_breeds_38 : decode cX3_breeds 38 = .ok (.invokevirtual 96, 3) := dk_182 0 96 (dk_at dksX3_breeds_1 16 rfl rfl)
theorem dX3_breeds_41 : decode cX3_breeds 41 = .ok (.iconst 0, 1) := dk_3 (dk_at dksX3_breeds_1 19 rfl rfl)
theorem dX3_breeds_42 : decode cX3_breeds 42 = .ok (.invokevirtual 93, 3) := dk_182 0 93 (dk_at dksX3_breeds_1 20 rfl rfl)
theorem dX3_breeds_45 : decode cX3_breeds 45 = .ok (.istore 4, 2) := dk_54 4 (dk_at dksX3_breeds_2 0 rfl rfl)
theorem dX3_breeds_47 : decode cX3_breeds 47 = .ok (.iconst 0, 1) := dk_3 (dk_at dksX3_breeds_2 2 rfl rfl)
theorem dX3_breeds_48 : decode cX3_breeds 48 = .ok (.istore 5, 2) := dk_54 5 (dk_at dksX3_breeds_2 3 rfl rfl)
theorem dX3_breeds_50 : decode cX3_breeds 50 = .ok (.iload 5, 2) := dk_21 5 (dk_at dksX3_breeds_2 5 rfl rfl)
theorem dX3_breeds_52 : decode cX3_breeds 52 = .ok (.iload_n 2, 1) := dk_28 (dk_at dksX3_breeds_2 7 rfl rfl)
theorem dX3_breeds_53 : decode cX3_breeds 53 = .ok (.if_icmp .ge 45, 3) := dk_162 0 45 (dk_at dksX3_breeds_2 8 rfl rfl)
theorem dX3_breeds_56 : decode cX3_breeds 56 = .ok (.aload_n 0, 1) := dk_42 (dk_at dksX3_breeds_2 11 rfl rfl)
theorem dX3_breeds_57 : decode cX3_breeds 57 = .ok (.aload_n 0, 1) := dk_42 (dk_at dksX3_breeds_2 12 rfl rfl)
theorem dX3_breeds_58 : decode cX3_breeds 58 = .ok (.getfield 7, 3) := dk_180 0 7 (dk_at dksX3_breeds_2 13 rfl rfl)
theorem dX3_breeds_61 : decode cX3_breeds 61 = .ok (.iconst 4, 1) := dk_7 (dk_at dksX3_breeds_2 16 rfl rfl)
theorem dX3_breeds_62 : decode cX3_breeds 62 = .ok (.iaload, 1) := dk_46 (dk_at dksX3_breeds_2 17 rfl rfl)
theorem dX3_breeds_63 : decode cX3_breeds 63 = .ok (.iconst 2, 1) := dk_5 (dk_at dksX3_breeds_2 18 rfl rfl)
theorem dX3_breeds_64 : decode cX3_breeds 64 = .ok (.irem, 1) := dk_112 (dk_at dksX3_breeds_2 19 rfl rfl)
theorem dX3_breeds_65 : decode cX3_breeds 65 = .ok (.ifCond .ne 7, 3) := dk_154 0 7 (dk_at dksX3_breeds_2 20 rfl rfl)
theorem dX3_breeds_68 : decode cX3_breeds 68 = .ok (.iconst 0, 1) := dk_3 (dk_at dksX3_breeds_2 23 rfl rfl)
theorem dX3_breeds_69 : decode cX3_breeds 69 = .ok (.goto 4, 3) := dk_167 0 4 (dk_at dksX3_breeds_3 0 rfl rfl)
theorem dX3_breeds_72 : decode cX3_breeds 72 = .ok (.iconst 1, 1) := dk_4 (dk_at dksX3_breeds_3 3 rfl rfl)
theorem dX3_breeds_73 : decode cX3_breeds 73 = .ok (.iconst 0, 1) := dk_3 (dk_at dksX3_breeds_3 4 rfl rfl)
theorem dX3_breeds_74 : decode cX3_breeds 74 = .ok (.iload_n 3, 1) := dk_29 (dk_at dksX3_breeds_3 5 rfl rfl)
theorem dX3_breeds_75 : decode cX3_breeds 75 = .ok (.iload 4, 2) := dk_21 4 (dk_at dksX3_breeds_3 6 rfl rfl)
theorem dX3_breeds_77 : decode cX3_breeds 77 = .ok (.iconst (-1), 1) := dk_2 (dk_at dksX3_breeds_3 8 rfl rfl)
theorem dX3_breeds_78 : decode cX3_breeds 78 = .ok (.invokevirtual 129, 3) := dk_182 0 129 (dk_at dksX3_breeds_3 9 rfl rfl)
theorem dX3_breeds_81 : decode cX3_breeds 81 = .ok (.pop, 1) := dk_87 (dk_at dksX3_breeds_3 12 rfl rfl)
theorem dX3_breeds_82 : decode cX3_breeds 82 = .ok (.aload_n 0, 1) := dk_42 (dk_at dksX3_breeds_3 13 rfl rfl)
theorem dX3_breeds_83 : decode cX3_breeds 83 = .ok (.getfield 7, 3) := dk_180 0 7 (dk_at dksX3_breeds_3 14 rfl rfl)
theorem dX3_breeds_86 : decode cX3_breeds 86 = .ok (.iconst 5, 1) := dk_8 (dk_at dksX3_breeds_3 17 rfl rfl)
theorem dX3_breeds_87 : decode cX3_breeds 87 = .ok (.dup2, 1) := dk_92 (dk_at dksX3_breeds_3 18 rfl rfl)
theorem dX3_breeds_88 : decode cX3_breeds 88 = .ok (.iaload, 1) := dk_46 (dk_at dksX3_breeds_3 19 rfl rfl)
theorem dX3_breeds_89 : decode cX3_breeds 89 = .ok (.iconst 1, 1) := dk_4 (dk_at dksX3_breeds_3 20 rfl rfl)
theorem dX3_breeds_90 : decode cX3_breeds 90 = .ok (.iadd, 1) := dk_96 (dk_at dksX3_breeds_3 21 rfl rfl)
theorem dX3_breeds_91 : decode cX3_breeds 91 = .ok (.iastore, 1) := dk_79 (dk_at dksX3_breeds_3 22 rfl rfl)
theorem dX3_breeds_92 : decode cX3_breeds 92 = .ok (.iinc 5 1, 3) := dk_132 5 1 (dk_at dksX3_breeds_4 0 rfl rfl)
theorem dX3_breeds_95 : decode cX3_breeds 95 = .ok (.goto (-45), 3) := dk_167 255 211 (dk_at dksX3_breeds_4 3 rfl rfl)
theorem dX3_breeds_98 : decode cX3_breeds 98 = .ok (.return_, 1) := dk_177 (dk_at dksX3_breeds_4 6 rfl rfl)
abbrev cX3_young : ByteArray := prog_9_method_53_code
def yX3_young : MethodName := ⟨RX3, "young", "(I)I"⟩
def dkwX3_young_2 : List UInt8 := [16, 40, 42, 180, 0, 7, 6, 46, 100, 167, 0, 4, 28, 172]
abbrev dktX3_young_2 : List UInt8 := dkwX3_young_2 ++ []
def dkwX3_young_1 : List UInt8 := [164, 0, 8, 16, 6, 167, 0, 4, 28, 61, 28, 16, 40, 42, 180, 0, 7, 6, 46, 100, 164, 0, 15]
abbrev dktX3_young_1 : List UInt8 := dkwX3_young_1 ++ dktX3_young_2
def dkwX3_young_0 : List UInt8 := [42, 27, 182, 0, 160, 153, 0, 5, 3, 172, 42, 27, 182, 0, 146, 16, 80, 108, 4, 100, 61, 28, 16, 6]
abbrev dktX3_young_0 : List UInt8 := dkwX3_young_0 ++ dktX3_young_1
theorem dksX3_young_0 : cX3_young.data.toList.drop 0 = dktX3_young_0 := by decide +kernel
theorem dksX3_young_1 : cX3_young.data.toList.drop 24 = dktX3_young_1 := dk_seg dksX3_young_0 24 rfl rfl
theorem dksX3_young_2 : cX3_young.data.toList.drop 47 = dktX3_young_2 := dk_seg dksX3_young_1 23 rfl rfl
theorem dX3_young_0 : decode cX3_young 0 = .ok (.aload_n 0, 1) := dk_42 (dk_at dksX3_young_0 0 rfl rfl)
theorem dX3_young_1 : decode cX3_young 1 = .ok (.iload_n 1, 1) := dk_27 (dk_at dksX3_young_0 1 rfl rfl)
theorem dX3_young_2 : decode cX3_young 2 = .ok (.invokevirtual 160, 3) := dk_182 0 160 (dk_at dksX3_young_0 2 rfl rfl)
theorem dX3_young_5 : decode cX3_young 5 = .ok (.ifCond .eq 5, 3) := dk_153 0 5 (dk_at dksX3_young_0 5 rfl rfl)
theorem dX3_young_8 : decode cX3_young 8 = .ok (.iconst 0, 1) := dk_3 (dk_at dksX3_young_0 8 rfl rfl)
theorem dX3_young_9 : decode cX3_young 9 = .ok (.ireturn, 1) := dk_172 (dk_at dksX3_young_0 9 rfl rfl)
theorem dX3_young_10 : decode cX3_young 10 = .ok (.aload_n 0, 1) := dk_42 (dk_at dksX3_young_0 10 rfl rfl)
theorem dX3_young_11 : decode cX3_young 11 = .ok (.iload_n 1, 1) := dk_27 (dk_at dksX3_young_0 11 rfl rfl)
theorem dX3_young_12 : decode cX3_young 12 = .ok (.invokevirtual 146, 3) := dk_182 0 146 (dk_at dksX3_young_0 12 rfl rfl)
theorem dX3_young_15 : decode cX3_young 15 = .ok (.bipush 80, 2) := dk_16 80 (dk_at dksX3_young_0 15 rfl rfl)
theorem dX3_young_17 : decode cX3_young 17 = .ok (.idiv, 1) := dk_108 (dk_at dksX3_young_0 17 rfl rfl)
theorem dX3_young_18 : decode cX3_young 18 = .ok (.iconst 1, 1) := dk_4 (dk_at dksX3_young_0 18 rfl rfl)
theorem dX3_young_19 : decode cX3_young 19 = .ok (.isub, 1) := dk_100 (dk_at dksX3_young_0 19 rfl rfl)
theorem dX3_young_20 : decode cX3_young 20 = .ok (.istore_n 2, 1) := dk_61 (dk_at dksX3_young_0 20 rfl rfl)
theorem dX3_young_21 : decode cX3_young 21 = .ok (.iload_n 2, 1) := dk_28 (dk_at dksX3_young_0 21 rfl rfl)
theorem dX3_young_22 : decode cX3_young 22 = .ok (.bipush 6, 2) := dk_16 6 (dk_at dksX3_young_0 22 rfl rfl)
theorem dX3_young_24 : decode cX3_young 24 = .ok (.if_icmp .le 8, 3) := dk_164 0 8 (dk_at dksX3_young_1 0 rfl rfl)
theorem dX3_young_27 : decode cX3_young 27 = .ok (.bipush 6, 2) := dk_16 6 (dk_at dksX3_young_1 3 rfl rfl)
theorem dX3_young_29 : decode cX3_young 29 = .ok (.goto 4, 3) := dk_167 0 4 (dk_at dksX3_young_1 5 rfl rfl)
theorem dX3_young_32 : decode cX3_young 32 = .ok (.iload_n 2, 1) := dk_28 (dk_at dksX3_young_1 8 rfl rfl)
theorem dX3_young_33 : decode cX3_young 33 = .ok (.istore_n 2, 1) := dk_61 (dk_at dksX3_young_1 9 rfl rfl)
theorem dX3_young_34 : decode cX3_young 34 = .ok (.iload_n 2, 1) := dk_28 (dk_at dksX3_young_1 10 rfl rfl)
theorem dX3_young_35 : decode cX3_young 35 = .ok (.bipush 40, 2) := dk_16 40 (dk_at dksX3_young_1 11 rfl rfl)
theorem dX3_young_37 : decode cX3_young 37 = .ok (.aload_n 0, 1) := dk_42 (dk_at dksX3_young_1 13 rfl rfl)
theorem dX3_young_38 : decode cX3_young 38 = .ok (.getfield 7, 3) := dk_180 0 7 (dk_at dksX3_young_1 14 rfl rfl)
theorem dX3_young_41 : decode cX3_young 41 = .ok (.iconst 3, 1) := dk_6 (dk_at dksX3_young_1 17 rfl rfl)
theorem dX3_young_42 : decode cX3_young 42 = .ok (.iaload, 1) := dk_46 (dk_at dksX3_young_1 18 rfl rfl)
theorem dX3_young_43 : decode cX3_young 43 = .ok (.isub, 1) := dk_100 (dk_at dksX3_young_1 19 rfl rfl)
theorem dX3_young_44 : decode cX3_young 44 = .ok (.if_icmp .le 15, 3) := dk_164 0 15 (dk_at dksX3_young_1 20 rfl rfl)
theorem dX3_young_47 : decode cX3_young 47 = .ok (.bipush 40, 2) := dk_16 40 (dk_at dksX3_young_2 0 rfl rfl)
theorem dX3_young_49 : decode cX3_young 49 = .ok (.aload_n 0, 1) := dk_42 (dk_at dksX3_young_2 2 rfl rfl)
theorem dX3_young_50 : decode cX3_young 50 = .ok (.getfield 7, 3) := dk_180 0 7 (dk_at dksX3_young_2 3 rfl rfl)
theorem dX3_young_53 : decode cX3_young 53 = .ok (.iconst 3, 1) := dk_6 (dk_at dksX3_young_2 6 rfl rfl)
theorem dX3_young_54 : decode cX3_young 54 = .ok (.iaload, 1) := dk_46 (dk_at dksX3_young_2 7 rfl rfl)
theorem dX3_young_55 : decode cX3_young 55 = .ok (.isub, 1) := dk_100 (dk_at dksX3_young_2 8 rfl rfl)
theorem dX3_young_56 : decode cX3_young 56 = .ok (.goto 4, 3) := dk_167 0 4 (dk_at dksX3_young_2 9 rfl rfl)
theorem dX3_young_59 : decode cX3_young 59 = .ok (.iload_n 2, 1) := dk_28 (dk_at dksX3_young_2 12 rfl rfl)
theorem dX3_young_60 : decode cX3_young 60 = .ok (.ireturn, 1) := dk_172 (dk_at dksX3_young_2 13 rfl rfl)
abbrev cX3_reason : ByteArray := prog_9_method_52_code
def yX3_reason : MethodName := ⟨RX3, "reason", "(I)I"⟩
def dkwX3_reason_3 : List UInt8 := [180, 0, 7, 6, 46, 16, 40, 160, 0, 7, 8, 167, 0, 4, 3, 172]
abbrev dktX3_reason_3 : List UInt8 := dkwX3_reason_3 ++ []
def dkwX3_reason_2 : List UInt8 := [4, 162, 0, 7, 6, 167, 0, 34, 42, 27, 182, 0, 146, 17, 0, 160, 162, 0, 7, 7, 167, 0, 19, 42]
abbrev dktX3_reason_2 : List UInt8 := dkwX3_reason_2 ++ dktX3_reason_3
def dkwX3_reason_1 : List UInt8 := [2, 160, 0, 7, 5, 167, 0, 58, 42, 28, 5, 182, 0, 93, 4, 161, 0, 13, 42, 29, 5, 182, 0, 93]
abbrev dktX3_reason_1 : List UInt8 := dkwX3_reason_1 ++ dktX3_reason_2
def dkwX3_reason_0 : List UInt8 := [42, 27, 3, 182, 0, 96, 61, 42, 27, 4, 182, 0, 96, 62, 28, 2, 160, 0, 7, 4, 167, 0, 67, 29]
abbrev dktX3_reason_0 : List UInt8 := dkwX3_reason_0 ++ dktX3_reason_1
theorem dksX3_reason_0 : cX3_reason.data.toList.drop 0 = dktX3_reason_0 := by decide +kernel
theorem dksX3_reason_1 : cX3_reason.data.toList.drop 24 = dktX3_reason_1 := dk_seg dksX3_reason_0 24 rfl rfl
theorem dksX3_reason_2 : cX3_reason.data.toList.drop 48 = dktX3_reason_2 := dk_seg dksX3_reason_1 24 rfl rfl
theorem dksX3_reason_3 : cX3_reason.data.toList.drop 72 = dktX3_reason_3 := dk_seg dksX3_reason_2 24 rfl rfl
theorem dX3_reason_0 : decode cX3_reason 0 = .ok (.aload_n 0, 1) := dk_42 (dk_at dksX3_reason_0 0 rfl rfl)
theorem dX3_reason_1 : decode cX3_reason 1 = .ok (.iload_n 1, 1) := dk_27 (dk_at dksX3_reason_0 1 rfl rfl)
theorem dX3_reason_2 : decode cX3_reason 2 = .ok (.iconst 0, 1) := dk_3 (dk_at dksX3_reason_0 2 rfl rfl)
theorem dX3_reason_3 : decode cX3_reason 3 = .ok (.invokevirtual 96, 3) := dk_182 0 96 (dk_at dksX3_reason_0 3 rfl rfl)
theorem dX3_reason_6 : decode cX3_reason 6 = .ok (.istore_n 2, 1) := dk_61 (dk_at dksX3_reason_0 6 rfl rfl)
theorem dX3_reason_7 : decode cX3_reason 7 = .ok (.aload_n 0, 1) := dk_42 (dk_at dksX3_reason_0 7 rfl rfl)
theorem dX3_reason_8 : decode cX3_reason 8 = .ok (.iload_n 1, 1) := dk_27 (dk_at dksX3_reason_0 8 rfl rfl)
theorem dX3_reason_9 : decode cX3_reason 9 = .ok (.iconst 1, 1) := dk_4 (dk_at dksX3_reason_0 9 rfl rfl)
theorem dX3_reason_10 : decode cX3_reason 10 = .ok (.invokevirtual 96, 3) := dk_182 0 96 (dk_at dksX3_reason_0 10 rfl rfl)
theorem dX3_reason_13 : decode cX3_reason 13 = .ok (.istore_n 3, 1) := dk_62 (dk_at dksX3_reason_0 13 rfl rfl)
theorem dX3_reason_14 : decode cX3_reason 14 = .ok (.iload_n 2, 1) := dk_28 (dk_at dksX3_reason_0 14 rfl rfl)
theorem dX3_reason_15 : decode cX3_reason 15 = .ok (.iconst (-1), 1) := dk_2 (dk_at dksX3_reason_0 15 rfl rfl)
theorem dX3_reason_16 : decode cX3_reason 16 = .ok (.if_icmp .ne 7, 3) := dk_160 0 7 (dk_at dksX3_reason_0 16 rfl rfl)
theorem dX3_reason_19 : decode cX3_reason 19 = .ok (.iconst 1, 1) := dk_4 (dk_at dksX3_reason_0 19 rfl rfl)
theorem dX3_reason_20 : decode cX3_reason 20 = .ok (.goto 67, 3) := dk_167 0 67 (dk_at dksX3_reason_0 20 rfl rfl)
theorem dX3_reason_23 : decode cX3_reason 23 = .ok (.iload_n 3, 1) := dk_29 (dk_at dksX3_reason_0 23 rfl rfl)
theorem dX3_reason_24 : decode cX3_reason 24 = .ok (.iconst (-1), 1) := dk_2 (dk_at dksX3_reason_1 0 rfl rfl)
theorem dX3_reason_25 : decode cX3_reason 25 = .ok (.if_icmp .ne 7, 3) := dk_160 0 7 (dk_at dksX3_reason_1 1 rfl rfl)
theorem dX3_reason_28 : decode cX3_reason 28 = .ok (.iconst 2, 1) := dk_5 (dk_at dksX3_reason_1 4 rfl rfl)
theorem dX3_reason_29 : decode cX3_reason 29 = .ok (.goto 58, 3) := dk_167 0 58 (dk_at dksX3_reason_1 5 rfl rfl)
theorem dX3_reason_32 : decode cX3_reason 32 = .ok (.aload_n 0, 1) := dk_42 (dk_at dksX3_reason_1 8 rfl rfl)
theorem dX3_reason_33 : decode cX3_reason 33 = .ok (.iload_n 2, 1) := dk_28 (dk_at dksX3_reason_1 9 rfl rfl)
theorem dX3_reason_34 : decode cX3_reason 34 = .ok (.iconst 2, 1) := dk_5 (dk_at dksX3_reason_1 10 rfl rfl)
theorem dX3_reason_35 : decode cX3_reason 35 = .ok (.invokevirtual 93, 3) := dk_182 0 93 (dk_at dksX3_reason_1 11 rfl rfl)
theorem dX3_reason_38 : decode cX3_reason 38 = .ok (.iconst 1, 1) := dk_4 (dk_at dksX3_reason_1 14 rfl rfl)
theorem dX3_reason_39 : decode cX3_reason 39 = .ok (.if_icmp .lt 13, 3) := dk_161 0 13 (dk_at dksX3_reason_1 15 rfl rfl)
theorem dX3_reason_42 : decode cX3_reason 42 = .ok (.aload_n 0, 1) := dk_42 (dk_at dksX3_reason_1 18 rfl rfl)
theorem dX3_reason_43 : decode cX3_reason 43 = .ok (.iload_n 3, 1) := dk_29 (dk_at dksX3_reason_1 19 rfl rfl)
theorem dX3_reason_44 : decode cX3_reason 44 = .ok (.iconst 2, 1) := dk_5 (dk_at dksX3_reason_1 20 rfl rfl)
theorem dX3_reason_45 : decode cX3_reason 45 = .ok (.invokevirtual 93, 3) := dk_182 0 93 (dk_at dksX3_reason_1 21 rfl rfl)
theorem dX3_reason_48 : decode cX3_reason 48 = .ok (.iconst 1, 1) := dk_4 (dk_at dksX3_reason_2 0 rfl rfl)
theorem dX3_reason_49 : decode cX3_reason 49 = .ok (.if_icmp .ge 7, 3) := dk_162 0 7 (dk_at dksX3_reason_2 1 rfl rfl)
theorem dX3_reason_52 : decode cX3_reason 52 = .ok (.iconst 3, 1) := dk_6 (dk_at dksX3_reason_2 4 rfl rfl)
theorem dX3_reason_53 : decode cX3_reason 53 = .ok (.goto 34, 3) := dk_167 0 34 (dk_at dksX3_reason_2 5 rfl rfl)
theorem dX3_reason_56 : decode cX3_reason 56 = .ok (.aload_n 0, 1) := dk_42 (dk_at dksX3_reason_2 8 rfl rfl)
theorem dX3_reason_57 : decode cX3_reason 57 = .ok (.iload_n 1, 1) := dk_27 (dk_at dksX3_reason_2 9 rfl rfl)
theorem dX3_reason_58 : decode cX3_reason 58 = .ok (.invokevirtual 146, 3) := dk_182 0 146 (dk_at dksX3_reason_2 10 rfl rfl)
theorem dX3_reason_61 : decode cX3_reason 61 = .ok (.sipush 160, 3) := dk_17 0 160 (dk_at dksX3_reason_2 13 rfl rfl)
theorem dX3_reason_64 : decode cX3_reason 64 = .ok (.if_icmp .ge 7, 3) := dk_162 0 7 (dk_at dksX3_reason_2 16 rfl rfl)
theorem dX3_reason_67 : decode cX3_reason 67 = .ok (.iconst 4, 1) := dk_7 (dk_at dksX3_reason_2 19 rfl rfl)
theorem dX3_reason_68 : decode cX3_reason 68 = .ok (.goto 19, 3) := dk_167 0 19 (dk_at dksX3_reason_2 20 rfl rfl)
theorem dX3_reason_71 : decode cX3_reason 71 = .ok (.aload_n 0, 1) := dk_42 (dk_at dksX3_reason_2 23 rfl rfl)
theorem dX3_reason_72 : decode cX3_reason 72 = .ok (.getfield 7, 3) := dk_180 0 7 (dk_at dksX3_reason_3 0 rfl rfl)
theorem dX3_reason_75 : decode cX3_reason 75 = .ok (.iconst 3, 1) := dk_6 (dk_at dksX3_reason_3 3 rfl rfl)
theorem dX3_reason_76 : decode cX3_reason 76 = .ok (.iaload, 1) := dk_46 (dk_at dksX3_reason_3 4 rfl rfl)
theorem dX3_reason_77 : decode cX3_reason 77 = .ok (.bipush 40, 2) := dk_16 40 (dk_at dksX3_reason_3 5 rfl rfl)
theorem dX3_reason_79 : decode cX3_reason 79 = .ok (.if_icmp .ne 7, 3) := dk_160 0 7 (dk_at dksX3_reason_3 7 rfl rfl)
theorem dX3_reason_82 : decode cX3_reason 82 = .ok (.iconst 5, 1) := dk_8 (dk_at dksX3_reason_3 10 rfl rfl)
theorem dX3_reason_83 : decode cX3_reason 83 = .ok (.goto 4, 3) := dk_167 0 4 (dk_at dksX3_reason_3 11 rfl rfl)
theorem dX3_reason_86 : decode cX3_reason 86 = .ok (.iconst 0, 1) := dk_3 (dk_at dksX3_reason_3 14 rfl rfl)
theorem dX3_reason_87 : decode cX3_reason 87 = .ok (.ireturn, 1) := dk_172 (dk_at dksX3_reason_3 15 rfl rfl)
abbrev cX3_settles : ByteArray := prog_9_method_55_code
def yX3_settles : MethodName := ⟨RX3, "settles", "(I)V"⟩
def dkwX3_settles_3 : List UInt8 := [29, 62, 132, 4, 1, 167, 255, 188, 42, 27, 8, 28, 182, 0, 99, 177]
abbrev dktX3_settles_3 : List UInt8 := dkwX3_settles_3 ++ []
def dkwX3_settles_2 : List UInt8 := [21, 5, 29, 164, 0, 8, 21, 4, 167, 0, 4, 28, 61, 21, 5, 29, 164, 0, 8, 21, 5, 167, 0, 4]
abbrev dktX3_settles_2 : List UInt8 := dkwX3_settles_2 ++ dktX3_settles_3
def dkwX3_settles_1 : List UInt8 := [4, 182, 0, 93, 182, 0, 96, 2, 160, 0, 12, 42, 21, 4, 182, 0, 146, 167, 0, 4, 3, 54, 5]
abbrev dktX3_settles_1 : List UInt8 := dkwX3_settles_1 ++ dktX3_settles_2
def dkwX3_settles_0 : List UInt8 := [2, 61, 16, 59, 62, 3, 54, 4, 21, 4, 42, 180, 0, 7, 5, 46, 162, 0, 63, 42, 21, 4, 42, 27]
abbrev dktX3_settles_0 : List UInt8 := dkwX3_settles_0 ++ dktX3_settles_1
theorem dksX3_settles_0 : cX3_settles.data.toList.drop 0 = dktX3_settles_0 := by decide +kernel
theorem dksX3_settles_1 : cX3_settles.data.toList.drop 24 = dktX3_settles_1 := dk_seg dksX3_settles_0 24 rfl rfl
theorem dksX3_settles_2 : cX3_settles.data.toList.drop 47 = dktX3_settles_2 := dk_seg dksX3_settles_1 23 rfl rfl
theorem dksX3_settles_3 : cX3_settles.data.toList.drop 71 = dktX3_settles_3 := dk_seg dksX3_settles_2 24 rfl rfl
theorem dX3_settles_0 : decode cX3_settles 0 = .ok (.iconst (-1), 1) := dk_2 (dk_at dksX3_settles_0 0 rfl rfl)
theorem dX3_settles_1 : decode cX3_settles 1 = .ok (.istore_n 2, 1) := dk_61 (dk_at dksX3_settles_0 1 rfl rfl)
theorem dX3_settles_2 : decode cX3_settles 2 = .ok (.bipush 59, 2) := dk_16 59 (dk_at dksX3_settles_0 2 rfl rfl)
theorem dX3_settles_4 : decode cX3_settles 4 = .ok (.istore_n 3, 1) := dk_62 (dk_at dksX3_settles_0 4 rfl rfl)
theorem dX3_settles_5 : decode cX3_settles 5 = .ok (.iconst 0, 1) := dk_3 (dk_at dksX3_settles_0 5 rfl rfl)
theorem dX3_settles_6 : decode cX3_settles 6 = .ok (.istore 4, 2) := dk_54 4 (dk_at dksX3_settles_0 6 rfl rfl)
theorem dX3_settles_8 : decode cX3_settles 8 = .ok (.iload 4, 2) := dk_21 4 (dk_at dksX3_settles_0 8 rfl rfl)
theorem dX3_settles_10 : decode cX3_settles 10 = .ok (.aload_n 0, 1) := dk_42 (dk_at dksX3_settles_0 10 rfl rfl)
theorem dX3_settles_11 : decode cX3_settles 11 = .ok (.getfield 7, 3) := dk_180 0 7 (dk_at dksX3_settles_0 11 rfl rfl)
theorem dX3_settles_14 : decode cX3_settles 14 = .ok (.iconst 2, 1) := dk_5 (dk_at dksX3_settles_0 14 rfl rfl)
theorem dX3_settles_15 : decode cX3_settles 15 = .ok (.iaload, 1) := dk_46 (dk_at dksX3_settles_0 15 rfl rfl)
theorem dX3_settles_16 : decode cX3_settles 16 = .ok (.if_icmp .ge 63, 3) := dk_162 0 63 (dk_at dksX3_settles_0 16 rfl rfl)
theorem dX3_settles_19 : decode cX3_settles 19 = .ok (.aload_n 0, 1) := dk_42 (dk_at dksX3_settles_0 19 rfl rfl)
theorem dX3_settles_20 : decode cX3_settles 20 = .ok (.iload 4, 2) := dk_21 4 (dk_at dksX3_settles_0 20 rfl rfl)
theorem dX3_settles_22 : decode cX3_settles 22 = .ok (.aload_n 0, 1) := dk_42 (dk_at dksX3_settles_0 22 rfl rfl)
theorem dX3_settles_23 : decode cX3_settles 23 = .ok (.iload_n 1, 1) := dk_27 (dk_at dksX3_settles_0 23 rfl rfl)
theorem dX3_settles_24 : decode cX3_settles 24 = .ok (.iconst 1, 1) := dk_4 (dk_at dksX3_settles_1 0 rfl rfl)
theorem dX3_settles_25 : decode cX3_settles 25 = .ok (.invokevirtual 93, 3) := dk_182 0 93 (dk_at dksX3_settles_1 1 rfl rfl)
theorem dX3_settles_28 : decode cX3_settles 28 = .ok (.invokevirtual 96, 3) := dk_182 0 96 (dk_at dksX3_settles_1 4 rfl rfl)
theorem dX3_settles_31 : decode cX3_settles 31 = .ok (.iconst (-1), 1) := dk_2 (dk_at dksX3_settles_1 7 rfl rfl)
theorem dX3_settles_32 : decode cX3_settles 32 = .ok (.if_icmp .ne 12, 3) := dk_160 0 12 (dk_at dksX3_settles_1 8 rfl rfl)
theorem dX3_settles_35 : decode cX3_settles 35 = .ok (.aload_n 0, 1) := dk_42 (dk_at dksX3_settles_1 11 rfl rfl)
theorem dX3_settles_36 : decode cX3_settles 36 = .ok (.iload 4, 2) := dk_21 4 (dk_at dksX3_settles_1 12 rfl rfl)
theorem dX3_settles_38 : decode cX3_settles 38 = .ok (.invokevirtual 146, 3) := dk_182 0 146 (dk_at dksX3_settles_1 14 rfl rfl)
theorem dX3_settles_41 : decode cX3_settles 41 = .ok (.goto 4, 3) := dk_167 0 4 (dk_at dksX3_settles_1 17 rfl rfl)
theorem dX3_settles_44 : decode cX3_settles 44 = .ok (.iconst 0, 1) := dk_3 (dk_at dksX3_settles_1 20 rfl rfl)
theorem dX3_settles_45 : decode cX3_settles 45 = .ok (.istore 5, 2) := dk_54 5 (dk_at dksX3_settles_1 21 rfl rfl)
theorem dX3_settles_47 : decode cX3_settles 47 = .ok (.iload 5, 2) := dk_21 5 (dk_at dksX3_settles_2 0 rfl rfl)
theorem dX3_settles_49 : decode cX3_settles 49 = .ok (.iload_n 3, 1) := dk_29 (dk_at dksX3_settles_2 2 rfl rfl)
theorem dX3_settles_50 : decode cX3_settles 50 = .ok (.if_icmp .le 8, 3) := dk_164 0 8 (dk_at dksX3_settles_2 3 rfl rfl)
theorem dX3_settles_53 : decode cX3_settles 53 = .ok (.iload 4, 2) := dk_21 4 (dk_at dksX3_settles_2 6 rfl rfl)
theorem dX3_settles_55 : decode cX3_settles 55 = .ok (.goto 4, 3) := dk_167 0 4 (dk_at dksX3_settles_2 8 rfl rfl)
theorem dX3_settles_58 : decode cX3_settles 58 = .ok (.iload_n 2, 1) := dk_28 (dk_at dksX3_settles_2 11 rfl rfl)
theorem dX3_settles_59 : decode cX3_settles 59 = .ok (.istore_n 2, 1) := dk_61 (dk_at dksX3_settles_2 12 rfl rfl)
theorem dX3_settles_60 : decode cX3_settles 60 = .ok (.iload 5, 2) := dk_21 5 (dk_at dksX3_settles_2 13 rfl rfl)
theorem dX3_settles_62 : decode cX3_settles 62 = .ok (.iload_n 3, 1) := dk_29 (dk_at dksX3_settles_2 15 rfl rfl)
theorem dX3_settles_63 : decode cX3_settles 63 = .ok (.if_icmp .le 8, 3) := dk_164 0 8 (dk_at dksX3_settles_2 16 rfl rfl)
theorem dX3_settles_66 : decode cX3_settles 66 = .ok (.iload 5, 2) := dk_21 5 (dk_at dksX3_settles_2 19 rfl rfl)
theorem dX3_settles_68 : decode cX3_settles 68 = .ok (.goto 4, 3) := dk_167 0 4 (dk_at dksX3_settles_2 21 rfl rfl)
theorem dX3_settles_71 : decode cX3_settles 71 = .ok (.iload_n 3, 1) := dk_29 (dk_at dksX3_settles_3 0 rfl rfl)
theorem dX3_settles_72 : decode cX3_settles 72 = .ok (.istore_n 3, 1) := dk_62 (dk_at dksX3_settles_3 1 rfl rfl)
theorem dX3_settles_73 : decode cX3_settles 73 = .ok (.iinc 4 1, 3) := dk_132 4 1 (dk_at dksX3_settles_3 2 rfl rfl)
theorem dX3_settles_76 : decode cX3_settles 76 = .ok (.goto (-68), 3) := dk_167 255 188 (dk_at dksX3_settles_3 5 rfl rfl)
theorem dX3_settles_79 : decode cX3_settles 79 = .ok (.aload_n 0, 1) := dk_42 (dk_at dksX3_settles_3 8 rfl rfl)
theorem dX3_settles_80 : decode cX3_settles 80 = .ok (.iload_n 1, 1) := dk_27 (dk_at dksX3_settles_3 9 rfl rfl)
theorem dX3_settles_81 : decode cX3_settles 81 = .ok (.iconst 5, 1) := dk_8 (dk_at dksX3_settles_3 10 rfl rfl)
theorem dX3_settles_82 : decode cX3_settles 82 = .ok (.iload_n 2, 1) := dk_28 (dk_at dksX3_settles_3 11 rfl rfl)
theorem dX3_settles_83 : decode cX3_settles 83 = .ok (.invokevirtual 99, 3) := dk_182 0 99 (dk_at dksX3_settles_3 12 rfl rfl)
theorem dX3_settles_86 : decode cX3_settles 86 = .ok (.return_, 1) := dk_177 (dk_at dksX3_settles_3 15 rfl rfl)
abbrev cX3_year : ByteArray := prog_9_method_61_code
def yX3_year : MethodName := ⟨RX3, "year", "()I"⟩
def dkwX3_year_0 : List UInt8 := [42, 42, 180, 0, 7, 3, 46, 182, 0, 196, 172]
abbrev dktX3_year_0 : List UInt8 := dkwX3_year_0 ++ []
theorem dksX3_year_0 : cX3_year.data.toList.drop 0 = dktX3_year_0 := by decide +kernel
theorem dX3_year_0 : decode cX3_year 0 = .ok (.aload_n 0, 1) := dk_42 (dk_at dksX3_year_0 0 rfl rfl)
theorem dX3_year_1 : decode cX3_year 1 = .ok (.aload_n 0, 1) := dk_42 (dk_at dksX3_year_0 1 rfl rfl)
theorem dX3_year_2 : decode cX3_year 2 = .ok (.getfield 7, 3) := dk_180 0 7 (dk_at dksX3_year_0 2 rfl rfl)
theorem dX3_year_5 : decode cX3_year 5 = .ok (.iconst 0, 1) := dk_3 (dk_at dksX3_year_0 5 rfl rfl)
theorem dX3_year_6 : decode cX3_year 6 = .ok (.iaload, 1) := dk_46 (dk_at dksX3_year_0 6 rfl rfl)
theorem dX3_year_7 : decode cX3_year 7 = .ok (.invokevirtual 196, 3) := dk_182 0 196 (dk_at dksX3_year_0 7 rfl rfl)
theorem dX3_year_10 : decode cX3_year 10 = .ok (.ireturn, 1) := dk_172 (dk_at dksX3_year_0 10 rfl rfl)
abbrev cX3_tells : ByteArray := prog_9_method_60_code
def yX3_tells : MethodName := ⟨RX3, "tells", "(I)I"⟩
def dkwX3_tells_0 : List UInt8 := [42, 3, 181, 0, 35, 27, 172]
abbrev dktX3_tells_0 : List UInt8 := dkwX3_tells_0 ++ []
theorem dksX3_tells_0 : cX3_tells.data.toList.drop 0 = dktX3_tells_0 := by decide +kernel
theorem dX3_tells_0 : decode cX3_tells 0 = .ok (.aload_n 0, 1) := dk_42 (dk_at dksX3_tells_0 0 rfl rfl)
theorem dX3_tells_1 : decode cX3_tells 1 = .ok (.iconst 0, 1) := dk_3 (dk_at dksX3_tells_0 1 rfl rfl)
theorem dX3_tells_2 : decode cX3_tells 2 = .ok (.putfield 35, 3) := dk_181 0 35 (dk_at dksX3_tells_0 2 rfl rfl)
theorem dX3_tells_5 : decode cX3_tells 5 = .ok (.iload_n 1, 1) := dk_27 (dk_at dksX3_tells_0 5 rfl rfl)
theorem dX3_tells_6 : decode cX3_tells 6 = .ok (.ireturn, 1) := dk_172 (dk_at dksX3_tells_0 6 rfl rfl)
abbrev cX3_phase : ByteArray := prog_9_method_62_code
def yX3_phase : MethodName := ⟨RX3, "phase", "()I"⟩
def dkwX3_phase_0 : List UInt8 := [42, 42, 180, 0, 7, 3, 46, 7, 112, 182, 0, 196, 172]
abbrev dktX3_phase_0 : List UInt8 := dkwX3_phase_0 ++ []
theorem dksX3_phase_0 : cX3_phase.data.toList.drop 0 = dktX3_phase_0 := by decide +kernel
theorem dX3_phase_0 : decode cX3_phase 0 = .ok (.aload_n 0, 1) := dk_42 (dk_at dksX3_phase_0 0 rfl rfl)
theorem dX3_phase_1 : decode cX3_phase 1 = .ok (.aload_n 0, 1) := dk_42 (dk_at dksX3_phase_0 1 rfl rfl)
theorem dX3_phase_2 : decode cX3_phase 2 = .ok (.getfield 7, 3) := dk_180 0 7 (dk_at dksX3_phase_0 2 rfl rfl)
theorem dX3_phase_5 : decode cX3_phase 5 = .ok (.iconst 0, 1) := dk_3 (dk_at dksX3_phase_0 5 rfl rfl)
theorem dX3_phase_6 : decode cX3_phase 6 = .ok (.iaload, 1) := dk_46 (dk_at dksX3_phase_0 6 rfl rfl)
theorem dX3_phase_7 : decode cX3_phase 7 = .ok (.iconst 4, 1) := dk_7 (dk_at dksX3_phase_0 7 rfl rfl)
theorem dX3_phase_8 : decode cX3_phase 8 = .ok (.irem, 1) := dk_112 (dk_at dksX3_phase_0 8 rfl rfl)
theorem dX3_phase_9 : decode cX3_phase 9 = .ok (.invokevirtual 196, 3) := dk_182 0 196 (dk_at dksX3_phase_0 9 rfl rfl)
theorem dX3_phase_12 : decode cX3_phase 12 = .ok (.ireturn, 1) := dk_172 (dk_at dksX3_phase_0 12 rfl rfl)
abbrev cX3_landOf : ByteArray := prog_9_method_64_code
def yX3_landOf : MethodName := ⟨RX3, "landOf", "(I)I"⟩
def dkwX3_landOf_0 : List UInt8 := [42, 27, 182, 0, 199, 153, 0, 15, 42, 180, 0, 7, 16, 16, 27, 96, 46, 167, 0, 4, 3, 172]
abbrev dktX3_landOf_0 : List UInt8 := dkwX3_landOf_0 ++ []
theorem dksX3_landOf_0 : cX3_landOf.data.toList.drop 0 = dktX3_landOf_0 := by decide +kernel
theorem dX3_landOf_0 : decode cX3_landOf 0 = .ok (.aload_n 0, 1) := dk_42 (dk_at dksX3_landOf_0 0 rfl rfl)
theorem dX3_landOf_1 : decode cX3_landOf 1 = .ok (.iload_n 1, 1) := dk_27 (dk_at dksX3_landOf_0 1 rfl rfl)
theorem dX3_landOf_2 : decode cX3_landOf 2 = .ok (.invokevirtual 199, 3) := dk_182 0 199 (dk_at dksX3_landOf_0 2 rfl rfl)
theorem dX3_landOf_5 : decode cX3_landOf 5 = .ok (.ifCond .eq 15, 3) := dk_153 0 15 (dk_at dksX3_landOf_0 5 rfl rfl)
theorem dX3_landOf_8 : decode cX3_landOf 8 = .ok (.aload_n 0, 1) := dk_42 (dk_at dksX3_landOf_0 8 rfl rfl)
theorem dX3_landOf_9 : decode cX3_landOf 9 = .ok (.getfield 7, 3) := dk_180 0 7 (dk_at dksX3_landOf_0 9 rfl rfl)
theorem dX3_landOf_12 : decode cX3_landOf 12 = .ok (.bipush 16, 2) := dk_16 16 (dk_at dksX3_landOf_0 12 rfl rfl)
theorem dX3_landOf_14 : decode cX3_landOf 14 = .ok (.iload_n 1, 1) := dk_27 (dk_at dksX3_landOf_0 14 rfl rfl)
theorem dX3_landOf_15 : decode cX3_landOf 15 = .ok (.iadd, 1) := dk_96 (dk_at dksX3_landOf_0 15 rfl rfl)
theorem dX3_landOf_16 : decode cX3_landOf 16 = .ok (.iaload, 1) := dk_46 (dk_at dksX3_landOf_0 16 rfl rfl)
theorem dX3_landOf_17 : decode cX3_landOf 17 = .ok (.goto 4, 3) := dk_167 0 4 (dk_at dksX3_landOf_0 17 rfl rfl)
theorem dX3_landOf_20 : decode cX3_landOf 20 = .ok (.iconst 0, 1) := dk_3 (dk_at dksX3_landOf_0 20 rfl rfl)
theorem dX3_landOf_21 : decode cX3_landOf 21 = .ok (.ireturn, 1) := dk_172 (dk_at dksX3_landOf_0 21 rfl rfl)
abbrev cX3_asksSquare : ByteArray := prog_9_method_63_code
def yX3_asksSquare : MethodName := ⟨RX3, "asksSquare", "(I)Z"⟩
def dkwX3_asksSquare_1 : List UInt8 := [167, 0, 4, 3, 172]
abbrev dktX3_asksSquare_1 : List UInt8 := dkwX3_asksSquare_1 ++ []
def dkwX3_asksSquare_0 : List UInt8 := [42, 27, 184, 0, 73, 153, 0, 7, 3, 167, 0, 4, 4, 181, 0, 35, 42, 180, 0, 35, 154, 0, 7, 4]
abbrev dktX3_asksSquare_0 : List UInt8 := dkwX3_asksSquare_0 ++ dktX3_asksSquare_1
theorem dksX3_asksSquare_0 : cX3_asksSquare.data.toList.drop 0 = dktX3_asksSquare_0 := by decide +kernel
theorem dksX3_asksSquare_1 : cX3_asksSquare.data.toList.drop 24 = dktX3_asksSquare_1 := dk_seg dksX3_asksSquare_0 24 rfl rfl
theorem dX3_asksSquare_0 : decode cX3_asksSquare 0 = .ok (.aload_n 0, 1) := dk_42 (dk_at dksX3_asksSquare_0 0 rfl rfl)
theorem dX3_asksSquare_1 : decode cX3_asksSquare 1 = .ok (.iload_n 1, 1) := dk_27 (dk_at dksX3_asksSquare_0 1 rfl rfl)
theorem dX3_asksSquare_2 : decode cX3_asksSquare 2 = .ok (.invokestatic 73, 3) := dk_184 0 73 (dk_at dksX3_asksSquare_0 2 rfl rfl)
theorem dX3_asksSquare_5 : decode cX3_asksSquare 5 = .ok (.ifCond .eq 7, 3) := dk_153 0 7 (dk_at dksX3_asksSquare_0 5 rfl rfl)
theorem dX3_asksSquare_8 : decode cX3_asksSquare 8 = .ok (.iconst 0, 1) := dk_3 (dk_at dksX3_asksSquare_0 8 rfl rfl)
theorem dX3_asksSquare_9 : decode cX3_asksSquare 9 = .ok (.goto 4, 3) := dk_167 0 4 (dk_at dksX3_asksSquare_0 9 rfl rfl)
theorem dX3_asksSquare_12 : decode cX3_asksSquare 12 = .ok (.iconst 1, 1) := dk_4 (dk_at dksX3_asksSquare_0 12 rfl rfl)
theorem dX3_asksSquare_13 : decode cX3_asksSquare 13 = .ok (.putfield 35, 3) := dk_181 0 35 (dk_at dksX3_asksSquare_0 13 rfl rfl)
theorem dX3_asksSquare_16 : decode cX3_asksSquare 16 = .ok (.aload_n 0, 1) := dk_42 (dk_at dksX3_asksSquare_0 16 rfl rfl)
theorem dX3_asksSquare_17 : decode cX3_asksSquare 17 = .ok (.getfield 35, 3) := dk_180 0 35 (dk_at dksX3_asksSquare_0 17 rfl rfl)
theorem dX3_asksSquare_20 : decode cX3_asksSquare 20 = .ok (.ifCond .ne 7, 3) := dk_154 0 7 (dk_at dksX3_asksSquare_0 20 rfl rfl)
theorem dX3_asksSquare_23 : decode cX3_asksSquare 23 = .ok (.iconst 1, 1) := dk_4 (dk_at dksX3_asksSquare_0 23 rfl rfl)
theorem dX3_asksSquare_24 : decode cX3_asksSquare 24 = .ok (.goto 4, 3) := dk_167 0 4 (dk_at dksX3_asksSquare_1 0 rfl rfl)
theorem dX3_asksSquare_27 : decode cX3_asksSquare 27 = .ok (.iconst 0, 1) := dk_3 (dk_at dksX3_asksSquare_1 3 rfl rfl)
theorem dX3_asksSquare_28 : decode cX3_asksSquare 28 = .ok (.ireturn, 1) := dk_172 (dk_at dksX3_asksSquare_1 4 rfl rfl)
abbrev cX3_squaresOf : ByteArray := prog_9_method_66_code
def yX3_squaresOf : MethodName := ⟨RX3, "squaresOf", "(I)J"⟩
def dkwX3_squaresOf_1 : List UInt8 := [158, 0, 7, 9, 167, 0, 8, 42, 27, 182, 0, 202, 173]
abbrev dktX3_squaresOf_1 : List UInt8 := dkwX3_squaresOf_1 ++ []
def dkwX3_squaresOf_0 : List UInt8 := [42, 27, 3, 6, 184, 0, 42, 153, 0, 7, 3, 167, 0, 4, 4, 181, 0, 35, 42, 180, 0, 35]
abbrev dktX3_squaresOf_0 : List UInt8 := dkwX3_squaresOf_0 ++ dktX3_squaresOf_1
theorem dksX3_squaresOf_0 : cX3_squaresOf.data.toList.drop 0 = dktX3_squaresOf_0 := by decide +kernel
theorem dksX3_squaresOf_1 : cX3_squaresOf.data.toList.drop 22 = dktX3_squaresOf_1 := dk_seg dksX3_squaresOf_0 22 rfl rfl
theorem dX3_squaresOf_0 : decode cX3_squaresOf 0 = .ok (.aload_n 0, 1) := dk_42 (dk_at dksX3_squaresOf_0 0 rfl rfl)
theorem dX3_squaresOf_1 : decode cX3_squaresOf 1 = .ok (.iload_n 1, 1) := dk_27 (dk_at dksX3_squaresOf_0 1 rfl rfl)
theorem dX3_squaresOf_2 : decode cX3_squaresOf 2 = .ok (.iconst 0, 1) := dk_3 (dk_at dksX3_squaresOf_0 2 rfl rfl)
theorem dX3_squaresOf_3 : decode cX3_squaresOf 3 = .ok (.iconst 3, 1) := dk_6 (dk_at dksX3_squaresOf_0 3 rfl rfl)
theorem dX3_squaresOf_4 : decode cX3_squaresOf 4 = .ok (.invokestatic 42, 3) := dk_184 0 42 (dk_at dksX3_squaresOf_0 4 rfl rfl)
theorem dX3_squaresOf_7 : decode cX3_squaresOf 7 = .ok (.ifCond .eq 7, 3) := dk_153 0 7 (dk_at dksX3_squaresOf_0 7 rfl rfl)
theorem dX3_squaresOf_10 : decode cX3_squaresOf 10 = .ok (.iconst 0, 1) := dk_3 (dk_at dksX3_squaresOf_0 10 rfl rfl)
theorem dX3_squaresOf_11 : decode cX3_squaresOf 11 = .ok (.goto 4, 3) := dk_167 0 4 (dk_at dksX3_squaresOf_0 11 rfl rfl)
theorem dX3_squaresOf_14 : decode cX3_squaresOf 14 = .ok (.iconst 1, 1) := dk_4 (dk_at dksX3_squaresOf_0 14 rfl rfl)
theorem dX3_squaresOf_15 : decode cX3_squaresOf 15 = .ok (.putfield 35, 3) := dk_181 0 35 (dk_at dksX3_squaresOf_0 15 rfl rfl)
theorem dX3_squaresOf_18 : decode cX3_squaresOf 18 = .ok (.aload_n 0, 1) := dk_42 (dk_at dksX3_squaresOf_0 18 rfl rfl)
theorem dX3_squaresOf_19 : decode cX3_squaresOf 19 = .ok (.getfield 35, 3) := dk_180 0 35 (dk_at dksX3_squaresOf_0 19 rfl rfl)
theorem dX3_squaresOf_22 : decode cX3_squaresOf 22 = .ok (.ifCond .le 7, 3) := dk_158 0 7 (dk_at dksX3_squaresOf_1 0 rfl rfl)
theorem dX3_squaresOf_25 : decode cX3_squaresOf 25 = .ok (.lconst 0, 1) := dk_9 (dk_at dksX3_squaresOf_1 3 rfl rfl)
theorem dX3_squaresOf_26 : decode cX3_squaresOf 26 = .ok (.goto 8, 3) := dk_167 0 8 (dk_at dksX3_squaresOf_1 4 rfl rfl)
theorem dX3_squaresOf_29 : decode cX3_squaresOf 29 = .ok (.aload_n 0, 1) := dk_42 (dk_at dksX3_squaresOf_1 7 rfl rfl)
theorem dX3_squaresOf_30 : decode cX3_squaresOf 30 = .ok (.iload_n 1, 1) := dk_27 (dk_at dksX3_squaresOf_1 8 rfl rfl)
theorem dX3_squaresOf_31 : decode cX3_squaresOf 31 = .ok (.invokevirtual 202, 3) := dk_182 0 202 (dk_at dksX3_squaresOf_1 9 rfl rfl)
theorem dX3_squaresOf_34 : decode cX3_squaresOf 34 = .ok (.lreturn, 1) := dk_173 (dk_at dksX3_squaresOf_1 12 rfl rfl)
abbrev cX3_ofKind : ByteArray := prog_9_method_65_code
def yX3_ofKind : MethodName := ⟨RX3, "ofKind", "(I)J"⟩
def dkwX3_ofKind_1 : List UInt8 := [160, 0, 10, 10, 21, 4, 121, 167, 0, 4, 9, 129, 65, 132, 4, 1, 167, 255, 221, 32, 173]
abbrev dktX3_ofKind_1 : List UInt8 := dkwX3_ofKind_1 ++ []
def dkwX3_ofKind_0 : List UInt8 := [9, 65, 3, 54, 4, 21, 4, 16, 64, 162, 0, 34, 32, 42, 180, 0, 7, 16, 16, 21, 4, 96, 46, 27]
abbrev dktX3_ofKind_0 : List UInt8 := dkwX3_ofKind_0 ++ dktX3_ofKind_1
theorem dksX3_ofKind_0 : cX3_ofKind.data.toList.drop 0 = dktX3_ofKind_0 := by decide +kernel
theorem dksX3_ofKind_1 : cX3_ofKind.data.toList.drop 24 = dktX3_ofKind_1 := dk_seg dksX3_ofKind_0 24 rfl rfl
theorem dX3_ofKind_0 : decode cX3_ofKind 0 = .ok (.lconst 0, 1) := dk_9 (dk_at dksX3_ofKind_0 0 rfl rfl)
theorem dX3_ofKind_1 : decode cX3_ofKind 1 = .ok (.lstore_n 2, 1) := dk_65 (dk_at dksX3_ofKind_0 1 rfl rfl)
theorem dX3_ofKind_2 : decode cX3_ofKind 2 = .ok (.iconst 0, 1) := dk_3 (dk_at dksX3_ofKind_0 2 rfl rfl)
theorem dX3_ofKind_3 : decode cX3_ofKind 3 = .ok (.istore 4, 2) := dk_54 4 (dk_at dksX3_ofKind_0 3 rfl rfl)
theorem dX3_ofKind_5 : decode cX3_ofKind 5 = .ok (.iload 4, 2) := dk_21 4 (dk_at dksX3_ofKind_0 5 rfl rfl)
theorem dX3_ofKind_7 : decode cX3_ofKind 7 = .ok (.bipush 64, 2) := dk_16 64 (dk_at dksX3_ofKind_0 7 rfl rfl)
theorem dX3_ofKind_9 : decode cX3_ofKind 9 = .ok (.if_icmp .ge 34, 3) := dk_162 0 34 (dk_at dksX3_ofKind_0 9 rfl rfl)
theorem dX3_ofKind_12 : decode cX3_ofKind 12 = .ok (.lload_n 2, 1) := dk_32 (dk_at dksX3_ofKind_0 12 rfl rfl)
theorem dX3_ofKind_13 : decode cX3_ofKind 13 = .ok (.aload_n 0, 1) := dk_42 (dk_at dksX3_ofKind_0 13 rfl rfl)
theorem dX3_ofKind_14 : decode cX3_ofKind 14 = .ok (.getfield 7, 3) := dk_180 0 7 (dk_at dksX3_ofKind_0 14 rfl rfl)
theorem dX3_ofKind_17 : decode cX3_ofKind 17 = .ok (.bipush 16, 2) := dk_16 16 (dk_at dksX3_ofKind_0 17 rfl rfl)
theorem dX3_ofKind_19 : decode cX3_ofKind 19 = .ok (.iload 4, 2) := dk_21 4 (dk_at dksX3_ofKind_0 19 rfl rfl)
theorem dX3_ofKind_21 : decode cX3_ofKind 21 = .ok (.iadd, 1) := dk_96 (dk_at dksX3_ofKind_0 21 rfl rfl)
theorem dX3_ofKind_22 : decode cX3_ofKind 22 = .ok (.iaload, 1) := dk_46 (dk_at dksX3_ofKind_0 22 rfl rfl)
theorem dX3_ofKind_23 : decode cX3_ofKind 23 = .ok (.iload_n 1, 1) := dk_27 (dk_at dksX3_ofKind_0 23 rfl rfl)
theorem dX3_ofKind_24 : decode cX3_ofKind 24 = .ok (.if_icmp .ne 10, 3) := dk_160 0 10 (dk_at dksX3_ofKind_1 0 rfl rfl)
theorem dX3_ofKind_27 : decode cX3_ofKind 27 = .ok (.lconst 1, 1) := dk_10 (dk_at dksX3_ofKind_1 3 rfl rfl)
theorem dX3_ofKind_28 : decode cX3_ofKind 28 = .ok (.iload 4, 2) := dk_21 4 (dk_at dksX3_ofKind_1 4 rfl rfl)
theorem dX3_ofKind_30 : decode cX3_ofKind 30 = .ok (.lshl, 1) := dk_121 (dk_at dksX3_ofKind_1 6 rfl rfl)
theorem dX3_ofKind_31 : decode cX3_ofKind 31 = .ok (.goto 4, 3) := dk_167 0 4 (dk_at dksX3_ofKind_1 7 rfl rfl)
theorem dX3_ofKind_34 : decode cX3_ofKind 34 = .ok (.lconst 0, 1) := dk_9 (dk_at dksX3_ofKind_1 10 rfl rfl)
theorem dX3_ofKind_35 : decode cX3_ofKind 35 = .ok (.lor, 1) := dk_129 (dk_at dksX3_ofKind_1 11 rfl rfl)
theorem dX3_ofKind_36 : decode cX3_ofKind 36 = .ok (.lstore_n 2, 1) := dk_65 (dk_at dksX3_ofKind_1 12 rfl rfl)
theorem dX3_ofKind_37 : decode cX3_ofKind 37 = .ok (.iinc 4 1, 3) := dk_132 4 1 (dk_at dksX3_ofKind_1 13 rfl rfl)
theorem dX3_ofKind_40 : decode cX3_ofKind 40 = .ok (.goto (-35), 3) := dk_167 255 221 (dk_at dksX3_ofKind_1 16 rfl rfl)
theorem dX3_ofKind_43 : decode cX3_ofKind 43 = .ok (.lload_n 2, 1) := dk_32 (dk_at dksX3_ofKind_1 19 rfl rfl)
theorem dX3_ofKind_44 : decode cX3_ofKind 44 = .ok (.lreturn, 1) := dk_173 (dk_at dksX3_ofKind_1 20 rfl rfl)
abbrev cX3_volesOf : ByteArray := prog_9_method_67_code
def yX3_volesOf : MethodName := ⟨RX3, "volesOf", "(I)I"⟩
def dkwX3_volesOf_0 : List UInt8 := [42, 27, 182, 0, 199, 153, 0, 15, 42, 180, 0, 7, 16, 80, 27, 96, 46, 167, 0, 4, 3, 172]
abbrev dktX3_volesOf_0 : List UInt8 := dkwX3_volesOf_0 ++ []
theorem dksX3_volesOf_0 : cX3_volesOf.data.toList.drop 0 = dktX3_volesOf_0 := by decide +kernel
theorem dX3_volesOf_0 : decode cX3_volesOf 0 = .ok (.aload_n 0, 1) := dk_42 (dk_at dksX3_volesOf_0 0 rfl rfl)
theorem dX3_volesOf_1 : decode cX3_volesOf 1 = .ok (.iload_n 1, 1) := dk_27 (dk_at dksX3_volesOf_0 1 rfl rfl)
theorem dX3_volesOf_2 : decode cX3_volesOf 2 = .ok (.invokevirtual 199, 3) := dk_182 0 199 (dk_at dksX3_volesOf_0 2 rfl rfl)
theorem dX3_volesOf_5 : decode cX3_volesOf 5 = .ok (.ifCond .eq 15, 3) := dk_153 0 15 (dk_at dksX3_volesOf_0 5 rfl rfl)
theorem dX3_volesOf_8 : decode cX3_volesOf 8 = .ok (.aload_n 0, 1) := dk_42 (dk_at dksX3_volesOf_0 8 rfl rfl)
theorem dX3_volesOf_9 : decode cX3_volesOf 9 = .ok (.getfield 7, 3) := dk_180 0 7 (dk_at dksX3_volesOf_0 9 rfl rfl)
theorem dX3_volesOf_12 : decode cX3_volesOf 12 = .ok (.bipush 80, 2) := dk_16 80 (dk_at dksX3_volesOf_0 12 rfl rfl)
theorem dX3_volesOf_14 : decode cX3_volesOf 14 = .ok (.iload_n 1, 1) := dk_27 (dk_at dksX3_volesOf_0 14 rfl rfl)
theorem dX3_volesOf_15 : decode cX3_volesOf 15 = .ok (.iadd, 1) := dk_96 (dk_at dksX3_volesOf_0 15 rfl rfl)
theorem dX3_volesOf_16 : decode cX3_volesOf 16 = .ok (.iaload, 1) := dk_46 (dk_at dksX3_volesOf_0 16 rfl rfl)
theorem dX3_volesOf_17 : decode cX3_volesOf 17 = .ok (.goto 4, 3) := dk_167 0 4 (dk_at dksX3_volesOf_0 17 rfl rfl)
theorem dX3_volesOf_20 : decode cX3_volesOf 20 = .ok (.iconst 0, 1) := dk_3 (dk_at dksX3_volesOf_0 20 rfl rfl)
theorem dX3_volesOf_21 : decode cX3_volesOf 21 = .ok (.ireturn, 1) := dk_172 (dk_at dksX3_volesOf_0 21 rfl rfl)
abbrev cX3_voles : ByteArray := prog_9_method_69_code
def yX3_voles : MethodName := ⟨RX3, "voles", "()I"⟩
def dkwX3_voles_0 : List UInt8 := [42, 42, 182, 0, 205, 182, 0, 196, 172]
abbrev dktX3_voles_0 : List UInt8 := dkwX3_voles_0 ++ []
theorem dksX3_voles_0 : cX3_voles.data.toList.drop 0 = dktX3_voles_0 := by decide +kernel
theorem dX3_voles_0 : decode cX3_voles 0 = .ok (.aload_n 0, 1) := dk_42 (dk_at dksX3_voles_0 0 rfl rfl)
theorem dX3_voles_1 : decode cX3_voles 1 = .ok (.aload_n 0, 1) := dk_42 (dk_at dksX3_voles_0 1 rfl rfl)
theorem dX3_voles_2 : decode cX3_voles 2 = .ok (.invokevirtual 205, 3) := dk_182 0 205 (dk_at dksX3_voles_0 2 rfl rfl)
theorem dX3_voles_5 : decode cX3_voles 5 = .ok (.invokevirtual 196, 3) := dk_182 0 196 (dk_at dksX3_voles_0 5 rfl rfl)
theorem dX3_voles_8 : decode cX3_voles 8 = .ok (.ireturn, 1) := dk_172 (dk_at dksX3_voles_0 8 rfl rfl)
abbrev cX3_allVoles : ByteArray := prog_9_method_68_code
def yX3_allVoles : MethodName := ⟨RX3, "allVoles", "()I"⟩
def dkwX3_allVoles_1 : List UInt8 := [132, 2, 1, 167, 255, 235, 27, 172]
abbrev dktX3_allVoles_1 : List UInt8 := dkwX3_allVoles_1 ++ []
def dkwX3_allVoles_0 : List UInt8 := [3, 60, 3, 61, 28, 16, 64, 162, 0, 21, 27, 42, 180, 0, 7, 16, 80, 28, 96, 46, 96, 60]
abbrev dktX3_allVoles_0 : List UInt8 := dkwX3_allVoles_0 ++ dktX3_allVoles_1
theorem dksX3_allVoles_0 : cX3_allVoles.data.toList.drop 0 = dktX3_allVoles_0 := by decide +kernel
theorem dksX3_allVoles_1 : cX3_allVoles.data.toList.drop 22 = dktX3_allVoles_1 := dk_seg dksX3_allVoles_0 22 rfl rfl
theorem dX3_allVoles_0 : decode cX3_allVoles 0 = .ok (.iconst 0, 1) := dk_3 (dk_at dksX3_allVoles_0 0 rfl rfl)
theorem dX3_allVoles_1 : decode cX3_allVoles 1 = .ok (.istore_n 1, 1) := dk_60 (dk_at dksX3_allVoles_0 1 rfl rfl)
theorem dX3_allVoles_2 : decode cX3_allVoles 2 = .ok (.iconst 0, 1) := dk_3 (dk_at dksX3_allVoles_0 2 rfl rfl)
theorem dX3_allVoles_3 : decode cX3_allVoles 3 = .ok (.istore_n 2, 1) := dk_61 (dk_at dksX3_allVoles_0 3 rfl rfl)
theorem dX3_allVoles_4 : decode cX3_allVoles 4 = .ok (.iload_n 2, 1) := dk_28 (dk_at dksX3_allVoles_0 4 rfl rfl)
theorem dX3_allVoles_5 : decode cX3_allVoles 5 = .ok (.bipush 64, 2) := dk_16 64 (dk_at dksX3_allVoles_0 5 rfl rfl)
theorem dX3_allVoles_7 : decode cX3_allVoles 7 = .ok (.if_icmp .ge 21, 3) := dk_162 0 21 (dk_at dksX3_allVoles_0 7 rfl rfl)
theorem dX3_allVoles_10 : decode cX3_allVoles 10 = .ok (.iload_n 1, 1) := dk_27 (dk_at dksX3_allVoles_0 10 rfl rfl)
theorem dX3_allVoles_11 : decode cX3_allVoles 11 = .ok (.aload_n 0, 1) := dk_42 (dk_at dksX3_allVoles_0 11 rfl rfl)
theorem dX3_allVoles_12 : decode cX3_allVoles 12 = .ok (.getfield 7, 3) := dk_180 0 7 (dk_at dksX3_allVoles_0 12 rfl rfl)
theorem dX3_allVoles_15 : decode cX3_allVoles 15 = .ok (.bipush 80, 2) := dk_16 80 (dk_at dksX3_allVoles_0 15 rfl rfl)
theorem dX3_allVoles_17 : decode cX3_allVoles 17 = .ok (.iload_n 2, 1) := dk_28 (dk_at dksX3_allVoles_0 17 rfl rfl)
theorem dX3_allVoles_18 : decode cX3_allVoles 18 = .ok (.iadd, 1) := dk_96 (dk_at dksX3_allVoles_0 18 rfl rfl)
theorem dX3_allVoles_19 : decode cX3_allVoles 19 = .ok (.iaload, 1) := dk_46 (dk_at dksX3_allVoles_0 19 rfl rfl)
theorem dX3_allVoles_20 : decode cX3_allVoles 20 = .ok (.iadd, 1) := dk_96 (dk_at dksX3_allVoles_0 20 rfl rfl)
theorem dX3_allVoles_21 : decode cX3_allVoles 21 = .ok (.istore_n 1, 1) := dk_60 (dk_at dksX3_allVoles_0 21 rfl rfl)
theorem dX3_allVoles_22 : decode cX3_allVoles 22 = .ok (.iinc 2 1, 3) := dk_132 2 1 (dk_at dksX3_allVoles_1 0 rfl rfl)
theorem dX3_allVoles_25 : decode cX3_allVoles 25 = .ok (.goto (-21), 3) := dk_167 255 235 (dk_at dksX3_allVoles_1 3 rfl rfl)
theorem dX3_allVoles_28 : decode cX3_allVoles 28 = .ok (.iload_n 1, 1) := dk_27 (dk_at dksX3_allVoles_1 6 rfl rfl)
theorem dX3_allVoles_29 : decode cX3_allVoles 29 = .ok (.ireturn, 1) := dk_172 (dk_at dksX3_allVoles_1 7 rfl rfl)
abbrev cX3_volesNext : ByteArray := prog_9_method_70_code
def yX3_volesNext : MethodName := ⟨RX3, "volesNext", "(I)I"⟩
def dkwX3_volesNext_0 : List UInt8 := [42, 27, 182, 0, 199, 153, 0, 11, 42, 27, 182, 0, 169, 167, 0, 4, 3, 172]
abbrev dktX3_volesNext_0 : List UInt8 := dkwX3_volesNext_0 ++ []
theorem dksX3_volesNext_0 : cX3_volesNext.data.toList.drop 0 = dktX3_volesNext_0 := by decide +kernel
theorem dX3_volesNext_0 : decode cX3_volesNext 0 = .ok (.aload_n 0, 1) := dk_42 (dk_at dksX3_volesNext_0 0 rfl rfl)
theorem dX3_volesNext_1 : decode cX3_volesNext 1 = .ok (.iload_n 1, 1) := dk_27 (dk_at dksX3_volesNext_0 1 rfl rfl)
theorem dX3_volesNext_2 : decode cX3_volesNext 2 = .ok (.invokevirtual 199, 3) := dk_182 0 199 (dk_at dksX3_volesNext_0 2 rfl rfl)
theorem dX3_volesNext_5 : decode cX3_volesNext 5 = .ok (.ifCond .eq 11, 3) := dk_153 0 11 (dk_at dksX3_volesNext_0 5 rfl rfl)
theorem dX3_volesNext_8 : decode cX3_volesNext 8 = .ok (.aload_n 0, 1) := dk_42 (dk_at dksX3_volesNext_0 8 rfl rfl)
theorem dX3_volesNext_9 : decode cX3_volesNext 9 = .ok (.iload_n 1, 1) := dk_27 (dk_at dksX3_volesNext_0 9 rfl rfl)
theorem dX3_volesNext_10 : decode cX3_volesNext 10 = .ok (.invokevirtual 169, 3) := dk_182 0 169 (dk_at dksX3_volesNext_0 10 rfl rfl)
theorem dX3_volesNext_13 : decode cX3_volesNext 13 = .ok (.goto 4, 3) := dk_167 0 4 (dk_at dksX3_volesNext_0 13 rfl rfl)
theorem dX3_volesNext_16 : decode cX3_volesNext 16 = .ok (.iconst 0, 1) := dk_3 (dk_at dksX3_volesNext_0 16 rfl rfl)
theorem dX3_volesNext_17 : decode cX3_volesNext 17 = .ok (.ireturn, 1) := dk_172 (dk_at dksX3_volesNext_0 17 rfl rfl)
abbrev cX3_distance : ByteArray := prog_9_method_71_code
def yX3_distance : MethodName := ⟨RX3, "distance", "(II)I"⟩
def dkwX3_distance_1 : List UInt8 := [180, 0, 35, 158, 0, 7, 3, 167, 0, 8, 27, 28, 184, 0, 54, 172]
abbrev dktX3_distance_1 : List UInt8 := dkwX3_distance_1 ++ []
def dkwX3_distance_0 : List UInt8 := [42, 27, 184, 0, 73, 153, 0, 14, 28, 184, 0, 73, 153, 0, 7, 3, 167, 0, 4, 4, 181, 0, 35, 42]
abbrev dktX3_distance_0 : List UInt8 := dkwX3_distance_0 ++ dktX3_distance_1
theorem dksX3_distance_0 : cX3_distance.data.toList.drop 0 = dktX3_distance_0 := by decide +kernel
theorem dksX3_distance_1 : cX3_distance.data.toList.drop 24 = dktX3_distance_1 := dk_seg dksX3_distance_0 24 rfl rfl
theorem dX3_distance_0 : decode cX3_distance 0 = .ok (.aload_n 0, 1) := dk_42 (dk_at dksX3_distance_0 0 rfl rfl)
theorem dX3_distance_1 : decode cX3_distance 1 = .ok (.iload_n 1, 1) := dk_27 (dk_at dksX3_distance_0 1 rfl rfl)
theorem dX3_distance_2 : decode cX3_distance 2 = .ok (.invokestatic 73, 3) := dk_184 0 73 (dk_at dksX3_distance_0 2 rfl rfl)
theorem dX3_distance_5 : decode cX3_distance 5 = .ok (.ifCond .eq 14, 3) := dk_153 0 14 (dk_at dksX3_distance_0 5 rfl rfl)
theorem dX3_distance_8 : decode cX3_distance 8 = .ok (.iload_n 2, 1) := dk_28 (dk_at dksX3_distance_0 8 rfl rfl)
theorem dX3_distance_9 : decode cX3_distance 9 = .ok (.invokestatic 73, 3) := dk_184 0 73 (dk_at dksX3_distance_0 9 rfl rfl)
theorem dX3_distance_12 : decode cX3_distance 12 = .ok (.ifCond .eq 7, 3) := dk_153 0 7 (dk_at dksX3_distance_0 12 rfl rfl)
theorem dX3_distance_15 : decode cX3_distance 15 = .ok (.iconst 0, 1) := dk_3 (dk_at dksX3_distance_0 15 rfl rfl)
theorem dX3_distance_16 : decode cX3_distance 16 = .ok (.goto 4, 3) := dk_167 0 4 (dk_at dksX3_distance_0 16 rfl rfl)
theorem dX3_distance_19 : decode cX3_distance 19 = .ok (.iconst 1, 1) := dk_4 (dk_at dksX3_distance_0 19 rfl rfl)
theorem dX3_distance_20 : decode cX3_distance 20 = .ok (.putfield 35, 3) := dk_181 0 35 (dk_at dksX3_distance_0 20 rfl rfl)
theorem dX3_distance_23 : decode cX3_distance 23 = .ok (.aload_n 0, 1) := dk_42 (dk_at dksX3_distance_0 23 rfl rfl)
theorem dX3_distance_24 : decode cX3_distance 24 = .ok (.getfield 35, 3) := dk_180 0 35 (dk_at dksX3_distance_1 0 rfl rfl)
theorem dX3_distance_27 : decode cX3_distance 27 = .ok (.ifCond .le 7, 3) := dk_158 0 7 (dk_at dksX3_distance_1 3 rfl rfl)
theorem dX3_distance_30 : decode cX3_distance 30 = .ok (.iconst 0, 1) := dk_3 (dk_at dksX3_distance_1 6 rfl rfl)
theorem dX3_distance_31 : decode cX3_distance 31 = .ok (.goto 8, 3) := dk_167 0 8 (dk_at dksX3_distance_1 7 rfl rfl)
theorem dX3_distance_34 : decode cX3_distance 34 = .ok (.iload_n 1, 1) := dk_27 (dk_at dksX3_distance_1 10 rfl rfl)
theorem dX3_distance_35 : decode cX3_distance 35 = .ok (.iload_n 2, 1) := dk_28 (dk_at dksX3_distance_1 11 rfl rfl)
theorem dX3_distance_36 : decode cX3_distance 36 = .ok (.invokestatic 54, 3) := dk_184 0 54 (dk_at dksX3_distance_1 12 rfl rfl)
theorem dX3_distance_39 : decode cX3_distance 39 = .ok (.ireturn, 1) := dk_172 (dk_at dksX3_distance_1 15 rfl rfl)
abbrev cX3_chances : ByteArray := prog_9_method_72_code
def yX3_chances : MethodName := ⟨RX3, "chances", "()I"⟩
def dkwX3_chances_0 : List UInt8 := [42, 42, 180, 0, 7, 4, 46, 182, 0, 196, 172]
abbrev dktX3_chances_0 : List UInt8 := dkwX3_chances_0 ++ []
theorem dksX3_chances_0 : cX3_chances.data.toList.drop 0 = dktX3_chances_0 := by decide +kernel
theorem dX3_chances_0 : decode cX3_chances 0 = .ok (.aload_n 0, 1) := dk_42 (dk_at dksX3_chances_0 0 rfl rfl)
theorem dX3_chances_1 : decode cX3_chances 1 = .ok (.aload_n 0, 1) := dk_42 (dk_at dksX3_chances_0 1 rfl rfl)
theorem dX3_chances_2 : decode cX3_chances 2 = .ok (.getfield 7, 3) := dk_180 0 7 (dk_at dksX3_chances_0 2 rfl rfl)
theorem dX3_chances_5 : decode cX3_chances 5 = .ok (.iconst 1, 1) := dk_4 (dk_at dksX3_chances_0 5 rfl rfl)
theorem dX3_chances_6 : decode cX3_chances 6 = .ok (.iaload, 1) := dk_46 (dk_at dksX3_chances_0 6 rfl rfl)
theorem dX3_chances_7 : decode cX3_chances 7 = .ok (.invokevirtual 196, 3) := dk_182 0 196 (dk_at dksX3_chances_0 7 rfl rfl)
theorem dX3_chances_10 : decode cX3_chances 10 = .ok (.ireturn, 1) := dk_172 (dk_at dksX3_chances_0 10 rfl rfl)
abbrev cX3_boxes : ByteArray := prog_9_method_73_code
def yX3_boxes : MethodName := ⟨RX3, "boxes", "()I"⟩
def dkwX3_boxes_0 : List UInt8 := [42, 42, 180, 0, 7, 5, 46, 182, 0, 196, 172]
abbrev dktX3_boxes_0 : List UInt8 := dkwX3_boxes_0 ++ []
theorem dksX3_boxes_0 : cX3_boxes.data.toList.drop 0 = dktX3_boxes_0 := by decide +kernel
theorem dX3_boxes_0 : decode cX3_boxes 0 = .ok (.aload_n 0, 1) := dk_42 (dk_at dksX3_boxes_0 0 rfl rfl)
theorem dX3_boxes_1 : decode cX3_boxes 1 = .ok (.aload_n 0, 1) := dk_42 (dk_at dksX3_boxes_0 1 rfl rfl)
theorem dX3_boxes_2 : decode cX3_boxes 2 = .ok (.getfield 7, 3) := dk_180 0 7 (dk_at dksX3_boxes_0 2 rfl rfl)
theorem dX3_boxes_5 : decode cX3_boxes 5 = .ok (.iconst 2, 1) := dk_5 (dk_at dksX3_boxes_0 5 rfl rfl)
theorem dX3_boxes_6 : decode cX3_boxes 6 = .ok (.iaload, 1) := dk_46 (dk_at dksX3_boxes_0 6 rfl rfl)
theorem dX3_boxes_7 : decode cX3_boxes 7 = .ok (.invokevirtual 196, 3) := dk_182 0 196 (dk_at dksX3_boxes_0 7 rfl rfl)
theorem dX3_boxes_10 : decode cX3_boxes 10 = .ok (.ireturn, 1) := dk_172 (dk_at dksX3_boxes_0 10 rfl rfl)
abbrev cX3_squareOf : ByteArray := prog_9_method_74_code
def yX3_squareOf : MethodName := ⟨RX3, "squareOf", "(I)I"⟩
def dkwX3_squareOf_0 : List UInt8 := [42, 27, 182, 0, 126, 153, 0, 16, 42, 180, 0, 7, 17, 0, 144, 27, 96, 46, 167, 0, 4, 3, 172]
abbrev dktX3_squareOf_0 : List UInt8 := dkwX3_squareOf_0 ++ []
theorem dksX3_squareOf_0 : cX3_squareOf.data.toList.drop 0 = dktX3_squareOf_0 := by decide +kernel
theorem dX3_squareOf_0 : decode cX3_squareOf 0 = .ok (.aload_n 0, 1) := dk_42 (dk_at dksX3_squareOf_0 0 rfl rfl)
theorem dX3_squareOf_1 : decode cX3_squareOf 1 = .ok (.iload_n 1, 1) := dk_27 (dk_at dksX3_squareOf_0 1 rfl rfl)
theorem dX3_squareOf_2 : decode cX3_squareOf 2 = .ok (.invokevirtual 126, 3) := dk_182 0 126 (dk_at dksX3_squareOf_0 2 rfl rfl)
theorem dX3_squareOf_5 : decode cX3_squareOf 5 = .ok (.ifCond .eq 16, 3) := dk_153 0 16 (dk_at dksX3_squareOf_0 5 rfl rfl)
theorem dX3_squareOf_8 : decode cX3_squareOf 8 = .ok (.aload_n 0, 1) := dk_42 (dk_at dksX3_squareOf_0 8 rfl rfl)
theorem dX3_squareOf_9 : decode cX3_squareOf 9 = .ok (.getfield 7, 3) := dk_180 0 7 (dk_at dksX3_squareOf_0 9 rfl rfl)
theorem dX3_squareOf_12 : decode cX3_squareOf 12 = .ok (.sipush 144, 3) := dk_17 0 144 (dk_at dksX3_squareOf_0 12 rfl rfl)
theorem dX3_squareOf_15 : decode cX3_squareOf 15 = .ok (.iload_n 1, 1) := dk_27 (dk_at dksX3_squareOf_0 15 rfl rfl)
theorem dX3_squareOf_16 : decode cX3_squareOf 16 = .ok (.iadd, 1) := dk_96 (dk_at dksX3_squareOf_0 16 rfl rfl)
theorem dX3_squareOf_17 : decode cX3_squareOf 17 = .ok (.iaload, 1) := dk_46 (dk_at dksX3_squareOf_0 17 rfl rfl)
theorem dX3_squareOf_18 : decode cX3_squareOf 18 = .ok (.goto 4, 3) := dk_167 0 4 (dk_at dksX3_squareOf_0 18 rfl rfl)
theorem dX3_squareOf_21 : decode cX3_squareOf 21 = .ok (.iconst 0, 1) := dk_3 (dk_at dksX3_squareOf_0 21 rfl rfl)
theorem dX3_squareOf_22 : decode cX3_squareOf 22 = .ok (.ireturn, 1) := dk_172 (dk_at dksX3_squareOf_0 22 rfl rfl)
abbrev cX3_rangeOf : ByteArray := prog_9_method_75_code
def yX3_rangeOf : MethodName := ⟨RX3, "rangeOf", "(I)J"⟩
def dkwX3_rangeOf_1 : List UInt8 := [167, 0, 4, 9, 173]
abbrev dktX3_rangeOf_1 : List UInt8 := dkwX3_rangeOf_1 ++ []
def dkwX3_rangeOf_0 : List UInt8 := [42, 27, 182, 0, 126, 153, 0, 20, 42, 42, 180, 0, 7, 17, 0, 144, 27, 96, 46, 182, 0, 66]
abbrev dktX3_rangeOf_0 : List UInt8 := dkwX3_rangeOf_0 ++ dktX3_rangeOf_1
theorem dksX3_rangeOf_0 : cX3_rangeOf.data.toList.drop 0 = dktX3_rangeOf_0 := by decide +kernel
theorem dksX3_rangeOf_1 : cX3_rangeOf.data.toList.drop 22 = dktX3_rangeOf_1 := dk_seg dksX3_rangeOf_0 22 rfl rfl
theorem dX3_rangeOf_0 : decode cX3_rangeOf 0 = .ok (.aload_n 0, 1) := dk_42 (dk_at dksX3_rangeOf_0 0 rfl rfl)
theorem dX3_rangeOf_1 : decode cX3_rangeOf 1 = .ok (.iload_n 1, 1) := dk_27 (dk_at dksX3_rangeOf_0 1 rfl rfl)
theorem dX3_rangeOf_2 : decode cX3_rangeOf 2 = .ok (.invokevirtual 126, 3) := dk_182 0 126 (dk_at dksX3_rangeOf_0 2 rfl rfl)
theorem dX3_rangeOf_5 : decode cX3_rangeOf 5 = .ok (.ifCond .eq 20, 3) := dk_153 0 20 (dk_at dksX3_rangeOf_0 5 rfl rfl)
theorem dX3_rangeOf_8 : decode cX3_rangeOf 8 = .ok (.aload_n 0, 1) := dk_42 (dk_at dksX3_rangeOf_0 8 rfl rfl)
theorem dX3_rangeOf_9 : decode cX3_rangeOf 9 = .ok (.aload_n 0, 1) := dk_42 (dk_at dksX3_rangeOf_0 9 rfl rfl)
theorem dX3_rangeOf_10 : decode cX3_rangeOf 10 = .ok (.getfield 7, 3) := dk_180 0 7 (dk_at dksX3_rangeOf_0 10 rfl rfl)
theorem dX3_rangeOf_13 : decode cX3_rangeOf 13 = .ok (.sipush 144, 3) := dk_17 0 144 (dk_at dksX3_rangeOf_0 13 rfl rfl)
theorem dX3_rangeOf_16 : decode cX3_rangeOf 16 = .ok (.iload_n 1, 1) := dk_27 (dk_at dksX3_rangeOf_0 16 rfl rfl)
theorem dX3_rangeOf_17 : decode cX3_rangeOf 17 = .ok (.iadd, 1) := dk_96 (dk_at dksX3_rangeOf_0 17 rfl rfl)
theorem dX3_rangeOf_18 : decode cX3_rangeOf 18 = .ok (.iaload, 1) := dk_46 (dk_at dksX3_rangeOf_0 18 rfl rfl)
theorem dX3_rangeOf_19 : decode cX3_rangeOf 19 = .ok (.invokevirtual 66, 3) := dk_182 0 66 (dk_at dksX3_rangeOf_0 19 rfl rfl)
theorem dX3_rangeOf_22 : decode cX3_rangeOf 22 = .ok (.goto 4, 3) := dk_167 0 4 (dk_at dksX3_rangeOf_1 0 rfl rfl)
theorem dX3_rangeOf_25 : decode cX3_rangeOf 25 = .ok (.lconst 0, 1) := dk_9 (dk_at dksX3_rangeOf_1 3 rfl rfl)
theorem dX3_rangeOf_26 : decode cX3_rangeOf 26 = .ok (.lreturn, 1) := dk_173 (dk_at dksX3_rangeOf_1 4 rfl rfl)
abbrev cX3_rangeByJoining : ByteArray := prog_9_method_76_code
def yX3_rangeByJoining : MethodName := ⟨RX3, "rangeByJoining", "(I)J"⟩
def dkwX3_rangeByJoining_1 : List UInt8 := [167, 0, 4, 9, 173]
abbrev dktX3_rangeByJoining_1 : List UInt8 := dkwX3_rangeByJoining_1 ++ []
def dkwX3_rangeByJoining_0 : List UInt8 := [42, 27, 182, 0, 126, 153, 0, 20, 42, 42, 180, 0, 7, 17, 0, 144, 27, 96, 46, 182, 0, 66]
abbrev dktX3_rangeByJoining_0 : List UInt8 := dkwX3_rangeByJoining_0 ++ dktX3_rangeByJoining_1
theorem dksX3_rangeByJoining_0 : cX3_rangeByJoining.data.toList.drop 0 = dktX3_rangeByJoining_0 := by decide +kernel
theorem dksX3_rangeByJoining_1 : cX3_rangeByJoining.data.toList.drop 22 = dktX3_rangeByJoining_1 := dk_seg dksX3_rangeByJoining_0 22 rfl rfl
theorem dX3_rangeByJoining_0 : decode cX3_rangeByJoining 0 = .ok (.aload_n 0, 1) := dk_42 (dk_at dksX3_rangeByJoining_0 0 rfl rfl)
theorem dX3_rangeByJoining_1 : decode cX3_rangeByJoining 1 = .ok (.iload_n 1, 1) := dk_27 (dk_at dksX3_rangeByJoining_0 1 rfl rfl)
theorem dX3_rangeByJoining_2 : decode cX3_rangeByJoining 2 = .ok (.invokevirtual 126, 3) := dk_182 0 126 (dk_at dksX3_rangeByJoining_0 2 rfl rfl)
theorem dX3_rangeByJoining_5 : decode cX3_rangeByJoining 5 = .ok (.ifCond .eq 20, 3) := dk_153 0 20 (dk_at dksX3_rangeByJoining_0 5 rfl rfl)
theorem dX3_rangeByJoining_8 : decode cX3_rangeByJoining 8 = .ok (.aload_n 0, 1) := dk_42 (dk_at dksX3_rangeByJoining_0 8 rfl rfl)
theorem dX3_rangeByJoining_9 : decode cX3_rangeByJoining 9 = .ok (.aload_n 0, 1) := dk_42 (dk_at dksX3_rangeByJoining_0 9 rfl rfl)
theorem dX3_rangeByJoining_10 : decode cX3_rangeByJoining 10 = .ok (.getfield 7, 3) := dk_180 0 7 (dk_at dksX3_rangeByJoining_0 10 rfl rfl)
theorem dX3_rangeByJoining_13 : decode cX3_rangeByJoining 13 = .ok (.sipush 144, 3) := dk_17 0 144 (dk_at dksX3_rangeByJoining_0 13 rfl rfl)
theorem dX3_rangeByJoining_16 : decode cX3_rangeByJoining 16 = .ok (.iload_n 1, 1) := dk_27 (dk_at dksX3_rangeByJoining_0 16 rfl rfl)
theorem dX3_rangeByJoining_17 : decode cX3_rangeByJoining 17 = .ok (.iadd, 1) := dk_96 (dk_at dksX3_rangeByJoining_0 17 rfl rfl)
theorem dX3_rangeByJoining_18 : decode cX3_rangeByJoining 18 = .ok (.iaload, 1) := dk_46 (dk_at dksX3_rangeByJoining_0 18 rfl rfl)
theorem dX3_rangeByJoining_19 : decode cX3_rangeByJoining 19 = .ok (.invokevirtual 66, 3) := dk_182 0 66 (dk_at dksX3_rangeByJoining_0 19 rfl rfl)
theorem dX3_rangeByJoining_22 : decode cX3_rangeByJoining 22 = .ok (.goto 4, 3) := dk_167 0 4 (dk_at dksX3_rangeByJoining_1 0 rfl rfl)
theorem dX3_rangeByJoining_25 : decode cX3_rangeByJoining 25 = .ok (.lconst 0, 1) := dk_9 (dk_at dksX3_rangeByJoining_1 3 rfl rfl)
theorem dX3_rangeByJoining_26 : decode cX3_rangeByJoining 26 = .ok (.lreturn, 1) := dk_173 (dk_at dksX3_rangeByJoining_1 4 rfl rfl)
abbrev cX3_shareOf : ByteArray := prog_9_method_77_code
def yX3_shareOf : MethodName := ⟨RX3, "shareOf", "(I)I"⟩
def dkwX3_shareOf_0 : List UInt8 := [42, 182, 0, 166, 42, 27, 182, 0, 126, 153, 0, 11, 42, 27, 182, 0, 146, 167, 0, 4, 3, 172]
abbrev dktX3_shareOf_0 : List UInt8 := dkwX3_shareOf_0 ++ []
theorem dksX3_shareOf_0 : cX3_shareOf.data.toList.drop 0 = dktX3_shareOf_0 := by decide +kernel
theorem dX3_shareOf_0 : decode cX3_shareOf 0 = .ok (.aload_n 0, 1) := dk_42 (dk_at dksX3_shareOf_0 0 rfl rfl)
theorem dX3_shareOf_1 : decode cX3_shareOf 1 = .ok (.invokevirtual 166, 3) := dk_182 0 166 (dk_at dksX3_shareOf_0 1 rfl rfl)
theorem dX3_shareOf_4 : decode cX3_shareOf 4 = .ok (.aload_n 0, 1) := dk_42 (dk_at dksX3_shareOf_0 4 rfl rfl)
theorem dX3_shareOf_5 : decode cX3_shareOf 5 = .ok (.iload_n 1, 1) := dk_27 (dk_at dksX3_shareOf_0 5 rfl rfl)
theorem dX3_shareOf_6 : decode cX3_shareOf 6 = .ok (.invokevirtual 126, 3) := dk_182 0 126 (dk_at dksX3_shareOf_0 6 rfl rfl)
theorem dX3_shareOf_9 : decode cX3_shareOf 9 = .ok (.ifCond .eq 11, 3) := dk_153 0 11 (dk_at dksX3_shareOf_0 9 rfl rfl)
theorem dX3_shareOf_12 : decode cX3_shareOf 12 = .ok (.aload_n 0, 1) := dk_42 (dk_at dksX3_shareOf_0 12 rfl rfl)
theorem dX3_shareOf_13 : decode cX3_shareOf 13 = .ok (.iload_n 1, 1) := dk_27 (dk_at dksX3_shareOf_0 13 rfl rfl)
theorem dX3_shareOf_14 : decode cX3_shareOf 14 = .ok (.invokevirtual 146, 3) := dk_182 0 146 (dk_at dksX3_shareOf_0 14 rfl rfl)
theorem dX3_shareOf_17 : decode cX3_shareOf 17 = .ok (.goto 4, 3) := dk_167 0 4 (dk_at dksX3_shareOf_0 17 rfl rfl)
theorem dX3_shareOf_20 : decode cX3_shareOf 20 = .ok (.iconst 0, 1) := dk_3 (dk_at dksX3_shareOf_0 20 rfl rfl)
theorem dX3_shareOf_21 : decode cX3_shareOf 21 = .ok (.ireturn, 1) := dk_172 (dk_at dksX3_shareOf_0 21 rfl rfl)
abbrev cX3_crowdOf : ByteArray := prog_9_method_78_code
def yX3_crowdOf : MethodName := ⟨RX3, "crowdOf", "(I)I"⟩
def dkwX3_crowdOf_0 : List UInt8 := [42, 182, 0, 166, 42, 27, 182, 0, 199, 153, 0, 11, 42, 27, 182, 0, 110, 167, 0, 4, 3, 172]
abbrev dktX3_crowdOf_0 : List UInt8 := dkwX3_crowdOf_0 ++ []
theorem dksX3_crowdOf_0 : cX3_crowdOf.data.toList.drop 0 = dktX3_crowdOf_0 := by decide +kernel
theorem dX3_crowdOf_0 : decode cX3_crowdOf 0 = .ok (.aload_n 0, 1) := dk_42 (dk_at dksX3_crowdOf_0 0 rfl rfl)
theorem dX3_crowdOf_1 : decode cX3_crowdOf 1 = .ok (.invokevirtual 166, 3) := dk_182 0 166 (dk_at dksX3_crowdOf_0 1 rfl rfl)
theorem dX3_crowdOf_4 : decode cX3_crowdOf 4 = .ok (.aload_n 0, 1) := dk_42 (dk_at dksX3_crowdOf_0 4 rfl rfl)
theorem dX3_crowdOf_5 : decode cX3_crowdOf 5 = .ok (.iload_n 1, 1) := dk_27 (dk_at dksX3_crowdOf_0 5 rfl rfl)
theorem dX3_crowdOf_6 : decode cX3_crowdOf 6 = .ok (.invokevirtual 199, 3) := dk_182 0 199 (dk_at dksX3_crowdOf_0 6 rfl rfl)
theorem dX3_crowdOf_9 : decode cX3_crowdOf 9 = .ok (.ifCond .eq 11, 3) := dk_153 0 11 (dk_at dksX3_crowdOf_0 9 rfl rfl)
theorem dX3_crowdOf_12 : decode cX3_crowdOf 12 = .ok (.aload_n 0, 1) := dk_42 (dk_at dksX3_crowdOf_0 12 rfl rfl)
theorem dX3_crowdOf_13 : decode cX3_crowdOf 13 = .ok (.iload_n 1, 1) := dk_27 (dk_at dksX3_crowdOf_0 13 rfl rfl)
theorem dX3_crowdOf_14 : decode cX3_crowdOf 14 = .ok (.invokevirtual 110, 3) := dk_182 0 110 (dk_at dksX3_crowdOf_0 14 rfl rfl)
theorem dX3_crowdOf_17 : decode cX3_crowdOf 17 = .ok (.goto 4, 3) := dk_167 0 4 (dk_at dksX3_crowdOf_0 17 rfl rfl)
theorem dX3_crowdOf_20 : decode cX3_crowdOf 20 = .ok (.iconst 0, 1) := dk_3 (dk_at dksX3_crowdOf_0 20 rfl rfl)
theorem dX3_crowdOf_21 : decode cX3_crowdOf 21 = .ok (.ireturn, 1) := dk_172 (dk_at dksX3_crowdOf_0 21 rfl rfl)
abbrev cX3_riskOf : ByteArray := prog_9_method_79_code
def yX3_riskOf : MethodName := ⟨RX3, "riskOf", "(I)I"⟩
def dkwX3_riskOf_0 : List UInt8 := [42, 27, 182, 0, 126, 153, 0, 11, 42, 27, 182, 0, 156, 167, 0, 4, 3, 172]
abbrev dktX3_riskOf_0 : List UInt8 := dkwX3_riskOf_0 ++ []
theorem dksX3_riskOf_0 : cX3_riskOf.data.toList.drop 0 = dktX3_riskOf_0 := by decide +kernel
theorem dX3_riskOf_0 : decode cX3_riskOf 0 = .ok (.aload_n 0, 1) := dk_42 (dk_at dksX3_riskOf_0 0 rfl rfl)
theorem dX3_riskOf_1 : decode cX3_riskOf 1 = .ok (.iload_n 1, 1) := dk_27 (dk_at dksX3_riskOf_0 1 rfl rfl)
theorem dX3_riskOf_2 : decode cX3_riskOf 2 = .ok (.invokevirtual 126, 3) := dk_182 0 126 (dk_at dksX3_riskOf_0 2 rfl rfl)
theorem dX3_riskOf_5 : decode cX3_riskOf 5 = .ok (.ifCond .eq 11, 3) := dk_153 0 11 (dk_at dksX3_riskOf_0 5 rfl rfl)
theorem dX3_riskOf_8 : decode cX3_riskOf 8 = .ok (.aload_n 0, 1) := dk_42 (dk_at dksX3_riskOf_0 8 rfl rfl)
theorem dX3_riskOf_9 : decode cX3_riskOf 9 = .ok (.iload_n 1, 1) := dk_27 (dk_at dksX3_riskOf_0 9 rfl rfl)
theorem dX3_riskOf_10 : decode cX3_riskOf 10 = .ok (.invokevirtual 156, 3) := dk_182 0 156 (dk_at dksX3_riskOf_0 10 rfl rfl)
theorem dX3_riskOf_13 : decode cX3_riskOf 13 = .ok (.goto 4, 3) := dk_167 0 4 (dk_at dksX3_riskOf_0 13 rfl rfl)
theorem dX3_riskOf_16 : decode cX3_riskOf 16 = .ok (.iconst 0, 1) := dk_3 (dk_at dksX3_riskOf_0 16 rfl rfl)
theorem dX3_riskOf_17 : decode cX3_riskOf 17 = .ok (.ireturn, 1) := dk_172 (dk_at dksX3_riskOf_0 17 rfl rfl)
abbrev cX3_livesIn : ByteArray := prog_9_method_81_code
def yX3_livesIn : MethodName := ⟨RX3, "livesIn", "(II)I"⟩
def dkwX3_livesIn_1 : List UInt8 := [5, 181, 0, 35, 42, 180, 0, 35, 158, 0, 7, 3, 167, 0, 9, 42, 27, 28, 182, 0, 209, 172]
abbrev dktX3_livesIn_1 : List UInt8 := dkwX3_livesIn_1 ++ []
def dkwX3_livesIn_0 : List UInt8 := [42, 42, 27, 182, 0, 123, 154, 0, 7, 4, 167, 0, 15, 28, 184, 0, 133, 153, 0, 7, 3, 167, 0, 4]
abbrev dktX3_livesIn_0 : List UInt8 := dkwX3_livesIn_0 ++ dktX3_livesIn_1
theorem dksX3_livesIn_0 : cX3_livesIn.data.toList.drop 0 = dktX3_livesIn_0 := by decide +kernel
theorem dksX3_livesIn_1 : cX3_livesIn.data.toList.drop 24 = dktX3_livesIn_1 := dk_seg dksX3_livesIn_0 24 rfl rfl
theorem dX3_livesIn_0 : decode cX3_livesIn 0 = .ok (.aload_n 0, 1) := dk_42 (dk_at dksX3_livesIn_0 0 rfl rfl)
theorem dX3_livesIn_1 : decode cX3_livesIn 1 = .ok (.aload_n 0, 1) := dk_42 (dk_at dksX3_livesIn_0 1 rfl rfl)
theorem dX3_livesIn_2 : decode cX3_livesIn 2 = .ok (.iload_n 1, 1) := dk_27 (dk_at dksX3_livesIn_0 2 rfl rfl)
theorem dX3_livesIn_3 : decode cX3_livesIn 3 = .ok (.invokevirtual 123, 3) := dk_182 0 123 (dk_at dksX3_livesIn_0 3 rfl rfl)
theorem dX3_livesIn_6 : decode cX3_livesIn 6 = .ok (.ifCond .ne 7, 3) := dk_154 0 7 (dk_at dksX3_livesIn_0 6 rfl rfl)
theorem dX3_livesIn_9 : decode cX3_livesIn 9 = .ok (.iconst 1, 1) := dk_4 (dk_at dksX3_livesIn_0 9 rfl rfl)
theorem dX3_livesIn_10 : decode cX3_livesIn 10 = .ok (.goto 15, 3) := dk_167 0 15 (dk_at dksX3_livesIn_0 10 rfl rfl)
theorem dX3_livesIn_13 : decode cX3_livesIn 13 = .ok (.iload_n 2, 1) := dk_28 (dk_at dksX3_livesIn_0 13 rfl rfl)
theorem dX3_livesIn_14 : decode cX3_livesIn 14 = .ok (.invokestatic 133, 3) := dk_184 0 133 (dk_at dksX3_livesIn_0 14 rfl rfl)
theorem dX3_livesIn_17 : decode cX3_livesIn 17 = .ok (.ifCond .eq 7, 3) := dk_153 0 7 (dk_at dksX3_livesIn_0 17 rfl rfl)
theorem dX3_livesIn_20 : decode cX3_livesIn 20 = .ok (.iconst 0, 1) := dk_3 (dk_at dksX3_livesIn_0 20 rfl rfl)
theorem dX3_livesIn_21 : decode cX3_livesIn 21 = .ok (.goto 4, 3) := dk_167 0 4 (dk_at dksX3_livesIn_0 21 rfl rfl)
theorem dX3_livesIn_24 : decode cX3_livesIn 24 = .ok (.iconst 2, 1) := dk_5 (dk_at dksX3_livesIn_1 0 rfl rfl)
theorem dX3_livesIn_25 : decode cX3_livesIn 25 = .ok (.putfield 35, 3) := dk_181 0 35 (dk_at dksX3_livesIn_1 1 rfl rfl)
theorem dX3_livesIn_28 : decode cX3_livesIn 28 = .ok (.aload_n 0, 1) := dk_42 (dk_at dksX3_livesIn_1 4 rfl rfl)
theorem dX3_livesIn_29 : decode cX3_livesIn 29 = .ok (.getfield 35, 3) := dk_180 0 35 (dk_at dksX3_livesIn_1 5 rfl rfl)
theorem dX3_livesIn_32 : decode cX3_livesIn 32 = .ok (.ifCond .le 7, 3) := dk_158 0 7 (dk_at dksX3_livesIn_1 8 rfl rfl)
theorem dX3_livesIn_35 : decode cX3_livesIn 35 = .ok (.iconst 0, 1) := dk_3 (dk_at dksX3_livesIn_1 11 rfl rfl)
theorem dX3_livesIn_36 : decode cX3_livesIn 36 = .ok (.goto 9, 3) := dk_167 0 9 (dk_at dksX3_livesIn_1 12 rfl rfl)
theorem dX3_livesIn_39 : decode cX3_livesIn 39 = .ok (.aload_n 0, 1) := dk_42 (dk_at dksX3_livesIn_1 15 rfl rfl)
theorem dX3_livesIn_40 : decode cX3_livesIn 40 = .ok (.iload_n 1, 1) := dk_27 (dk_at dksX3_livesIn_1 16 rfl rfl)
theorem dX3_livesIn_41 : decode cX3_livesIn 41 = .ok (.iload_n 2, 1) := dk_28 (dk_at dksX3_livesIn_1 17 rfl rfl)
theorem dX3_livesIn_42 : decode cX3_livesIn 42 = .ok (.invokevirtual 209, 3) := dk_182 0 209 (dk_at dksX3_livesIn_1 18 rfl rfl)
theorem dX3_livesIn_45 : decode cX3_livesIn 45 = .ok (.ireturn, 1) := dk_172 (dk_at dksX3_livesIn_1 21 rfl rfl)
abbrev cX3_ringIn : ByteArray := prog_9_method_80_code
def yX3_ringIn : MethodName := ⟨RX3, "ringIn", "(II)I"⟩
def dkwX3_ringIn_0 : List UInt8 := [42, 27, 28, 182, 0, 96, 62, 29, 2, 160, 0, 7, 2, 167, 0, 9, 42, 29, 3, 182, 0, 93, 172]
abbrev dktX3_ringIn_0 : List UInt8 := dkwX3_ringIn_0 ++ []
theorem dksX3_ringIn_0 : cX3_ringIn.data.toList.drop 0 = dktX3_ringIn_0 := by decide +kernel
theorem dX3_ringIn_0 : decode cX3_ringIn 0 = .ok (.aload_n 0, 1) := dk_42 (dk_at dksX3_ringIn_0 0 rfl rfl)
theorem dX3_ringIn_1 : decode cX3_ringIn 1 = .ok (.iload_n 1, 1) := dk_27 (dk_at dksX3_ringIn_0 1 rfl rfl)
theorem dX3_ringIn_2 : decode cX3_ringIn 2 = .ok (.iload_n 2, 1) := dk_28 (dk_at dksX3_ringIn_0 2 rfl rfl)
theorem dX3_ringIn_3 : decode cX3_ringIn 3 = .ok (.invokevirtual 96, 3) := dk_182 0 96 (dk_at dksX3_ringIn_0 3 rfl rfl)
theorem dX3_ringIn_6 : decode cX3_ringIn 6 = .ok (.istore_n 3, 1) := dk_62 (dk_at dksX3_ringIn_0 6 rfl rfl)
theorem dX3_ringIn_7 : decode cX3_ringIn 7 = .ok (.iload_n 3, 1) := dk_29 (dk_at dksX3_ringIn_0 7 rfl rfl)
theorem dX3_ringIn_8 : decode cX3_ringIn 8 = .ok (.iconst (-1), 1) := dk_2 (dk_at dksX3_ringIn_0 8 rfl rfl)
theorem dX3_ringIn_9 : decode cX3_ringIn 9 = .ok (.if_icmp .ne 7, 3) := dk_160 0 7 (dk_at dksX3_ringIn_0 9 rfl rfl)
theorem dX3_ringIn_12 : decode cX3_ringIn 12 = .ok (.iconst (-1), 1) := dk_2 (dk_at dksX3_ringIn_0 12 rfl rfl)
theorem dX3_ringIn_13 : decode cX3_ringIn 13 = .ok (.goto 9, 3) := dk_167 0 9 (dk_at dksX3_ringIn_0 13 rfl rfl)
theorem dX3_ringIn_16 : decode cX3_ringIn 16 = .ok (.aload_n 0, 1) := dk_42 (dk_at dksX3_ringIn_0 16 rfl rfl)
theorem dX3_ringIn_17 : decode cX3_ringIn 17 = .ok (.iload_n 3, 1) := dk_29 (dk_at dksX3_ringIn_0 17 rfl rfl)
theorem dX3_ringIn_18 : decode cX3_ringIn 18 = .ok (.iconst 0, 1) := dk_3 (dk_at dksX3_ringIn_0 18 rfl rfl)
theorem dX3_ringIn_19 : decode cX3_ringIn 19 = .ok (.invokevirtual 93, 3) := dk_182 0 93 (dk_at dksX3_ringIn_0 19 rfl rfl)
theorem dX3_ringIn_22 : decode cX3_ringIn 22 = .ok (.ireturn, 1) := dk_172 (dk_at dksX3_ringIn_0 22 rfl rfl)
abbrev cX3_whyNoYoung : ByteArray := prog_9_method_82_code
def yX3_whyNoYoung : MethodName := ⟨RX3, "whyNoYoung", "(I)I"⟩
def dkwX3_whyNoYoung_0 : List UInt8 := [42, 182, 0, 166, 42, 27, 182, 0, 126, 153, 0, 11, 42, 27, 182, 0, 160, 167, 0, 4, 3, 172]
abbrev dktX3_whyNoYoung_0 : List UInt8 := dkwX3_whyNoYoung_0 ++ []
theorem dksX3_whyNoYoung_0 : cX3_whyNoYoung.data.toList.drop 0 = dktX3_whyNoYoung_0 := by decide +kernel
theorem dX3_whyNoYoung_0 : decode cX3_whyNoYoung 0 = .ok (.aload_n 0, 1) := dk_42 (dk_at dksX3_whyNoYoung_0 0 rfl rfl)
theorem dX3_whyNoYoung_1 : decode cX3_whyNoYoung 1 = .ok (.invokevirtual 166, 3) := dk_182 0 166 (dk_at dksX3_whyNoYoung_0 1 rfl rfl)
theorem dX3_whyNoYoung_4 : decode cX3_whyNoYoung 4 = .ok (.aload_n 0, 1) := dk_42 (dk_at dksX3_whyNoYoung_0 4 rfl rfl)
theorem dX3_whyNoYoung_5 : decode cX3_whyNoYoung 5 = .ok (.iload_n 1, 1) := dk_27 (dk_at dksX3_whyNoYoung_0 5 rfl rfl)
theorem dX3_whyNoYoung_6 : decode cX3_whyNoYoung 6 = .ok (.invokevirtual 126, 3) := dk_182 0 126 (dk_at dksX3_whyNoYoung_0 6 rfl rfl)
theorem dX3_whyNoYoung_9 : decode cX3_whyNoYoung 9 = .ok (.ifCond .eq 11, 3) := dk_153 0 11 (dk_at dksX3_whyNoYoung_0 9 rfl rfl)
theorem dX3_whyNoYoung_12 : decode cX3_whyNoYoung 12 = .ok (.aload_n 0, 1) := dk_42 (dk_at dksX3_whyNoYoung_0 12 rfl rfl)
theorem dX3_whyNoYoung_13 : decode cX3_whyNoYoung 13 = .ok (.iload_n 1, 1) := dk_27 (dk_at dksX3_whyNoYoung_0 13 rfl rfl)
theorem dX3_whyNoYoung_14 : decode cX3_whyNoYoung 14 = .ok (.invokevirtual 160, 3) := dk_182 0 160 (dk_at dksX3_whyNoYoung_0 14 rfl rfl)
theorem dX3_whyNoYoung_17 : decode cX3_whyNoYoung 17 = .ok (.goto 4, 3) := dk_167 0 4 (dk_at dksX3_whyNoYoung_0 17 rfl rfl)
theorem dX3_whyNoYoung_20 : decode cX3_whyNoYoung 20 = .ok (.iconst 0, 1) := dk_3 (dk_at dksX3_whyNoYoung_0 20 rfl rfl)
theorem dX3_whyNoYoung_21 : decode cX3_whyNoYoung 21 = .ok (.ireturn, 1) := dk_172 (dk_at dksX3_whyNoYoung_0 21 rfl rfl)
abbrev cX3_youngOf : ByteArray := prog_9_method_83_code
def yX3_youngOf : MethodName := ⟨RX3, "youngOf", "(I)I"⟩
def dkwX3_youngOf_0 : List UInt8 := [42, 182, 0, 166, 42, 27, 182, 0, 126, 153, 0, 11, 42, 27, 182, 0, 163, 167, 0, 4, 3, 172]
abbrev dktX3_youngOf_0 : List UInt8 := dkwX3_youngOf_0 ++ []
theorem dksX3_youngOf_0 : cX3_youngOf.data.toList.drop 0 = dktX3_youngOf_0 := by decide +kernel
theorem dX3_youngOf_0 : decode cX3_youngOf 0 = .ok (.aload_n 0, 1) := dk_42 (dk_at dksX3_youngOf_0 0 rfl rfl)
theorem dX3_youngOf_1 : decode cX3_youngOf 1 = .ok (.invokevirtual 166, 3) := dk_182 0 166 (dk_at dksX3_youngOf_0 1 rfl rfl)
theorem dX3_youngOf_4 : decode cX3_youngOf 4 = .ok (.aload_n 0, 1) := dk_42 (dk_at dksX3_youngOf_0 4 rfl rfl)
theorem dX3_youngOf_5 : decode cX3_youngOf 5 = .ok (.iload_n 1, 1) := dk_27 (dk_at dksX3_youngOf_0 5 rfl rfl)
theorem dX3_youngOf_6 : decode cX3_youngOf 6 = .ok (.invokevirtual 126, 3) := dk_182 0 126 (dk_at dksX3_youngOf_0 6 rfl rfl)
theorem dX3_youngOf_9 : decode cX3_youngOf 9 = .ok (.ifCond .eq 11, 3) := dk_153 0 11 (dk_at dksX3_youngOf_0 9 rfl rfl)
theorem dX3_youngOf_12 : decode cX3_youngOf 12 = .ok (.aload_n 0, 1) := dk_42 (dk_at dksX3_youngOf_0 12 rfl rfl)
theorem dX3_youngOf_13 : decode cX3_youngOf 13 = .ok (.iload_n 1, 1) := dk_27 (dk_at dksX3_youngOf_0 13 rfl rfl)
theorem dX3_youngOf_14 : decode cX3_youngOf 14 = .ok (.invokevirtual 163, 3) := dk_182 0 163 (dk_at dksX3_youngOf_0 14 rfl rfl)
theorem dX3_youngOf_17 : decode cX3_youngOf 17 = .ok (.goto 4, 3) := dk_167 0 4 (dk_at dksX3_youngOf_0 17 rfl rfl)
theorem dX3_youngOf_20 : decode cX3_youngOf 20 = .ok (.iconst 0, 1) := dk_3 (dk_at dksX3_youngOf_0 20 rfl rfl)
theorem dX3_youngOf_21 : decode cX3_youngOf 21 = .ok (.ireturn, 1) := dk_172 (dk_at dksX3_youngOf_0 21 rfl rfl)
abbrev cX3_owls : ByteArray := prog_9_method_84_code
def yX3_owls : MethodName := ⟨RX3, "owls", "()I"⟩
def dkwX3_owls_0 : List UInt8 := [42, 42, 180, 0, 7, 6, 46, 182, 0, 196, 172]
abbrev dktX3_owls_0 : List UInt8 := dkwX3_owls_0 ++ []
theorem dksX3_owls_0 : cX3_owls.data.toList.drop 0 = dktX3_owls_0 := by decide +kernel
theorem dX3_owls_0 : decode cX3_owls 0 = .ok (.aload_n 0, 1) := dk_42 (dk_at dksX3_owls_0 0 rfl rfl)
theorem dX3_owls_1 : decode cX3_owls 1 = .ok (.aload_n 0, 1) := dk_42 (dk_at dksX3_owls_0 1 rfl rfl)
theorem dX3_owls_2 : decode cX3_owls 2 = .ok (.getfield 7, 3) := dk_180 0 7 (dk_at dksX3_owls_0 2 rfl rfl)
theorem dX3_owls_5 : decode cX3_owls 5 = .ok (.iconst 3, 1) := dk_6 (dk_at dksX3_owls_0 5 rfl rfl)
theorem dX3_owls_6 : decode cX3_owls 6 = .ok (.iaload, 1) := dk_46 (dk_at dksX3_owls_0 6 rfl rfl)
theorem dX3_owls_7 : decode cX3_owls 7 = .ok (.invokevirtual 196, 3) := dk_182 0 196 (dk_at dksX3_owls_0 7 rfl rfl)
theorem dX3_owls_10 : decode cX3_owls 10 = .ok (.ireturn, 1) := dk_172 (dk_at dksX3_owls_0 10 rfl rfl)
abbrev cX3_owlsByAccount : ByteArray := prog_9_method_85_code
def yX3_owlsByAccount : MethodName := ⟨RX3, "owlsByAccount", "()I"⟩
def dkwX3_owlsByAccount_2 : List UInt8 := [180, 0, 7, 16, 6, 46, 100, 182, 0, 196, 172]
abbrev dktX3_owlsByAccount_2 : List UInt8 := dkwX3_owlsByAccount_2 ++ []
def dkwX3_owlsByAccount_1 : List UInt8 := [180, 0, 7, 16, 11, 46, 100, 42, 180, 0, 7, 16, 12, 46, 100, 42, 180, 0, 7, 16, 13, 46, 100, 42]
abbrev dktX3_owlsByAccount_1 : List UInt8 := dkwX3_owlsByAccount_1 ++ dktX3_owlsByAccount_2
def dkwX3_owlsByAccount_0 : List UInt8 := [42, 42, 180, 0, 7, 16, 14, 46, 42, 180, 0, 7, 8, 46, 96, 42, 180, 0, 7, 16, 10, 46, 100, 42]
abbrev dktX3_owlsByAccount_0 : List UInt8 := dkwX3_owlsByAccount_0 ++ dktX3_owlsByAccount_1
theorem dksX3_owlsByAccount_0 : cX3_owlsByAccount.data.toList.drop 0 = dktX3_owlsByAccount_0 := by decide +kernel
theorem dksX3_owlsByAccount_1 : cX3_owlsByAccount.data.toList.drop 24 = dktX3_owlsByAccount_1 := dk_seg dksX3_owlsByAccount_0 24 rfl rfl
theorem dksX3_owlsByAccount_2 : cX3_owlsByAccount.data.toList.drop 48 = dktX3_owlsByAccount_2 := dk_seg dksX3_owlsByAccount_1 24 rfl rfl
theorem dX3_owlsByAccount_0 : decode cX3_owlsByAccount 0 = .ok (.aload_n 0, 1) := dk_42 (dk_at dksX3_owlsByAccount_0 0 rfl rfl)
theorem dX3_owlsByAccount_1 : decode cX3_owlsByAccount 1 = .ok (.aload_n 0, 1) := dk_42 (dk_at dksX3_owlsByAccount_0 1 rfl rfl)
theorem dX3_owlsByAccount_2 : decode cX3_owlsByAccount 2 = .ok (.getfield 7, 3) := dk_180 0 7 (dk_at dksX3_owlsByAccount_0 2 rfl rfl)
theorem dX3_owlsByAccount_5 : decode cX3_owlsByAccount 5 = .ok (.bipush 14, 2) := dk_16 14 (dk_at dksX3_owlsByAccount_0 5 rfl rfl)
theorem dX3_owlsByAccount_7 : decode cX3_owlsByAccount 7 = .ok (.iaload, 1) := dk_46 (dk_at dksX3_owlsByAccount_0 7 rfl rfl)
theorem dX3_owlsByAccount_8 : decode cX3_owlsByAccount 8 = .ok (.aload_n 0, 1) := dk_42 (dk_at dksX3_owlsByAccount_0 8 rfl rfl)
theorem dX3_owlsByAccount_9 : decode cX3_owlsByAccount 9 = .ok (.getfield 7, 3) := dk_180 0 7 (dk_at dksX3_owlsByAccount_0 9 rfl rfl)
theorem dX3_owlsByAccount_12 : decode cX3_owlsByAccount 12 = .ok (.iconst 5, 1) := dk_8 (dk_at dksX3_owlsByAccount_0 12 rfl rfl)
theorem dX3_owlsByAccount_13 : decode cX3_owlsByAccount 13 = .ok (.iaload, 1) := dk_46 (dk_at dksX3_owlsByAccount_0 13 rfl rfl)
theorem dX3_owlsByAccount_14 : decode cX3_owlsByAccount 14 = .ok (.iadd, 1) := dk_96 (dk_at dksX3_owlsByAccount_0 14 rfl rfl)
theorem dX3_owlsByAccount_15 : decode cX3_owlsByAccount 15 = .ok (.aload_n 0, 1) := dk_42 (dk_at dksX3_owlsByAccount_0 15 rfl rfl)
theorem dX3_owlsByAccount_16 : decode cX3_owlsByAccount 16 = .ok (.getfield 7, 3) := dk_180 0 7 (dk_at dksX3_owlsByAccount_0 16 rfl rfl)
theorem dX3_owlsByAccount_19 : decode cX3_owlsByAccount 19 = .ok (.bipush 10, 2) := dk_16 10 (dk_at dksX3_owlsByAccount_0 19 rfl rfl)
theorem dX3_owlsByAccount_21 : decode cX3_owlsByAccount 21 = .ok (.iaload, 1) := dk_46 (dk_at dksX3_owlsByAccount_0 21 rfl rfl)
theorem dX3_owlsByAccount_22 : decode cX3_owlsByAccount 22 = .ok (.isub, 1) := dk_100 (dk_at dksX3_owlsByAccount_0 22 rfl rfl)
theorem dX3_owlsByAccount_23 : decode cX3_owlsByAccount 23 = .ok (.aload_n 0, 1) := dk_42 (dk_at dksX3_owlsByAccount_0 23 rfl rfl)
theorem dX3_owlsByAccount_24 : decode cX3_owlsByAccount 24 = .ok (.getfield 7, 3) := dk_180 0 7 (dk_at dksX3_owlsByAccount_1 0 rfl rfl)
theorem dX3_owlsByAccount_27 : decode cX3_owlsByAccount 27 = .ok (.bipush 11, 2) := dk_16 11 (dk_at dksX3_owlsByAccount_1 3 rfl rfl)
theorem dX3_owlsByAccount_29 : decode cX3_owlsByAccount 29 = .ok (.iaload, 1) := dk_46 (dk_at dksX3_owlsByAccount_1 5 rfl rfl)
theorem dX3_owlsByAccount_30 : decode cX3_owlsByAccount 30 = .ok (.isub, 1) := dk_100 (dk_at dksX3_owlsByAccount_1 6 rfl rfl)
theorem dX3_owlsByAccount_31 : decode cX3_owlsByAccount 31 = .ok (.aload_n 0, 1) := dk_42 (dk_at dksX3_owlsByAccount_1 7 rfl rfl)
theorem dX3_owlsByAccount_32 : decode cX3_owlsByAccount 32 = .ok (.getfield 7, 3) := dk_180 0 7 (dk_at dksX3_owlsByAccount_1 8 rfl rfl)
theorem dX3_owlsByAccount_35 : decode cX3_owlsByAccount 35 = .ok (.bipush 12, 2) := dk_16 12 (dk_at dksX3_owlsByAccount_1 11 rfl rfl)
theorem dX3_owlsByAccount_37 : decode cX3_owlsByAccount 37 = .ok (.iaload, 1) := dk_46 (dk_at dksX3_owlsByAccount_1 13 rfl rfl)
theorem dX3_owlsByAccount_38 : decode cX3_owlsByAccount 38 = .ok (.isub, 1) := dk_100 (dk_at dksX3_owlsByAccount_1 14 rfl rfl)
theorem dX3_owlsByAccount_39 : decode cX3_owlsByAccount 39 = .ok (.aload_n 0, 1) := dk_42 (dk_at dksX3_owlsByAccount_1 15 rfl rfl)
theorem dX3_owlsByAccount_40 : decode cX3_owlsByAccount 40 = .ok (.getfield 7, 3) := dk_180 0 7 (dk_at dksX3_owlsByAccount_1 16 rfl rfl)
theorem dX3_owlsByAccount_43 : decode cX3_owlsByAccount 43 = .ok (.bipush 13, 2) := dk_16 13 (dk_at dksX3_owlsByAccount_1 19 rfl rfl)
theorem dX3_owlsByAccount_45 : decode cX3_owlsByAccount 45 = .ok (.iaload, 1) := dk_46 (dk_at dksX3_owlsByAccount_1 21 rfl rfl)
theorem dX3_owlsByAccount_46 : decode cX3_owlsByAccount 46 = .ok (.isub, 1) := dk_100 (dk_at dksX3_owlsByAccount_1 22 rfl rfl)
theorem dX3_owlsByAccount_47 : decode cX3_owlsByAccount 47 = .ok (.aload_n 0, 1) := dk_42 (dk_at dksX3_owlsByAccount_1 23 rfl rfl)
theorem dX3_owlsByAccount_48 : decode cX3_owlsByAccount 48 = .ok (.getfield 7, 3) := dk_180 0 7 (dk_at dksX3_owlsByAccount_2 0 rfl rfl)
theorem dX3_owlsByAccount_51 : decode cX3_owlsByAccount 51 = .ok (.bipush 6, 2) := dk_16 6 (dk_at dksX3_owlsByAccount_2 3 rfl rfl)
theorem dX3_owlsByAccount_53 : decode cX3_owlsByAccount 53 = .ok (.iaload, 1) := dk_46 (dk_at dksX3_owlsByAccount_2 5 rfl rfl)
theorem dX3_owlsByAccount_54 : decode cX3_owlsByAccount 54 = .ok (.isub, 1) := dk_100 (dk_at dksX3_owlsByAccount_2 6 rfl rfl)
theorem dX3_owlsByAccount_55 : decode cX3_owlsByAccount 55 = .ok (.invokevirtual 196, 3) := dk_182 0 196 (dk_at dksX3_owlsByAccount_2 7 rfl rfl)
theorem dX3_owlsByAccount_58 : decode cX3_owlsByAccount 58 = .ok (.ireturn, 1) := dk_172 (dk_at dksX3_owlsByAccount_2 10 rfl rfl)
abbrev cX3_wanderers : ByteArray := prog_9_method_87_code
def yX3_wanderers : MethodName := ⟨RX3, "wanderers", "()I"⟩
def dkwX3_wanderers_0 : List UInt8 := [42, 42, 182, 0, 212, 182, 0, 196, 172]
abbrev dktX3_wanderers_0 : List UInt8 := dkwX3_wanderers_0 ++ []
theorem dksX3_wanderers_0 : cX3_wanderers.data.toList.drop 0 = dktX3_wanderers_0 := by decide +kernel
theorem dX3_wanderers_0 : decode cX3_wanderers 0 = .ok (.aload_n 0, 1) := dk_42 (dk_at dksX3_wanderers_0 0 rfl rfl)
theorem dX3_wanderers_1 : decode cX3_wanderers 1 = .ok (.aload_n 0, 1) := dk_42 (dk_at dksX3_wanderers_0 1 rfl rfl)
theorem dX3_wanderers_2 : decode cX3_wanderers 2 = .ok (.invokevirtual 212, 3) := dk_182 0 212 (dk_at dksX3_wanderers_0 2 rfl rfl)
theorem dX3_wanderers_5 : decode cX3_wanderers 5 = .ok (.invokevirtual 196, 3) := dk_182 0 196 (dk_at dksX3_wanderers_0 5 rfl rfl)
theorem dX3_wanderers_8 : decode cX3_wanderers 8 = .ok (.ireturn, 1) := dk_172 (dk_at dksX3_wanderers_0 8 rfl rfl)
abbrev cX3_wandering : ByteArray := prog_9_method_86_code
def yX3_wandering : MethodName := ⟨RX3, "wandering", "()I"⟩
def dkwX3_wandering_1 : List UInt8 := [160, 0, 7, 4, 167, 0, 4, 3, 96, 60, 132, 2, 1, 167, 255, 225, 27, 172]
abbrev dktX3_wandering_1 : List UInt8 := dkwX3_wandering_1 ++ []
def dkwX3_wandering_0 : List UInt8 := [3, 60, 3, 61, 28, 42, 180, 0, 7, 6, 46, 162, 0, 27, 27, 42, 28, 8, 182, 0, 93, 2]
abbrev dktX3_wandering_0 : List UInt8 := dkwX3_wandering_0 ++ dktX3_wandering_1
theorem dksX3_wandering_0 : cX3_wandering.data.toList.drop 0 = dktX3_wandering_0 := by decide +kernel
theorem dksX3_wandering_1 : cX3_wandering.data.toList.drop 22 = dktX3_wandering_1 := dk_seg dksX3_wandering_0 22 rfl rfl
theorem dX3_wandering_0 : decode cX3_wandering 0 = .ok (.iconst 0, 1) := dk_3 (dk_at dksX3_wandering_0 0 rfl rfl)
theorem dX3_wandering_1 : decode cX3_wandering 1 = .ok (.istore_n 1, 1) := dk_60 (dk_at dksX3_wandering_0 1 rfl rfl)
theorem dX3_wandering_2 : decode cX3_wandering 2 = .ok (.iconst 0, 1) := dk_3 (dk_at dksX3_wandering_0 2 rfl rfl)
theorem dX3_wandering_3 : decode cX3_wandering 3 = .ok (.istore_n 2, 1) := dk_61 (dk_at dksX3_wandering_0 3 rfl rfl)
theorem dX3_wandering_4 : decode cX3_wandering 4 = .ok (.iload_n 2, 1) := dk_28 (dk_at dksX3_wandering_0 4 rfl rfl)
theorem dX3_wandering_5 : decode cX3_wandering 5 = .ok (.aload_n 0, 1) := dk_42 (dk_at dksX3_wandering_0 5 rfl rfl)
theorem dX3_wandering_6 : decode cX3_wandering 6 = .ok (.getfield 7, 3) := dk_180 0 7 (dk_at dksX3_wandering_0 6 rfl rfl)
theorem dX3_wandering_9 : decode cX3_wandering 9 = .ok (.iconst 3, 1) := dk_6 (dk_at dksX3_wandering_0 9 rfl rfl)
theorem dX3_wandering_10 : decode cX3_wandering 10 = .ok (.iaload, 1) := dk_46 (dk_at dksX3_wandering_0 10 rfl rfl)
theorem dX3_wandering_11 : decode cX3_wandering 11 = .ok (.if_icmp .ge 27, 3) := dk_162 0 27 (dk_at dksX3_wandering_0 11 rfl rfl)
theorem dX3_wandering_14 : decode cX3_wandering 14 = .ok (.iload_n 1, 1) := dk_27 (dk_at dksX3_wandering_0 14 rfl rfl)
theorem dX3_wandering_15 : decode cX3_wandering 15 = .ok (.aload_n 0, 1) := dk_42 (dk_at dksX3_wandering_0 15 rfl rfl)
theorem dX3_wandering_16 : decode cX3_wandering 16 = .ok (.iload_n 2, 1) := dk_28 (dk_at dksX3_wandering_0 16 rfl rfl)
theorem dX3_wandering_17 : decode cX3_wandering 17 = .ok (.iconst 5, 1) := dk_8 (dk_at dksX3_wandering_0 17 rfl rfl)
theorem dX3_wandering_18 : decode cX3_wandering 18 = .ok (.invokevirtual 93, 3) := dk_182 0 93 (dk_at dksX3_wandering_0 18 rfl rfl)
theorem dX3_wandering_21 : decode cX3_wandering 21 = .ok (.iconst (-1), 1) := dk_2 (dk_at dksX3_wandering_0 21 rfl rfl)
theorem dX3_wandering_22 : decode cX3_wandering 22 = .ok (.if_icmp .ne 7, 3) := dk_160 0 7 (dk_at dksX3_wandering_1 0 rfl rfl)
theorem dX3_wandering_25 : decode cX3_wandering 25 = .ok (.iconst 1, 1) := dk_4 (dk_at dksX3_wandering_1 3 rfl rfl)
theorem dX3_wandering_26 : decode cX3_wandering 26 = .ok (.goto 4, 3) := dk_167 0 4 (dk_at dksX3_wandering_1 4 rfl rfl)
theorem dX3_wandering_29 : decode cX3_wandering 29 = .ok (.iconst 0, 1) := dk_3 (dk_at dksX3_wandering_1 7 rfl rfl)
theorem dX3_wandering_30 : decode cX3_wandering 30 = .ok (.iadd, 1) := dk_96 (dk_at dksX3_wandering_1 8 rfl rfl)
theorem dX3_wandering_31 : decode cX3_wandering 31 = .ok (.istore_n 1, 1) := dk_60 (dk_at dksX3_wandering_1 9 rfl rfl)
theorem dX3_wandering_32 : decode cX3_wandering 32 = .ok (.iinc 2 1, 3) := dk_132 2 1 (dk_at dksX3_wandering_1 10 rfl rfl)
theorem dX3_wandering_35 : decode cX3_wandering 35 = .ok (.goto (-31), 3) := dk_167 255 225 (dk_at dksX3_wandering_1 13 rfl rfl)
theorem dX3_wandering_38 : decode cX3_wandering 38 = .ok (.iload_n 1, 1) := dk_27 (dk_at dksX3_wandering_1 16 rfl rfl)
theorem dX3_wandering_39 : decode cX3_wandering 39 = .ok (.ireturn, 1) := dk_172 (dk_at dksX3_wandering_1 17 rfl rfl)
abbrev cX3_ringAt : ByteArray := prog_9_method_88_code
def yX3_ringAt : MethodName := ⟨RX3, "ringAt", "(I)I"⟩
def dkwX3_ringAt_1 : List UInt8 := [181, 0, 35, 42, 180, 0, 35, 158, 0, 7, 3, 167, 0, 9, 42, 27, 3, 182, 0, 93, 172]
abbrev dktX3_ringAt_1 : List UInt8 := dkwX3_ringAt_1 ++ []
def dkwX3_ringAt_0 : List UInt8 := [42, 27, 3, 42, 180, 0, 7, 6, 46, 4, 100, 184, 0, 42, 153, 0, 7, 3, 167, 0, 4, 4]
abbrev dktX3_ringAt_0 : List UInt8 := dkwX3_ringAt_0 ++ dktX3_ringAt_1
theorem dksX3_ringAt_0 : cX3_ringAt.data.toList.drop 0 = dktX3_ringAt_0 := by decide +kernel
theorem dksX3_ringAt_1 : cX3_ringAt.data.toList.drop 22 = dktX3_ringAt_1 := dk_seg dksX3_ringAt_0 22 rfl rfl
theorem dX3_ringAt_0 : decode cX3_ringAt 0 = .ok (.aload_n 0, 1) := dk_42 (dk_at dksX3_ringAt_0 0 rfl rfl)
theorem dX3_ringAt_1 : decode cX3_ringAt 1 = .ok (.iload_n 1, 1) := dk_27 (dk_at dksX3_ringAt_0 1 rfl rfl)
theorem dX3_ringAt_2 : decode cX3_ringAt 2 = .ok (.iconst 0, 1) := dk_3 (dk_at dksX3_ringAt_0 2 rfl rfl)
theorem dX3_ringAt_3 : decode cX3_ringAt 3 = .ok (.aload_n 0, 1) := dk_42 (dk_at dksX3_ringAt_0 3 rfl rfl)
theorem dX3_ringAt_4 : decode cX3_ringAt 4 = .ok (.getfield 7, 3) := dk_180 0 7 (dk_at dksX3_ringAt_0 4 rfl rfl)
theorem dX3_ringAt_7 : decode cX3_ringAt 7 = .ok (.iconst 3, 1) := dk_6 (dk_at dksX3_ringAt_0 7 rfl rfl)
theorem dX3_ringAt_8 : decode cX3_ringAt 8 = .ok (.iaload, 1) := dk_46 (dk_at dksX3_ringAt_0 8 rfl rfl)
theorem dX3_ringAt_9 : decode cX3_ringAt 9 = .ok (.iconst 1, 1) := dk_4 (dk_at dksX3_ringAt_0 9 rfl rfl)
theorem dX3_ringAt_10 : decode cX3_ringAt 10 = .ok (.isub, 1) := dk_100 (dk_at dksX3_ringAt_0 10 rfl rfl)
theorem dX3_ringAt_11 : decode cX3_ringAt 11 = .ok (.invokestatic 42, 3) := dk_184 0 42 (dk_at dksX3_ringAt_0 11 rfl rfl)
theorem dX3_ringAt_14 : decode cX3_ringAt 14 = .ok (.ifCond .eq 7, 3) := dk_153 0 7 (dk_at dksX3_ringAt_0 14 rfl rfl)
theorem dX3_ringAt_17 : decode cX3_ringAt 17 = .ok (.iconst 0, 1) := dk_3 (dk_at dksX3_ringAt_0 17 rfl rfl)
theorem dX3_ringAt_18 : decode cX3_ringAt 18 = .ok (.goto 4, 3) := dk_167 0 4 (dk_at dksX3_ringAt_0 18 rfl rfl)
theorem dX3_ringAt_21 : decode cX3_ringAt 21 = .ok (.iconst 1, 1) := dk_4 (dk_at dksX3_ringAt_0 21 rfl rfl)
theorem dX3_ringAt_22 : decode cX3_ringAt 22 = .ok (.putfield 35, 3) := dk_181 0 35 (dk_at dksX3_ringAt_1 0 rfl rfl)
theorem dX3_ringAt_25 : decode cX3_ringAt 25 = .ok (.aload_n 0, 1) := dk_42 (dk_at dksX3_ringAt_1 3 rfl rfl)
theorem dX3_ringAt_26 : decode cX3_ringAt 26 = .ok (.getfield 35, 3) := dk_180 0 35 (dk_at dksX3_ringAt_1 4 rfl rfl)
theorem dX3_ringAt_29 : decode cX3_ringAt 29 = .ok (.ifCond .le 7, 3) := dk_158 0 7 (dk_at dksX3_ringAt_1 7 rfl rfl)
theorem dX3_ringAt_32 : decode cX3_ringAt 32 = .ok (.iconst 0, 1) := dk_3 (dk_at dksX3_ringAt_1 10 rfl rfl)
theorem dX3_ringAt_33 : decode cX3_ringAt 33 = .ok (.goto 9, 3) := dk_167 0 9 (dk_at dksX3_ringAt_1 11 rfl rfl)
theorem dX3_ringAt_36 : decode cX3_ringAt 36 = .ok (.aload_n 0, 1) := dk_42 (dk_at dksX3_ringAt_1 14 rfl rfl)
theorem dX3_ringAt_37 : decode cX3_ringAt 37 = .ok (.iload_n 1, 1) := dk_27 (dk_at dksX3_ringAt_1 15 rfl rfl)
theorem dX3_ringAt_38 : decode cX3_ringAt 38 = .ok (.iconst 0, 1) := dk_3 (dk_at dksX3_ringAt_1 16 rfl rfl)
theorem dX3_ringAt_39 : decode cX3_ringAt 39 = .ok (.invokevirtual 93, 3) := dk_182 0 93 (dk_at dksX3_ringAt_1 17 rfl rfl)
theorem dX3_ringAt_42 : decode cX3_ringAt 42 = .ok (.ireturn, 1) := dk_172 (dk_at dksX3_ringAt_1 20 rfl rfl)
abbrev cX3_rings : ByteArray := prog_9_method_89_code
def yX3_rings : MethodName := ⟨RX3, "rings", "()I"⟩
def dkwX3_rings_0 : List UInt8 := [42, 42, 180, 0, 7, 7, 46, 182, 0, 196, 172]
abbrev dktX3_rings_0 : List UInt8 := dkwX3_rings_0 ++ []
theorem dksX3_rings_0 : cX3_rings.data.toList.drop 0 = dktX3_rings_0 := by decide +kernel
theorem dX3_rings_0 : decode cX3_rings 0 = .ok (.aload_n 0, 1) := dk_42 (dk_at dksX3_rings_0 0 rfl rfl)
theorem dX3_rings_1 : decode cX3_rings 1 = .ok (.aload_n 0, 1) := dk_42 (dk_at dksX3_rings_0 1 rfl rfl)
theorem dX3_rings_2 : decode cX3_rings 2 = .ok (.getfield 7, 3) := dk_180 0 7 (dk_at dksX3_rings_0 2 rfl rfl)
theorem dX3_rings_5 : decode cX3_rings 5 = .ok (.iconst 4, 1) := dk_7 (dk_at dksX3_rings_0 5 rfl rfl)
theorem dX3_rings_6 : decode cX3_rings 6 = .ok (.iaload, 1) := dk_46 (dk_at dksX3_rings_0 6 rfl rfl)
theorem dX3_rings_7 : decode cX3_rings 7 = .ok (.invokevirtual 196, 3) := dk_182 0 196 (dk_at dksX3_rings_0 7 rfl rfl)
theorem dX3_rings_10 : decode cX3_rings 10 = .ok (.ireturn, 1) := dk_172 (dk_at dksX3_rings_0 10 rfl rfl)
abbrev cX3_isAlive : ByteArray := prog_9_method_90_code
def yX3_isAlive : MethodName := ⟨RX3, "isAlive", "(I)Z"⟩
def dkwX3_isAlive_0 : List UInt8 := [42, 3, 181, 0, 35, 42, 27, 182, 0, 143, 2, 159, 0, 7, 4, 167, 0, 4, 3, 172]
abbrev dktX3_isAlive_0 : List UInt8 := dkwX3_isAlive_0 ++ []
theorem dksX3_isAlive_0 : cX3_isAlive.data.toList.drop 0 = dktX3_isAlive_0 := by decide +kernel
theorem dX3_isAlive_0 : decode cX3_isAlive 0 = .ok (.aload_n 0, 1) := dk_42 (dk_at dksX3_isAlive_0 0 rfl rfl)
theorem dX3_isAlive_1 : decode cX3_isAlive 1 = .ok (.iconst 0, 1) := dk_3 (dk_at dksX3_isAlive_0 1 rfl rfl)
theorem dX3_isAlive_2 : decode cX3_isAlive 2 = .ok (.putfield 35, 3) := dk_181 0 35 (dk_at dksX3_isAlive_0 2 rfl rfl)
theorem dX3_isAlive_5 : decode cX3_isAlive 5 = .ok (.aload_n 0, 1) := dk_42 (dk_at dksX3_isAlive_0 5 rfl rfl)
theorem dX3_isAlive_6 : decode cX3_isAlive 6 = .ok (.iload_n 1, 1) := dk_27 (dk_at dksX3_isAlive_0 6 rfl rfl)
theorem dX3_isAlive_7 : decode cX3_isAlive 7 = .ok (.invokevirtual 143, 3) := dk_182 0 143 (dk_at dksX3_isAlive_0 7 rfl rfl)
theorem dX3_isAlive_10 : decode cX3_isAlive 10 = .ok (.iconst (-1), 1) := dk_2 (dk_at dksX3_isAlive_0 10 rfl rfl)
theorem dX3_isAlive_11 : decode cX3_isAlive 11 = .ok (.if_icmp .eq 7, 3) := dk_159 0 7 (dk_at dksX3_isAlive_0 11 rfl rfl)
theorem dX3_isAlive_14 : decode cX3_isAlive 14 = .ok (.iconst 1, 1) := dk_4 (dk_at dksX3_isAlive_0 14 rfl rfl)
theorem dX3_isAlive_15 : decode cX3_isAlive 15 = .ok (.goto 4, 3) := dk_167 0 4 (dk_at dksX3_isAlive_0 15 rfl rfl)
theorem dX3_isAlive_18 : decode cX3_isAlive 18 = .ok (.iconst 0, 1) := dk_3 (dk_at dksX3_isAlive_0 18 rfl rfl)
theorem dX3_isAlive_19 : decode cX3_isAlive 19 = .ok (.ireturn, 1) := dk_172 (dk_at dksX3_isAlive_0 19 rfl rfl)
abbrev cX3_sexOf : ByteArray := prog_9_method_95_code
def yX3_sexOf : MethodName := ⟨RX3, "sexOf", "(I)I"⟩
def dkwX3_sexOf_0 : List UInt8 := [42, 27, 4, 182, 0, 221, 172]
abbrev dktX3_sexOf_0 : List UInt8 := dkwX3_sexOf_0 ++ []
theorem dksX3_sexOf_0 : cX3_sexOf.data.toList.drop 0 = dktX3_sexOf_0 := by decide +kernel
theorem dX3_sexOf_0 : decode cX3_sexOf 0 = .ok (.aload_n 0, 1) := dk_42 (dk_at dksX3_sexOf_0 0 rfl rfl)
theorem dX3_sexOf_1 : decode cX3_sexOf 1 = .ok (.iload_n 1, 1) := dk_27 (dk_at dksX3_sexOf_0 1 rfl rfl)
theorem dX3_sexOf_2 : decode cX3_sexOf 2 = .ok (.iconst 1, 1) := dk_4 (dk_at dksX3_sexOf_0 2 rfl rfl)
theorem dX3_sexOf_3 : decode cX3_sexOf 3 = .ok (.invokevirtual 221, 3) := dk_182 0 221 (dk_at dksX3_sexOf_0 3 rfl rfl)
theorem dX3_sexOf_6 : decode cX3_sexOf 6 = .ok (.ireturn, 1) := dk_172 (dk_at dksX3_sexOf_0 6 rfl rfl)
abbrev cX3_tellsNode : ByteArray := prog_9_method_94_code
def yX3_tellsNode : MethodName := ⟨RX3, "tellsNode", "(II)I"⟩
def dkwX3_tellsNode_1 : List UInt8 := [158, 0, 7, 3, 167, 0, 9, 42, 29, 28, 182, 0, 218, 172]
abbrev dktX3_tellsNode_1 : List UInt8 := dkwX3_tellsNode_1 ++ []
def dkwX3_tellsNode_0 : List UInt8 := [42, 27, 182, 0, 215, 62, 42, 29, 2, 160, 0, 7, 4, 167, 0, 4, 3, 181, 0, 35, 42, 180, 0, 35]
abbrev dktX3_tellsNode_0 : List UInt8 := dkwX3_tellsNode_0 ++ dktX3_tellsNode_1
theorem dksX3_tellsNode_0 : cX3_tellsNode.data.toList.drop 0 = dktX3_tellsNode_0 := by decide +kernel
theorem dksX3_tellsNode_1 : cX3_tellsNode.data.toList.drop 24 = dktX3_tellsNode_1 := dk_seg dksX3_tellsNode_0 24 rfl rfl
theorem dX3_tellsNode_0 : decode cX3_tellsNode 0 = .ok (.aload_n 0, 1) := dk_42 (dk_at dksX3_tellsNode_0 0 rfl rfl)
theorem dX3_tellsNode_1 : decode cX3_tellsNode 1 = .ok (.iload_n 1, 1) := dk_27 (dk_at dksX3_tellsNode_0 1 rfl rfl)
theorem dX3_tellsNode_2 : decode cX3_tellsNode 2 = .ok (.invokevirtual 215, 3) := dk_182 0 215 (dk_at dksX3_tellsNode_0 2 rfl rfl)
theorem dX3_tellsNode_5 : decode cX3_tellsNode 5 = .ok (.istore_n 3, 1) := dk_62 (dk_at dksX3_tellsNode_0 5 rfl rfl)
theorem dX3_tellsNode_6 : decode cX3_tellsNode 6 = .ok (.aload_n 0, 1) := dk_42 (dk_at dksX3_tellsNode_0 6 rfl rfl)
theorem dX3_tellsNode_7 : decode cX3_tellsNode 7 = .ok (.iload_n 3, 1) := dk_29 (dk_at dksX3_tellsNode_0 7 rfl rfl)
theorem dX3_tellsNode_8 : decode cX3_tellsNode 8 = .ok (.iconst (-1), 1) := dk_2 (dk_at dksX3_tellsNode_0 8 rfl rfl)
theorem dX3_tellsNode_9 : decode cX3_tellsNode 9 = .ok (.if_icmp .ne 7, 3) := dk_160 0 7 (dk_at dksX3_tellsNode_0 9 rfl rfl)
theorem dX3_tellsNode_12 : decode cX3_tellsNode 12 = .ok (.iconst 1, 1) := dk_4 (dk_at dksX3_tellsNode_0 12 rfl rfl)
theorem dX3_tellsNode_13 : decode cX3_tellsNode 13 = .ok (.goto 4, 3) := dk_167 0 4 (dk_at dksX3_tellsNode_0 13 rfl rfl)
theorem dX3_tellsNode_16 : decode cX3_tellsNode 16 = .ok (.iconst 0, 1) := dk_3 (dk_at dksX3_tellsNode_0 16 rfl rfl)
theorem dX3_tellsNode_17 : decode cX3_tellsNode 17 = .ok (.putfield 35, 3) := dk_181 0 35 (dk_at dksX3_tellsNode_0 17 rfl rfl)
theorem dX3_tellsNode_20 : decode cX3_tellsNode 20 = .ok (.aload_n 0, 1) := dk_42 (dk_at dksX3_tellsNode_0 20 rfl rfl)
theorem dX3_tellsNode_21 : decode cX3_tellsNode 21 = .ok (.getfield 35, 3) := dk_180 0 35 (dk_at dksX3_tellsNode_0 21 rfl rfl)
theorem dX3_tellsNode_24 : decode cX3_tellsNode 24 = .ok (.ifCond .le 7, 3) := dk_158 0 7 (dk_at dksX3_tellsNode_1 0 rfl rfl)
theorem dX3_tellsNode_27 : decode cX3_tellsNode 27 = .ok (.iconst 0, 1) := dk_3 (dk_at dksX3_tellsNode_1 3 rfl rfl)
theorem dX3_tellsNode_28 : decode cX3_tellsNode 28 = .ok (.goto 9, 3) := dk_167 0 9 (dk_at dksX3_tellsNode_1 4 rfl rfl)
theorem dX3_tellsNode_31 : decode cX3_tellsNode 31 = .ok (.aload_n 0, 1) := dk_42 (dk_at dksX3_tellsNode_1 7 rfl rfl)
theorem dX3_tellsNode_32 : decode cX3_tellsNode 32 = .ok (.iload_n 3, 1) := dk_29 (dk_at dksX3_tellsNode_1 8 rfl rfl)
theorem dX3_tellsNode_33 : decode cX3_tellsNode 33 = .ok (.iload_n 2, 1) := dk_28 (dk_at dksX3_tellsNode_1 9 rfl rfl)
theorem dX3_tellsNode_34 : decode cX3_tellsNode 34 = .ok (.invokevirtual 218, 3) := dk_182 0 218 (dk_at dksX3_tellsNode_1 10 rfl rfl)
theorem dX3_tellsNode_37 : decode cX3_tellsNode 37 = .ok (.ireturn, 1) := dk_172 (dk_at dksX3_tellsNode_1 13 rfl rfl)
abbrev cX3_node : ByteArray := prog_9_method_91_code
def yX3_node : MethodName := ⟨RX3, "node", "(I)I"⟩
def dkwX3_node_2 : List UInt8 := [167, 0, 4, 3, 62, 29, 153, 0, 13, 16, 40, 27, 16, 60, 112, 96, 167, 0, 4, 28, 172]
abbrev dktX3_node_2 : List UInt8 := dkwX3_node_2 ++ []
def dkwX3_node_1 : List UInt8 := [100, 161, 0, 26, 42, 180, 0, 7, 17, 1, 138, 8, 27, 16, 60, 112, 104, 96, 46, 27, 160, 0, 7, 4]
abbrev dktX3_node_1 : List UInt8 := dkwX3_node_1 ++ dktX3_node_2
def dkwX3_node_0 : List UInt8 := [42, 27, 182, 0, 143, 61, 28, 2, 160, 0, 43, 27, 155, 0, 39, 27, 42, 180, 0, 7, 7, 46, 16, 60]
abbrev dktX3_node_0 : List UInt8 := dkwX3_node_0 ++ dktX3_node_1
theorem dksX3_node_0 : cX3_node.data.toList.drop 0 = dktX3_node_0 := by decide +kernel
theorem dksX3_node_1 : cX3_node.data.toList.drop 24 = dktX3_node_1 := dk_seg dksX3_node_0 24 rfl rfl
theorem dksX3_node_2 : cX3_node.data.toList.drop 48 = dktX3_node_2 := dk_seg dksX3_node_1 24 rfl rfl
theorem dX3_node_0 : decode cX3_node 0 = .ok (.aload_n 0, 1) := dk_42 (dk_at dksX3_node_0 0 rfl rfl)
theorem dX3_node_1 : decode cX3_node 1 = .ok (.iload_n 1, 1) := dk_27 (dk_at dksX3_node_0 1 rfl rfl)
theorem dX3_node_2 : decode cX3_node 2 = .ok (.invokevirtual 143, 3) := dk_182 0 143 (dk_at dksX3_node_0 2 rfl rfl)
theorem dX3_node_5 : decode cX3_node 5 = .ok (.istore_n 2, 1) := dk_61 (dk_at dksX3_node_0 5 rfl rfl)
theorem dX3_node_6 : decode cX3_node 6 = .ok (.iload_n 2, 1) := dk_28 (dk_at dksX3_node_0 6 rfl rfl)
theorem dX3_node_7 : decode cX3_node 7 = .ok (.iconst (-1), 1) := dk_2 (dk_at dksX3_node_0 7 rfl rfl)
theorem dX3_node_8 : decode cX3_node 8 = .ok (.if_icmp .ne 43, 3) := dk_160 0 43 (dk_at dksX3_node_0 8 rfl rfl)
theorem dX3_node_11 : decode cX3_node 11 = .ok (.iload_n 1, 1) := dk_27 (dk_at dksX3_node_0 11 rfl rfl)
theorem dX3_node_12 : decode cX3_node 12 = .ok (.ifCond .lt 39, 3) := dk_155 0 39 (dk_at dksX3_node_0 12 rfl rfl)
theorem dX3_node_15 : decode cX3_node 15 = .ok (.iload_n 1, 1) := dk_27 (dk_at dksX3_node_0 15 rfl rfl)
theorem dX3_node_16 : decode cX3_node 16 = .ok (.aload_n 0, 1) := dk_42 (dk_at dksX3_node_0 16 rfl rfl)
theorem dX3_node_17 : decode cX3_node 17 = .ok (.getfield 7, 3) := dk_180 0 7 (dk_at dksX3_node_0 17 rfl rfl)
theorem dX3_node_20 : decode cX3_node 20 = .ok (.iconst 4, 1) := dk_7 (dk_at dksX3_node_0 20 rfl rfl)
theorem dX3_node_21 : decode cX3_node 21 = .ok (.iaload, 1) := dk_46 (dk_at dksX3_node_0 21 rfl rfl)
theorem dX3_node_22 : decode cX3_node 22 = .ok (.bipush 60, 2) := dk_16 60 (dk_at dksX3_node_0 22 rfl rfl)
theorem dX3_node_24 : decode cX3_node 24 = .ok (.isub, 1) := dk_100 (dk_at dksX3_node_1 0 rfl rfl)
theorem dX3_node_25 : decode cX3_node 25 = .ok (.if_icmp .lt 26, 3) := dk_161 0 26 (dk_at dksX3_node_1 1 rfl rfl)
theorem dX3_node_28 : decode cX3_node 28 = .ok (.aload_n 0, 1) := dk_42 (dk_at dksX3_node_1 4 rfl rfl)
theorem dX3_node_29 : decode cX3_node 29 = .ok (.getfield 7, 3) := dk_180 0 7 (dk_at dksX3_node_1 5 rfl rfl)
theorem dX3_node_32 : decode cX3_node 32 = .ok (.sipush 394, 3) := dk_17 1 138 (dk_at dksX3_node_1 8 rfl rfl)
theorem dX3_node_35 : decode cX3_node 35 = .ok (.iconst 5, 1) := dk_8 (dk_at dksX3_node_1 11 rfl rfl)
theorem dX3_node_36 : decode cX3_node 36 = .ok (.iload_n 1, 1) := dk_27 (dk_at dksX3_node_1 12 rfl rfl)
theorem dX3_node_37 : decode cX3_node 37 = .ok (.bipush 60, 2) := dk_16 60 (dk_at dksX3_node_1 13 rfl rfl)
theorem dX3_node_39 : decode cX3_node 39 = .ok (.irem, 1) := dk_112 (dk_at dksX3_node_1 15 rfl rfl)
theorem dX3_node_40 : decode cX3_node 40 = .ok (.imul, 1) := dk_104 (dk_at dksX3_node_1 16 rfl rfl)
theorem dX3_node_41 : decode cX3_node 41 = .ok (.iadd, 1) := dk_96 (dk_at dksX3_node_1 17 rfl rfl)
theorem dX3_node_42 : decode cX3_node 42 = .ok (.iaload, 1) := dk_46 (dk_at dksX3_node_1 18 rfl rfl)
theorem dX3_node_43 : decode cX3_node 43 = .ok (.iload_n 1, 1) := dk_27 (dk_at dksX3_node_1 19 rfl rfl)
theorem dX3_node_44 : decode cX3_node 44 = .ok (.if_icmp .ne 7, 3) := dk_160 0 7 (dk_at dksX3_node_1 20 rfl rfl)
theorem dX3_node_47 : decode cX3_node 47 = .ok (.iconst 1, 1) := dk_4 (dk_at dksX3_node_1 23 rfl rfl)
theorem dX3_node_48 : decode cX3_node 48 = .ok (.goto 4, 3) := dk_167 0 4 (dk_at dksX3_node_2 0 rfl rfl)
theorem dX3_node_51 : decode cX3_node 51 = .ok (.iconst 0, 1) := dk_3 (dk_at dksX3_node_2 3 rfl rfl)
theorem dX3_node_52 : decode cX3_node 52 = .ok (.istore_n 3, 1) := dk_62 (dk_at dksX3_node_2 4 rfl rfl)
theorem dX3_node_53 : decode cX3_node 53 = .ok (.iload_n 3, 1) := dk_29 (dk_at dksX3_node_2 5 rfl rfl)
theorem dX3_node_54 : decode cX3_node 54 = .ok (.ifCond .eq 13, 3) := dk_153 0 13 (dk_at dksX3_node_2 6 rfl rfl)
theorem dX3_node_57 : decode cX3_node 57 = .ok (.bipush 40, 2) := dk_16 40 (dk_at dksX3_node_2 9 rfl rfl)
theorem dX3_node_59 : decode cX3_node 59 = .ok (.iload_n 1, 1) := dk_27 (dk_at dksX3_node_2 11 rfl rfl)
theorem dX3_node_60 : decode cX3_node 60 = .ok (.bipush 60, 2) := dk_16 60 (dk_at dksX3_node_2 12 rfl rfl)
theorem dX3_node_62 : decode cX3_node 62 = .ok (.irem, 1) := dk_112 (dk_at dksX3_node_2 14 rfl rfl)
theorem dX3_node_63 : decode cX3_node 63 = .ok (.iadd, 1) := dk_96 (dk_at dksX3_node_2 15 rfl rfl)
theorem dX3_node_64 : decode cX3_node 64 = .ok (.goto 4, 3) := dk_167 0 4 (dk_at dksX3_node_2 16 rfl rfl)
theorem dX3_node_67 : decode cX3_node 67 = .ok (.iload_n 2, 1) := dk_28 (dk_at dksX3_node_2 19 rfl rfl)
theorem dX3_node_68 : decode cX3_node 68 = .ok (.ireturn, 1) := dk_172 (dk_at dksX3_node_2 20 rfl rfl)
abbrev cX3_ofNode : ByteArray := prog_9_method_93_code
def yX3_ofNode : MethodName := ⟨RX3, "ofNode", "(II)I"⟩
def dkwX3_ofNode_1 : List UInt8 := [16, 40, 100, 104, 96, 28, 96, 46, 172]
abbrev dktX3_ofNode_1 : List UInt8 := dkwX3_ofNode_1 ++ []
def dkwX3_ofNode_0 : List UInt8 := [27, 16, 40, 162, 0, 12, 42, 27, 28, 182, 0, 93, 167, 0, 20, 42, 180, 0, 7, 17, 1, 138, 8, 27]
abbrev dktX3_ofNode_0 : List UInt8 := dkwX3_ofNode_0 ++ dktX3_ofNode_1
theorem dksX3_ofNode_0 : cX3_ofNode.data.toList.drop 0 = dktX3_ofNode_0 := by decide +kernel
theorem dksX3_ofNode_1 : cX3_ofNode.data.toList.drop 24 = dktX3_ofNode_1 := dk_seg dksX3_ofNode_0 24 rfl rfl
theorem dX3_ofNode_0 : decode cX3_ofNode 0 = .ok (.iload_n 1, 1) := dk_27 (dk_at dksX3_ofNode_0 0 rfl rfl)
theorem dX3_ofNode_1 : decode cX3_ofNode 1 = .ok (.bipush 40, 2) := dk_16 40 (dk_at dksX3_ofNode_0 1 rfl rfl)
theorem dX3_ofNode_3 : decode cX3_ofNode 3 = .ok (.if_icmp .ge 12, 3) := dk_162 0 12 (dk_at dksX3_ofNode_0 3 rfl rfl)
theorem dX3_ofNode_6 : decode cX3_ofNode 6 = .ok (.aload_n 0, 1) := dk_42 (dk_at dksX3_ofNode_0 6 rfl rfl)
theorem dX3_ofNode_7 : decode cX3_ofNode 7 = .ok (.iload_n 1, 1) := dk_27 (dk_at dksX3_ofNode_0 7 rfl rfl)
theorem dX3_ofNode_8 : decode cX3_ofNode 8 = .ok (.iload_n 2, 1) := dk_28 (dk_at dksX3_ofNode_0 8 rfl rfl)
theorem dX3_ofNode_9 : decode cX3_ofNode 9 = .ok (.invokevirtual 93, 3) := dk_182 0 93 (dk_at dksX3_ofNode_0 9 rfl rfl)
theorem dX3_ofNode_12 : decode cX3_ofNode 12 = .ok (.goto 20, 3) := dk_167 0 20 (dk_at dksX3_ofNode_0 12 rfl rfl)
theorem dX3_ofNode_15 : decode cX3_ofNode 15 = .ok (.aload_n 0, 1) := dk_42 (dk_at dksX3_ofNode_0 15 rfl rfl)
theorem dX3_ofNode_16 : decode cX3_ofNode 16 = .ok (.getfield 7, 3) := dk_180 0 7 (dk_at dksX3_ofNode_0 16 rfl rfl)
theorem dX3_ofNode_19 : decode cX3_ofNode 19 = .ok (.sipush 394, 3) := dk_17 1 138 (dk_at dksX3_ofNode_0 19 rfl rfl)
theorem dX3_ofNode_22 : decode cX3_ofNode 22 = .ok (.iconst 5, 1) := dk_8 (dk_at dksX3_ofNode_0 22 rfl rfl)
theorem dX3_ofNode_23 : decode cX3_ofNode 23 = .ok (.iload_n 1, 1) := dk_27 (dk_at dksX3_ofNode_0 23 rfl rfl)
theorem dX3_ofNode_24 : decode cX3_ofNode 24 = .ok (.bipush 40, 2) := dk_16 40 (dk_at dksX3_ofNode_1 0 rfl rfl)
theorem dX3_ofNode_26 : decode cX3_ofNode 26 = .ok (.isub, 1) := dk_100 (dk_at dksX3_ofNode_1 2 rfl rfl)
theorem dX3_ofNode_27 : decode cX3_ofNode 27 = .ok (.imul, 1) := dk_104 (dk_at dksX3_ofNode_1 3 rfl rfl)
theorem dX3_ofNode_28 : decode cX3_ofNode 28 = .ok (.iadd, 1) := dk_96 (dk_at dksX3_ofNode_1 4 rfl rfl)
theorem dX3_ofNode_29 : decode cX3_ofNode 29 = .ok (.iload_n 2, 1) := dk_28 (dk_at dksX3_ofNode_1 5 rfl rfl)
theorem dX3_ofNode_30 : decode cX3_ofNode 30 = .ok (.iadd, 1) := dk_96 (dk_at dksX3_ofNode_1 6 rfl rfl)
theorem dX3_ofNode_31 : decode cX3_ofNode 31 = .ok (.iaload, 1) := dk_46 (dk_at dksX3_ofNode_1 7 rfl rfl)
theorem dX3_ofNode_32 : decode cX3_ofNode 32 = .ok (.ireturn, 1) := dk_172 (dk_at dksX3_ofNode_1 8 rfl rfl)
abbrev cX3_ageOf : ByteArray := prog_9_method_96_code
def yX3_ageOf : MethodName := ⟨RX3, "ageOf", "(I)I"⟩
def dkwX3_ageOf_0 : List UInt8 := [42, 27, 5, 182, 0, 221, 172]
abbrev dktX3_ageOf_0 : List UInt8 := dkwX3_ageOf_0 ++ []
theorem dksX3_ageOf_0 : cX3_ageOf.data.toList.drop 0 = dktX3_ageOf_0 := by decide +kernel
theorem dX3_ageOf_0 : decode cX3_ageOf 0 = .ok (.aload_n 0, 1) := dk_42 (dk_at dksX3_ageOf_0 0 rfl rfl)
theorem dX3_ageOf_1 : decode cX3_ageOf 1 = .ok (.iload_n 1, 1) := dk_27 (dk_at dksX3_ageOf_0 1 rfl rfl)
theorem dX3_ageOf_2 : decode cX3_ageOf 2 = .ok (.iconst 2, 1) := dk_5 (dk_at dksX3_ageOf_0 2 rfl rfl)
theorem dX3_ageOf_3 : decode cX3_ageOf 3 = .ok (.invokevirtual 221, 3) := dk_182 0 221 (dk_at dksX3_ageOf_0 3 rfl rfl)
theorem dX3_ageOf_6 : decode cX3_ageOf 6 = .ok (.ireturn, 1) := dk_172 (dk_at dksX3_ageOf_0 6 rfl rfl)
abbrev cX3_boxOf : ByteArray := prog_9_method_97_code
def yX3_boxOf : MethodName := ⟨RX3, "boxOf", "(I)I"⟩
def dkwX3_boxOf_1 : List UInt8 := [158, 0, 7, 3, 167, 0, 9, 42, 28, 8, 182, 0, 93, 172]
abbrev dktX3_boxOf_1 : List UInt8 := dkwX3_boxOf_1 ++ []
def dkwX3_boxOf_0 : List UInt8 := [42, 27, 182, 0, 143, 61, 42, 28, 2, 160, 0, 7, 4, 167, 0, 4, 3, 181, 0, 35, 42, 180, 0, 35]
abbrev dktX3_boxOf_0 : List UInt8 := dkwX3_boxOf_0 ++ dktX3_boxOf_1
theorem dksX3_boxOf_0 : cX3_boxOf.data.toList.drop 0 = dktX3_boxOf_0 := by decide +kernel
theorem dksX3_boxOf_1 : cX3_boxOf.data.toList.drop 24 = dktX3_boxOf_1 := dk_seg dksX3_boxOf_0 24 rfl rfl
theorem dX3_boxOf_0 : decode cX3_boxOf 0 = .ok (.aload_n 0, 1) := dk_42 (dk_at dksX3_boxOf_0 0 rfl rfl)
theorem dX3_boxOf_1 : decode cX3_boxOf 1 = .ok (.iload_n 1, 1) := dk_27 (dk_at dksX3_boxOf_0 1 rfl rfl)
theorem dX3_boxOf_2 : decode cX3_boxOf 2 = .ok (.invokevirtual 143, 3) := dk_182 0 143 (dk_at dksX3_boxOf_0 2 rfl rfl)
theorem dX3_boxOf_5 : decode cX3_boxOf 5 = .ok (.istore_n 2, 1) := dk_61 (dk_at dksX3_boxOf_0 5 rfl rfl)
theorem dX3_boxOf_6 : decode cX3_boxOf 6 = .ok (.aload_n 0, 1) := dk_42 (dk_at dksX3_boxOf_0 6 rfl rfl)
theorem dX3_boxOf_7 : decode cX3_boxOf 7 = .ok (.iload_n 2, 1) := dk_28 (dk_at dksX3_boxOf_0 7 rfl rfl)
theorem dX3_boxOf_8 : decode cX3_boxOf 8 = .ok (.iconst (-1), 1) := dk_2 (dk_at dksX3_boxOf_0 8 rfl rfl)
theorem dX3_boxOf_9 : decode cX3_boxOf 9 = .ok (.if_icmp .ne 7, 3) := dk_160 0 7 (dk_at dksX3_boxOf_0 9 rfl rfl)
theorem dX3_boxOf_12 : decode cX3_boxOf 12 = .ok (.iconst 1, 1) := dk_4 (dk_at dksX3_boxOf_0 12 rfl rfl)
theorem dX3_boxOf_13 : decode cX3_boxOf 13 = .ok (.goto 4, 3) := dk_167 0 4 (dk_at dksX3_boxOf_0 13 rfl rfl)
theorem dX3_boxOf_16 : decode cX3_boxOf 16 = .ok (.iconst 0, 1) := dk_3 (dk_at dksX3_boxOf_0 16 rfl rfl)
theorem dX3_boxOf_17 : decode cX3_boxOf 17 = .ok (.putfield 35, 3) := dk_181 0 35 (dk_at dksX3_boxOf_0 17 rfl rfl)
theorem dX3_boxOf_20 : decode cX3_boxOf 20 = .ok (.aload_n 0, 1) := dk_42 (dk_at dksX3_boxOf_0 20 rfl rfl)
theorem dX3_boxOf_21 : decode cX3_boxOf 21 = .ok (.getfield 35, 3) := dk_180 0 35 (dk_at dksX3_boxOf_0 21 rfl rfl)
theorem dX3_boxOf_24 : decode cX3_boxOf 24 = .ok (.ifCond .le 7, 3) := dk_158 0 7 (dk_at dksX3_boxOf_1 0 rfl rfl)
theorem dX3_boxOf_27 : decode cX3_boxOf 27 = .ok (.iconst 0, 1) := dk_3 (dk_at dksX3_boxOf_1 3 rfl rfl)
theorem dX3_boxOf_28 : decode cX3_boxOf 28 = .ok (.goto 9, 3) := dk_167 0 9 (dk_at dksX3_boxOf_1 4 rfl rfl)
theorem dX3_boxOf_31 : decode cX3_boxOf 31 = .ok (.aload_n 0, 1) := dk_42 (dk_at dksX3_boxOf_1 7 rfl rfl)
theorem dX3_boxOf_32 : decode cX3_boxOf 32 = .ok (.iload_n 2, 1) := dk_28 (dk_at dksX3_boxOf_1 8 rfl rfl)
theorem dX3_boxOf_33 : decode cX3_boxOf 33 = .ok (.iconst 5, 1) := dk_8 (dk_at dksX3_boxOf_1 9 rfl rfl)
theorem dX3_boxOf_34 : decode cX3_boxOf 34 = .ok (.invokevirtual 93, 3) := dk_182 0 93 (dk_at dksX3_boxOf_1 10 rfl rfl)
theorem dX3_boxOf_37 : decode cX3_boxOf 37 = .ok (.ireturn, 1) := dk_172 (dk_at dksX3_boxOf_1 13 rfl rfl)
abbrev cX3_oldest : ByteArray := prog_9_method_99_code
def yX3_oldest : MethodName := ⟨RX3, "oldest", "()I"⟩
def dkwX3_oldest_0 : List UInt8 := [42, 42, 182, 0, 224, 182, 0, 196, 172]
abbrev dktX3_oldest_0 : List UInt8 := dkwX3_oldest_0 ++ []
theorem dksX3_oldest_0 : cX3_oldest.data.toList.drop 0 = dktX3_oldest_0 := by decide +kernel
theorem dX3_oldest_0 : decode cX3_oldest 0 = .ok (.aload_n 0, 1) := dk_42 (dk_at dksX3_oldest_0 0 rfl rfl)
theorem dX3_oldest_1 : decode cX3_oldest 1 = .ok (.aload_n 0, 1) := dk_42 (dk_at dksX3_oldest_0 1 rfl rfl)
theorem dX3_oldest_2 : decode cX3_oldest 2 = .ok (.invokevirtual 224, 3) := dk_182 0 224 (dk_at dksX3_oldest_0 2 rfl rfl)
theorem dX3_oldest_5 : decode cX3_oldest 5 = .ok (.invokevirtual 196, 3) := dk_182 0 196 (dk_at dksX3_oldest_0 5 rfl rfl)
theorem dX3_oldest_8 : decode cX3_oldest 8 = .ok (.ireturn, 1) := dk_172 (dk_at dksX3_oldest_0 8 rfl rfl)
abbrev cX3_eldest : ByteArray := prog_9_method_98_code
def yX3_eldest : MethodName := ⟨RX3, "eldest", "()I"⟩
def dkwX3_eldest_2 : List UInt8 := [27, 2, 160, 0, 7, 2, 167, 0, 9, 42, 27, 3, 182, 0, 93, 172]
abbrev dktX3_eldest_2 : List UInt8 := dkwX3_eldest_2 ++ []
def dkwX3_eldest_1 : List UInt8 := [182, 0, 93, 42, 27, 5, 182, 0, 93, 164, 0, 7, 28, 167, 0, 4, 27, 60, 132, 2, 1, 167, 255, 217]
abbrev dktX3_eldest_1 : List UInt8 := dkwX3_eldest_1 ++ dktX3_eldest_2
def dkwX3_eldest_0 : List UInt8 := [2, 60, 3, 61, 28, 42, 180, 0, 7, 6, 46, 162, 0, 35, 27, 2, 159, 0, 18, 42, 28, 5]
abbrev dktX3_eldest_0 : List UInt8 := dkwX3_eldest_0 ++ dktX3_eldest_1
theorem dksX3_eldest_0 : cX3_eldest.data.toList.drop 0 = dktX3_eldest_0 := by decide +kernel
theorem dksX3_eldest_1 : cX3_eldest.data.toList.drop 22 = dktX3_eldest_1 := dk_seg dksX3_eldest_0 22 rfl rfl
theorem dksX3_eldest_2 : cX3_eldest.data.toList.drop 46 = dktX3_eldest_2 := dk_seg dksX3_eldest_1 24 rfl rfl
theorem dX3_eldest_0 : decode cX3_eldest 0 = .ok (.iconst (-1), 1) := dk_2 (dk_at dksX3_eldest_0 0 rfl rfl)
theorem dX3_eldest_1 : decode cX3_eldest 1 = .ok (.istore_n 1, 1) := dk_60 (dk_at dksX3_eldest_0 1 rfl rfl)
theorem dX3_eldest_2 : decode cX3_eldest 2 = .ok (.iconst 0, 1) := dk_3 (dk_at dksX3_eldest_0 2 rfl rfl)
theorem dX3_eldest_3 : decode cX3_eldest 3 = .ok (.istore_n 2, 1) := dk_61 (dk_at dksX3_eldest_0 3 rfl rfl)
theorem dX3_eldest_4 : decode cX3_eldest 4 = .ok (.iload_n 2, 1) := dk_28 (dk_at dksX3_eldest_0 4 rfl rfl)
theorem dX3_eldest_5 : decode cX3_eldest 5 = .ok (.aload_n 0, 1) := dk_42 (dk_at dksX3_eldest_0 5 rfl rfl)
theorem dX3_eldest_6 : decode cX3_eldest 6 = .ok (.getfield 7, 3) := dk_180 0 7 (dk_at dksX3_eldest_0 6 rfl rfl)
theorem dX3_eldest_9 : decode cX3_eldest 9 = .ok (.iconst 3, 1) := dk_6 (dk_at dksX3_eldest_0 9 rfl rfl)
theorem dX3_eldest_10 : decode cX3_eldest 10 = .ok (.iaload, 1) := dk_46 (dk_at dksX3_eldest_0 10 rfl rfl)
theorem dX3_eldest_11 : decode cX3_eldest 11 = .ok (.if_icmp .ge 35, 3) := dk_162 0 35 (dk_at dksX3_eldest_0 11 rfl rfl)
theorem dX3_eldest_14 : decode cX3_eldest 14 = .ok (.iload_n 1, 1) := dk_27 (dk_at dksX3_eldest_0 14 rfl rfl)
theorem dX3_eldest_15 : decode cX3_eldest 15 = .ok (.iconst (-1), 1) := dk_2 (dk_at dksX3_eldest_0 15 rfl rfl)
theorem dX3_eldest_16 : decode cX3_eldest 16 = .ok (.if_icmp .eq 18, 3) := dk_159 0 18 (dk_at dksX3_eldest_0 16 rfl rfl)
theorem dX3_eldest_19 : decode cX3_eldest 19 = .ok (.aload_n 0, 1) := dk_42 (dk_at dksX3_eldest_0 19 rfl rfl)
theorem dX3_eldest_20 : decode cX3_eldest 20 = .ok (.iload_n 2, 1) := dk_28 (dk_at dksX3_eldest_0 20 rfl rfl)
theorem dX3_eldest_21 : decode cX3_eldest 21 = .ok (.iconst 2, 1) := dk_5 (dk_at dksX3_eldest_0 21 rfl rfl)
theorem dX3_eldest_22 : decode cX3_eldest 22 = .ok (.invokevirtual 93, 3) := dk_182 0 93 (dk_at dksX3_eldest_1 0 rfl rfl)
theorem dX3_eldest_25 : decode cX3_eldest 25 = .ok (.aload_n 0, 1) := dk_42 (dk_at dksX3_eldest_1 3 rfl rfl)
theorem dX3_eldest_26 : decode cX3_eldest 26 = .ok (.iload_n 1, 1) := dk_27 (dk_at dksX3_eldest_1 4 rfl rfl)
theorem dX3_eldest_27 : decode cX3_eldest 27 = .ok (.iconst 2, 1) := dk_5 (dk_at dksX3_eldest_1 5 rfl rfl)
theorem dX3_eldest_28 : decode cX3_eldest 28 = .ok (.invokevirtual 93, 3) := dk_182 0 93 (dk_at dksX3_eldest_1 6 rfl rfl)
theorem dX3_eldest_31 : decode cX3_eldest 31 = .ok (.if_icmp .le 7, 3) := dk_164 0 7 (dk_at dksX3_eldest_1 9 rfl rfl)
theorem dX3_eldest_34 : decode cX3_eldest 34 = .ok (.iload_n 2, 1) := dk_28 (dk_at dksX3_eldest_1 12 rfl rfl)
theorem dX3_eldest_35 : decode cX3_eldest 35 = .ok (.goto 4, 3) := dk_167 0 4 (dk_at dksX3_eldest_1 13 rfl rfl)
theorem dX3_eldest_38 : decode cX3_eldest 38 = .ok (.iload_n 1, 1) := dk_27 (dk_at dksX3_eldest_1 16 rfl rfl)
theorem dX3_eldest_39 : decode cX3_eldest 39 = .ok (.istore_n 1, 1) := dk_60 (dk_at dksX3_eldest_1 17 rfl rfl)
theorem dX3_eldest_40 : decode cX3_eldest 40 = .ok (.iinc 2 1, 3) := dk_132 2 1 (dk_at dksX3_eldest_1 18 rfl rfl)
theorem dX3_eldest_43 : decode cX3_eldest 43 = .ok (.goto (-39), 3) := dk_167 255 217 (dk_at dksX3_eldest_1 21 rfl rfl)
theorem dX3_eldest_46 : decode cX3_eldest 46 = .ok (.iload_n 1, 1) := dk_27 (dk_at dksX3_eldest_2 0 rfl rfl)
theorem dX3_eldest_47 : decode cX3_eldest 47 = .ok (.iconst (-1), 1) := dk_2 (dk_at dksX3_eldest_2 1 rfl rfl)
theorem dX3_eldest_48 : decode cX3_eldest 48 = .ok (.if_icmp .ne 7, 3) := dk_160 0 7 (dk_at dksX3_eldest_2 2 rfl rfl)
theorem dX3_eldest_51 : decode cX3_eldest 51 = .ok (.iconst (-1), 1) := dk_2 (dk_at dksX3_eldest_2 5 rfl rfl)
theorem dX3_eldest_52 : decode cX3_eldest 52 = .ok (.goto 9, 3) := dk_167 0 9 (dk_at dksX3_eldest_2 6 rfl rfl)
theorem dX3_eldest_55 : decode cX3_eldest 55 = .ok (.aload_n 0, 1) := dk_42 (dk_at dksX3_eldest_2 9 rfl rfl)
theorem dX3_eldest_56 : decode cX3_eldest 56 = .ok (.iload_n 1, 1) := dk_27 (dk_at dksX3_eldest_2 10 rfl rfl)
theorem dX3_eldest_57 : decode cX3_eldest 57 = .ok (.iconst 0, 1) := dk_3 (dk_at dksX3_eldest_2 11 rfl rfl)
theorem dX3_eldest_58 : decode cX3_eldest 58 = .ok (.invokevirtual 93, 3) := dk_182 0 93 (dk_at dksX3_eldest_2 12 rfl rfl)
theorem dX3_eldest_61 : decode cX3_eldest 61 = .ok (.ireturn, 1) := dk_172 (dk_at dksX3_eldest_2 15 rfl rfl)
abbrev cX3_meanAge : ByteArray := prog_9_method_100_code
def yX3_meanAge : MethodName := ⟨RX3, "meanAge", "()D"⟩
def dkwX3_meanAge_2 : List UInt8 := [27, 135, 42, 180, 0, 7, 6, 46, 135, 111, 175]
abbrev dktX3_meanAge_2 : List UInt8 := dkwX3_meanAge_2 ++ []
def dkwX3_meanAge_1 : List UInt8 := [182, 0, 93, 96, 60, 132, 2, 1, 167, 255, 234, 42, 180, 0, 7, 6, 46, 154, 0, 7, 14, 167, 0, 13]
abbrev dktX3_meanAge_1 : List UInt8 := dkwX3_meanAge_1 ++ dktX3_meanAge_2
def dkwX3_meanAge_0 : List UInt8 := [42, 3, 181, 0, 35, 3, 60, 3, 61, 28, 42, 180, 0, 7, 6, 46, 162, 0, 18, 27, 42, 28, 5]
abbrev dktX3_meanAge_0 : List UInt8 := dkwX3_meanAge_0 ++ dktX3_meanAge_1
theorem dksX3_meanAge_0 : cX3_meanAge.data.toList.drop 0 = dktX3_meanAge_0 := by decide +kernel
theorem dksX3_meanAge_1 : cX3_meanAge.data.toList.drop 23 = dktX3_meanAge_1 := dk_seg dksX3_meanAge_0 23 rfl rfl
theorem dksX3_meanAge_2 : cX3_meanAge.data.toList.drop 47 = dktX3_meanAge_2 := dk_seg dksX3_meanAge_1 24 rfl rfl
theorem dX3_meanAge_0 : decode cX3_meanAge 0 = .ok (.aload_n 0, 1) := dk_42 (dk_at dksX3_meanAge_0 0 rfl rfl)
theorem dX3_meanAge_1 : decode cX3_meanAge 1 = .ok (.iconst 0, 1) := dk_3 (dk_at dksX3_meanAge_0 1 rfl rfl)
theorem dX3_meanAge_2 : decode cX3_meanAge 2 = .ok (.putfield 35, 3) := dk_181 0 35 (dk_at dksX3_meanAge_0 2 rfl rfl)
theorem dX3_meanAge_5 : decode cX3_meanAge 5 = .ok (.iconst 0, 1) := dk_3 (dk_at dksX3_meanAge_0 5 rfl rfl)
theorem dX3_meanAge_6 : decode cX3_meanAge 6 = .ok (.istore_n 1, 1) := dk_60 (dk_at dksX3_meanAge_0 6 rfl rfl)
theorem dX3_meanAge_7 : decode cX3_meanAge 7 = .ok (.iconst 0, 1) := dk_3 (dk_at dksX3_meanAge_0 7 rfl rfl)
theorem dX3_meanAge_8 : decode cX3_meanAge 8 = .ok (.istore_n 2, 1) := dk_61 (dk_at dksX3_meanAge_0 8 rfl rfl)
theorem dX3_meanAge_9 : decode cX3_meanAge 9 = .ok (.iload_n 2, 1) := dk_28 (dk_at dksX3_meanAge_0 9 rfl rfl)
theorem dX3_meanAge_10 : decode cX3_meanAge 10 = .ok (.aload_n 0, 1) := dk_42 (dk_at dksX3_meanAge_0 10 rfl rfl)
theorem dX3_meanAge_11 : decode cX3_meanAge 11 = .ok (.getfield 7, 3) := dk_180 0 7 (dk_at dksX3_meanAge_0 11 rfl rfl)
theorem dX3_meanAge_14 : decode cX3_meanAge 14 = .ok (.iconst 3, 1) := dk_6 (dk_at dksX3_meanAge_0 14 rfl rfl)
theorem dX3_meanAge_15 : decode cX3_meanAge 15 = .ok (.iaload, 1) := dk_46 (dk_at dksX3_meanAge_0 15 rfl rfl)
theorem dX3_meanAge_16 : decode cX3_meanAge 16 = .ok (.if_icmp .ge 18, 3) := dk_162 0 18 (dk_at dksX3_meanAge_0 16 rfl rfl)
theorem dX3_meanAge_19 : decode cX3_meanAge 19 = .ok (.iload_n 1, 1) := dk_27 (dk_at dksX3_meanAge_0 19 rfl rfl)
theorem dX3_meanAge_20 : decode cX3_meanAge 20 = .ok (.aload_n 0, 1) := dk_42 (dk_at dksX3_meanAge_0 20 rfl rfl)
theorem dX3_meanAge_21 : decode cX3_meanAge 21 = .ok (.iload_n 2, 1) := dk_28 (dk_at dksX3_meanAge_0 21 rfl rfl)
theorem dX3_meanAge_22 : decode cX3_meanAge 22 = .ok (.iconst 2, 1) := dk_5 (dk_at dksX3_meanAge_0 22 rfl rfl)
theorem dX3_meanAge_23 : decode cX3_meanAge 23 = .ok (.invokevirtual 93, 3) := dk_182 0 93 (dk_at dksX3_meanAge_1 0 rfl rfl)
theorem dX3_meanAge_26 : decode cX3_meanAge 26 = .ok (.iadd, 1) := dk_96 (dk_at dksX3_meanAge_1 3 rfl rfl)
theorem dX3_meanAge_27 : decode cX3_meanAge 27 = .ok (.istore_n 1, 1) := dk_60 (dk_at dksX3_meanAge_1 4 rfl rfl)
theorem dX3_meanAge_28 : decode cX3_meanAge 28 = .ok (.iinc 2 1, 3) := dk_132 2 1 (dk_at dksX3_meanAge_1 5 rfl rfl)
theorem dX3_meanAge_31 : decode cX3_meanAge 31 = .ok (.goto (-22), 3) := dk_167 255 234 (dk_at dksX3_meanAge_1 8 rfl rfl)
theorem dX3_meanAge_34 : decode cX3_meanAge 34 = .ok (.aload_n 0, 1) := dk_42 (dk_at dksX3_meanAge_1 11 rfl rfl)
theorem dX3_meanAge_35 : decode cX3_meanAge 35 = .ok (.getfield 7, 3) := dk_180 0 7 (dk_at dksX3_meanAge_1 12 rfl rfl)
theorem dX3_meanAge_38 : decode cX3_meanAge 38 = .ok (.iconst 3, 1) := dk_6 (dk_at dksX3_meanAge_1 15 rfl rfl)
theorem dX3_meanAge_39 : decode cX3_meanAge 39 = .ok (.iaload, 1) := dk_46 (dk_at dksX3_meanAge_1 16 rfl rfl)
theorem dX3_meanAge_40 : decode cX3_meanAge 40 = .ok (.ifCond .ne 7, 3) := dk_154 0 7 (dk_at dksX3_meanAge_1 17 rfl rfl)
theorem dX3_meanAge_43 : decode cX3_meanAge 43 = .ok (.dconst 0, 1) := dk_14 (dk_at dksX3_meanAge_1 20 rfl rfl)
theorem dX3_meanAge_44 : decode cX3_meanAge 44 = .ok (.goto 13, 3) := dk_167 0 13 (dk_at dksX3_meanAge_1 21 rfl rfl)
theorem dX3_meanAge_47 : decode cX3_meanAge 47 = .ok (.iload_n 1, 1) := dk_27 (dk_at dksX3_meanAge_2 0 rfl rfl)
theorem dX3_meanAge_48 : decode cX3_meanAge 48 = .ok (.i2d, 1) := dk_135 (dk_at dksX3_meanAge_2 1 rfl rfl)
theorem dX3_meanAge_49 : decode cX3_meanAge 49 = .ok (.aload_n 0, 1) := dk_42 (dk_at dksX3_meanAge_2 2 rfl rfl)
theorem dX3_meanAge_50 : decode cX3_meanAge 50 = .ok (.getfield 7, 3) := dk_180 0 7 (dk_at dksX3_meanAge_2 3 rfl rfl)
theorem dX3_meanAge_53 : decode cX3_meanAge 53 = .ok (.iconst 3, 1) := dk_6 (dk_at dksX3_meanAge_2 6 rfl rfl)
theorem dX3_meanAge_54 : decode cX3_meanAge 54 = .ok (.iaload, 1) := dk_46 (dk_at dksX3_meanAge_2 7 rfl rfl)
theorem dX3_meanAge_55 : decode cX3_meanAge 55 = .ok (.i2d, 1) := dk_135 (dk_at dksX3_meanAge_2 8 rfl rfl)
theorem dX3_meanAge_56 : decode cX3_meanAge 56 = .ok (.ddiv, 1) := dk_111 (dk_at dksX3_meanAge_2 9 rfl rfl)
theorem dX3_meanAge_57 : decode cX3_meanAge 57 = .ok (.dreturn, 1) := dk_175 (dk_at dksX3_meanAge_2 10 rfl rfl)
abbrev cX3_motherOf : ByteArray := prog_9_method_104_code
def yX3_motherOf : MethodName := ⟨RX3, "motherOf", "(I)I"⟩
def dkwX3_motherOf_0 : List UInt8 := [42, 27, 6, 182, 0, 233, 172]
abbrev dktX3_motherOf_0 : List UInt8 := dkwX3_motherOf_0 ++ []
theorem dksX3_motherOf_0 : cX3_motherOf.data.toList.drop 0 = dktX3_motherOf_0 := by decide +kernel
theorem dX3_motherOf_0 : decode cX3_motherOf 0 = .ok (.aload_n 0, 1) := dk_42 (dk_at dksX3_motherOf_0 0 rfl rfl)
theorem dX3_motherOf_1 : decode cX3_motherOf 1 = .ok (.iload_n 1, 1) := dk_27 (dk_at dksX3_motherOf_0 1 rfl rfl)
theorem dX3_motherOf_2 : decode cX3_motherOf 2 = .ok (.iconst 3, 1) := dk_6 (dk_at dksX3_motherOf_0 2 rfl rfl)
theorem dX3_motherOf_3 : decode cX3_motherOf 3 = .ok (.invokevirtual 233, 3) := dk_182 0 233 (dk_at dksX3_motherOf_0 3 rfl rfl)
theorem dX3_motherOf_6 : decode cX3_motherOf 6 = .ok (.ireturn, 1) := dk_172 (dk_at dksX3_motherOf_0 6 rfl rfl)
abbrev cX3_tellsParent : ByteArray := prog_9_method_103_code
def yX3_tellsParent : MethodName := ⟨RX3, "tellsParent", "(II)I"⟩
def dkwX3_tellsParent_1 : List UInt8 := [158, 0, 7, 3, 167, 0, 9, 42, 29, 28, 182, 0, 230, 172]
abbrev dktX3_tellsParent_1 : List UInt8 := dkwX3_tellsParent_1 ++ []
def dkwX3_tellsParent_0 : List UInt8 := [42, 27, 182, 0, 215, 62, 42, 29, 2, 160, 0, 7, 4, 167, 0, 4, 3, 181, 0, 35, 42, 180, 0, 35]
abbrev dktX3_tellsParent_0 : List UInt8 := dkwX3_tellsParent_0 ++ dktX3_tellsParent_1
theorem dksX3_tellsParent_0 : cX3_tellsParent.data.toList.drop 0 = dktX3_tellsParent_0 := by decide +kernel
theorem dksX3_tellsParent_1 : cX3_tellsParent.data.toList.drop 24 = dktX3_tellsParent_1 := dk_seg dksX3_tellsParent_0 24 rfl rfl
theorem dX3_tellsParent_0 : decode cX3_tellsParent 0 = .ok (.aload_n 0, 1) := dk_42 (dk_at dksX3_tellsParent_0 0 rfl rfl)
theorem dX3_tellsParent_1 : decode cX3_tellsParent 1 = .ok (.iload_n 1, 1) := dk_27 (dk_at dksX3_tellsParent_0 1 rfl rfl)
theorem dX3_tellsParent_2 : decode cX3_tellsParent 2 = .ok (.invokevirtual 215, 3) := dk_182 0 215 (dk_at dksX3_tellsParent_0 2 rfl rfl)
theorem dX3_tellsParent_5 : decode cX3_tellsParent 5 = .ok (.istore_n 3, 1) := dk_62 (dk_at dksX3_tellsParent_0 5 rfl rfl)
theorem dX3_tellsParent_6 : decode cX3_tellsParent 6 = .ok (.aload_n 0, 1) := dk_42 (dk_at dksX3_tellsParent_0 6 rfl rfl)
theorem dX3_tellsParent_7 : decode cX3_tellsParent 7 = .ok (.iload_n 3, 1) := dk_29 (dk_at dksX3_tellsParent_0 7 rfl rfl)
theorem dX3_tellsParent_8 : decode cX3_tellsParent 8 = .ok (.iconst (-1), 1) := dk_2 (dk_at dksX3_tellsParent_0 8 rfl rfl)
theorem dX3_tellsParent_9 : decode cX3_tellsParent 9 = .ok (.if_icmp .ne 7, 3) := dk_160 0 7 (dk_at dksX3_tellsParent_0 9 rfl rfl)
theorem dX3_tellsParent_12 : decode cX3_tellsParent 12 = .ok (.iconst 1, 1) := dk_4 (dk_at dksX3_tellsParent_0 12 rfl rfl)
theorem dX3_tellsParent_13 : decode cX3_tellsParent 13 = .ok (.goto 4, 3) := dk_167 0 4 (dk_at dksX3_tellsParent_0 13 rfl rfl)
theorem dX3_tellsParent_16 : decode cX3_tellsParent 16 = .ok (.iconst 0, 1) := dk_3 (dk_at dksX3_tellsParent_0 16 rfl rfl)
theorem dX3_tellsParent_17 : decode cX3_tellsParent 17 = .ok (.putfield 35, 3) := dk_181 0 35 (dk_at dksX3_tellsParent_0 17 rfl rfl)
theorem dX3_tellsParent_20 : decode cX3_tellsParent 20 = .ok (.aload_n 0, 1) := dk_42 (dk_at dksX3_tellsParent_0 20 rfl rfl)
theorem dX3_tellsParent_21 : decode cX3_tellsParent 21 = .ok (.getfield 35, 3) := dk_180 0 35 (dk_at dksX3_tellsParent_0 21 rfl rfl)
theorem dX3_tellsParent_24 : decode cX3_tellsParent 24 = .ok (.ifCond .le 7, 3) := dk_158 0 7 (dk_at dksX3_tellsParent_1 0 rfl rfl)
theorem dX3_tellsParent_27 : decode cX3_tellsParent 27 = .ok (.iconst 0, 1) := dk_3 (dk_at dksX3_tellsParent_1 3 rfl rfl)
theorem dX3_tellsParent_28 : decode cX3_tellsParent 28 = .ok (.goto 9, 3) := dk_167 0 9 (dk_at dksX3_tellsParent_1 4 rfl rfl)
theorem dX3_tellsParent_31 : decode cX3_tellsParent 31 = .ok (.aload_n 0, 1) := dk_42 (dk_at dksX3_tellsParent_1 7 rfl rfl)
theorem dX3_tellsParent_32 : decode cX3_tellsParent 32 = .ok (.iload_n 3, 1) := dk_29 (dk_at dksX3_tellsParent_1 8 rfl rfl)
theorem dX3_tellsParent_33 : decode cX3_tellsParent 33 = .ok (.iload_n 2, 1) := dk_28 (dk_at dksX3_tellsParent_1 9 rfl rfl)
theorem dX3_tellsParent_34 : decode cX3_tellsParent 34 = .ok (.invokevirtual 230, 3) := dk_182 0 230 (dk_at dksX3_tellsParent_1 10 rfl rfl)
theorem dX3_tellsParent_37 : decode cX3_tellsParent 37 = .ok (.ireturn, 1) := dk_172 (dk_at dksX3_tellsParent_1 13 rfl rfl)
abbrev cX3_parentRing : ByteArray := prog_9_method_102_code
def yX3_parentRing : MethodName := ⟨RX3, "parentRing", "(II)I"⟩
def dkwX3_parentRing_0 : List UInt8 := [42, 27, 28, 182, 0, 227, 2, 160, 0, 7, 2, 167, 0, 9, 42, 27, 28, 182, 0, 218, 172]
abbrev dktX3_parentRing_0 : List UInt8 := dkwX3_parentRing_0 ++ []
theorem dksX3_parentRing_0 : cX3_parentRing.data.toList.drop 0 = dktX3_parentRing_0 := by decide +kernel
theorem dX3_parentRing_0 : decode cX3_parentRing 0 = .ok (.aload_n 0, 1) := dk_42 (dk_at dksX3_parentRing_0 0 rfl rfl)
theorem dX3_parentRing_1 : decode cX3_parentRing 1 = .ok (.iload_n 1, 1) := dk_27 (dk_at dksX3_parentRing_0 1 rfl rfl)
theorem dX3_parentRing_2 : decode cX3_parentRing 2 = .ok (.iload_n 2, 1) := dk_28 (dk_at dksX3_parentRing_0 2 rfl rfl)
theorem dX3_parentRing_3 : decode cX3_parentRing 3 = .ok (.invokevirtual 227, 3) := dk_182 0 227 (dk_at dksX3_parentRing_0 3 rfl rfl)
theorem dX3_parentRing_6 : decode cX3_parentRing 6 = .ok (.iconst (-1), 1) := dk_2 (dk_at dksX3_parentRing_0 6 rfl rfl)
theorem dX3_parentRing_7 : decode cX3_parentRing 7 = .ok (.if_icmp .ne 7, 3) := dk_160 0 7 (dk_at dksX3_parentRing_0 7 rfl rfl)
theorem dX3_parentRing_10 : decode cX3_parentRing 10 = .ok (.iconst (-1), 1) := dk_2 (dk_at dksX3_parentRing_0 10 rfl rfl)
theorem dX3_parentRing_11 : decode cX3_parentRing 11 = .ok (.goto 9, 3) := dk_167 0 9 (dk_at dksX3_parentRing_0 11 rfl rfl)
theorem dX3_parentRing_14 : decode cX3_parentRing 14 = .ok (.aload_n 0, 1) := dk_42 (dk_at dksX3_parentRing_0 14 rfl rfl)
theorem dX3_parentRing_15 : decode cX3_parentRing 15 = .ok (.iload_n 1, 1) := dk_27 (dk_at dksX3_parentRing_0 15 rfl rfl)
theorem dX3_parentRing_16 : decode cX3_parentRing 16 = .ok (.iload_n 2, 1) := dk_28 (dk_at dksX3_parentRing_0 16 rfl rfl)
theorem dX3_parentRing_17 : decode cX3_parentRing 17 = .ok (.invokevirtual 218, 3) := dk_182 0 218 (dk_at dksX3_parentRing_0 17 rfl rfl)
theorem dX3_parentRing_20 : decode cX3_parentRing 20 = .ok (.ireturn, 1) := dk_172 (dk_at dksX3_parentRing_0 20 rfl rfl)
abbrev cX3_parent : ByteArray := prog_9_method_101_code
def yX3_parent : MethodName := ⟨RX3, "parent", "(II)I"⟩
def dkwX3_parent_0 : List UInt8 := [42, 42, 27, 28, 182, 0, 218, 182, 0, 215, 172]
abbrev dktX3_parent_0 : List UInt8 := dkwX3_parent_0 ++ []
theorem dksX3_parent_0 : cX3_parent.data.toList.drop 0 = dktX3_parent_0 := by decide +kernel
theorem dX3_parent_0 : decode cX3_parent 0 = .ok (.aload_n 0, 1) := dk_42 (dk_at dksX3_parent_0 0 rfl rfl)
theorem dX3_parent_1 : decode cX3_parent 1 = .ok (.aload_n 0, 1) := dk_42 (dk_at dksX3_parent_0 1 rfl rfl)
theorem dX3_parent_2 : decode cX3_parent 2 = .ok (.iload_n 1, 1) := dk_27 (dk_at dksX3_parent_0 2 rfl rfl)
theorem dX3_parent_3 : decode cX3_parent 3 = .ok (.iload_n 2, 1) := dk_28 (dk_at dksX3_parent_0 3 rfl rfl)
theorem dX3_parent_4 : decode cX3_parent 4 = .ok (.invokevirtual 218, 3) := dk_182 0 218 (dk_at dksX3_parent_0 4 rfl rfl)
theorem dX3_parent_7 : decode cX3_parent 7 = .ok (.invokevirtual 215, 3) := dk_182 0 215 (dk_at dksX3_parent_0 7 rfl rfl)
theorem dX3_parent_10 : decode cX3_parent 10 = .ok (.ireturn, 1) := dk_172 (dk_at dksX3_parent_0 10 rfl rfl)
abbrev cX3_fatherOf : ByteArray := prog_9_method_105_code
def yX3_fatherOf : MethodName := ⟨RX3, "fatherOf", "(I)I"⟩
def dkwX3_fatherOf_0 : List UInt8 := [42, 27, 7, 182, 0, 233, 172]
abbrev dktX3_fatherOf_0 : List UInt8 := dkwX3_fatherOf_0 ++ []
theorem dksX3_fatherOf_0 : cX3_fatherOf.data.toList.drop 0 = dktX3_fatherOf_0 := by decide +kernel
theorem dX3_fatherOf_0 : decode cX3_fatherOf 0 = .ok (.aload_n 0, 1) := dk_42 (dk_at dksX3_fatherOf_0 0 rfl rfl)
theorem dX3_fatherOf_1 : decode cX3_fatherOf 1 = .ok (.iload_n 1, 1) := dk_27 (dk_at dksX3_fatherOf_0 1 rfl rfl)
theorem dX3_fatherOf_2 : decode cX3_fatherOf 2 = .ok (.iconst 4, 1) := dk_7 (dk_at dksX3_fatherOf_0 2 rfl rfl)
theorem dX3_fatherOf_3 : decode cX3_fatherOf 3 = .ok (.invokevirtual 233, 3) := dk_182 0 233 (dk_at dksX3_fatherOf_0 3 rfl rfl)
theorem dX3_fatherOf_6 : decode cX3_fatherOf 6 = .ok (.ireturn, 1) := dk_172 (dk_at dksX3_fatherOf_0 6 rfl rfl)
abbrev cX3_childrenOf : ByteArray := prog_9_method_107_code
def yX3_childrenOf : MethodName := ⟨RX3, "childrenOf", "(I)I"⟩
def dkwX3_childrenOf_1 : List UInt8 := [158, 0, 7, 3, 167, 0, 8, 42, 28, 182, 0, 239, 172]
abbrev dktX3_childrenOf_1 : List UInt8 := dkwX3_childrenOf_1 ++ []
def dkwX3_childrenOf_0 : List UInt8 := [42, 27, 182, 0, 215, 61, 42, 28, 2, 160, 0, 7, 4, 167, 0, 4, 3, 181, 0, 35, 42, 180, 0, 35]
abbrev dktX3_childrenOf_0 : List UInt8 := dkwX3_childrenOf_0 ++ dktX3_childrenOf_1
theorem dksX3_childrenOf_0 : cX3_childrenOf.data.toList.drop 0 = dktX3_childrenOf_0 := by decide +kernel
theorem dksX3_childrenOf_1 : cX3_childrenOf.data.toList.drop 24 = dktX3_childrenOf_1 := dk_seg dksX3_childrenOf_0 24 rfl rfl
theorem dX3_childrenOf_0 : decode cX3_childrenOf 0 = .ok (.aload_n 0, 1) := dk_42 (dk_at dksX3_childrenOf_0 0 rfl rfl)
theorem dX3_childrenOf_1 : decode cX3_childrenOf 1 = .ok (.iload_n 1, 1) := dk_27 (dk_at dksX3_childrenOf_0 1 rfl rfl)
theorem dX3_childrenOf_2 : decode cX3_childrenOf 2 = .ok (.invokevirtual 215, 3) := dk_182 0 215 (dk_at dksX3_childrenOf_0 2 rfl rfl)
theorem dX3_childrenOf_5 : decode cX3_childrenOf 5 = .ok (.istore_n 2, 1) := dk_61 (dk_at dksX3_childrenOf_0 5 rfl rfl)
theorem dX3_childrenOf_6 : decode cX3_childrenOf 6 = .ok (.aload_n 0, 1) := dk_42 (dk_at dksX3_childrenOf_0 6 rfl rfl)
theorem dX3_childrenOf_7 : decode cX3_childrenOf 7 = .ok (.iload_n 2, 1) := dk_28 (dk_at dksX3_childrenOf_0 7 rfl rfl)
theorem dX3_childrenOf_8 : decode cX3_childrenOf 8 = .ok (.iconst (-1), 1) := dk_2 (dk_at dksX3_childrenOf_0 8 rfl rfl)
theorem dX3_childrenOf_9 : decode cX3_childrenOf 9 = .ok (.if_icmp .ne 7, 3) := dk_160 0 7 (dk_at dksX3_childrenOf_0 9 rfl rfl)
theorem dX3_childrenOf_12 : decode cX3_childrenOf 12 = .ok (.iconst 1, 1) := dk_4 (dk_at dksX3_childrenOf_0 12 rfl rfl)
theorem dX3_childrenOf_13 : decode cX3_childrenOf 13 = .ok (.goto 4, 3) := dk_167 0 4 (dk_at dksX3_childrenOf_0 13 rfl rfl)
theorem dX3_childrenOf_16 : decode cX3_childrenOf 16 = .ok (.iconst 0, 1) := dk_3 (dk_at dksX3_childrenOf_0 16 rfl rfl)
theorem dX3_childrenOf_17 : decode cX3_childrenOf 17 = .ok (.putfield 35, 3) := dk_181 0 35 (dk_at dksX3_childrenOf_0 17 rfl rfl)
theorem dX3_childrenOf_20 : decode cX3_childrenOf 20 = .ok (.aload_n 0, 1) := dk_42 (dk_at dksX3_childrenOf_0 20 rfl rfl)
theorem dX3_childrenOf_21 : decode cX3_childrenOf 21 = .ok (.getfield 35, 3) := dk_180 0 35 (dk_at dksX3_childrenOf_0 21 rfl rfl)
theorem dX3_childrenOf_24 : decode cX3_childrenOf 24 = .ok (.ifCond .le 7, 3) := dk_158 0 7 (dk_at dksX3_childrenOf_1 0 rfl rfl)
theorem dX3_childrenOf_27 : decode cX3_childrenOf 27 = .ok (.iconst 0, 1) := dk_3 (dk_at dksX3_childrenOf_1 3 rfl rfl)
theorem dX3_childrenOf_28 : decode cX3_childrenOf 28 = .ok (.goto 8, 3) := dk_167 0 8 (dk_at dksX3_childrenOf_1 4 rfl rfl)
theorem dX3_childrenOf_31 : decode cX3_childrenOf 31 = .ok (.aload_n 0, 1) := dk_42 (dk_at dksX3_childrenOf_1 7 rfl rfl)
theorem dX3_childrenOf_32 : decode cX3_childrenOf 32 = .ok (.iload_n 2, 1) := dk_28 (dk_at dksX3_childrenOf_1 8 rfl rfl)
theorem dX3_childrenOf_33 : decode cX3_childrenOf 33 = .ok (.invokevirtual 239, 3) := dk_182 0 239 (dk_at dksX3_childrenOf_1 9 rfl rfl)
theorem dX3_childrenOf_36 : decode cX3_childrenOf 36 = .ok (.ireturn, 1) := dk_172 (dk_at dksX3_childrenOf_1 12 rfl rfl)
abbrev cX3_children : ByteArray := prog_9_method_106_code
def yX3_children : MethodName := ⟨RX3, "children", "(I)I"⟩
def dkwX3_children_2 : List UInt8 := [132, 3, 1, 167, 255, 211, 28, 172]
abbrev dktX3_children_2 : List UInt8 := dkwX3_children_2 ++ []
def dkwX3_children_1 : List UInt8 := [182, 0, 227, 27, 159, 0, 13, 42, 29, 7, 182, 0, 227, 27, 160, 0, 7, 4, 167, 0, 4, 3, 96, 61]
abbrev dktX3_children_1 : List UInt8 := dkwX3_children_1 ++ dktX3_children_2
def dkwX3_children_0 : List UInt8 := [3, 61, 3, 62, 29, 16, 100, 162, 0, 45, 28, 42, 29, 182, 0, 236, 153, 0, 27, 42, 29, 6]
abbrev dktX3_children_0 : List UInt8 := dkwX3_children_0 ++ dktX3_children_1
theorem dksX3_children_0 : cX3_children.data.toList.drop 0 = dktX3_children_0 := by decide +kernel
theorem dksX3_children_1 : cX3_children.data.toList.drop 22 = dktX3_children_1 := dk_seg dksX3_children_0 22 rfl rfl
theorem dksX3_children_2 : cX3_children.data.toList.drop 46 = dktX3_children_2 := dk_seg dksX3_children_1 24 rfl rfl
theorem dX3_children_0 : decode cX3_children 0 = .ok (.iconst 0, 1) := dk_3 (dk_at dksX3_children_0 0 rfl rfl)
theorem dX3_children_1 : decode cX3_children 1 = .ok (.istore_n 2, 1) := dk_61 (dk_at dksX3_children_0 1 rfl rfl)
theorem dX3_children_2 : decode cX3_children 2 = .ok (.iconst 0, 1) := dk_3 (dk_at dksX3_children_0 2 rfl rfl)
theorem dX3_children_3 : decode cX3_children 3 = .ok (.istore_n 3, 1) := dk_62 (dk_at dksX3_children_0 3 rfl rfl)
theorem dX3_children_4 : decode cX3_children 4 = .ok (.iload_n 3, 1) := dk_29 (dk_at dksX3_children_0 4 rfl rfl)
theorem dX3_children_5 : decode cX3_children 5 = .ok (.bipush 100, 2) := dk_16 100 (dk_at dksX3_children_0 5 rfl rfl)
theorem dX3_children_7 : decode cX3_children 7 = .ok (.if_icmp .ge 45, 3) := dk_162 0 45 (dk_at dksX3_children_0 7 rfl rfl)
theorem dX3_children_10 : decode cX3_children 10 = .ok (.iload_n 2, 1) := dk_28 (dk_at dksX3_children_0 10 rfl rfl)
theorem dX3_children_11 : decode cX3_children 11 = .ok (.aload_n 0, 1) := dk_42 (dk_at dksX3_children_0 11 rfl rfl)
theorem dX3_children_12 : decode cX3_children 12 = .ok (.iload_n 3, 1) := dk_29 (dk_at dksX3_children_0 12 rfl rfl)
theorem dX3_children_13 : decode cX3_children 13 = .ok (.invokevirtual 236, 3) := dk_182 0 236 (dk_at dksX3_children_0 13 rfl rfl)
theorem dX3_children_16 : decode cX3_children 16 = .ok (.ifCond .eq 27, 3) := dk_153 0 27 (dk_at dksX3_children_0 16 rfl rfl)
theorem dX3_children_19 : decode cX3_children 19 = .ok (.aload_n 0, 1) := dk_42 (dk_at dksX3_children_0 19 rfl rfl)
theorem dX3_children_20 : decode cX3_children 20 = .ok (.iload_n 3, 1) := dk_29 (dk_at dksX3_children_0 20 rfl rfl)
theorem dX3_children_21 : decode cX3_children 21 = .ok (.iconst 3, 1) := dk_6 (dk_at dksX3_children_0 21 rfl rfl)
theorem dX3_children_22 : decode cX3_children 22 = .ok (.invokevirtual 227, 3) := dk_182 0 227 (dk_at dksX3_children_1 0 rfl rfl)
theorem dX3_children_25 : decode cX3_children 25 = .ok (.iload_n 1, 1) := dk_27 (dk_at dksX3_children_1 3 rfl rfl)
theorem dX3_children_26 : decode cX3_children 26 = .ok (.if_icmp .eq 13, 3) := dk_159 0 13 (dk_at dksX3_children_1 4 rfl rfl)
theorem dX3_children_29 : decode cX3_children 29 = .ok (.aload_n 0, 1) := dk_42 (dk_at dksX3_children_1 7 rfl rfl)
theorem dX3_children_30 : decode cX3_children 30 = .ok (.iload_n 3, 1) := dk_29 (dk_at dksX3_children_1 8 rfl rfl)
theorem dX3_children_31 : decode cX3_children 31 = .ok (.iconst 4, 1) := dk_7 (dk_at dksX3_children_1 9 rfl rfl)
theorem dX3_children_32 : decode cX3_children 32 = .ok (.invokevirtual 227, 3) := dk_182 0 227 (dk_at dksX3_children_1 10 rfl rfl)
theorem dX3_children_35 : decode cX3_children 35 = .ok (.iload_n 1, 1) := dk_27 (dk_at dksX3_children_1 13 rfl rfl)
theorem dX3_children_36 : decode cX3_children 36 = .ok (.if_icmp .ne 7, 3) := dk_160 0 7 (dk_at dksX3_children_1 14 rfl rfl)
theorem dX3_children_39 : decode cX3_children 39 = .ok (.iconst 1, 1) := dk_4 (dk_at dksX3_children_1 17 rfl rfl)
theorem dX3_children_40 : decode cX3_children 40 = .ok (.goto 4, 3) := dk_167 0 4 (dk_at dksX3_children_1 18 rfl rfl)
theorem dX3_children_43 : decode cX3_children 43 = .ok (.iconst 0, 1) := dk_3 (dk_at dksX3_children_1 21 rfl rfl)
theorem dX3_children_44 : decode cX3_children 44 = .ok (.iadd, 1) := dk_96 (dk_at dksX3_children_1 22 rfl rfl)
theorem dX3_children_45 : decode cX3_children 45 = .ok (.istore_n 2, 1) := dk_61 (dk_at dksX3_children_1 23 rfl rfl)
theorem dX3_children_46 : decode cX3_children 46 = .ok (.iinc 3 1, 3) := dk_132 3 1 (dk_at dksX3_children_2 0 rfl rfl)
theorem dX3_children_49 : decode cX3_children 49 = .ok (.goto (-45), 3) := dk_167 255 211 (dk_at dksX3_children_2 3 rfl rfl)
theorem dX3_children_52 : decode cX3_children 52 = .ok (.iload_n 2, 1) := dk_28 (dk_at dksX3_children_2 6 rfl rfl)
theorem dX3_children_53 : decode cX3_children 53 = .ok (.ireturn, 1) := dk_172 (dk_at dksX3_children_2 7 rfl rfl)
abbrev cX3_isNode : ByteArray := prog_9_method_92_code
def yX3_isNode : MethodName := ⟨RX3, "isNode", "(I)Z"⟩
def dkwX3_isNode_2 : List UInt8 := [182, 0, 215, 27, 160, 0, 7, 4, 167, 0, 4, 3, 172]
abbrev dktX3_isNode_2 : List UInt8 := dkwX3_isNode_2 ++ []
def dkwX3_isNode_1 : List UInt8 := [180, 0, 7, 17, 1, 138, 8, 27, 16, 40, 100, 104, 96, 46, 61, 28, 2, 159, 0, 16, 42, 28]
abbrev dktX3_isNode_1 : List UInt8 := dkwX3_isNode_1 ++ dktX3_isNode_2
def dkwX3_isNode_0 : List UInt8 := [27, 16, 40, 162, 0, 19, 27, 42, 180, 0, 7, 6, 46, 162, 0, 7, 4, 167, 0, 4, 3, 172, 42]
abbrev dktX3_isNode_0 : List UInt8 := dkwX3_isNode_0 ++ dktX3_isNode_1
theorem dksX3_isNode_0 : cX3_isNode.data.toList.drop 0 = dktX3_isNode_0 := by decide +kernel
theorem dksX3_isNode_1 : cX3_isNode.data.toList.drop 23 = dktX3_isNode_1 := dk_seg dksX3_isNode_0 23 rfl rfl
theorem dksX3_isNode_2 : cX3_isNode.data.toList.drop 45 = dktX3_isNode_2 := dk_seg dksX3_isNode_1 22 rfl rfl
theorem dX3_isNode_0 : decode cX3_isNode 0 = .ok (.iload_n 1, 1) := dk_27 (dk_at dksX3_isNode_0 0 rfl rfl)
theorem dX3_isNode_1 : decode cX3_isNode 1 = .ok (.bipush 40, 2) := dk_16 40 (dk_at dksX3_isNode_0 1 rfl rfl)
theorem dX3_isNode_3 : decode cX3_isNode 3 = .ok (.if_icmp .ge 19, 3) := dk_162 0 19 (dk_at dksX3_isNode_0 3 rfl rfl)
theorem dX3_isNode_6 : decode cX3_isNode 6 = .ok (.iload_n 1, 1) := dk_27 (dk_at dksX3_isNode_0 6 rfl rfl)
theorem dX3_isNode_7 : decode cX3_isNode 7 = .ok (.aload_n 0, 1) := dk_42 (dk_at dksX3_isNode_0 7 rfl rfl)
theorem dX3_isNode_8 : decode cX3_isNode 8 = .ok (.getfield 7, 3) := dk_180 0 7 (dk_at dksX3_isNode_0 8 rfl rfl)
theorem dX3_isNode_11 : decode cX3_isNode 11 = .ok (.iconst 3, 1) := dk_6 (dk_at dksX3_isNode_0 11 rfl rfl)
theorem dX3_isNode_12 : decode cX3_isNode 12 = .ok (.iaload, 1) := dk_46 (dk_at dksX3_isNode_0 12 rfl rfl)
theorem dX3_isNode_13 : decode cX3_isNode 13 = .ok (.if_icmp .ge 7, 3) := dk_162 0 7 (dk_at dksX3_isNode_0 13 rfl rfl)
theorem dX3_isNode_16 : decode cX3_isNode 16 = .ok (.iconst 1, 1) := dk_4 (dk_at dksX3_isNode_0 16 rfl rfl)
theorem dX3_isNode_17 : decode cX3_isNode 17 = .ok (.goto 4, 3) := dk_167 0 4 (dk_at dksX3_isNode_0 17 rfl rfl)
theorem dX3_isNode_20 : decode cX3_isNode 20 = .ok (.iconst 0, 1) := dk_3 (dk_at dksX3_isNode_0 20 rfl rfl)
theorem dX3_isNode_21 : decode cX3_isNode 21 = .ok (.ireturn, 1) := dk_172 (dk_at dksX3_isNode_0 21 rfl rfl)
theorem dX3_isNode_22 : decode cX3_isNode 22 = .ok (.aload_n 0, 1) := dk_42 (dk_at dksX3_isNode_0 22 rfl rfl)
theorem dX3_isNode_23 : decode cX3_isNode 23 = .ok (.getfield 7, 3) := dk_180 0 7 (dk_at dksX3_isNode_1 0 rfl rfl)
theorem dX3_isNode_26 : decode cX3_isNode 26 = .ok (.sipush 394, 3) := dk_17 1 138 (dk_at dksX3_isNode_1 3 rfl rfl)
theorem dX3_isNode_29 : decode cX3_isNode 29 = .ok (.iconst 5, 1) := dk_8 (dk_at dksX3_isNode_1 6 rfl rfl)
theorem dX3_isNode_30 : decode cX3_isNode 30 = .ok (.iload_n 1, 1) := dk_27 (dk_at dksX3_isNode_1 7 rfl rfl)
theorem dX3_isNode_31 : decode cX3_isNode 31 = .ok (.bipush 40, 2) := dk_16 40 (dk_at dksX3_isNode_1 8 rfl rfl)
theorem dX3_isNode_33 : decode cX3_isNode 33 = .ok (.isub, 1) := dk_100 (dk_at dksX3_isNode_1 10 rfl rfl)
theorem dX3_isNode_34 : decode cX3_isNode 34 = .ok (.imul, 1) := dk_104 (dk_at dksX3_isNode_1 11 rfl rfl)
theorem dX3_isNode_35 : decode cX3_isNode 35 = .ok (.iadd, 1) := dk_96 (dk_at dksX3_isNode_1 12 rfl rfl)
theorem dX3_isNode_36 : decode cX3_isNode 36 = .ok (.iaload, 1) := dk_46 (dk_at dksX3_isNode_1 13 rfl rfl)
theorem dX3_isNode_37 : decode cX3_isNode 37 = .ok (.istore_n 2, 1) := dk_61 (dk_at dksX3_isNode_1 14 rfl rfl)
theorem dX3_isNode_38 : decode cX3_isNode 38 = .ok (.iload_n 2, 1) := dk_28 (dk_at dksX3_isNode_1 15 rfl rfl)
theorem dX3_isNode_39 : decode cX3_isNode 39 = .ok (.iconst (-1), 1) := dk_2 (dk_at dksX3_isNode_1 16 rfl rfl)
theorem dX3_isNode_40 : decode cX3_isNode 40 = .ok (.if_icmp .eq 16, 3) := dk_159 0 16 (dk_at dksX3_isNode_1 17 rfl rfl)
theorem dX3_isNode_43 : decode cX3_isNode 43 = .ok (.aload_n 0, 1) := dk_42 (dk_at dksX3_isNode_1 20 rfl rfl)
theorem dX3_isNode_44 : decode cX3_isNode 44 = .ok (.iload_n 2, 1) := dk_28 (dk_at dksX3_isNode_1 21 rfl rfl)
theorem dX3_isNode_45 : decode cX3_isNode 45 = .ok (.invokevirtual 215, 3) := dk_182 0 215 (dk_at dksX3_isNode_2 0 rfl rfl)
theorem dX3_isNode_48 : decode cX3_isNode 48 = .ok (.iload_n 1, 1) := dk_27 (dk_at dksX3_isNode_2 3 rfl rfl)
theorem dX3_isNode_49 : decode cX3_isNode 49 = .ok (.if_icmp .ne 7, 3) := dk_160 0 7 (dk_at dksX3_isNode_2 4 rfl rfl)
theorem dX3_isNode_52 : decode cX3_isNode 52 = .ok (.iconst 1, 1) := dk_4 (dk_at dksX3_isNode_2 7 rfl rfl)
theorem dX3_isNode_53 : decode cX3_isNode 53 = .ok (.goto 4, 3) := dk_167 0 4 (dk_at dksX3_isNode_2 8 rfl rfl)
theorem dX3_isNode_56 : decode cX3_isNode 56 = .ok (.iconst 0, 1) := dk_3 (dk_at dksX3_isNode_2 11 rfl rfl)
theorem dX3_isNode_57 : decode cX3_isNode 57 = .ok (.ireturn, 1) := dk_172 (dk_at dksX3_isNode_2 12 rfl rfl)
abbrev cX3_offspringOf : ByteArray := prog_9_method_111_code
def yX3_offspringOf : MethodName := ⟨RX3, "offspringOf", "(I)I"⟩
def dkwX3_offspringOf_0 : List UInt8 := [42, 27, 182, 0, 248, 172]
abbrev dktX3_offspringOf_0 : List UInt8 := dkwX3_offspringOf_0 ++ []
theorem dksX3_offspringOf_0 : cX3_offspringOf.data.toList.drop 0 = dktX3_offspringOf_0 := by decide +kernel
theorem dX3_offspringOf_0 : decode cX3_offspringOf 0 = .ok (.aload_n 0, 1) := dk_42 (dk_at dksX3_offspringOf_0 0 rfl rfl)
theorem dX3_offspringOf_1 : decode cX3_offspringOf 1 = .ok (.iload_n 1, 1) := dk_27 (dk_at dksX3_offspringOf_0 1 rfl rfl)
theorem dX3_offspringOf_2 : decode cX3_offspringOf 2 = .ok (.invokevirtual 248, 3) := dk_182 0 248 (dk_at dksX3_offspringOf_0 2 rfl rfl)
theorem dX3_offspringOf_5 : decode cX3_offspringOf 5 = .ok (.ireturn, 1) := dk_172 (dk_at dksX3_offspringOf_0 5 rfl rfl)
abbrev cX3_tellsOffspring : ByteArray := prog_9_method_110_code
def yX3_tellsOffspring : MethodName := ⟨RX3, "tellsOffspring", "(I)I"⟩
def dkwX3_tellsOffspring_1 : List UInt8 := [158, 0, 7, 3, 167, 0, 8, 42, 28, 182, 0, 245, 172]
abbrev dktX3_tellsOffspring_1 : List UInt8 := dkwX3_tellsOffspring_1 ++ []
def dkwX3_tellsOffspring_0 : List UInt8 := [42, 27, 182, 0, 215, 61, 42, 28, 2, 160, 0, 7, 4, 167, 0, 4, 3, 181, 0, 35, 42, 180, 0, 35]
abbrev dktX3_tellsOffspring_0 : List UInt8 := dkwX3_tellsOffspring_0 ++ dktX3_tellsOffspring_1
theorem dksX3_tellsOffspring_0 : cX3_tellsOffspring.data.toList.drop 0 = dktX3_tellsOffspring_0 := by decide +kernel
theorem dksX3_tellsOffspring_1 : cX3_tellsOffspring.data.toList.drop 24 = dktX3_tellsOffspring_1 := dk_seg dksX3_tellsOffspring_0 24 rfl rfl
theorem dX3_tellsOffspring_0 : decode cX3_tellsOffspring 0 = .ok (.aload_n 0, 1) := dk_42 (dk_at dksX3_tellsOffspring_0 0 rfl rfl)
theorem dX3_tellsOffspring_1 : decode cX3_tellsOffspring 1 = .ok (.iload_n 1, 1) := dk_27 (dk_at dksX3_tellsOffspring_0 1 rfl rfl)
theorem dX3_tellsOffspring_2 : decode cX3_tellsOffspring 2 = .ok (.invokevirtual 215, 3) := dk_182 0 215 (dk_at dksX3_tellsOffspring_0 2 rfl rfl)
theorem dX3_tellsOffspring_5 : decode cX3_tellsOffspring 5 = .ok (.istore_n 2, 1) := dk_61 (dk_at dksX3_tellsOffspring_0 5 rfl rfl)
theorem dX3_tellsOffspring_6 : decode cX3_tellsOffspring 6 = .ok (.aload_n 0, 1) := dk_42 (dk_at dksX3_tellsOffspring_0 6 rfl rfl)
theorem dX3_tellsOffspring_7 : decode cX3_tellsOffspring 7 = .ok (.iload_n 2, 1) := dk_28 (dk_at dksX3_tellsOffspring_0 7 rfl rfl)
theorem dX3_tellsOffspring_8 : decode cX3_tellsOffspring 8 = .ok (.iconst (-1), 1) := dk_2 (dk_at dksX3_tellsOffspring_0 8 rfl rfl)
theorem dX3_tellsOffspring_9 : decode cX3_tellsOffspring 9 = .ok (.if_icmp .ne 7, 3) := dk_160 0 7 (dk_at dksX3_tellsOffspring_0 9 rfl rfl)
theorem dX3_tellsOffspring_12 : decode cX3_tellsOffspring 12 = .ok (.iconst 1, 1) := dk_4 (dk_at dksX3_tellsOffspring_0 12 rfl rfl)
theorem dX3_tellsOffspring_13 : decode cX3_tellsOffspring 13 = .ok (.goto 4, 3) := dk_167 0 4 (dk_at dksX3_tellsOffspring_0 13 rfl rfl)
theorem dX3_tellsOffspring_16 : decode cX3_tellsOffspring 16 = .ok (.iconst 0, 1) := dk_3 (dk_at dksX3_tellsOffspring_0 16 rfl rfl)
theorem dX3_tellsOffspring_17 : decode cX3_tellsOffspring 17 = .ok (.putfield 35, 3) := dk_181 0 35 (dk_at dksX3_tellsOffspring_0 17 rfl rfl)
theorem dX3_tellsOffspring_20 : decode cX3_tellsOffspring 20 = .ok (.aload_n 0, 1) := dk_42 (dk_at dksX3_tellsOffspring_0 20 rfl rfl)
theorem dX3_tellsOffspring_21 : decode cX3_tellsOffspring 21 = .ok (.getfield 35, 3) := dk_180 0 35 (dk_at dksX3_tellsOffspring_0 21 rfl rfl)
theorem dX3_tellsOffspring_24 : decode cX3_tellsOffspring 24 = .ok (.ifCond .le 7, 3) := dk_158 0 7 (dk_at dksX3_tellsOffspring_1 0 rfl rfl)
theorem dX3_tellsOffspring_27 : decode cX3_tellsOffspring 27 = .ok (.iconst 0, 1) := dk_3 (dk_at dksX3_tellsOffspring_1 3 rfl rfl)
theorem dX3_tellsOffspring_28 : decode cX3_tellsOffspring 28 = .ok (.goto 8, 3) := dk_167 0 8 (dk_at dksX3_tellsOffspring_1 4 rfl rfl)
theorem dX3_tellsOffspring_31 : decode cX3_tellsOffspring 31 = .ok (.aload_n 0, 1) := dk_42 (dk_at dksX3_tellsOffspring_1 7 rfl rfl)
theorem dX3_tellsOffspring_32 : decode cX3_tellsOffspring 32 = .ok (.iload_n 2, 1) := dk_28 (dk_at dksX3_tellsOffspring_1 8 rfl rfl)
theorem dX3_tellsOffspring_33 : decode cX3_tellsOffspring 33 = .ok (.invokevirtual 245, 3) := dk_182 0 245 (dk_at dksX3_tellsOffspring_1 9 rfl rfl)
theorem dX3_tellsOffspring_36 : decode cX3_tellsOffspring 36 = .ok (.ireturn, 1) := dk_172 (dk_at dksX3_tellsOffspring_1 12 rfl rfl)
abbrev cX3_offspring : ByteArray := prog_9_method_109_code
def yX3_offspring : MethodName := ⟨RX3, "offspring", "(I)I"⟩
def dkwX3_offspring_5 : List UInt8 := [167, 255, 174, 28, 172]
abbrev dktX3_offspring_5 : List UInt8 := dkwX3_offspring_5 ++ []
def dkwX3_offspring_4 : List UInt8 := [153, 0, 16, 42, 180, 0, 26, 21, 4, 4, 79, 132, 2, 1, 4, 62, 132, 4, 1, 167, 255, 186]
abbrev dktX3_offspring_4 : List UInt8 := dkwX3_offspring_4 ++ dktX3_offspring_5
def dkwX3_offspring_3 : List UInt8 := [21, 4, 6, 182, 0, 227, 182, 0, 242, 154, 0, 17, 42, 42, 21, 4, 7, 182, 0, 227, 182, 0, 242]
abbrev dktX3_offspring_3 : List UInt8 := dkwX3_offspring_3 ++ dktX3_offspring_4
def dkwX3_offspring_2 : List UInt8 := [162, 0, 69, 42, 180, 0, 26, 21, 4, 46, 154, 0, 53, 42, 21, 4, 182, 0, 236, 153, 0, 44, 42, 42]
abbrev dktX3_offspring_2 : List UInt8 := dkwX3_offspring_2 ++ dktX3_offspring_3
def dkwX3_offspring_1 : List UInt8 := [132, 2, 1, 167, 255, 231, 3, 61, 4, 62, 29, 153, 0, 84, 3, 62, 3, 54, 4, 21, 4, 16, 100]
abbrev dktX3_offspring_1 : List UInt8 := dkwX3_offspring_1 ++ dktX3_offspring_2
def dkwX3_offspring_0 : List UInt8 := [3, 61, 28, 16, 100, 162, 0, 25, 42, 180, 0, 26, 28, 28, 27, 160, 0, 7, 4, 167, 0, 4, 3, 79]
abbrev dktX3_offspring_0 : List UInt8 := dkwX3_offspring_0 ++ dktX3_offspring_1
theorem dksX3_offspring_0 : cX3_offspring.data.toList.drop 0 = dktX3_offspring_0 := by decide +kernel
theorem dksX3_offspring_1 : cX3_offspring.data.toList.drop 24 = dktX3_offspring_1 := dk_seg dksX3_offspring_0 24 rfl rfl
theorem dksX3_offspring_2 : cX3_offspring.data.toList.drop 47 = dktX3_offspring_2 := dk_seg dksX3_offspring_1 23 rfl rfl
theorem dksX3_offspring_3 : cX3_offspring.data.toList.drop 71 = dktX3_offspring_3 := dk_seg dksX3_offspring_2 24 rfl rfl
theorem dksX3_offspring_4 : cX3_offspring.data.toList.drop 94 = dktX3_offspring_4 := dk_seg dksX3_offspring_3 23 rfl rfl
theorem dksX3_offspring_5 : cX3_offspring.data.toList.drop 116 = dktX3_offspring_5 := dk_seg dksX3_offspring_4 22 rfl rfl
theorem dX3_offspring_0 : decode cX3_offspring 0 = .ok (.iconst 0, 1) := dk_3 (dk_at dksX3_offspring_0 0 rfl rfl)
theorem dX3_offspring_1 : decode cX3_offspring 1 = .ok (.istore_n 2, 1) := dk_61 (dk_at dksX3_offspring_0 1 rfl rfl)
theorem dX3_offspring_2 : decode cX3_offspring 2 = .ok (.iload_n 2, 1) := dk_28 (dk_at dksX3_offspring_0 2 rfl rfl)
theorem dX3_offspring_3 : decode cX3_offspring 3 = .ok (.bipush 100, 2) := dk_16 100 (dk_at dksX3_offspring_0 3 rfl rfl)
theorem dX3_offspring_5 : decode cX3_offspring 5 = .ok (.if_icmp .ge 25, 3) := dk_162 0 25 (dk_at dksX3_offspring_0 5 rfl rfl)
theorem dX3_offspring_8 : decode cX3_offspring 8 = .ok (.aload_n 0, 1) := dk_42 (dk_at dksX3_offspring_0 8 rfl rfl)
theorem dX3_offspring_9 : decode cX3_offspring 9 = .ok (.getfield 26, 3) := dk_180 0 26 (dk_at dksX3_offspring_0 9 rfl rfl)
theorem dX3_offspring_12 : decode cX3_offspring 12 = .ok (.iload_n 2, 1) := dk_28 (dk_at dksX3_offspring_0 12 rfl rfl)
theorem dX3_offspring_13 : decode cX3_offspring 13 = .ok (.iload_n 2, 1) := dk_28 (dk_at dksX3_offspring_0 13 rfl rfl)
theorem dX3_offspring_14 : decode cX3_offspring 14 = .ok (.iload_n 1, 1) := dk_27 (dk_at dksX3_offspring_0 14 rfl rfl)
theorem dX3_offspring_15 : decode cX3_offspring 15 = .ok (.if_icmp .ne 7, 3) := dk_160 0 7 (dk_at dksX3_offspring_0 15 rfl rfl)
theorem dX3_offspring_18 : decode cX3_offspring 18 = .ok (.iconst 1, 1) := dk_4 (dk_at dksX3_offspring_0 18 rfl rfl)
theorem dX3_offspring_19 : decode cX3_offspring 19 = .ok (.goto 4, 3) := dk_167 0 4 (dk_at dksX3_offspring_0 19 rfl rfl)
theorem dX3_offspring_22 : decode cX3_offspring 22 = .ok (.iconst 0, 1) := dk_3 (dk_at dksX3_offspring_0 22 rfl rfl)
theorem dX3_offspring_23 : decode cX3_offspring 23 = .ok (.iastore, 1) := dk_79 (dk_at dksX3_offspring_0 23 rfl rfl)
theorem dX3_offspring_24 : decode cX3_offspring 24 = .ok (.iinc 2 1, 3) := dk_132 2 1 (dk_at dksX3_offspring_1 0 rfl rfl)
theorem dX3_offspring_27 : decode cX3_offspring 27 = .ok (.goto (-25), 3) := dk_167 255 231 (dk_at dksX3_offspring_1 3 rfl rfl)
theorem dX3_offspring_30 : decode cX3_offspring 30 = .ok (.iconst 0, 1) := dk_3 (dk_at dksX3_offspring_1 6 rfl rfl)
theorem dX3_offspring_31 : decode cX3_offspring 31 = .ok (.istore_n 2, 1) := dk_61 (dk_at dksX3_offspring_1 7 rfl rfl)
theorem dX3_offspring_32 : decode cX3_offspring 32 = .ok (.iconst 1, 1) := dk_4 (dk_at dksX3_offspring_1 8 rfl rfl)
theorem dX3_offspring_33 : decode cX3_offspring 33 = .ok (.istore_n 3, 1) := dk_62 (dk_at dksX3_offspring_1 9 rfl rfl)
theorem dX3_offspring_34 : decode cX3_offspring 34 = .ok (.iload_n 3, 1) := dk_29 (dk_at dksX3_offspring_1 10 rfl rfl)
theorem dX3_offspring_35 : decode cX3_offspring 35 = .ok (.ifCond .eq 84, 3) := dk_153 0 84 (dk_at dksX3_offspring_1 11 rfl rfl)
theorem dX3_offspring_38 : decode cX3_offspring 38 = .ok (.iconst 0, 1) := dk_3 (dk_at dksX3_offspring_1 14 rfl rfl)
theorem dX3_offspring_39 : decode cX3_offspring 39 = .ok (.istore_n 3, 1) := dk_62 (dk_at dksX3_offspring_1 15 rfl rfl)
theorem dX3_offspring_40 : decode cX3_offspring 40 = .ok (.iconst 0, 1) := dk_3 (dk_at dksX3_offspring_1 16 rfl rfl)
theorem dX3_offspring_41 : decode cX3_offspring 41 = .ok (.istore 4, 2) := dk_54 4 (dk_at dksX3_offspring_1 17 rfl rfl)
theorem dX3_offspring_43 : decode cX3_offspring 43 = .ok (.iload 4, 2) := dk_21 4 (dk_at dksX3_offspring_1 19 rfl rfl)
theorem dX3_offspring_45 : decode cX3_offspring 45 = .ok (.bipush 100, 2) := dk_16 100 (dk_at dksX3_offspring_1 21 rfl rfl)
theorem dX3_offspring_47 : decode cX3_offspring 47 = .ok (.if_icmp .ge 69, 3) := dk_162 0 69 (dk_at dksX3_offspring_2 0 rfl rfl)
theorem dX3_offspring_50 : decode cX3_offspring 50 = .ok (.aload_n 0, 1) := dk_42 (dk_at dksX3_offspring_2 3 rfl rfl)
theorem dX3_offspring_51 : decode cX3_offspring 51 = .ok (.getfield 26, 3) := dk_180 0 26 (dk_at dksX3_offspring_2 4 rfl rfl)
theorem dX3_offspring_54 : decode cX3_offspring 54 = .ok (.iload 4, 2) := dk_21 4 (dk_at dksX3_offspring_2 7 rfl rfl)
theorem dX3_offspring_56 : decode cX3_offspring 56 = .ok (.iaload, 1) := dk_46 (dk_at dksX3_offspring_2 9 rfl rfl)
theorem dX3_offspring_57 : decode cX3_offspring 57 = .ok (.ifCond .ne 53, 3) := dk_154 0 53 (dk_at dksX3_offspring_2 10 rfl rfl)
theorem dX3_offspring_60 : decode cX3_offspring 60 = .ok (.aload_n 0, 1) := dk_42 (dk_at dksX3_offspring_2 13 rfl rfl)
theorem dX3_offspring_61 : decode cX3_offspring 61 = .ok (.iload 4, 2) := dk_21 4 (dk_at dksX3_offspring_2 14 rfl rfl)
theorem dX3_offspring_63 : decode cX3_offspring 63 = .ok (.invokevirtual 236, 3) := dk_182 0 236 (dk_at dksX3_offspring_2 16 rfl rfl)
theorem dX3_offspring_66 : decode cX3_offspring 66 = .ok (.ifCond .eq 44, 3) := dk_153 0 44 (dk_at dksX3_offspring_2 19 rfl rfl)
theorem dX3_offspring_69 : decode cX3_offspring 69 = .ok (.aload_n 0, 1) := dk_42 (dk_at dksX3_offspring_2 22 rfl rfl)
theorem dX3_offspring_70 : decode cX3_offspring 70 = .ok (.aload_n 0, 1) := dk_42 (dk_at dksX3_offspring_2 23 rfl rfl)
theorem dX3_offspring_71 : decode cX3_offspring 71 = .ok (.iload 4, 2) := dk_21 4 (dk_at dksX3_offspring_3 0 rfl rfl)
theorem dX3_offspring_73 : decode cX3_offspring 73 = .ok (.iconst 3, 1) := dk_6 (dk_at dksX3_offspring_3 2 rfl rfl)
theorem dX3_offspring_74 : decode cX3_offspring 74 = .ok (.invokevirtual 227, 3) := dk_182 0 227 (dk_at dksX3_offspring_3 3 rfl rfl)
theorem dX3_offspring_77 : decode cX3_offspring 77 = .ok (.invokevirtual 242, 3) := dk_182 0 242 (dk_at dksX3_offspring_3 6 rfl rfl)
theorem dX3_offspring_80 : decode cX3_offspring 80 = .ok (.ifCond .ne 17, 3) := dk_154 0 17 (dk_at dksX3_offspring_3 9 rfl rfl)
theorem dX3_offspring_83 : decode cX3_offspring 83 = .ok (.aload_n 0, 1) := dk_42 (dk_at dksX3_offspring_3 12 rfl rfl)
theorem dX3_offspring_84 : decode cX3_offspring 84 = .ok (.aload_n 0, 1) := dk_42 (dk_at dksX3_offspring_3 13 rfl rfl)
theorem dX3_offspring_85 : decode cX3_offspring 85 = .ok (.iload 4, 2) := dk_21 4 (dk_at dksX3_offspring_3 14 rfl rfl)
theorem dX3_offspring_87 : decode cX3_offspring 87 = .ok (.iconst 4, 1) := dk_7 (dk_at dksX3_offspring_3 16 rfl rfl)
theorem dX3_offspring_88 : decode cX3_offspring 88 = .ok (.invokevirtual 227, 3) := dk_182 0 227 (dk_at dksX3_offspring_3 17 rfl rfl)
theorem dX3_offspring_91 : decode cX3_offspring 91 = .ok (.invokevirtual 242, 3) := dk_182 0 242 (dk_at dksX3_offspring_3 20 rfl rfl)
theorem dX3_offspring_94 : decode cX3_offspring 94 = .ok (.ifCond .eq 16, 3) := dk_153 0 16 (dk_at dksX3_offspring_4 0 rfl rfl)
theorem dX3_offspring_97 : decode cX3_offspring 97 = .ok (.aload_n 0, 1) := dk_42 (dk_at dksX3_offspring_4 3 rfl rfl)
theorem dX3_offspring_98 : decode cX3_offspring 98 = .ok (.getfield 26, 3) := dk_180 0 26 (dk_at dksX3_offspring_4 4 rfl rfl)
theorem dX3_offspring_101 : decode cX3_offspring 101 = .ok (.iload 4, 2) := dk_21 4 (dk_at dksX3_offspring_4 7 rfl rfl)
theorem dX3_offspring_103 : decode cX3_offspring 103 = .ok (.iconst 1, 1) := dk_4 (dk_at dksX3_offspring_4 9 rfl rfl)
theorem dX3_offspring_104 : decode cX3_offspring 104 = .ok (.iastore, 1) := dk_79 (dk_at dksX3_offspring_4 10 rfl rfl)
theorem dX3_offspring_105 : decode cX3_offspring 105 = .ok (.iinc 2 1, 3) := dk_132 2 1 (dk_at dksX3_offspring_4 11 rfl rfl)
theorem dX3_offspring_108 : decode cX3_offspring 108 = .ok (.iconst 1, 1) := dk_4 (dk_at dksX3_offspring_4 14 rfl rfl)
theorem dX3_offspring_109 : decode cX3_offspring 109 = .ok (.istore_n 3, 1) := dk_62 (dk_at dksX3_offspring_4 15 rfl rfl)
theorem dX3_offspring_110 : decode cX3_offspring 110 = .ok (.iinc 4 1, 3) := dk_132 4 1 (dk_at dksX3_offspring_4 16 rfl rfl)
theorem dX3_offspring_113 : decode cX3_offspring 113 = .ok (.goto (-70), 3) := dk_167 255 186 (dk_at dksX3_offspring_4 19 rfl rfl)
theorem dX3_offspring_116 : decode cX3_offspring 116 = .ok (.goto (-82), 3) := dk_167 255 174 (dk_at dksX3_offspring_5 0 rfl rfl)
theorem dX3_offspring_119 : decode cX3_offspring 119 = .ok (.iload_n 2, 1) := dk_28 (dk_at dksX3_offspring_5 3 rfl rfl)
theorem dX3_offspring_120 : decode cX3_offspring 120 = .ok (.ireturn, 1) := dk_172 (dk_at dksX3_offspring_5 4 rfl rfl)
abbrev cX3_isMarked : ByteArray := prog_9_method_108_code
def yX3_isMarked : MethodName := ⟨RX3, "isMarked", "(I)Z"⟩
def dkwX3_isMarked_0 : List UInt8 := [27, 2, 159, 0, 17, 42, 180, 0, 26, 27, 46, 4, 160, 0, 7, 4, 167, 0, 4, 3, 172]
abbrev dktX3_isMarked_0 : List UInt8 := dkwX3_isMarked_0 ++ []
theorem dksX3_isMarked_0 : cX3_isMarked.data.toList.drop 0 = dktX3_isMarked_0 := by decide +kernel
theorem dX3_isMarked_0 : decode cX3_isMarked 0 = .ok (.iload_n 1, 1) := dk_27 (dk_at dksX3_isMarked_0 0 rfl rfl)
theorem dX3_isMarked_1 : decode cX3_isMarked 1 = .ok (.iconst (-1), 1) := dk_2 (dk_at dksX3_isMarked_0 1 rfl rfl)
theorem dX3_isMarked_2 : decode cX3_isMarked 2 = .ok (.if_icmp .eq 17, 3) := dk_159 0 17 (dk_at dksX3_isMarked_0 2 rfl rfl)
theorem dX3_isMarked_5 : decode cX3_isMarked 5 = .ok (.aload_n 0, 1) := dk_42 (dk_at dksX3_isMarked_0 5 rfl rfl)
theorem dX3_isMarked_6 : decode cX3_isMarked 6 = .ok (.getfield 26, 3) := dk_180 0 26 (dk_at dksX3_isMarked_0 6 rfl rfl)
theorem dX3_isMarked_9 : decode cX3_isMarked 9 = .ok (.iload_n 1, 1) := dk_27 (dk_at dksX3_isMarked_0 9 rfl rfl)
theorem dX3_isMarked_10 : decode cX3_isMarked 10 = .ok (.iaload, 1) := dk_46 (dk_at dksX3_isMarked_0 10 rfl rfl)
theorem dX3_isMarked_11 : decode cX3_isMarked 11 = .ok (.iconst 1, 1) := dk_4 (dk_at dksX3_isMarked_0 11 rfl rfl)
theorem dX3_isMarked_12 : decode cX3_isMarked 12 = .ok (.if_icmp .ne 7, 3) := dk_160 0 7 (dk_at dksX3_isMarked_0 12 rfl rfl)
theorem dX3_isMarked_15 : decode cX3_isMarked 15 = .ok (.iconst 1, 1) := dk_4 (dk_at dksX3_isMarked_0 15 rfl rfl)
theorem dX3_isMarked_16 : decode cX3_isMarked 16 = .ok (.goto 4, 3) := dk_167 0 4 (dk_at dksX3_isMarked_0 16 rfl rfl)
theorem dX3_isMarked_19 : decode cX3_isMarked 19 = .ok (.iconst 0, 1) := dk_3 (dk_at dksX3_isMarked_0 19 rfl rfl)
theorem dX3_isMarked_20 : decode cX3_isMarked 20 = .ok (.ireturn, 1) := dk_172 (dk_at dksX3_isMarked_0 20 rfl rfl)
abbrev cX3_offspringByParents : ByteArray := prog_9_method_112_code
def yX3_offspringByParents : MethodName := ⟨RX3, "offspringByParents", "(I)I"⟩
def dkwX3_offspringByParents_0 : List UInt8 := [42, 27, 182, 0, 248, 172]
abbrev dktX3_offspringByParents_0 : List UInt8 := dkwX3_offspringByParents_0 ++ []
theorem dksX3_offspringByParents_0 : cX3_offspringByParents.data.toList.drop 0 = dktX3_offspringByParents_0 := by decide +kernel
theorem dX3_offspringByParents_0 : decode cX3_offspringByParents 0 = .ok (.aload_n 0, 1) := dk_42 (dk_at dksX3_offspringByParents_0 0 rfl rfl)
theorem dX3_offspringByParents_1 : decode cX3_offspringByParents 1 = .ok (.iload_n 1, 1) := dk_27 (dk_at dksX3_offspringByParents_0 1 rfl rfl)
theorem dX3_offspringByParents_2 : decode cX3_offspringByParents 2 = .ok (.invokevirtual 248, 3) := dk_182 0 248 (dk_at dksX3_offspringByParents_0 2 rfl rfl)
theorem dX3_offspringByParents_5 : decode cX3_offspringByParents 5 = .ok (.ireturn, 1) := dk_172 (dk_at dksX3_offspringByParents_0 5 rfl rfl)
abbrev cX3_areKin : ByteArray := prog_9_method_115_code
def yX3_areKin : MethodName := ⟨RX3, "areKin", "(II)Z"⟩
def dkwX3_areKin_2 : List UInt8 := [182, 0, 254, 153, 0, 7, 4, 167, 0, 4, 3, 172]
abbrev dktX3_areKin_2 : List UInt8 := dkwX3_areKin_2 ++ []
def dkwX3_areKin_1 : List UInt8 := [160, 0, 7, 4, 167, 0, 4, 3, 181, 0, 35, 42, 180, 0, 35, 154, 0, 17, 42, 29, 21, 4]
abbrev dktX3_areKin_1 : List UInt8 := dkwX3_areKin_1 ++ dktX3_areKin_2
def dkwX3_areKin_0 : List UInt8 := [42, 27, 182, 0, 215, 62, 42, 28, 182, 0, 215, 54, 4, 42, 29, 2, 159, 0, 9, 21, 4, 2]
abbrev dktX3_areKin_0 : List UInt8 := dkwX3_areKin_0 ++ dktX3_areKin_1
theorem dksX3_areKin_0 : cX3_areKin.data.toList.drop 0 = dktX3_areKin_0 := by decide +kernel
theorem dksX3_areKin_1 : cX3_areKin.data.toList.drop 22 = dktX3_areKin_1 := dk_seg dksX3_areKin_0 22 rfl rfl
theorem dksX3_areKin_2 : cX3_areKin.data.toList.drop 44 = dktX3_areKin_2 := dk_seg dksX3_areKin_1 22 rfl rfl
theorem dX3_areKin_0 : decode cX3_areKin 0 = .ok (.aload_n 0, 1) := dk_42 (dk_at dksX3_areKin_0 0 rfl rfl)
theorem dX3_areKin_1 : decode cX3_areKin 1 = .ok (.iload_n 1, 1) := dk_27 (dk_at dksX3_areKin_0 1 rfl rfl)
theorem dX3_areKin_2 : decode cX3_areKin 2 = .ok (.invokevirtual 215, 3) := dk_182 0 215 (dk_at dksX3_areKin_0 2 rfl rfl)
theorem dX3_areKin_5 : decode cX3_areKin 5 = .ok (.istore_n 3, 1) := dk_62 (dk_at dksX3_areKin_0 5 rfl rfl)
theorem dX3_areKin_6 : decode cX3_areKin 6 = .ok (.aload_n 0, 1) := dk_42 (dk_at dksX3_areKin_0 6 rfl rfl)
theorem dX3_areKin_7 : decode cX3_areKin 7 = .ok (.iload_n 2, 1) := dk_28 (dk_at dksX3_areKin_0 7 rfl rfl)
theorem dX3_areKin_8 : decode cX3_areKin 8 = .ok (.invokevirtual 215, 3) := dk_182 0 215 (dk_at dksX3_areKin_0 8 rfl rfl)
theorem dX3_areKin_11 : decode cX3_areKin 11 = .ok (.istore 4, 2) := dk_54 4 (dk_at dksX3_areKin_0 11 rfl rfl)
theorem dX3_areKin_13 : decode cX3_areKin 13 = .ok (.aload_n 0, 1) := dk_42 (dk_at dksX3_areKin_0 13 rfl rfl)
theorem dX3_areKin_14 : decode cX3_areKin 14 = .ok (.iload_n 3, 1) := dk_29 (dk_at dksX3_areKin_0 14 rfl rfl)
theorem dX3_areKin_15 : decode cX3_areKin 15 = .ok (.iconst (-1), 1) := dk_2 (dk_at dksX3_areKin_0 15 rfl rfl)
theorem dX3_areKin_16 : decode cX3_areKin 16 = .ok (.if_icmp .eq 9, 3) := dk_159 0 9 (dk_at dksX3_areKin_0 16 rfl rfl)
theorem dX3_areKin_19 : decode cX3_areKin 19 = .ok (.iload 4, 2) := dk_21 4 (dk_at dksX3_areKin_0 19 rfl rfl)
theorem dX3_areKin_21 : decode cX3_areKin 21 = .ok (.iconst (-1), 1) := dk_2 (dk_at dksX3_areKin_0 21 rfl rfl)
theorem dX3_areKin_22 : decode cX3_areKin 22 = .ok (.if_icmp .ne 7, 3) := dk_160 0 7 (dk_at dksX3_areKin_1 0 rfl rfl)
theorem dX3_areKin_25 : decode cX3_areKin 25 = .ok (.iconst 1, 1) := dk_4 (dk_at dksX3_areKin_1 3 rfl rfl)
theorem dX3_areKin_26 : decode cX3_areKin 26 = .ok (.goto 4, 3) := dk_167 0 4 (dk_at dksX3_areKin_1 4 rfl rfl)
theorem dX3_areKin_29 : decode cX3_areKin 29 = .ok (.iconst 0, 1) := dk_3 (dk_at dksX3_areKin_1 7 rfl rfl)
theorem dX3_areKin_30 : decode cX3_areKin 30 = .ok (.putfield 35, 3) := dk_181 0 35 (dk_at dksX3_areKin_1 8 rfl rfl)
theorem dX3_areKin_33 : decode cX3_areKin 33 = .ok (.aload_n 0, 1) := dk_42 (dk_at dksX3_areKin_1 11 rfl rfl)
theorem dX3_areKin_34 : decode cX3_areKin 34 = .ok (.getfield 35, 3) := dk_180 0 35 (dk_at dksX3_areKin_1 12 rfl rfl)
theorem dX3_areKin_37 : decode cX3_areKin 37 = .ok (.ifCond .ne 17, 3) := dk_154 0 17 (dk_at dksX3_areKin_1 15 rfl rfl)
theorem dX3_areKin_40 : decode cX3_areKin 40 = .ok (.aload_n 0, 1) := dk_42 (dk_at dksX3_areKin_1 18 rfl rfl)
theorem dX3_areKin_41 : decode cX3_areKin 41 = .ok (.iload_n 3, 1) := dk_29 (dk_at dksX3_areKin_1 19 rfl rfl)
theorem dX3_areKin_42 : decode cX3_areKin 42 = .ok (.iload 4, 2) := dk_21 4 (dk_at dksX3_areKin_1 20 rfl rfl)
theorem dX3_areKin_44 : decode cX3_areKin 44 = .ok (.invokevirtual 254, 3) := dk_182 0 254 (dk_at dksX3_areKin_2 0 rfl rfl)
theorem dX3_areKin_47 : decode cX3_areKin 47 = .ok (.ifCond .eq 7, 3) := dk_153 0 7 (dk_at dksX3_areKin_2 3 rfl rfl)
theorem dX3_areKin_50 : decode cX3_areKin 50 = .ok (.iconst 1, 1) := dk_4 (dk_at dksX3_areKin_2 6 rfl rfl)
theorem dX3_areKin_51 : decode cX3_areKin 51 = .ok (.goto 4, 3) := dk_167 0 4 (dk_at dksX3_areKin_2 7 rfl rfl)
theorem dX3_areKin_54 : decode cX3_areKin 54 = .ok (.iconst 0, 1) := dk_3 (dk_at dksX3_areKin_2 10 rfl rfl)
theorem dX3_areKin_55 : decode cX3_areKin 55 = .ok (.ireturn, 1) := dk_172 (dk_at dksX3_areKin_2 11 rfl rfl)
abbrev cX3_kin : ByteArray := prog_9_method_114_code
def yX3_kin : MethodName := ⟨RX3, "kin", "(II)Z"⟩
def dkwX3_kin_3 : List UInt8 := [160, 0, 7, 4, 167, 0, 4, 3, 62, 132, 4, 1, 167, 255, 214, 29, 172]
abbrev dktX3_kin_3 : List UInt8 := dkwX3_kin_3 ++ []
def dkwX3_kin_2 : List UInt8 := [29, 154, 0, 25, 42, 180, 0, 29, 21, 4, 46, 4, 160, 0, 18, 42, 180, 0, 26, 21, 4, 46, 4]
abbrev dktX3_kin_2 : List UInt8 := dkwX3_kin_2 ++ dktX3_kin_3
def dkwX3_kin_1 : List UInt8 := [79, 132, 3, 1, 167, 255, 235, 42, 28, 182, 0, 251, 3, 62, 3, 54, 4, 21, 4, 16, 100, 162, 0, 41]
abbrev dktX3_kin_1 : List UInt8 := dkwX3_kin_1 ++ dktX3_kin_2
def dkwX3_kin_0 : List UInt8 := [42, 27, 182, 0, 251, 3, 62, 29, 16, 100, 162, 0, 21, 42, 180, 0, 29, 29, 42, 180, 0, 26, 29, 46]
abbrev dktX3_kin_0 : List UInt8 := dkwX3_kin_0 ++ dktX3_kin_1
theorem dksX3_kin_0 : cX3_kin.data.toList.drop 0 = dktX3_kin_0 := by decide +kernel
theorem dksX3_kin_1 : cX3_kin.data.toList.drop 24 = dktX3_kin_1 := dk_seg dksX3_kin_0 24 rfl rfl
theorem dksX3_kin_2 : cX3_kin.data.toList.drop 48 = dktX3_kin_2 := dk_seg dksX3_kin_1 24 rfl rfl
theorem dksX3_kin_3 : cX3_kin.data.toList.drop 71 = dktX3_kin_3 := dk_seg dksX3_kin_2 23 rfl rfl
theorem dX3_kin_0 : decode cX3_kin 0 = .ok (.aload_n 0, 1) := dk_42 (dk_at dksX3_kin_0 0 rfl rfl)
theorem dX3_kin_1 : decode cX3_kin 1 = .ok (.iload_n 1, 1) := dk_27 (dk_at dksX3_kin_0 1 rfl rfl)
theorem dX3_kin_2 : decode cX3_kin 2 = .ok (.invokevirtual 251, 3) := dk_182 0 251 (dk_at dksX3_kin_0 2 rfl rfl)
theorem dX3_kin_5 : decode cX3_kin 5 = .ok (.iconst 0, 1) := dk_3 (dk_at dksX3_kin_0 5 rfl rfl)
theorem dX3_kin_6 : decode cX3_kin 6 = .ok (.istore_n 3, 1) := dk_62 (dk_at dksX3_kin_0 6 rfl rfl)
theorem dX3_kin_7 : decode cX3_kin 7 = .ok (.iload_n 3, 1) := dk_29 (dk_at dksX3_kin_0 7 rfl rfl)
theorem dX3_kin_8 : decode cX3_kin 8 = .ok (.bipush 100, 2) := dk_16 100 (dk_at dksX3_kin_0 8 rfl rfl)
theorem dX3_kin_10 : decode cX3_kin 10 = .ok (.if_icmp .ge 21, 3) := dk_162 0 21 (dk_at dksX3_kin_0 10 rfl rfl)
theorem dX3_kin_13 : decode cX3_kin 13 = .ok (.aload_n 0, 1) := dk_42 (dk_at dksX3_kin_0 13 rfl rfl)
theorem dX3_kin_14 : decode cX3_kin 14 = .ok (.getfield 29, 3) := dk_180 0 29 (dk_at dksX3_kin_0 14 rfl rfl)
theorem dX3_kin_17 : decode cX3_kin 17 = .ok (.iload_n 3, 1) := dk_29 (dk_at dksX3_kin_0 17 rfl rfl)
theorem dX3_kin_18 : decode cX3_kin 18 = .ok (.aload_n 0, 1) := dk_42 (dk_at dksX3_kin_0 18 rfl rfl)
theorem dX3_kin_19 : decode cX3_kin 19 = .ok (.getfield 26, 3) := dk_180 0 26 (dk_at dksX3_kin_0 19 rfl rfl)
theorem dX3_kin_22 : decode cX3_kin 22 = .ok (.iload_n 3, 1) := dk_29 (dk_at dksX3_kin_0 22 rfl rfl)
theorem dX3_kin_23 : decode cX3_kin 23 = .ok (.iaload, 1) := dk_46 (dk_at dksX3_kin_0 23 rfl rfl)
theorem dX3_kin_24 : decode cX3_kin 24 = .ok (.iastore, 1) := dk_79 (dk_at dksX3_kin_1 0 rfl rfl)
theorem dX3_kin_25 : decode cX3_kin 25 = .ok (.iinc 3 1, 3) := dk_132 3 1 (dk_at dksX3_kin_1 1 rfl rfl)
theorem dX3_kin_28 : decode cX3_kin 28 = .ok (.goto (-21), 3) := dk_167 255 235 (dk_at dksX3_kin_1 4 rfl rfl)
theorem dX3_kin_31 : decode cX3_kin 31 = .ok (.aload_n 0, 1) := dk_42 (dk_at dksX3_kin_1 7 rfl rfl)
theorem dX3_kin_32 : decode cX3_kin 32 = .ok (.iload_n 2, 1) := dk_28 (dk_at dksX3_kin_1 8 rfl rfl)
theorem dX3_kin_33 : decode cX3_kin 33 = .ok (.invokevirtual 251, 3) := dk_182 0 251 (dk_at dksX3_kin_1 9 rfl rfl)
theorem dX3_kin_36 : decode cX3_kin 36 = .ok (.iconst 0, 1) := dk_3 (dk_at dksX3_kin_1 12 rfl rfl)
theorem dX3_kin_37 : decode cX3_kin 37 = .ok (.istore_n 3, 1) := dk_62 (dk_at dksX3_kin_1 13 rfl rfl)
theorem dX3_kin_38 : decode cX3_kin 38 = .ok (.iconst 0, 1) := dk_3 (dk_at dksX3_kin_1 14 rfl rfl)
theorem dX3_kin_39 : decode cX3_kin 39 = .ok (.istore 4, 2) := dk_54 4 (dk_at dksX3_kin_1 15 rfl rfl)
theorem dX3_kin_41 : decode cX3_kin 41 = .ok (.iload 4, 2) := dk_21 4 (dk_at dksX3_kin_1 17 rfl rfl)
theorem dX3_kin_43 : decode cX3_kin 43 = .ok (.bipush 100, 2) := dk_16 100 (dk_at dksX3_kin_1 19 rfl rfl)
theorem dX3_kin_45 : decode cX3_kin 45 = .ok (.if_icmp .ge 41, 3) := dk_162 0 41 (dk_at dksX3_kin_1 21 rfl rfl)
theorem dX3_kin_48 : decode cX3_kin 48 = .ok (.iload_n 3, 1) := dk_29 (dk_at dksX3_kin_2 0 rfl rfl)
theorem dX3_kin_49 : decode cX3_kin 49 = .ok (.ifCond .ne 25, 3) := dk_154 0 25 (dk_at dksX3_kin_2 1 rfl rfl)
theorem dX3_kin_52 : decode cX3_kin 52 = .ok (.aload_n 0, 1) := dk_42 (dk_at dksX3_kin_2 4 rfl rfl)
theorem dX3_kin_53 : decode cX3_kin 53 = .ok (.getfield 29, 3) := dk_180 0 29 (dk_at dksX3_kin_2 5 rfl rfl)
theorem dX3_kin_56 : decode cX3_kin 56 = .ok (.iload 4, 2) := dk_21 4 (dk_at dksX3_kin_2 8 rfl rfl)
theorem dX3_kin_58 : decode cX3_kin 58 = .ok (.iaload, 1) := dk_46 (dk_at dksX3_kin_2 10 rfl rfl)
theorem dX3_kin_59 : decode cX3_kin 59 = .ok (.iconst 1, 1) := dk_4 (dk_at dksX3_kin_2 11 rfl rfl)
theorem dX3_kin_60 : decode cX3_kin 60 = .ok (.if_icmp .ne 18, 3) := dk_160 0 18 (dk_at dksX3_kin_2 12 rfl rfl)
theorem dX3_kin_63 : decode cX3_kin 63 = .ok (.aload_n 0, 1) := dk_42 (dk_at dksX3_kin_2 15 rfl rfl)
theorem dX3_kin_64 : decode cX3_kin 64 = .ok (.getfield 26, 3) := dk_180 0 26 (dk_at dksX3_kin_2 16 rfl rfl)
theorem dX3_kin_67 : decode cX3_kin 67 = .ok (.iload 4, 2) := dk_21 4 (dk_at dksX3_kin_2 19 rfl rfl)
theorem dX3_kin_69 : decode cX3_kin 69 = .ok (.iaload, 1) := dk_46 (dk_at dksX3_kin_2 21 rfl rfl)
theorem dX3_kin_70 : decode cX3_kin 70 = .ok (.iconst 1, 1) := dk_4 (dk_at dksX3_kin_2 22 rfl rfl)
theorem dX3_kin_71 : decode cX3_kin 71 = .ok (.if_icmp .ne 7, 3) := dk_160 0 7 (dk_at dksX3_kin_3 0 rfl rfl)
theorem dX3_kin_74 : decode cX3_kin 74 = .ok (.iconst 1, 1) := dk_4 (dk_at dksX3_kin_3 3 rfl rfl)
theorem dX3_kin_75 : decode cX3_kin 75 = .ok (.goto 4, 3) := dk_167 0 4 (dk_at dksX3_kin_3 4 rfl rfl)
theorem dX3_kin_78 : decode cX3_kin 78 = .ok (.iconst 0, 1) := dk_3 (dk_at dksX3_kin_3 7 rfl rfl)
theorem dX3_kin_79 : decode cX3_kin 79 = .ok (.istore_n 3, 1) := dk_62 (dk_at dksX3_kin_3 8 rfl rfl)
theorem dX3_kin_80 : decode cX3_kin 80 = .ok (.iinc 4 1, 3) := dk_132 4 1 (dk_at dksX3_kin_3 9 rfl rfl)
theorem dX3_kin_83 : decode cX3_kin 83 = .ok (.goto (-42), 3) := dk_167 255 214 (dk_at dksX3_kin_3 12 rfl rfl)
theorem dX3_kin_86 : decode cX3_kin 86 = .ok (.iload_n 3, 1) := dk_29 (dk_at dksX3_kin_3 15 rfl rfl)
theorem dX3_kin_87 : decode cX3_kin 87 = .ok (.ireturn, 1) := dk_172 (dk_at dksX3_kin_3 16 rfl rfl)
abbrev cX3_marksUp : ByteArray := prog_9_method_113_code
def yX3_marksUp : MethodName := ⟨RX3, "marksUp", "(I)V"⟩
def dkwX3_marksUp_5 : List UInt8 := [177]
abbrev dktX3_marksUp_5 : List UInt8 := dkwX3_marksUp_5 ++ []
def dkwX3_marksUp_4 : List UInt8 := [180, 0, 26, 21, 5, 4, 79, 4, 61, 132, 4, 1, 167, 255, 202, 132, 3, 1, 167, 255, 187, 167, 255, 176]
abbrev dktX3_marksUp_4 : List UInt8 := dkwX3_marksUp_4 ++ dktX3_marksUp_5
def dkwX3_marksUp_3 : List UInt8 := [182, 0, 227, 54, 5, 21, 5, 2, 159, 0, 23, 42, 180, 0, 26, 21, 5, 46, 154, 0, 13, 42]
abbrev dktX3_marksUp_3 : List UInt8 := dkwX3_marksUp_3 ++ dktX3_marksUp_4
def dkwX3_marksUp_2 : List UInt8 := [54, 4, 21, 4, 7, 163, 0, 54, 42, 180, 0, 26, 29, 46, 4, 160, 0, 44, 42, 29, 21, 4]
abbrev dktX3_marksUp_2 : List UInt8 := dkwX3_marksUp_2 ++ dktX3_marksUp_3
def dkwX3_marksUp_1 : List UInt8 := [132, 2, 1, 167, 255, 231, 4, 61, 28, 153, 0, 82, 3, 61, 3, 62, 29, 16, 100, 162, 0, 69, 6]
abbrev dktX3_marksUp_1 : List UInt8 := dkwX3_marksUp_1 ++ dktX3_marksUp_2
def dkwX3_marksUp_0 : List UInt8 := [3, 61, 28, 16, 100, 162, 0, 25, 42, 180, 0, 26, 28, 28, 27, 160, 0, 7, 4, 167, 0, 4, 3, 79]
abbrev dktX3_marksUp_0 : List UInt8 := dkwX3_marksUp_0 ++ dktX3_marksUp_1
theorem dksX3_marksUp_0 : cX3_marksUp.data.toList.drop 0 = dktX3_marksUp_0 := by decide +kernel
theorem dksX3_marksUp_1 : cX3_marksUp.data.toList.drop 24 = dktX3_marksUp_1 := dk_seg dksX3_marksUp_0 24 rfl rfl
theorem dksX3_marksUp_2 : cX3_marksUp.data.toList.drop 47 = dktX3_marksUp_2 := dk_seg dksX3_marksUp_1 23 rfl rfl
theorem dksX3_marksUp_3 : cX3_marksUp.data.toList.drop 69 = dktX3_marksUp_3 := dk_seg dksX3_marksUp_2 22 rfl rfl
theorem dksX3_marksUp_4 : cX3_marksUp.data.toList.drop 91 = dktX3_marksUp_4 := dk_seg dksX3_marksUp_3 22 rfl rfl
theorem dksX3_marksUp_5 : cX3_marksUp.data.toList.drop 115 = dktX3_marksUp_5 := dk_seg dksX3_marksUp_4 24 rfl rfl
theorem dX3_marksUp_0 : decode cX3_marksUp 0 = .ok (.iconst 0, 1) := dk_3 (dk_at dksX3_marksUp_0 0 rfl rfl)
theorem dX3_marksUp_1 : decode cX3_marksUp 1 = .ok (.istore_n 2, 1) := dk_61 (dk_at dksX3_marksUp_0 1 rfl rfl)
theorem dX3_marksUp_2 : decode cX3_marksUp 2 = .ok (.iload_n 2, 1) := dk_28 (dk_at dksX3_marksUp_0 2 rfl rfl)
theorem dX3_marksUp_3 : decode cX3_marksUp 3 = .ok (.bipush 100, 2) := dk_16 100 (dk_at dksX3_marksUp_0 3 rfl rfl)
theorem dX3_marksUp_5 : decode cX3_marksUp 5 = .ok (.if_icmp .ge 25, 3) := dk_162 0 25 (dk_at dksX3_marksUp_0 5 rfl rfl)
theorem dX3_marksUp_8 : decode cX3_marksUp 8 = .ok (.aload_n 0, 1) := dk_42 (dk_at dksX3_marksUp_0 8 rfl rfl)
theorem dX3_marksUp_9 : decode cX3_marksUp 9 = .ok (.getfield 26, 3) := dk_180 0 26 (dk_at dksX3_marksUp_0 9 rfl rfl)
theorem dX3_marksUp_12 : decode cX3_marksUp 12 = .ok (.iload_n 2, 1) := dk_28 (dk_at dksX3_marksUp_0 12 rfl rfl)
theorem dX3_marksUp_13 : decode cX3_marksUp 13 = .ok (.iload_n 2, 1) := dk_28 (dk_at dksX3_marksUp_0 13 rfl rfl)
theorem dX3_marksUp_14 : decode cX3_marksUp 14 = .ok (.iload_n 1, 1) := dk_27 (dk_at dksX3_marksUp_0 14 rfl rfl)
theorem dX3_marksUp_15 : decode cX3_marksUp 15 = .ok (.if_icmp .ne 7, 3) := dk_160 0 7 (dk_at dksX3_marksUp_0 15 rfl rfl)
theorem dX3_marksUp_18 : decode cX3_marksUp 18 = .ok (.iconst 1, 1) := dk_4 (dk_at dksX3_marksUp_0 18 rfl rfl)
theorem dX3_marksUp_19 : decode cX3_marksUp 19 = .ok (.goto 4, 3) := dk_167 0 4 (dk_at dksX3_marksUp_0 19 rfl rfl)
theorem dX3_marksUp_22 : decode cX3_marksUp 22 = .ok (.iconst 0, 1) := dk_3 (dk_at dksX3_marksUp_0 22 rfl rfl)
theorem dX3_marksUp_23 : decode cX3_marksUp 23 = .ok (.iastore, 1) := dk_79 (dk_at dksX3_marksUp_0 23 rfl rfl)
theorem dX3_marksUp_24 : decode cX3_marksUp 24 = .ok (.iinc 2 1, 3) := dk_132 2 1 (dk_at dksX3_marksUp_1 0 rfl rfl)
theorem dX3_marksUp_27 : decode cX3_marksUp 27 = .ok (.goto (-25), 3) := dk_167 255 231 (dk_at dksX3_marksUp_1 3 rfl rfl)
theorem dX3_marksUp_30 : decode cX3_marksUp 30 = .ok (.iconst 1, 1) := dk_4 (dk_at dksX3_marksUp_1 6 rfl rfl)
theorem dX3_marksUp_31 : decode cX3_marksUp 31 = .ok (.istore_n 2, 1) := dk_61 (dk_at dksX3_marksUp_1 7 rfl rfl)
theorem dX3_marksUp_32 : decode cX3_marksUp 32 = .ok (.iload_n 2, 1) := dk_28 (dk_at dksX3_marksUp_1 8 rfl rfl)
theorem dX3_marksUp_33 : decode cX3_marksUp 33 = .ok (.ifCond .eq 82, 3) := dk_153 0 82 (dk_at dksX3_marksUp_1 9 rfl rfl)
theorem dX3_marksUp_36 : decode cX3_marksUp 36 = .ok (.iconst 0, 1) := dk_3 (dk_at dksX3_marksUp_1 12 rfl rfl)
theorem dX3_marksUp_37 : decode cX3_marksUp 37 = .ok (.istore_n 2, 1) := dk_61 (dk_at dksX3_marksUp_1 13 rfl rfl)
theorem dX3_marksUp_38 : decode cX3_marksUp 38 = .ok (.iconst 0, 1) := dk_3 (dk_at dksX3_marksUp_1 14 rfl rfl)
theorem dX3_marksUp_39 : decode cX3_marksUp 39 = .ok (.istore_n 3, 1) := dk_62 (dk_at dksX3_marksUp_1 15 rfl rfl)
theorem dX3_marksUp_40 : decode cX3_marksUp 40 = .ok (.iload_n 3, 1) := dk_29 (dk_at dksX3_marksUp_1 16 rfl rfl)
theorem dX3_marksUp_41 : decode cX3_marksUp 41 = .ok (.bipush 100, 2) := dk_16 100 (dk_at dksX3_marksUp_1 17 rfl rfl)
theorem dX3_marksUp_43 : decode cX3_marksUp 43 = .ok (.if_icmp .ge 69, 3) := dk_162 0 69 (dk_at dksX3_marksUp_1 19 rfl rfl)
theorem dX3_marksUp_46 : decode cX3_marksUp 46 = .ok (.iconst 3, 1) := dk_6 (dk_at dksX3_marksUp_1 22 rfl rfl)
theorem dX3_marksUp_47 : decode cX3_marksUp 47 = .ok (.istore 4, 2) := dk_54 4 (dk_at dksX3_marksUp_2 0 rfl rfl)
theorem dX3_marksUp_49 : decode cX3_marksUp 49 = .ok (.iload 4, 2) := dk_21 4 (dk_at dksX3_marksUp_2 2 rfl rfl)
theorem dX3_marksUp_51 : decode cX3_marksUp 51 = .ok (.iconst 4, 1) := dk_7 (dk_at dksX3_marksUp_2 4 rfl rfl)
theorem dX3_marksUp_52 : decode cX3_marksUp 52 = .ok (.if_icmp .gt 54, 3) := dk_163 0 54 (dk_at dksX3_marksUp_2 5 rfl rfl)
theorem dX3_marksUp_55 : decode cX3_marksUp 55 = .ok (.aload_n 0, 1) := dk_42 (dk_at dksX3_marksUp_2 8 rfl rfl)
theorem dX3_marksUp_56 : decode cX3_marksUp 56 = .ok (.getfield 26, 3) := dk_180 0 26 (dk_at dksX3_marksUp_2 9 rfl rfl)
theorem dX3_marksUp_59 : decode cX3_marksUp 59 = .ok (.iload_n 3, 1) := dk_29 (dk_at dksX3_marksUp_2 12 rfl rfl)
theorem dX3_marksUp_60 : decode cX3_marksUp 60 = .ok (.iaload, 1) := dk_46 (dk_at dksX3_marksUp_2 13 rfl rfl)
theorem dX3_marksUp_61 : decode cX3_marksUp 61 = .ok (.iconst 1, 1) := dk_4 (dk_at dksX3_marksUp_2 14 rfl rfl)
theorem dX3_marksUp_62 : decode cX3_marksUp 62 = .ok (.if_icmp .ne 44, 3) := dk_160 0 44 (dk_at dksX3_marksUp_2 15 rfl rfl)
theorem dX3_marksUp_65 : decode cX3_marksUp 65 = .ok (.aload_n 0, 1) := dk_42 (dk_at dksX3_marksUp_2 18 rfl rfl)
theorem dX3_marksUp_66 : decode cX3_marksUp 66 = .ok (.iload_n 3, 1) := dk_29 (dk_at dksX3_marksUp_2 19 rfl rfl)
theorem dX3_marksUp_67 : decode cX3_marksUp 67 = .ok (.iload 4, 2) := dk_21 4 (dk_at dksX3_marksUp_2 20 rfl rfl)
theorem dX3_marksUp_69 : decode cX3_marksUp 69 = .ok (.invokevirtual 227, 3) := dk_182 0 227 (dk_at dksX3_marksUp_3 0 rfl rfl)
theorem dX3_marksUp_72 : decode cX3_marksUp 72 = .ok (.istore 5, 2) := dk_54 5 (dk_at dksX3_marksUp_3 3 rfl rfl)
theorem dX3_marksUp_74 : decode cX3_marksUp 74 = .ok (.iload 5, 2) := dk_21 5 (dk_at dksX3_marksUp_3 5 rfl rfl)
theorem dX3_marksUp_76 : decode cX3_marksUp 76 = .ok (.iconst (-1), 1) := dk_2 (dk_at dksX3_marksUp_3 7 rfl rfl)
theorem dX3_marksUp_77 : decode cX3_marksUp 77 = .ok (.if_icmp .eq 23, 3) := dk_159 0 23 (dk_at dksX3_marksUp_3 8 rfl rfl)
theorem dX3_marksUp_80 : decode cX3_marksUp 80 = .ok (.aload_n 0, 1) := dk_42 (dk_at dksX3_marksUp_3 11 rfl rfl)
theorem dX3_marksUp_81 : decode cX3_marksUp 81 = .ok (.getfield 26, 3) := dk_180 0 26 (dk_at dksX3_marksUp_3 12 rfl rfl)
theorem dX3_marksUp_84 : decode cX3_marksUp 84 = .ok (.iload 5, 2) := dk_21 5 (dk_at dksX3_marksUp_3 15 rfl rfl)
theorem dX3_marksUp_86 : decode cX3_marksUp 86 = .ok (.iaload, 1) := dk_46 (dk_at dksX3_marksUp_3 17 rfl rfl)
theorem dX3_marksUp_87 : decode cX3_marksUp 87 = .ok (.ifCond .ne 13, 3) := dk_154 0 13 (dk_at dksX3_marksUp_3 18 rfl rfl)
theorem dX3_marksUp_90 : decode cX3_marksUp 90 = .ok (.aload_n 0, 1) := dk_42 (dk_at dksX3_marksUp_3 21 rfl rfl)
theorem dX3_marksUp_91 : decode cX3_marksUp 91 = .ok (.getfield 26, 3) := dk_180 0 26 (dk_at dksX3_marksUp_4 0 rfl rfl)
theorem dX3_marksUp_94 : decode cX3_marksUp 94 = .ok (.iload 5, 2) := dk_21 5 (dk_at dksX3_marksUp_4 3 rfl rfl)
theorem dX3_marksUp_96 : decode cX3_marksUp 96 = .ok (.iconst 1, 1) := dk_4 (dk_at dksX3_marksUp_4 5 rfl rfl)
theorem dX3_marksUp_97 : decode cX3_marksUp 97 = .ok (.iastore, 1) := dk_79 (dk_at dksX3_marksUp_4 6 rfl rfl)
theorem dX3_marksUp_98 : decode cX3_marksUp 98 = .ok (.iconst 1, 1) := dk_4 (dk_at dksX3_marksUp_4 7 rfl rfl)
theorem dX3_marksUp_99 : decode cX3_marksUp 99 = .ok (.istore_n 2, 1) := dk_61 (dk_at dksX3_marksUp_4 8 rfl rfl)
theorem dX3_marksUp_100 : decode cX3_marksUp 100 = .ok (.iinc 4 1, 3) := dk_132 4 1 (dk_at dksX3_marksUp_4 9 rfl rfl)
theorem dX3_marksUp_103 : decode cX3_marksUp 103 = .ok (.goto (-54), 3) := dk_167 255 202 (dk_at dksX3_marksUp_4 12 rfl rfl)
theorem dX3_marksUp_106 : decode cX3_marksUp 106 = .ok (.iinc 3 1, 3) := dk_132 3 1 (dk_at dksX3_marksUp_4 15 rfl rfl)
theorem dX3_marksUp_109 : decode cX3_marksUp 109 = .ok (.goto (-69), 3) := dk_167 255 187 (dk_at dksX3_marksUp_4 18 rfl rfl)
theorem dX3_marksUp_112 : decode cX3_marksUp 112 = .ok (.goto (-80), 3) := dk_167 255 176 (dk_at dksX3_marksUp_4 21 rfl rfl)
theorem dX3_marksUp_115 : decode cX3_marksUp 115 = .ok (.return_, 1) := dk_177 (dk_at dksX3_marksUp_5 0 rfl rfl)
abbrev cX3_kinPairs : ByteArray := prog_9_method_117_code
def yX3_kinPairs : MethodName := ⟨RX3, "kinPairs", "()I"⟩
def dkwX3_kinPairs_0 : List UInt8 := [42, 42, 182, 1, 1, 182, 0, 196, 172]
abbrev dktX3_kinPairs_0 : List UInt8 := dkwX3_kinPairs_0 ++ []
theorem dksX3_kinPairs_0 : cX3_kinPairs.data.toList.drop 0 = dktX3_kinPairs_0 := by decide +kernel
theorem dX3_kinPairs_0 : decode cX3_kinPairs 0 = .ok (.aload_n 0, 1) := dk_42 (dk_at dksX3_kinPairs_0 0 rfl rfl)
theorem dX3_kinPairs_1 : decode cX3_kinPairs 1 = .ok (.aload_n 0, 1) := dk_42 (dk_at dksX3_kinPairs_0 1 rfl rfl)
theorem dX3_kinPairs_2 : decode cX3_kinPairs 2 = .ok (.invokevirtual 257, 3) := dk_182 1 1 (dk_at dksX3_kinPairs_0 2 rfl rfl)
theorem dX3_kinPairs_5 : decode cX3_kinPairs 5 = .ok (.invokevirtual 196, 3) := dk_182 0 196 (dk_at dksX3_kinPairs_0 5 rfl rfl)
theorem dX3_kinPairs_8 : decode cX3_kinPairs 8 = .ok (.ireturn, 1) := dk_172 (dk_at dksX3_kinPairs_0 8 rfl rfl)
abbrev cX3_pairsOfKin : ByteArray := prog_9_method_116_code
def yX3_pairsOfKin : MethodName := ⟨RX3, "pairsOfKin", "()I"⟩
def dkwX3_pairsOfKin_2 : List UInt8 := [96, 60, 132, 2, 1, 167, 255, 207, 27, 172]
abbrev dktX3_pairsOfKin_2 : List UInt8 := dkwX3_pairsOfKin_2 ++ []
def dkwX3_pairsOfKin_1 : List UInt8 := [42, 42, 28, 3, 182, 0, 96, 42, 28, 4, 182, 0, 96, 182, 0, 254, 153, 0, 7, 4, 167, 0, 4, 3]
abbrev dktX3_pairsOfKin_1 : List UInt8 := dkwX3_pairsOfKin_1 ++ dktX3_pairsOfKin_2
def dkwX3_pairsOfKin_0 : List UInt8 := [3, 60, 3, 61, 28, 42, 180, 0, 7, 5, 46, 162, 0, 45, 27, 42, 28, 182, 0, 107, 5, 160, 0, 26]
abbrev dktX3_pairsOfKin_0 : List UInt8 := dkwX3_pairsOfKin_0 ++ dktX3_pairsOfKin_1
theorem dksX3_pairsOfKin_0 : cX3_pairsOfKin.data.toList.drop 0 = dktX3_pairsOfKin_0 := by decide +kernel
theorem dksX3_pairsOfKin_1 : cX3_pairsOfKin.data.toList.drop 24 = dktX3_pairsOfKin_1 := dk_seg dksX3_pairsOfKin_0 24 rfl rfl
theorem dksX3_pairsOfKin_2 : cX3_pairsOfKin.data.toList.drop 48 = dktX3_pairsOfKin_2 := dk_seg dksX3_pairsOfKin_1 24 rfl rfl
theorem dX3_pairsOfKin_0 : decode cX3_pairsOfKin 0 = .ok (.iconst 0, 1) := dk_3 (dk_at dksX3_pairsOfKin_0 0 rfl rfl)
theorem dX3_pairsOfKin_1 : decode cX3_pairsOfKin 1 = .ok (.istore_n 1, 1) := dk_60 (dk_at dksX3_pairsOfKin_0 1 rfl rfl)
theorem dX3_pairsOfKin_2 : decode cX3_pairsOfKin 2 = .ok (.iconst 0, 1) := dk_3 (dk_at dksX3_pairsOfKin_0 2 rfl rfl)
theorem dX3_pairsOfKin_3 : decode cX3_pairsOfKin 3 = .ok (.istore_n 2, 1) := dk_61 (dk_at dksX3_pairsOfKin_0 3 rfl rfl)
theorem dX3_pairsOfKin_4 : decode cX3_pairsOfKin 4 = .ok (.iload_n 2, 1) := dk_28 (dk_at dksX3_pairsOfKin_0 4 rfl rfl)
theorem dX3_pairsOfKin_5 : decode cX3_pairsOfKin 5 = .ok (.aload_n 0, 1) := dk_42 (dk_at dksX3_pairsOfKin_0 5 rfl rfl)
theorem dX3_pairsOfKin_6 : decode cX3_pairsOfKin 6 = .ok (.getfield 7, 3) := dk_180 0 7 (dk_at dksX3_pairsOfKin_0 6 rfl rfl)
theorem dX3_pairsOfKin_9 : decode cX3_pairsOfKin 9 = .ok (.iconst 2, 1) := dk_5 (dk_at dksX3_pairsOfKin_0 9 rfl rfl)
theorem dX3_pairsOfKin_10 : decode cX3_pairsOfKin 10 = .ok (.iaload, 1) := dk_46 (dk_at dksX3_pairsOfKin_0 10 rfl rfl)
theorem dX3_pairsOfKin_11 : decode cX3_pairsOfKin 11 = .ok (.if_icmp .ge 45, 3) := dk_162 0 45 (dk_at dksX3_pairsOfKin_0 11 rfl rfl)
theorem dX3_pairsOfKin_14 : decode cX3_pairsOfKin 14 = .ok (.iload_n 1, 1) := dk_27 (dk_at dksX3_pairsOfKin_0 14 rfl rfl)
theorem dX3_pairsOfKin_15 : decode cX3_pairsOfKin 15 = .ok (.aload_n 0, 1) := dk_42 (dk_at dksX3_pairsOfKin_0 15 rfl rfl)
theorem dX3_pairsOfKin_16 : decode cX3_pairsOfKin 16 = .ok (.iload_n 2, 1) := dk_28 (dk_at dksX3_pairsOfKin_0 16 rfl rfl)
theorem dX3_pairsOfKin_17 : decode cX3_pairsOfKin 17 = .ok (.invokevirtual 107, 3) := dk_182 0 107 (dk_at dksX3_pairsOfKin_0 17 rfl rfl)
theorem dX3_pairsOfKin_20 : decode cX3_pairsOfKin 20 = .ok (.iconst 2, 1) := dk_5 (dk_at dksX3_pairsOfKin_0 20 rfl rfl)
theorem dX3_pairsOfKin_21 : decode cX3_pairsOfKin 21 = .ok (.if_icmp .ne 26, 3) := dk_160 0 26 (dk_at dksX3_pairsOfKin_0 21 rfl rfl)
theorem dX3_pairsOfKin_24 : decode cX3_pairsOfKin 24 = .ok (.aload_n 0, 1) := dk_42 (dk_at dksX3_pairsOfKin_1 0 rfl rfl)
theorem dX3_pairsOfKin_25 : decode cX3_pairsOfKin 25 = .ok (.aload_n 0, 1) := dk_42 (dk_at dksX3_pairsOfKin_1 1 rfl rfl)
theorem dX3_pairsOfKin_26 : decode cX3_pairsOfKin 26 = .ok (.iload_n 2, 1) := dk_28 (dk_at dksX3_pairsOfKin_1 2 rfl rfl)
theorem dX3_pairsOfKin_27 : decode cX3_pairsOfKin 27 = .ok (.iconst 0, 1) := dk_3 (dk_at dksX3_pairsOfKin_1 3 rfl rfl)
theorem dX3_pairsOfKin_28 : decode cX3_pairsOfKin 28 = .ok (.invokevirtual 96, 3) := dk_182 0 96 (dk_at dksX3_pairsOfKin_1 4 rfl rfl)
theorem dX3_pairsOfKin_31 : decode cX3_pairsOfKin 31 = .ok (.aload_n 0, 1) := dk_42 (dk_at dksX3_pairsOfKin_1 7 rfl rfl)
theorem dX3_pairsOfKin_32 : decode cX3_pairsOfKin 32 = .ok (.iload_n 2, 1) := dk_28 (dk_at dksX3_pairsOfKin_1 8 rfl rfl)
theorem dX3_pairsOfKin_33 : decode cX3_pairsOfKin 33 = .ok (.iconst 1, 1) := dk_4 (dk_at dksX3_pairsOfKin_1 9 rfl rfl)
theorem dX3_pairsOfKin_34 : decode cX3_pairsOfKin 34 = .ok (.invokevirtual 96, 3) := dk_182 0 96 (dk_at dksX3_pairsOfKin_1 10 rfl rfl)
theorem dX3_pairsOfKin_37 : decode cX3_pairsOfKin 37 = .ok (.invokevirtual 254, 3) := dk_182 0 254 (dk_at dksX3_pairsOfKin_1 13 rfl rfl)
theorem dX3_pairsOfKin_40 : decode cX3_pairsOfKin 40 = .ok (.ifCond .eq 7, 3) := dk_153 0 7 (dk_at dksX3_pairsOfKin_1 16 rfl rfl)
theorem dX3_pairsOfKin_43 : decode cX3_pairsOfKin 43 = .ok (.iconst 1, 1) := dk_4 (dk_at dksX3_pairsOfKin_1 19 rfl rfl)
theorem dX3_pairsOfKin_44 : decode cX3_pairsOfKin 44 = .ok (.goto 4, 3) := dk_167 0 4 (dk_at dksX3_pairsOfKin_1 20 rfl rfl)
theorem dX3_pairsOfKin_47 : decode cX3_pairsOfKin 47 = .ok (.iconst 0, 1) := dk_3 (dk_at dksX3_pairsOfKin_1 23 rfl rfl)
theorem dX3_pairsOfKin_48 : decode cX3_pairsOfKin 48 = .ok (.iadd, 1) := dk_96 (dk_at dksX3_pairsOfKin_2 0 rfl rfl)
theorem dX3_pairsOfKin_49 : decode cX3_pairsOfKin 49 = .ok (.istore_n 1, 1) := dk_60 (dk_at dksX3_pairsOfKin_2 1 rfl rfl)
theorem dX3_pairsOfKin_50 : decode cX3_pairsOfKin 50 = .ok (.iinc 2 1, 3) := dk_132 2 1 (dk_at dksX3_pairsOfKin_2 2 rfl rfl)
theorem dX3_pairsOfKin_53 : decode cX3_pairsOfKin 53 = .ok (.goto (-49), 3) := dk_167 255 207 (dk_at dksX3_pairsOfKin_2 5 rfl rfl)
theorem dX3_pairsOfKin_56 : decode cX3_pairsOfKin 56 = .ok (.iload_n 1, 1) := dk_27 (dk_at dksX3_pairsOfKin_2 8 rfl rfl)
theorem dX3_pairsOfKin_57 : decode cX3_pairsOfKin 57 = .ok (.ireturn, 1) := dk_172 (dk_at dksX3_pairsOfKin_2 9 rfl rfl)
abbrev cX3_born : ByteArray := prog_9_method_118_code
def yX3_born : MethodName := ⟨RX3, "born", "()I"⟩
def dkwX3_born_0 : List UInt8 := [42, 42, 180, 0, 7, 8, 46, 182, 0, 196, 172]
abbrev dktX3_born_0 : List UInt8 := dkwX3_born_0 ++ []
theorem dksX3_born_0 : cX3_born.data.toList.drop 0 = dktX3_born_0 := by decide +kernel
theorem dX3_born_0 : decode cX3_born 0 = .ok (.aload_n 0, 1) := dk_42 (dk_at dksX3_born_0 0 rfl rfl)
theorem dX3_born_1 : decode cX3_born 1 = .ok (.aload_n 0, 1) := dk_42 (dk_at dksX3_born_0 1 rfl rfl)
theorem dX3_born_2 : decode cX3_born 2 = .ok (.getfield 7, 3) := dk_180 0 7 (dk_at dksX3_born_0 2 rfl rfl)
theorem dX3_born_5 : decode cX3_born 5 = .ok (.iconst 5, 1) := dk_8 (dk_at dksX3_born_0 5 rfl rfl)
theorem dX3_born_6 : decode cX3_born 6 = .ok (.iaload, 1) := dk_46 (dk_at dksX3_born_0 6 rfl rfl)
theorem dX3_born_7 : decode cX3_born 7 = .ok (.invokevirtual 196, 3) := dk_182 0 196 (dk_at dksX3_born_0 7 rfl rfl)
theorem dX3_born_10 : decode cX3_born 10 = .ok (.ireturn, 1) := dk_172 (dk_at dksX3_born_0 10 rfl rfl)
abbrev cX3_died : ByteArray := prog_9_method_119_code
def yX3_died : MethodName := ⟨RX3, "died", "(I)I"⟩
def dkwX3_died_1 : List UInt8 := [158, 0, 7, 3, 167, 0, 12, 42, 180, 0, 7, 16, 10, 27, 96, 46, 172]
abbrev dktX3_died_1 : List UInt8 := dkwX3_died_1 ++ []
def dkwX3_died_0 : List UInt8 := [42, 27, 3, 6, 184, 0, 42, 153, 0, 7, 3, 167, 0, 4, 4, 181, 0, 35, 42, 180, 0, 35]
abbrev dktX3_died_0 : List UInt8 := dkwX3_died_0 ++ dktX3_died_1
theorem dksX3_died_0 : cX3_died.data.toList.drop 0 = dktX3_died_0 := by decide +kernel
theorem dksX3_died_1 : cX3_died.data.toList.drop 22 = dktX3_died_1 := dk_seg dksX3_died_0 22 rfl rfl
theorem dX3_died_0 : decode cX3_died 0 = .ok (.aload_n 0, 1) := dk_42 (dk_at dksX3_died_0 0 rfl rfl)
theorem dX3_died_1 : decode cX3_died 1 = .ok (.iload_n 1, 1) := dk_27 (dk_at dksX3_died_0 1 rfl rfl)
theorem dX3_died_2 : decode cX3_died 2 = .ok (.iconst 0, 1) := dk_3 (dk_at dksX3_died_0 2 rfl rfl)
theorem dX3_died_3 : decode cX3_died 3 = .ok (.iconst 3, 1) := dk_6 (dk_at dksX3_died_0 3 rfl rfl)
theorem dX3_died_4 : decode cX3_died 4 = .ok (.invokestatic 42, 3) := dk_184 0 42 (dk_at dksX3_died_0 4 rfl rfl)
theorem dX3_died_7 : decode cX3_died 7 = .ok (.ifCond .eq 7, 3) := dk_153 0 7 (dk_at dksX3_died_0 7 rfl rfl)
theorem dX3_died_10 : decode cX3_died 10 = .ok (.iconst 0, 1) := dk_3 (dk_at dksX3_died_0 10 rfl rfl)
theorem dX3_died_11 : decode cX3_died 11 = .ok (.goto 4, 3) := dk_167 0 4 (dk_at dksX3_died_0 11 rfl rfl)
theorem dX3_died_14 : decode cX3_died 14 = .ok (.iconst 1, 1) := dk_4 (dk_at dksX3_died_0 14 rfl rfl)
theorem dX3_died_15 : decode cX3_died 15 = .ok (.putfield 35, 3) := dk_181 0 35 (dk_at dksX3_died_0 15 rfl rfl)
theorem dX3_died_18 : decode cX3_died 18 = .ok (.aload_n 0, 1) := dk_42 (dk_at dksX3_died_0 18 rfl rfl)
theorem dX3_died_19 : decode cX3_died 19 = .ok (.getfield 35, 3) := dk_180 0 35 (dk_at dksX3_died_0 19 rfl rfl)
theorem dX3_died_22 : decode cX3_died 22 = .ok (.ifCond .le 7, 3) := dk_158 0 7 (dk_at dksX3_died_1 0 rfl rfl)
theorem dX3_died_25 : decode cX3_died 25 = .ok (.iconst 0, 1) := dk_3 (dk_at dksX3_died_1 3 rfl rfl)
theorem dX3_died_26 : decode cX3_died 26 = .ok (.goto 12, 3) := dk_167 0 12 (dk_at dksX3_died_1 4 rfl rfl)
theorem dX3_died_29 : decode cX3_died 29 = .ok (.aload_n 0, 1) := dk_42 (dk_at dksX3_died_1 7 rfl rfl)
theorem dX3_died_30 : decode cX3_died 30 = .ok (.getfield 7, 3) := dk_180 0 7 (dk_at dksX3_died_1 8 rfl rfl)
theorem dX3_died_33 : decode cX3_died 33 = .ok (.bipush 10, 2) := dk_16 10 (dk_at dksX3_died_1 11 rfl rfl)
theorem dX3_died_35 : decode cX3_died 35 = .ok (.iload_n 1, 1) := dk_27 (dk_at dksX3_died_1 13 rfl rfl)
theorem dX3_died_36 : decode cX3_died 36 = .ok (.iadd, 1) := dk_96 (dk_at dksX3_died_1 14 rfl rfl)
theorem dX3_died_37 : decode cX3_died 37 = .ok (.iaload, 1) := dk_46 (dk_at dksX3_died_1 15 rfl rfl)
theorem dX3_died_38 : decode cX3_died 38 = .ok (.ireturn, 1) := dk_172 (dk_at dksX3_died_1 16 rfl rfl)
abbrev cX3_takenOut : ByteArray := prog_9_method_120_code
def yX3_takenOut : MethodName := ⟨RX3, "takenOut", "()I"⟩
def dkwX3_takenOut_0 : List UInt8 := [42, 42, 180, 0, 7, 16, 6, 46, 182, 0, 196, 172]
abbrev dktX3_takenOut_0 : List UInt8 := dkwX3_takenOut_0 ++ []
theorem dksX3_takenOut_0 : cX3_takenOut.data.toList.drop 0 = dktX3_takenOut_0 := by decide +kernel
theorem dX3_takenOut_0 : decode cX3_takenOut 0 = .ok (.aload_n 0, 1) := dk_42 (dk_at dksX3_takenOut_0 0 rfl rfl)
theorem dX3_takenOut_1 : decode cX3_takenOut 1 = .ok (.aload_n 0, 1) := dk_42 (dk_at dksX3_takenOut_0 1 rfl rfl)
theorem dX3_takenOut_2 : decode cX3_takenOut 2 = .ok (.getfield 7, 3) := dk_180 0 7 (dk_at dksX3_takenOut_0 2 rfl rfl)
theorem dX3_takenOut_5 : decode cX3_takenOut 5 = .ok (.bipush 6, 2) := dk_16 6 (dk_at dksX3_takenOut_0 5 rfl rfl)
theorem dX3_takenOut_7 : decode cX3_takenOut 7 = .ok (.iaload, 1) := dk_46 (dk_at dksX3_takenOut_0 7 rfl rfl)
theorem dX3_takenOut_8 : decode cX3_takenOut 8 = .ok (.invokevirtual 196, 3) := dk_182 0 196 (dk_at dksX3_takenOut_0 8 rfl rfl)
theorem dX3_takenOut_11 : decode cX3_takenOut 11 = .ok (.ireturn, 1) := dk_172 (dk_at dksX3_takenOut_0 11 rfl rfl)
abbrev cX3_eaten : ByteArray := prog_9_method_121_code
def yX3_eaten : MethodName := ⟨RX3, "eaten", "()I"⟩
def dkwX3_eaten_0 : List UInt8 := [42, 42, 180, 0, 7, 16, 7, 46, 182, 0, 196, 172]
abbrev dktX3_eaten_0 : List UInt8 := dkwX3_eaten_0 ++ []
theorem dksX3_eaten_0 : cX3_eaten.data.toList.drop 0 = dktX3_eaten_0 := by decide +kernel
theorem dX3_eaten_0 : decode cX3_eaten 0 = .ok (.aload_n 0, 1) := dk_42 (dk_at dksX3_eaten_0 0 rfl rfl)
theorem dX3_eaten_1 : decode cX3_eaten 1 = .ok (.aload_n 0, 1) := dk_42 (dk_at dksX3_eaten_0 1 rfl rfl)
theorem dX3_eaten_2 : decode cX3_eaten 2 = .ok (.getfield 7, 3) := dk_180 0 7 (dk_at dksX3_eaten_0 2 rfl rfl)
theorem dX3_eaten_5 : decode cX3_eaten 5 = .ok (.bipush 7, 2) := dk_16 7 (dk_at dksX3_eaten_0 5 rfl rfl)
theorem dX3_eaten_7 : decode cX3_eaten 7 = .ok (.iaload, 1) := dk_46 (dk_at dksX3_eaten_0 7 rfl rfl)
theorem dX3_eaten_8 : decode cX3_eaten 8 = .ok (.invokevirtual 196, 3) := dk_182 0 196 (dk_at dksX3_eaten_0 8 rfl rfl)
theorem dX3_eaten_11 : decode cX3_eaten 11 = .ok (.ireturn, 1) := dk_172 (dk_at dksX3_eaten_0 11 rfl rfl)
abbrev cX3_mostOwls : ByteArray := prog_9_method_122_code
def yX3_mostOwls : MethodName := ⟨RX3, "mostOwls", "()I"⟩
def dkwX3_mostOwls_0 : List UInt8 := [42, 42, 180, 0, 7, 16, 8, 46, 182, 0, 196, 172]
abbrev dktX3_mostOwls_0 : List UInt8 := dkwX3_mostOwls_0 ++ []
theorem dksX3_mostOwls_0 : cX3_mostOwls.data.toList.drop 0 = dktX3_mostOwls_0 := by decide +kernel
theorem dX3_mostOwls_0 : decode cX3_mostOwls 0 = .ok (.aload_n 0, 1) := dk_42 (dk_at dksX3_mostOwls_0 0 rfl rfl)
theorem dX3_mostOwls_1 : decode cX3_mostOwls 1 = .ok (.aload_n 0, 1) := dk_42 (dk_at dksX3_mostOwls_0 1 rfl rfl)
theorem dX3_mostOwls_2 : decode cX3_mostOwls 2 = .ok (.getfield 7, 3) := dk_180 0 7 (dk_at dksX3_mostOwls_0 2 rfl rfl)
theorem dX3_mostOwls_5 : decode cX3_mostOwls 5 = .ok (.bipush 8, 2) := dk_16 8 (dk_at dksX3_mostOwls_0 5 rfl rfl)
theorem dX3_mostOwls_7 : decode cX3_mostOwls 7 = .ok (.iaload, 1) := dk_46 (dk_at dksX3_mostOwls_0 7 rfl rfl)
theorem dX3_mostOwls_8 : decode cX3_mostOwls 8 = .ok (.invokevirtual 196, 3) := dk_182 0 196 (dk_at dksX3_mostOwls_0 8 rfl rfl)
theorem dX3_mostOwls_11 : decode cX3_mostOwls 11 = .ok (.ireturn, 1) := dk_172 (dk_at dksX3_mostOwls_0 11 rfl rfl)
abbrev cX3_deaths : ByteArray := prog_9_method_123_code
def yX3_deaths : MethodName := ⟨RX3, "deaths", "()I"⟩
def dkwX3_deaths_0 : List UInt8 := [42, 42, 180, 0, 7, 16, 9, 46, 182, 0, 196, 172]
abbrev dktX3_deaths_0 : List UInt8 := dkwX3_deaths_0 ++ []
theorem dksX3_deaths_0 : cX3_deaths.data.toList.drop 0 = dktX3_deaths_0 := by decide +kernel
theorem dX3_deaths_0 : decode cX3_deaths 0 = .ok (.aload_n 0, 1) := dk_42 (dk_at dksX3_deaths_0 0 rfl rfl)
theorem dX3_deaths_1 : decode cX3_deaths 1 = .ok (.aload_n 0, 1) := dk_42 (dk_at dksX3_deaths_0 1 rfl rfl)
theorem dX3_deaths_2 : decode cX3_deaths 2 = .ok (.getfield 7, 3) := dk_180 0 7 (dk_at dksX3_deaths_0 2 rfl rfl)
theorem dX3_deaths_5 : decode cX3_deaths 5 = .ok (.bipush 9, 2) := dk_16 9 (dk_at dksX3_deaths_0 5 rfl rfl)
theorem dX3_deaths_7 : decode cX3_deaths 7 = .ok (.iaload, 1) := dk_46 (dk_at dksX3_deaths_0 7 rfl rfl)
theorem dX3_deaths_8 : decode cX3_deaths 8 = .ok (.invokevirtual 196, 3) := dk_182 0 196 (dk_at dksX3_deaths_0 8 rfl rfl)
theorem dX3_deaths_11 : decode cX3_deaths 11 = .ok (.ireturn, 1) := dk_172 (dk_at dksX3_deaths_0 11 rfl rfl)
abbrev cX3_deathRing : ByteArray := prog_9_method_126_code
def yX3_deathRing : MethodName := ⟨RX3, "deathRing", "(I)I"⟩
def dkwX3_deathRing_0 : List UInt8 := [42, 27, 3, 182, 1, 7, 172]
abbrev dktX3_deathRing_0 : List UInt8 := dkwX3_deathRing_0 ++ []
theorem dksX3_deathRing_0 : cX3_deathRing.data.toList.drop 0 = dktX3_deathRing_0 := by decide +kernel
theorem dX3_deathRing_0 : decode cX3_deathRing 0 = .ok (.aload_n 0, 1) := dk_42 (dk_at dksX3_deathRing_0 0 rfl rfl)
theorem dX3_deathRing_1 : decode cX3_deathRing 1 = .ok (.iload_n 1, 1) := dk_27 (dk_at dksX3_deathRing_0 1 rfl rfl)
theorem dX3_deathRing_2 : decode cX3_deathRing 2 = .ok (.iconst 0, 1) := dk_3 (dk_at dksX3_deathRing_0 2 rfl rfl)
theorem dX3_deathRing_3 : decode cX3_deathRing 3 = .ok (.invokevirtual 263, 3) := dk_182 1 7 (dk_at dksX3_deathRing_0 3 rfl rfl)
theorem dX3_deathRing_6 : decode cX3_deathRing 6 = .ok (.ireturn, 1) := dk_172 (dk_at dksX3_deathRing_0 6 rfl rfl)
abbrev cX3_tellsDeath : ByteArray := prog_9_method_125_code
def yX3_tellsDeath : MethodName := ⟨RX3, "tellsDeath", "(II)I"⟩
def dkwX3_tellsDeath_1 : List UInt8 := [181, 0, 35, 42, 180, 0, 35, 158, 0, 7, 3, 167, 0, 9, 42, 27, 28, 182, 1, 4, 172]
abbrev dktX3_tellsDeath_1 : List UInt8 := dkwX3_tellsDeath_1 ++ []
def dkwX3_tellsDeath_0 : List UInt8 := [42, 27, 3, 42, 180, 0, 7, 16, 9, 46, 4, 100, 184, 0, 42, 153, 0, 7, 3, 167, 0, 4, 4]
abbrev dktX3_tellsDeath_0 : List UInt8 := dkwX3_tellsDeath_0 ++ dktX3_tellsDeath_1
theorem dksX3_tellsDeath_0 : cX3_tellsDeath.data.toList.drop 0 = dktX3_tellsDeath_0 := by decide +kernel
theorem dksX3_tellsDeath_1 : cX3_tellsDeath.data.toList.drop 23 = dktX3_tellsDeath_1 := dk_seg dksX3_tellsDeath_0 23 rfl rfl
theorem dX3_tellsDeath_0 : decode cX3_tellsDeath 0 = .ok (.aload_n 0, 1) := dk_42 (dk_at dksX3_tellsDeath_0 0 rfl rfl)
theorem dX3_tellsDeath_1 : decode cX3_tellsDeath 1 = .ok (.iload_n 1, 1) := dk_27 (dk_at dksX3_tellsDeath_0 1 rfl rfl)
theorem dX3_tellsDeath_2 : decode cX3_tellsDeath 2 = .ok (.iconst 0, 1) := dk_3 (dk_at dksX3_tellsDeath_0 2 rfl rfl)
theorem dX3_tellsDeath_3 : decode cX3_tellsDeath 3 = .ok (.aload_n 0, 1) := dk_42 (dk_at dksX3_tellsDeath_0 3 rfl rfl)
theorem dX3_tellsDeath_4 : decode cX3_tellsDeath 4 = .ok (.getfield 7, 3) := dk_180 0 7 (dk_at dksX3_tellsDeath_0 4 rfl rfl)
theorem dX3_tellsDeath_7 : decode cX3_tellsDeath 7 = .ok (.bipush 9, 2) := dk_16 9 (dk_at dksX3_tellsDeath_0 7 rfl rfl)
theorem dX3_tellsDeath_9 : decode cX3_tellsDeath 9 = .ok (.iaload, 1) := dk_46 (dk_at dksX3_tellsDeath_0 9 rfl rfl)
theorem dX3_tellsDeath_10 : decode cX3_tellsDeath 10 = .ok (.iconst 1, 1) := dk_4 (dk_at dksX3_tellsDeath_0 10 rfl rfl)
theorem dX3_tellsDeath_11 : decode cX3_tellsDeath 11 = .ok (.isub, 1) := dk_100 (dk_at dksX3_tellsDeath_0 11 rfl rfl)
theorem dX3_tellsDeath_12 : decode cX3_tellsDeath 12 = .ok (.invokestatic 42, 3) := dk_184 0 42 (dk_at dksX3_tellsDeath_0 12 rfl rfl)
theorem dX3_tellsDeath_15 : decode cX3_tellsDeath 15 = .ok (.ifCond .eq 7, 3) := dk_153 0 7 (dk_at dksX3_tellsDeath_0 15 rfl rfl)
theorem dX3_tellsDeath_18 : decode cX3_tellsDeath 18 = .ok (.iconst 0, 1) := dk_3 (dk_at dksX3_tellsDeath_0 18 rfl rfl)
theorem dX3_tellsDeath_19 : decode cX3_tellsDeath 19 = .ok (.goto 4, 3) := dk_167 0 4 (dk_at dksX3_tellsDeath_0 19 rfl rfl)
theorem dX3_tellsDeath_22 : decode cX3_tellsDeath 22 = .ok (.iconst 1, 1) := dk_4 (dk_at dksX3_tellsDeath_0 22 rfl rfl)
theorem dX3_tellsDeath_23 : decode cX3_tellsDeath 23 = .ok (.putfield 35, 3) := dk_181 0 35 (dk_at dksX3_tellsDeath_1 0 rfl rfl)
theorem dX3_tellsDeath_26 : decode cX3_tellsDeath 26 = .ok (.aload_n 0, 1) := dk_42 (dk_at dksX3_tellsDeath_1 3 rfl rfl)
theorem dX3_tellsDeath_27 : decode cX3_tellsDeath 27 = .ok (.getfield 35, 3) := dk_180 0 35 (dk_at dksX3_tellsDeath_1 4 rfl rfl)
theorem dX3_tellsDeath_30 : decode cX3_tellsDeath 30 = .ok (.ifCond .le 7, 3) := dk_158 0 7 (dk_at dksX3_tellsDeath_1 7 rfl rfl)
theorem dX3_tellsDeath_33 : decode cX3_tellsDeath 33 = .ok (.iconst 0, 1) := dk_3 (dk_at dksX3_tellsDeath_1 10 rfl rfl)
theorem dX3_tellsDeath_34 : decode cX3_tellsDeath 34 = .ok (.goto 9, 3) := dk_167 0 9 (dk_at dksX3_tellsDeath_1 11 rfl rfl)
theorem dX3_tellsDeath_37 : decode cX3_tellsDeath 37 = .ok (.aload_n 0, 1) := dk_42 (dk_at dksX3_tellsDeath_1 14 rfl rfl)
theorem dX3_tellsDeath_38 : decode cX3_tellsDeath 38 = .ok (.iload_n 1, 1) := dk_27 (dk_at dksX3_tellsDeath_1 15 rfl rfl)
theorem dX3_tellsDeath_39 : decode cX3_tellsDeath 39 = .ok (.iload_n 2, 1) := dk_28 (dk_at dksX3_tellsDeath_1 16 rfl rfl)
theorem dX3_tellsDeath_40 : decode cX3_tellsDeath 40 = .ok (.invokevirtual 260, 3) := dk_182 1 4 (dk_at dksX3_tellsDeath_1 17 rfl rfl)
theorem dX3_tellsDeath_43 : decode cX3_tellsDeath 43 = .ok (.ireturn, 1) := dk_172 (dk_at dksX3_tellsDeath_1 20 rfl rfl)
abbrev cX3_ofDeath : ByteArray := prog_9_method_124_code
def yX3_ofDeath : MethodName := ⟨RX3, "ofDeath", "(II)I"⟩
def dkwX3_ofDeath_1 : List UInt8 := [172]
abbrev dktX3_ofDeath_1 : List UInt8 := dkwX3_ofDeath_1 ++ []
def dkwX3_ofDeath_0 : List UInt8 := [42, 180, 0, 7, 17, 2, 182, 6, 42, 180, 0, 7, 16, 9, 46, 4, 100, 27, 100, 104, 96, 28, 96, 46]
abbrev dktX3_ofDeath_0 : List UInt8 := dkwX3_ofDeath_0 ++ dktX3_ofDeath_1
theorem dksX3_ofDeath_0 : cX3_ofDeath.data.toList.drop 0 = dktX3_ofDeath_0 := by decide +kernel
theorem dksX3_ofDeath_1 : cX3_ofDeath.data.toList.drop 24 = dktX3_ofDeath_1 := dk_seg dksX3_ofDeath_0 24 rfl rfl
theorem dX3_ofDeath_0 : decode cX3_ofDeath 0 = .ok (.aload_n 0, 1) := dk_42 (dk_at dksX3_ofDeath_0 0 rfl rfl)
theorem dX3_ofDeath_1 : decode cX3_ofDeath 1 = .ok (.getfield 7, 3) := dk_180 0 7 (dk_at dksX3_ofDeath_0 1 rfl rfl)
theorem dX3_ofDeath_4 : decode cX3_ofDeath 4 = .ok (.sipush 694, 3) := dk_17 2 182 (dk_at dksX3_ofDeath_0 4 rfl rfl)
theorem dX3_ofDeath_7 : decode cX3_ofDeath 7 = .ok (.iconst 3, 1) := dk_6 (dk_at dksX3_ofDeath_0 7 rfl rfl)
theorem dX3_ofDeath_8 : decode cX3_ofDeath 8 = .ok (.aload_n 0, 1) := dk_42 (dk_at dksX3_ofDeath_0 8 rfl rfl)
theorem dX3_ofDeath_9 : decode cX3_ofDeath 9 = .ok (.getfield 7, 3) := dk_180 0 7 (dk_at dksX3_ofDeath_0 9 rfl rfl)
theorem dX3_ofDeath_12 : decode cX3_ofDeath 12 = .ok (.bipush 9, 2) := dk_16 9 (dk_at dksX3_ofDeath_0 12 rfl rfl)
theorem dX3_ofDeath_14 : decode cX3_ofDeath 14 = .ok (.iaload, 1) := dk_46 (dk_at dksX3_ofDeath_0 14 rfl rfl)
theorem dX3_ofDeath_15 : decode cX3_ofDeath 15 = .ok (.iconst 1, 1) := dk_4 (dk_at dksX3_ofDeath_0 15 rfl rfl)
theorem dX3_ofDeath_16 : decode cX3_ofDeath 16 = .ok (.isub, 1) := dk_100 (dk_at dksX3_ofDeath_0 16 rfl rfl)
theorem dX3_ofDeath_17 : decode cX3_ofDeath 17 = .ok (.iload_n 1, 1) := dk_27 (dk_at dksX3_ofDeath_0 17 rfl rfl)
theorem dX3_ofDeath_18 : decode cX3_ofDeath 18 = .ok (.isub, 1) := dk_100 (dk_at dksX3_ofDeath_0 18 rfl rfl)
theorem dX3_ofDeath_19 : decode cX3_ofDeath 19 = .ok (.imul, 1) := dk_104 (dk_at dksX3_ofDeath_0 19 rfl rfl)
theorem dX3_ofDeath_20 : decode cX3_ofDeath 20 = .ok (.iadd, 1) := dk_96 (dk_at dksX3_ofDeath_0 20 rfl rfl)
theorem dX3_ofDeath_21 : decode cX3_ofDeath 21 = .ok (.iload_n 2, 1) := dk_28 (dk_at dksX3_ofDeath_0 21 rfl rfl)
theorem dX3_ofDeath_22 : decode cX3_ofDeath 22 = .ok (.iadd, 1) := dk_96 (dk_at dksX3_ofDeath_0 22 rfl rfl)
theorem dX3_ofDeath_23 : decode cX3_ofDeath 23 = .ok (.iaload, 1) := dk_46 (dk_at dksX3_ofDeath_0 23 rfl rfl)
theorem dX3_ofDeath_24 : decode cX3_ofDeath 24 = .ok (.ireturn, 1) := dk_172 (dk_at dksX3_ofDeath_1 0 rfl rfl)
abbrev cX3_deathCause : ByteArray := prog_9_method_127_code
def yX3_deathCause : MethodName := ⟨RX3, "deathCause", "(I)I"⟩
def dkwX3_deathCause_0 : List UInt8 := [42, 27, 4, 182, 1, 7, 172]
abbrev dktX3_deathCause_0 : List UInt8 := dkwX3_deathCause_0 ++ []
theorem dksX3_deathCause_0 : cX3_deathCause.data.toList.drop 0 = dktX3_deathCause_0 := by decide +kernel
theorem dX3_deathCause_0 : decode cX3_deathCause 0 = .ok (.aload_n 0, 1) := dk_42 (dk_at dksX3_deathCause_0 0 rfl rfl)
theorem dX3_deathCause_1 : decode cX3_deathCause 1 = .ok (.iload_n 1, 1) := dk_27 (dk_at dksX3_deathCause_0 1 rfl rfl)
theorem dX3_deathCause_2 : decode cX3_deathCause 2 = .ok (.iconst 1, 1) := dk_4 (dk_at dksX3_deathCause_0 2 rfl rfl)
theorem dX3_deathCause_3 : decode cX3_deathCause 3 = .ok (.invokevirtual 263, 3) := dk_182 1 7 (dk_at dksX3_deathCause_0 3 rfl rfl)
theorem dX3_deathCause_6 : decode cX3_deathCause 6 = .ok (.ireturn, 1) := dk_172 (dk_at dksX3_deathCause_0 6 rfl rfl)
abbrev cX3_deathYear : ByteArray := prog_9_method_128_code
def yX3_deathYear : MethodName := ⟨RX3, "deathYear", "(I)I"⟩
def dkwX3_deathYear_0 : List UInt8 := [42, 27, 5, 182, 1, 7, 172]
abbrev dktX3_deathYear_0 : List UInt8 := dkwX3_deathYear_0 ++ []
theorem dksX3_deathYear_0 : cX3_deathYear.data.toList.drop 0 = dktX3_deathYear_0 := by decide +kernel
theorem dX3_deathYear_0 : decode cX3_deathYear 0 = .ok (.aload_n 0, 1) := dk_42 (dk_at dksX3_deathYear_0 0 rfl rfl)
theorem dX3_deathYear_1 : decode cX3_deathYear 1 = .ok (.iload_n 1, 1) := dk_27 (dk_at dksX3_deathYear_0 1 rfl rfl)
theorem dX3_deathYear_2 : decode cX3_deathYear 2 = .ok (.iconst 2, 1) := dk_5 (dk_at dksX3_deathYear_0 2 rfl rfl)
theorem dX3_deathYear_3 : decode cX3_deathYear 3 = .ok (.invokevirtual 263, 3) := dk_182 1 7 (dk_at dksX3_deathYear_0 3 rfl rfl)
theorem dX3_deathYear_6 : decode cX3_deathYear 6 = .ok (.ireturn, 1) := dk_172 (dk_at dksX3_deathYear_0 6 rfl rfl)
abbrev cX3_bestSquare : ByteArray := prog_9_method_130_code
def yX3_bestSquare : MethodName := ⟨RX3, "bestSquare", "()I"⟩
def dkwX3_bestSquare_0 : List UInt8 := [42, 42, 182, 1, 10, 182, 0, 196, 172]
abbrev dktX3_bestSquare_0 : List UInt8 := dkwX3_bestSquare_0 ++ []
theorem dksX3_bestSquare_0 : cX3_bestSquare.data.toList.drop 0 = dktX3_bestSquare_0 := by decide +kernel
theorem dX3_bestSquare_0 : decode cX3_bestSquare 0 = .ok (.aload_n 0, 1) := dk_42 (dk_at dksX3_bestSquare_0 0 rfl rfl)
theorem dX3_bestSquare_1 : decode cX3_bestSquare 1 = .ok (.aload_n 0, 1) := dk_42 (dk_at dksX3_bestSquare_0 1 rfl rfl)
theorem dX3_bestSquare_2 : decode cX3_bestSquare 2 = .ok (.invokevirtual 266, 3) := dk_182 1 10 (dk_at dksX3_bestSquare_0 2 rfl rfl)
theorem dX3_bestSquare_5 : decode cX3_bestSquare 5 = .ok (.invokevirtual 196, 3) := dk_182 0 196 (dk_at dksX3_bestSquare_0 5 rfl rfl)
theorem dX3_bestSquare_8 : decode cX3_bestSquare 8 = .ok (.ireturn, 1) := dk_172 (dk_at dksX3_bestSquare_0 8 rfl rfl)
abbrev cX3_bestForBox : ByteArray := prog_9_method_129_code
def yX3_bestForBox : MethodName := ⟨RX3, "bestForBox", "()I"⟩
def dkwX3_bestForBox_3 : List UInt8 := [132, 3, 1, 167, 255, 193, 27, 172]
abbrev dktX3_bestForBox_3 : List UInt8 := dkwX3_bestForBox_3 ++ []
def dkwX3_bestForBox_2 : List UInt8 := [164, 0, 7, 29, 167, 0, 4, 27, 60, 21, 4, 28, 164, 0, 8, 21, 4, 167, 0, 4, 28, 61]
abbrev dktX3_bestForBox_2 : List UInt8 := dkwX3_bestForBox_2 ++ dktX3_bestForBox_3
def dkwX3_bestForBox_1 : List UInt8 := [42, 29, 182, 0, 70, 2, 160, 0, 40, 42, 42, 29, 182, 0, 66, 4, 182, 0, 113, 54, 4, 21, 4, 28]
abbrev dktX3_bestForBox_1 : List UInt8 := dkwX3_bestForBox_1 ++ dktX3_bestForBox_2
def dkwX3_bestForBox_0 : List UInt8 := [42, 182, 0, 166, 2, 60, 2, 61, 3, 62, 29, 16, 64, 162, 0, 63, 42, 29, 182, 0, 58, 154, 0, 49]
abbrev dktX3_bestForBox_0 : List UInt8 := dkwX3_bestForBox_0 ++ dktX3_bestForBox_1
theorem dksX3_bestForBox_0 : cX3_bestForBox.data.toList.drop 0 = dktX3_bestForBox_0 := by decide +kernel
theorem dksX3_bestForBox_1 : cX3_bestForBox.data.toList.drop 24 = dktX3_bestForBox_1 := dk_seg dksX3_bestForBox_0 24 rfl rfl
theorem dksX3_bestForBox_2 : cX3_bestForBox.data.toList.drop 48 = dktX3_bestForBox_2 := dk_seg dksX3_bestForBox_1 24 rfl rfl
theorem dksX3_bestForBox_3 : cX3_bestForBox.data.toList.drop 70 = dktX3_bestForBox_3 := dk_seg dksX3_bestForBox_2 22 rfl rfl
theorem dX3_bestForBox_0 : decode cX3_bestForBox 0 = .ok (.aload_n 0, 1) := dk_42 (dk_at dksX3_bestForBox_0 0 rfl rfl)
theorem dX3_bestForBox_1 : decode cX3_bestForBox 1 = .ok (.invokevirtual 166, 3) := dk_182 0 166 (dk_at dksX3_bestForBox_0 1 rfl rfl)
theorem dX3_bestForBox_4 : decode cX3_bestForBox 4 = .ok (.iconst (-1), 1) := dk_2 (dk_at dksX3_bestForBox_0 4 rfl rfl)
theorem dX3_bestForBox_5 : decode cX3_bestForBox 5 = .ok (.istore_n 1, 1) := dk_60 (dk_at dksX3_bestForBox_0 5 rfl rfl)
theorem dX3_bestForBox_6 : decode cX3_bestForBox 6 = .ok (.iconst (-1), 1) := dk_2 (dk_at dksX3_bestForBox_0 6 rfl rfl)
theorem dX3_bestForBox_7 : decode cX3_bestForBox 7 = .ok (.istore_n 2, 1) := dk_61 (dk_at dksX3_bestForBox_0 7 rfl rfl)
theorem dX3_bestForBox_8 : decode cX3_bestForBox 8 = .ok (.iconst 0, 1) := dk_3 (dk_at dksX3_bestForBox_0 8 rfl rfl)
theorem dX3_bestForBox_9 : decode cX3_bestForBox 9 = .ok (.istore_n 3, 1) := dk_62 (dk_at dksX3_bestForBox_0 9 rfl rfl)
theorem dX3_bestForBox_10 : decode cX3_bestForBox 10 = .ok (.iload_n 3, 1) := dk_29 (dk_at dksX3_bestForBox_0 10 rfl rfl)
theorem dX3_bestForBox_11 : decode cX3_bestForBox 11 = .ok (.bipush 64, 2) := dk_16 64 (dk_at dksX3_bestForBox_0 11 rfl rfl)
theorem dX3_bestForBox_13 : decode cX3_bestForBox 13 = .ok (.if_icmp .ge 63, 3) := dk_162 0 63 (dk_at dksX3_bestForBox_0 13 rfl rfl)
theorem dX3_bestForBox_16 : decode cX3_bestForBox 16 = .ok (.aload_n 0, 1) := dk_42 (dk_at dksX3_bestForBox_0 16 rfl rfl)
theorem dX3_bestForBox_17 : decode cX3_bestForBox 17 = .ok (.iload_n 3, 1) := dk_29 (dk_at dksX3_bestForBox_0 17 rfl rfl)
theorem dX3_bestForBox_18 : decode cX3_bestForBox 18 = .ok (.invokevirtual 58, 3) := dk_182 0 58 (dk_at dksX3_bestForBox_0 18 rfl rfl)
theorem dX3_bestForBox_21 : decode cX3_bestForBox 21 = .ok (.ifCond .ne 49, 3) := dk_154 0 49 (dk_at dksX3_bestForBox_0 21 rfl rfl)
theorem dX3_bestForBox_24 : decode cX3_bestForBox 24 = .ok (.aload_n 0, 1) := dk_42 (dk_at dksX3_bestForBox_1 0 rfl rfl)
theorem dX3_bestForBox_25 : decode cX3_bestForBox 25 = .ok (.iload_n 3, 1) := dk_29 (dk_at dksX3_bestForBox_1 1 rfl rfl)
theorem dX3_bestForBox_26 : decode cX3_bestForBox 26 = .ok (.invokevirtual 70, 3) := dk_182 0 70 (dk_at dksX3_bestForBox_1 2 rfl rfl)
theorem dX3_bestForBox_29 : decode cX3_bestForBox 29 = .ok (.iconst (-1), 1) := dk_2 (dk_at dksX3_bestForBox_1 5 rfl rfl)
theorem dX3_bestForBox_30 : decode cX3_bestForBox 30 = .ok (.if_icmp .ne 40, 3) := dk_160 0 40 (dk_at dksX3_bestForBox_1 6 rfl rfl)
theorem dX3_bestForBox_33 : decode cX3_bestForBox 33 = .ok (.aload_n 0, 1) := dk_42 (dk_at dksX3_bestForBox_1 9 rfl rfl)
theorem dX3_bestForBox_34 : decode cX3_bestForBox 34 = .ok (.aload_n 0, 1) := dk_42 (dk_at dksX3_bestForBox_1 10 rfl rfl)
theorem dX3_bestForBox_35 : decode cX3_bestForBox 35 = .ok (.iload_n 3, 1) := dk_29 (dk_at dksX3_bestForBox_1 11 rfl rfl)
theorem dX3_bestForBox_36 : decode cX3_bestForBox 36 = .ok (.invokevirtual 66, 3) := dk_182 0 66 (dk_at dksX3_bestForBox_1 12 rfl rfl)
theorem dX3_bestForBox_39 : decode cX3_bestForBox 39 = .ok (.iconst 1, 1) := dk_4 (dk_at dksX3_bestForBox_1 15 rfl rfl)
theorem dX3_bestForBox_40 : decode cX3_bestForBox 40 = .ok (.invokevirtual 113, 3) := dk_182 0 113 (dk_at dksX3_bestForBox_1 16 rfl rfl)
theorem dX3_bestForBox_43 : decode cX3_bestForBox 43 = .ok (.istore 4, 2) := dk_54 4 (dk_at dksX3_bestForBox_1 19 rfl rfl)
theorem dX3_bestForBox_45 : decode cX3_bestForBox 45 = .ok (.iload 4, 2) := dk_21 4 (dk_at dksX3_bestForBox_1 21 rfl rfl)
theorem dX3_bestForBox_47 : decode cX3_bestForBox 47 = .ok (.iload_n 2, 1) := dk_28 (dk_at dksX3_bestForBox_1 23 rfl rfl)
theorem dX3_bestForBox_48 : decode cX3_bestForBox 48 = .ok (.if_icmp .le 7, 3) := dk_164 0 7 (dk_at dksX3_bestForBox_2 0 rfl rfl)
theorem dX3_bestForBox_51 : decode cX3_bestForBox 51 = .ok (.iload_n 3, 1) := dk_29 (dk_at dksX3_bestForBox_2 3 rfl rfl)
theorem dX3_bestForBox_52 : decode cX3_bestForBox 52 = .ok (.goto 4, 3) := dk_167 0 4 (dk_at dksX3_bestForBox_2 4 rfl rfl)
theorem dX3_bestForBox_55 : decode cX3_bestForBox 55 = .ok (.iload_n 1, 1) := dk_27 (dk_at dksX3_bestForBox_2 7 rfl rfl)
theorem dX3_bestForBox_56 : decode cX3_bestForBox 56 = .ok (.istore_n 1, 1) := dk_60 (dk_at dksX3_bestForBox_2 8 rfl rfl)
theorem dX3_bestForBox_57 : decode cX3_bestForBox 57 = .ok (.iload 4, 2) := dk_21 4 (dk_at dksX3_bestForBox_2 9 rfl rfl)
theorem dX3_bestForBox_59 : decode cX3_bestForBox 59 = .ok (.iload_n 2, 1) := dk_28 (dk_at dksX3_bestForBox_2 11 rfl rfl)
theorem dX3_bestForBox_60 : decode cX3_bestForBox 60 = .ok (.if_icmp .le 8, 3) := dk_164 0 8 (dk_at dksX3_bestForBox_2 12 rfl rfl)
theorem dX3_bestForBox_63 : decode cX3_bestForBox 63 = .ok (.iload 4, 2) := dk_21 4 (dk_at dksX3_bestForBox_2 15 rfl rfl)
theorem dX3_bestForBox_65 : decode cX3_bestForBox 65 = .ok (.goto 4, 3) := dk_167 0 4 (dk_at dksX3_bestForBox_2 17 rfl rfl)
theorem dX3_bestForBox_68 : decode cX3_bestForBox 68 = .ok (.iload_n 2, 1) := dk_28 (dk_at dksX3_bestForBox_2 20 rfl rfl)
theorem dX3_bestForBox_69 : decode cX3_bestForBox 69 = .ok (.istore_n 2, 1) := dk_61 (dk_at dksX3_bestForBox_2 21 rfl rfl)
theorem dX3_bestForBox_70 : decode cX3_bestForBox 70 = .ok (.iinc 3 1, 3) := dk_132 3 1 (dk_at dksX3_bestForBox_3 0 rfl rfl)
theorem dX3_bestForBox_73 : decode cX3_bestForBox 73 = .ok (.goto (-63), 3) := dk_167 255 193 (dk_at dksX3_bestForBox_3 3 rfl rfl)
theorem dX3_bestForBox_76 : decode cX3_bestForBox 76 = .ok (.iload_n 1, 1) := dk_27 (dk_at dksX3_bestForBox_3 6 rfl rfl)
theorem dX3_bestForBox_77 : decode cX3_bestForBox 77 = .ok (.ireturn, 1) := dk_172 (dk_at dksX3_bestForBox_3 7 rfl rfl)
abbrev cX3_owlsIn : ByteArray := prog_9_method_132_code
def yX3_owlsIn : MethodName := ⟨RX3, "owlsIn", "(I)I"⟩
def dkwX3_owlsIn_1 : List UInt8 := [167, 0, 8, 42, 27, 182, 1, 19, 172]
abbrev dktX3_owlsIn_1 : List UInt8 := dkwX3_owlsIn_1 ++ []
def dkwX3_owlsIn_0 : List UInt8 := [42, 27, 184, 0, 190, 153, 0, 7, 3, 167, 0, 4, 4, 181, 0, 35, 42, 180, 0, 35, 158, 0, 7, 3]
abbrev dktX3_owlsIn_0 : List UInt8 := dkwX3_owlsIn_0 ++ dktX3_owlsIn_1
theorem dksX3_owlsIn_0 : cX3_owlsIn.data.toList.drop 0 = dktX3_owlsIn_0 := by decide +kernel
theorem dksX3_owlsIn_1 : cX3_owlsIn.data.toList.drop 24 = dktX3_owlsIn_1 := dk_seg dksX3_owlsIn_0 24 rfl rfl
theorem dX3_owlsIn_0 : decode cX3_owlsIn 0 = .ok (.aload_n 0, 1) := dk_42 (dk_at dksX3_owlsIn_0 0 rfl rfl)
theorem dX3_owlsIn_1 : decode cX3_owlsIn 1 = .ok (.iload_n 1, 1) := dk_27 (dk_at dksX3_owlsIn_0 1 rfl rfl)
theorem dX3_owlsIn_2 : decode cX3_owlsIn 2 = .ok (.invokestatic 190, 3) := dk_184 0 190 (dk_at dksX3_owlsIn_0 2 rfl rfl)
theorem dX3_owlsIn_5 : decode cX3_owlsIn 5 = .ok (.ifCond .eq 7, 3) := dk_153 0 7 (dk_at dksX3_owlsIn_0 5 rfl rfl)
theorem dX3_owlsIn_8 : decode cX3_owlsIn 8 = .ok (.iconst 0, 1) := dk_3 (dk_at dksX3_owlsIn_0 8 rfl rfl)
theorem dX3_owlsIn_9 : decode cX3_owlsIn 9 = .ok (.goto 4, 3) := dk_167 0 4 (dk_at dksX3_owlsIn_0 9 rfl rfl)
theorem dX3_owlsIn_12 : decode cX3_owlsIn 12 = .ok (.iconst 1, 1) := dk_4 (dk_at dksX3_owlsIn_0 12 rfl rfl)
theorem dX3_owlsIn_13 : decode cX3_owlsIn 13 = .ok (.putfield 35, 3) := dk_181 0 35 (dk_at dksX3_owlsIn_0 13 rfl rfl)
theorem dX3_owlsIn_16 : decode cX3_owlsIn 16 = .ok (.aload_n 0, 1) := dk_42 (dk_at dksX3_owlsIn_0 16 rfl rfl)
theorem dX3_owlsIn_17 : decode cX3_owlsIn 17 = .ok (.getfield 35, 3) := dk_180 0 35 (dk_at dksX3_owlsIn_0 17 rfl rfl)
theorem dX3_owlsIn_20 : decode cX3_owlsIn 20 = .ok (.ifCond .le 7, 3) := dk_158 0 7 (dk_at dksX3_owlsIn_0 20 rfl rfl)
theorem dX3_owlsIn_23 : decode cX3_owlsIn 23 = .ok (.iconst 0, 1) := dk_3 (dk_at dksX3_owlsIn_0 23 rfl rfl)
theorem dX3_owlsIn_24 : decode cX3_owlsIn 24 = .ok (.goto 8, 3) := dk_167 0 8 (dk_at dksX3_owlsIn_1 0 rfl rfl)
theorem dX3_owlsIn_27 : decode cX3_owlsIn 27 = .ok (.aload_n 0, 1) := dk_42 (dk_at dksX3_owlsIn_1 3 rfl rfl)
theorem dX3_owlsIn_28 : decode cX3_owlsIn 28 = .ok (.iload_n 1, 1) := dk_27 (dk_at dksX3_owlsIn_1 4 rfl rfl)
theorem dX3_owlsIn_29 : decode cX3_owlsIn 29 = .ok (.invokevirtual 275, 3) := dk_182 1 19 (dk_at dksX3_owlsIn_1 5 rfl rfl)
theorem dX3_owlsIn_32 : decode cX3_owlsIn 32 = .ok (.ireturn, 1) := dk_172 (dk_at dksX3_owlsIn_1 8 rfl rfl)
abbrev cX3_owlsThen : ByteArray := prog_9_method_131_code
def yX3_owlsThen : MethodName := ⟨RX3, "owlsThen", "(I)I"⟩
def dkwX3_owlsThen_0 : List UInt8 := [42, 182, 1, 13, 42, 27, 182, 0, 193, 61, 42, 182, 1, 16, 28, 172]
abbrev dktX3_owlsThen_0 : List UInt8 := dkwX3_owlsThen_0 ++ []
theorem dksX3_owlsThen_0 : cX3_owlsThen.data.toList.drop 0 = dktX3_owlsThen_0 := by decide +kernel
theorem dX3_owlsThen_0 : decode cX3_owlsThen 0 = .ok (.aload_n 0, 1) := dk_42 (dk_at dksX3_owlsThen_0 0 rfl rfl)
theorem dX3_owlsThen_1 : decode cX3_owlsThen 1 = .ok (.invokevirtual 269, 3) := dk_182 1 13 (dk_at dksX3_owlsThen_0 1 rfl rfl)
theorem dX3_owlsThen_4 : decode cX3_owlsThen 4 = .ok (.aload_n 0, 1) := dk_42 (dk_at dksX3_owlsThen_0 4 rfl rfl)
theorem dX3_owlsThen_5 : decode cX3_owlsThen 5 = .ok (.iload_n 1, 1) := dk_27 (dk_at dksX3_owlsThen_0 5 rfl rfl)
theorem dX3_owlsThen_6 : decode cX3_owlsThen 6 = .ok (.invokevirtual 193, 3) := dk_182 0 193 (dk_at dksX3_owlsThen_0 6 rfl rfl)
theorem dX3_owlsThen_9 : decode cX3_owlsThen 9 = .ok (.istore_n 2, 1) := dk_61 (dk_at dksX3_owlsThen_0 9 rfl rfl)
theorem dX3_owlsThen_10 : decode cX3_owlsThen 10 = .ok (.aload_n 0, 1) := dk_42 (dk_at dksX3_owlsThen_0 10 rfl rfl)
theorem dX3_owlsThen_11 : decode cX3_owlsThen 11 = .ok (.invokevirtual 272, 3) := dk_182 1 16 (dk_at dksX3_owlsThen_0 11 rfl rfl)
theorem dX3_owlsThen_14 : decode cX3_owlsThen 14 = .ok (.iload_n 2, 1) := dk_28 (dk_at dksX3_owlsThen_0 14 rfl rfl)
theorem dX3_owlsThen_15 : decode cX3_owlsThen 15 = .ok (.ireturn, 1) := dk_172 (dk_at dksX3_owlsThen_0 15 rfl rfl)
abbrev cX3_keeps : ByteArray := prog_9_method_5_code
def yX3_keeps : MethodName := ⟨RX3, "keeps", "()V"⟩
def dkwX3_keeps_1 : List UInt8 := [167, 255, 234, 177]
abbrev dktX3_keeps_1 : List UInt8 := dkwX3_keeps_1 ++ []
def dkwX3_keeps_0 : List UInt8 := [3, 60, 27, 17, 2, 242, 162, 0, 21, 42, 180, 0, 19, 27, 42, 180, 0, 7, 27, 46, 79, 132, 1, 1]
abbrev dktX3_keeps_0 : List UInt8 := dkwX3_keeps_0 ++ dktX3_keeps_1
theorem dksX3_keeps_0 : cX3_keeps.data.toList.drop 0 = dktX3_keeps_0 := by decide +kernel
theorem dksX3_keeps_1 : cX3_keeps.data.toList.drop 24 = dktX3_keeps_1 := dk_seg dksX3_keeps_0 24 rfl rfl
theorem dX3_keeps_0 : decode cX3_keeps 0 = .ok (.iconst 0, 1) := dk_3 (dk_at dksX3_keeps_0 0 rfl rfl)
theorem dX3_keeps_1 : decode cX3_keeps 1 = .ok (.istore_n 1, 1) := dk_60 (dk_at dksX3_keeps_0 1 rfl rfl)
theorem dX3_keeps_2 : decode cX3_keeps 2 = .ok (.iload_n 1, 1) := dk_27 (dk_at dksX3_keeps_0 2 rfl rfl)
theorem dX3_keeps_3 : decode cX3_keeps 3 = .ok (.sipush 754, 3) := dk_17 2 242 (dk_at dksX3_keeps_0 3 rfl rfl)
theorem dX3_keeps_6 : decode cX3_keeps 6 = .ok (.if_icmp .ge 21, 3) := dk_162 0 21 (dk_at dksX3_keeps_0 6 rfl rfl)
theorem dX3_keeps_9 : decode cX3_keeps 9 = .ok (.aload_n 0, 1) := dk_42 (dk_at dksX3_keeps_0 9 rfl rfl)
theorem dX3_keeps_10 : decode cX3_keeps 10 = .ok (.getfield 19, 3) := dk_180 0 19 (dk_at dksX3_keeps_0 10 rfl rfl)
theorem dX3_keeps_13 : decode cX3_keeps 13 = .ok (.iload_n 1, 1) := dk_27 (dk_at dksX3_keeps_0 13 rfl rfl)
theorem dX3_keeps_14 : decode cX3_keeps 14 = .ok (.aload_n 0, 1) := dk_42 (dk_at dksX3_keeps_0 14 rfl rfl)
theorem dX3_keeps_15 : decode cX3_keeps 15 = .ok (.getfield 7, 3) := dk_180 0 7 (dk_at dksX3_keeps_0 15 rfl rfl)
theorem dX3_keeps_18 : decode cX3_keeps 18 = .ok (.iload_n 1, 1) := dk_27 (dk_at dksX3_keeps_0 18 rfl rfl)
theorem dX3_keeps_19 : decode cX3_keeps 19 = .ok (.iaload, 1) := dk_46 (dk_at dksX3_keeps_0 19 rfl rfl)
theorem dX3_keeps_20 : decode cX3_keeps 20 = .ok (.iastore, 1) := dk_79 (dk_at dksX3_keeps_0 20 rfl rfl)
theorem dX3_keeps_21 : decode cX3_keeps 21 = .ok (.iinc 1 1, 3) := dk_132 1 1 (dk_at dksX3_keeps_0 21 rfl rfl)
theorem dX3_keeps_24 : decode cX3_keeps 24 = .ok (.goto (-22), 3) := dk_167 255 234 (dk_at dksX3_keeps_1 0 rfl rfl)
theorem dX3_keeps_27 : decode cX3_keeps 27 = .ok (.return_, 1) := dk_177 (dk_at dksX3_keeps_1 3 rfl rfl)
abbrev cX3_returns : ByteArray := prog_9_method_6_code
def yX3_returns : MethodName := ⟨RX3, "returns", "()V"⟩
def dkwX3_returns_1 : List UInt8 := [167, 255, 234, 177]
abbrev dktX3_returns_1 : List UInt8 := dkwX3_returns_1 ++ []
def dkwX3_returns_0 : List UInt8 := [3, 60, 27, 17, 2, 242, 162, 0, 21, 42, 180, 0, 7, 27, 42, 180, 0, 19, 27, 46, 79, 132, 1, 1]
abbrev dktX3_returns_0 : List UInt8 := dkwX3_returns_0 ++ dktX3_returns_1
theorem dksX3_returns_0 : cX3_returns.data.toList.drop 0 = dktX3_returns_0 := by decide +kernel
theorem dksX3_returns_1 : cX3_returns.data.toList.drop 24 = dktX3_returns_1 := dk_seg dksX3_returns_0 24 rfl rfl
theorem dX3_returns_0 : decode cX3_returns 0 = .ok (.iconst 0, 1) := dk_3 (dk_at dksX3_returns_0 0 rfl rfl)
theorem dX3_returns_1 : decode cX3_returns 1 = .ok (.istore_n 1, 1) := dk_60 (dk_at dksX3_returns_0 1 rfl rfl)
theorem dX3_returns_2 : decode cX3_returns 2 = .ok (.iload_n 1, 1) := dk_27 (dk_at dksX3_returns_0 2 rfl rfl)
theorem dX3_returns_3 : decode cX3_returns 3 = .ok (.sipush 754, 3) := dk_17 2 242 (dk_at dksX3_returns_0 3 rfl rfl)
theorem dX3_returns_6 : decode cX3_returns 6 = .ok (.if_icmp .ge 21, 3) := dk_162 0 21 (dk_at dksX3_returns_0 6 rfl rfl)
theorem dX3_returns_9 : decode cX3_returns 9 = .ok (.aload_n 0, 1) := dk_42 (dk_at dksX3_returns_0 9 rfl rfl)
theorem dX3_returns_10 : decode cX3_returns 10 = .ok (.getfield 7, 3) := dk_180 0 7 (dk_at dksX3_returns_0 10 rfl rfl)
theorem dX3_returns_13 : decode cX3_returns 13 = .ok (.iload_n 1, 1) := dk_27 (dk_at dksX3_returns_0 13 rfl rfl)
theorem dX3_returns_14 : decode cX3_returns 14 = .ok (.aload_n 0, 1) := dk_42 (dk_at dksX3_returns_0 14 rfl rfl)
theorem dX3_returns_15 : decode cX3_returns 15 = .ok (.getfield 19, 3) := dk_180 0 19 (dk_at dksX3_returns_0 15 rfl rfl)
theorem dX3_returns_18 : decode cX3_returns 18 = .ok (.iload_n 1, 1) := dk_27 (dk_at dksX3_returns_0 18 rfl rfl)
theorem dX3_returns_19 : decode cX3_returns 19 = .ok (.iaload, 1) := dk_46 (dk_at dksX3_returns_0 19 rfl rfl)
theorem dX3_returns_20 : decode cX3_returns 20 = .ok (.iastore, 1) := dk_79 (dk_at dksX3_returns_0 20 rfl rfl)
theorem dX3_returns_21 : decode cX3_returns 21 = .ok (.iinc 1 1, 3) := dk_132 1 1 (dk_at dksX3_returns_0 21 rfl rfl)
theorem dX3_returns_24 : decode cX3_returns 24 = .ok (.goto (-22), 3) := dk_167 255 234 (dk_at dksX3_returns_1 0 rfl rfl)
theorem dX3_returns_27 : decode cX3_returns 27 = .ok (.return_, 1) := dk_177 (dk_at dksX3_returns_1 3 rfl rfl)
abbrev cX3_owlsWithRoad : ByteArray := prog_9_method_134_code
def yX3_owlsWithRoad : MethodName := ⟨RX3, "owlsWithRoad", "(IZI)I"⟩
def dkwX3_owlsWithRoad_1 : List UInt8 := [180, 0, 35, 158, 0, 7, 3, 167, 0, 10, 42, 27, 28, 29, 182, 1, 22, 172]
abbrev dktX3_owlsWithRoad_1 : List UInt8 := dkwX3_owlsWithRoad_1 ++ []
def dkwX3_owlsWithRoad_0 : List UInt8 := [42, 27, 184, 0, 85, 153, 0, 14, 29, 184, 0, 190, 153, 0, 7, 3, 167, 0, 4, 4, 181, 0, 35, 42]
abbrev dktX3_owlsWithRoad_0 : List UInt8 := dkwX3_owlsWithRoad_0 ++ dktX3_owlsWithRoad_1
theorem dksX3_owlsWithRoad_0 : cX3_owlsWithRoad.data.toList.drop 0 = dktX3_owlsWithRoad_0 := by decide +kernel
theorem dksX3_owlsWithRoad_1 : cX3_owlsWithRoad.data.toList.drop 24 = dktX3_owlsWithRoad_1 := dk_seg dksX3_owlsWithRoad_0 24 rfl rfl
theorem dX3_owlsWithRoad_0 : decode cX3_owlsWithRoad 0 = .ok (.aload_n 0, 1) := dk_42 (dk_at dksX3_owlsWithRoad_0 0 rfl rfl)
theorem dX3_owlsWithRoad_1 : decode cX3_owlsWithRoad 1 = .ok (.iload_n 1, 1) := dk_27 (dk_at dksX3_owlsWithRoad_0 1 rfl rfl)
theorem dX3_owlsWithRoad_2 : decode cX3_owlsWithRoad 2 = .ok (.invokestatic 85, 3) := dk_184 0 85 (dk_at dksX3_owlsWithRoad_0 2 rfl rfl)
theorem dX3_owlsWithRoad_5 : decode cX3_owlsWithRoad 5 = .ok (.ifCond .eq 14, 3) := dk_153 0 14 (dk_at dksX3_owlsWithRoad_0 5 rfl rfl)
theorem dX3_owlsWithRoad_8 : decode cX3_owlsWithRoad 8 = .ok (.iload_n 3, 1) := dk_29 (dk_at dksX3_owlsWithRoad_0 8 rfl rfl)
theorem dX3_owlsWithRoad_9 : decode cX3_owlsWithRoad 9 = .ok (.invokestatic 190, 3) := dk_184 0 190 (dk_at dksX3_owlsWithRoad_0 9 rfl rfl)
theorem dX3_owlsWithRoad_12 : decode cX3_owlsWithRoad 12 = .ok (.ifCond .eq 7, 3) := dk_153 0 7 (dk_at dksX3_owlsWithRoad_0 12 rfl rfl)
theorem dX3_owlsWithRoad_15 : decode cX3_owlsWithRoad 15 = .ok (.iconst 0, 1) := dk_3 (dk_at dksX3_owlsWithRoad_0 15 rfl rfl)
theorem dX3_owlsWithRoad_16 : decode cX3_owlsWithRoad 16 = .ok (.goto 4, 3) := dk_167 0 4 (dk_at dksX3_owlsWithRoad_0 16 rfl rfl)
theorem dX3_owlsWithRoad_19 : decode cX3_owlsWithRoad 19 = .ok (.iconst 1, 1) := dk_4 (dk_at dksX3_owlsWithRoad_0 19 rfl rfl)
theorem dX3_owlsWithRoad_20 : decode cX3_owlsWithRoad 20 = .ok (.putfield 35, 3) := dk_181 0 35 (dk_at dksX3_owlsWithRoad_0 20 rfl rfl)
theorem dX3_owlsWithRoad_23 : decode cX3_owlsWithRoad 23 = .ok (.aload_n 0, 1) := dk_42 (dk_at dksX3_owlsWithRoad_0 23 rfl rfl)
theorem dX3_owlsWithRoad_24 : decode cX3_owlsWithRoad 24 = .ok (.getfield 35, 3) := dk_180 0 35 (dk_at dksX3_owlsWithRoad_1 0 rfl rfl)
theorem dX3_owlsWithRoad_27 : decode cX3_owlsWithRoad 27 = .ok (.ifCond .le 7, 3) := dk_158 0 7 (dk_at dksX3_owlsWithRoad_1 3 rfl rfl)
theorem dX3_owlsWithRoad_30 : decode cX3_owlsWithRoad 30 = .ok (.iconst 0, 1) := dk_3 (dk_at dksX3_owlsWithRoad_1 6 rfl rfl)
theorem dX3_owlsWithRoad_31 : decode cX3_owlsWithRoad 31 = .ok (.goto 10, 3) := dk_167 0 10 (dk_at dksX3_owlsWithRoad_1 7 rfl rfl)
theorem dX3_owlsWithRoad_34 : decode cX3_owlsWithRoad 34 = .ok (.aload_n 0, 1) := dk_42 (dk_at dksX3_owlsWithRoad_1 10 rfl rfl)
theorem dX3_owlsWithRoad_35 : decode cX3_owlsWithRoad 35 = .ok (.iload_n 1, 1) := dk_27 (dk_at dksX3_owlsWithRoad_1 11 rfl rfl)
theorem dX3_owlsWithRoad_36 : decode cX3_owlsWithRoad 36 = .ok (.iload_n 2, 1) := dk_28 (dk_at dksX3_owlsWithRoad_1 12 rfl rfl)
theorem dX3_owlsWithRoad_37 : decode cX3_owlsWithRoad 37 = .ok (.iload_n 3, 1) := dk_29 (dk_at dksX3_owlsWithRoad_1 13 rfl rfl)
theorem dX3_owlsWithRoad_38 : decode cX3_owlsWithRoad 38 = .ok (.invokevirtual 278, 3) := dk_182 1 22 (dk_at dksX3_owlsWithRoad_1 14 rfl rfl)
theorem dX3_owlsWithRoad_41 : decode cX3_owlsWithRoad 41 = .ok (.ireturn, 1) := dk_172 (dk_at dksX3_owlsWithRoad_1 17 rfl rfl)
abbrev cX3_owlsBehindRoad : ByteArray := prog_9_method_133_code
def yX3_owlsBehindRoad : MethodName := ⟨RX3, "owlsBehindRoad", "(IZI)I"⟩
def dkwX3_owlsBehindRoad_1 : List UInt8 := [172]
abbrev dktX3_owlsBehindRoad_1 : List UInt8 := dkwX3_owlsBehindRoad_1 ++ []
def dkwX3_owlsBehindRoad_0 : List UInt8 := [42, 182, 1, 13, 42, 27, 28, 182, 0, 88, 87, 42, 29, 182, 0, 193, 54, 4, 42, 182, 1, 16, 21, 4]
abbrev dktX3_owlsBehindRoad_0 : List UInt8 := dkwX3_owlsBehindRoad_0 ++ dktX3_owlsBehindRoad_1
theorem dksX3_owlsBehindRoad_0 : cX3_owlsBehindRoad.data.toList.drop 0 = dktX3_owlsBehindRoad_0 := by decide +kernel
theorem dksX3_owlsBehindRoad_1 : cX3_owlsBehindRoad.data.toList.drop 24 = dktX3_owlsBehindRoad_1 := dk_seg dksX3_owlsBehindRoad_0 24 rfl rfl
theorem dX3_owlsBehindRoad_0 : decode cX3_owlsBehindRoad 0 = .ok (.aload_n 0, 1) := dk_42 (dk_at dksX3_owlsBehindRoad_0 0 rfl rfl)
theorem dX3_owlsBehindRoad_1 : decode cX3_owlsBehindRoad 1 = .ok (.invokevirtual 269, 3) := dk_182 1 13 (dk_at dksX3_owlsBehindRoad_0 1 rfl rfl)
theorem dX3_owlsBehindRoad_4 : decode cX3_owlsBehindRoad 4 = .ok (.aload_n 0, 1) := dk_42 (dk_at dksX3_owlsBehindRoad_0 4 rfl rfl)
theorem dX3_owlsBehindRoad_5 : decode cX3_owlsBehindRoad 5 = .ok (.iload_n 1, 1) := dk_27 (dk_at dksX3_owlsBehindRoad_0 5 rfl rfl)
theorem dX3_owlsBehindRoad_6 : decode cX3_owlsBehindRoad 6 = .ok (.iload_n 2, 1) := dk_28 (dk_at dksX3_owlsBehindRoad_0 6 rfl rfl)
theorem dX3_owlsBehindRoad_7 : decode cX3_owlsBehindRoad 7 = .ok (.invokevirtual 88, 3) := dk_182 0 88 (dk_at dksX3_owlsBehindRoad_0 7 rfl rfl)
theorem dX3_owlsBehindRoad_10 : decode cX3_owlsBehindRoad 10 = .ok (.pop, 1) := dk_87 (dk_at dksX3_owlsBehindRoad_0 10 rfl rfl)
theorem dX3_owlsBehindRoad_11 : decode cX3_owlsBehindRoad 11 = .ok (.aload_n 0, 1) := dk_42 (dk_at dksX3_owlsBehindRoad_0 11 rfl rfl)
theorem dX3_owlsBehindRoad_12 : decode cX3_owlsBehindRoad 12 = .ok (.iload_n 3, 1) := dk_29 (dk_at dksX3_owlsBehindRoad_0 12 rfl rfl)
theorem dX3_owlsBehindRoad_13 : decode cX3_owlsBehindRoad 13 = .ok (.invokevirtual 193, 3) := dk_182 0 193 (dk_at dksX3_owlsBehindRoad_0 13 rfl rfl)
theorem dX3_owlsBehindRoad_16 : decode cX3_owlsBehindRoad 16 = .ok (.istore 4, 2) := dk_54 4 (dk_at dksX3_owlsBehindRoad_0 16 rfl rfl)
theorem dX3_owlsBehindRoad_18 : decode cX3_owlsBehindRoad 18 = .ok (.aload_n 0, 1) := dk_42 (dk_at dksX3_owlsBehindRoad_0 18 rfl rfl)
theorem dX3_owlsBehindRoad_19 : decode cX3_owlsBehindRoad 19 = .ok (.invokevirtual 272, 3) := dk_182 1 16 (dk_at dksX3_owlsBehindRoad_0 19 rfl rfl)
theorem dX3_owlsBehindRoad_22 : decode cX3_owlsBehindRoad 22 = .ok (.iload 4, 2) := dk_21 4 (dk_at dksX3_owlsBehindRoad_0 22 rfl rfl)
theorem dX3_owlsBehindRoad_24 : decode cX3_owlsBehindRoad 24 = .ok (.ireturn, 1) := dk_172 (dk_at dksX3_owlsBehindRoad_1 0 rfl rfl)
abbrev cX3_yearsUntilGone : ByteArray := prog_9_method_135_code
def yX3_yearsUntilGone : MethodName := ⟨RX3, "yearsUntilGone", "()I"⟩
def dkwX3_yearsUntilGone_2 : List UInt8 := [42, 182, 1, 16, 42, 28, 153, 0, 7, 27, 167, 0, 4, 2, 182, 0, 196, 172]
abbrev dktX3_yearsUntilGone_2 : List UInt8 := dkwX3_yearsUntilGone_2 ++ []
def dkwX3_yearsUntilGone_1 : List UInt8 := [182, 0, 187, 132, 1, 1, 167, 255, 234, 42, 180, 0, 7, 6, 46, 154, 0, 7, 4, 167, 0, 4, 3, 61]
abbrev dktX3_yearsUntilGone_1 : List UInt8 := dkwX3_yearsUntilGone_1 ++ dktX3_yearsUntilGone_2
def dkwX3_yearsUntilGone_0 : List UInt8 := [42, 182, 1, 13, 3, 60, 42, 180, 0, 7, 6, 46, 158, 0, 19, 27, 16, 40, 162, 0, 13, 42]
abbrev dktX3_yearsUntilGone_0 : List UInt8 := dkwX3_yearsUntilGone_0 ++ dktX3_yearsUntilGone_1
theorem dksX3_yearsUntilGone_0 : cX3_yearsUntilGone.data.toList.drop 0 = dktX3_yearsUntilGone_0 := by decide +kernel
theorem dksX3_yearsUntilGone_1 : cX3_yearsUntilGone.data.toList.drop 22 = dktX3_yearsUntilGone_1 := dk_seg dksX3_yearsUntilGone_0 22 rfl rfl
theorem dksX3_yearsUntilGone_2 : cX3_yearsUntilGone.data.toList.drop 46 = dktX3_yearsUntilGone_2 := dk_seg dksX3_yearsUntilGone_1 24 rfl rfl
theorem dX3_yearsUntilGone_0 : decode cX3_yearsUntilGone 0 = .ok (.aload_n 0, 1) := dk_42 (dk_at dksX3_yearsUntilGone_0 0 rfl rfl)
theorem dX3_yearsUntilGone_1 : decode cX3_yearsUntilGone 1 = .ok (.invokevirtual 269, 3) := dk_182 1 13 (dk_at dksX3_yearsUntilGone_0 1 rfl rfl)
theorem dX3_yearsUntilGone_4 : decode cX3_yearsUntilGone 4 = .ok (.iconst 0, 1) := dk_3 (dk_at dksX3_yearsUntilGone_0 4 rfl rfl)
theorem dX3_yearsUntilGone_5 : decode cX3_yearsUntilGone 5 = .ok (.istore_n 1, 1) := dk_60 (dk_at dksX3_yearsUntilGone_0 5 rfl rfl)
theorem dX3_yearsUntilGone_6 : decode cX3_yearsUntilGone 6 = .ok (.aload_n 0, 1) := dk_42 (dk_at dksX3_yearsUntilGone_0 6 rfl rfl)
theorem dX3_yearsUntilGone_7 : decode cX3_yearsUntilGone 7 = .ok (.getfield 7, 3) := dk_180 0 7 (dk_at dksX3_yearsUntilGone_0 7 rfl rfl)
theorem dX3_yearsUntilGone_10 : decode cX3_yearsUntilGone 10 = .ok (.iconst 3, 1) := dk_6 (dk_at dksX3_yearsUntilGone_0 10 rfl rfl)
theorem dX3_yearsUntilGone_11 : decode cX3_yearsUntilGone 11 = .ok (.iaload, 1) := dk_46 (dk_at dksX3_yearsUntilGone_0 11 rfl rfl)
theorem dX3_yearsUntilGone_12 : decode cX3_yearsUntilGone 12 = .ok (.ifCond .le 19, 3) := dk_158 0 19 (dk_at dksX3_yearsUntilGone_0 12 rfl rfl)
theorem dX3_yearsUntilGone_15 : decode cX3_yearsUntilGone 15 = .ok (.iload_n 1, 1) := dk_27 (dk_at dksX3_yearsUntilGone_0 15 rfl rfl)
theorem dX3_yearsUntilGone_16 : decode cX3_yearsUntilGone 16 = .ok (.bipush 40, 2) := dk_16 40 (dk_at dksX3_yearsUntilGone_0 16 rfl rfl)
theorem dX3_yearsUntilGone_18 : decode cX3_yearsUntilGone 18 = .ok (.if_icmp .ge 13, 3) := dk_162 0 13 (dk_at dksX3_yearsUntilGone_0 18 rfl rfl)
theorem dX3_yearsUntilGone_21 : decode cX3_yearsUntilGone 21 = .ok (.aload_n 0, 1) := dk_42 (dk_at dksX3_yearsUntilGone_0 21 rfl rfl)
theorem dX3_yearsUntilGone_22 : decode cX3_yearsUntilGone 22 = .ok (.invokevirtual 187, 3) := dk_182 0 187 (dk_at dksX3_yearsUntilGone_1 0 rfl rfl)
theorem dX3_yearsUntilGone_25 : decode cX3_yearsUntilGone 25 = .ok (.iinc 1 1, 3) := dk_132 1 1 (dk_at dksX3_yearsUntilGone_1 3 rfl rfl)
theorem dX3_yearsUntilGone_28 : decode cX3_yearsUntilGone 28 = .ok (.goto (-22), 3) := dk_167 255 234 (dk_at dksX3_yearsUntilGone_1 6 rfl rfl)
theorem dX3_yearsUntilGone_31 : decode cX3_yearsUntilGone 31 = .ok (.aload_n 0, 1) := dk_42 (dk_at dksX3_yearsUntilGone_1 9 rfl rfl)
theorem dX3_yearsUntilGone_32 : decode cX3_yearsUntilGone 32 = .ok (.getfield 7, 3) := dk_180 0 7 (dk_at dksX3_yearsUntilGone_1 10 rfl rfl)
theorem dX3_yearsUntilGone_35 : decode cX3_yearsUntilGone 35 = .ok (.iconst 3, 1) := dk_6 (dk_at dksX3_yearsUntilGone_1 13 rfl rfl)
theorem dX3_yearsUntilGone_36 : decode cX3_yearsUntilGone 36 = .ok (.iaload, 1) := dk_46 (dk_at dksX3_yearsUntilGone_1 14 rfl rfl)
theorem dX3_yearsUntilGone_37 : decode cX3_yearsUntilGone 37 = .ok (.ifCond .ne 7, 3) := dk_154 0 7 (dk_at dksX3_yearsUntilGone_1 15 rfl rfl)
theorem dX3_yearsUntilGone_40 : decode cX3_yearsUntilGone 40 = .ok (.iconst 1, 1) := dk_4 (dk_at dksX3_yearsUntilGone_1 18 rfl rfl)
theorem dX3_yearsUntilGone_41 : decode cX3_yearsUntilGone 41 = .ok (.goto 4, 3) := dk_167 0 4 (dk_at dksX3_yearsUntilGone_1 19 rfl rfl)
theorem dX3_yearsUntilGone_44 : decode cX3_yearsUntilGone 44 = .ok (.iconst 0, 1) := dk_3 (dk_at dksX3_yearsUntilGone_1 22 rfl rfl)
theorem dX3_yearsUntilGone_45 : decode cX3_yearsUntilGone 45 = .ok (.istore_n 2, 1) := dk_61 (dk_at dksX3_yearsUntilGone_1 23 rfl rfl)
theorem dX3_yearsUntilGone_46 : decode cX3_yearsUntilGone 46 = .ok (.aload_n 0, 1) := dk_42 (dk_at dksX3_yearsUntilGone_2 0 rfl rfl)
theorem dX3_yearsUntilGone_47 : decode cX3_yearsUntilGone 47 = .ok (.invokevirtual 272, 3) := dk_182 1 16 (dk_at dksX3_yearsUntilGone_2 1 rfl rfl)
theorem dX3_yearsUntilGone_50 : decode cX3_yearsUntilGone 50 = .ok (.aload_n 0, 1) := dk_42 (dk_at dksX3_yearsUntilGone_2 4 rfl rfl)
theorem dX3_yearsUntilGone_51 : decode cX3_yearsUntilGone 51 = .ok (.iload_n 2, 1) := dk_28 (dk_at dksX3_yearsUntilGone_2 5 rfl rfl)
theorem dX3_yearsUntilGone_52 : decode cX3_yearsUntilGone 52 = .ok (.ifCond .eq 7, 3) := dk_153 0 7 (dk_at dksX3_yearsUntilGone_2 6 rfl rfl)
theorem dX3_yearsUntilGone_55 : decode cX3_yearsUntilGone 55 = .ok (.iload_n 1, 1) := dk_27 (dk_at dksX3_yearsUntilGone_2 9 rfl rfl)
theorem dX3_yearsUntilGone_56 : decode cX3_yearsUntilGone 56 = .ok (.goto 4, 3) := dk_167 0 4 (dk_at dksX3_yearsUntilGone_2 10 rfl rfl)
theorem dX3_yearsUntilGone_59 : decode cX3_yearsUntilGone 59 = .ok (.iconst (-1), 1) := dk_2 (dk_at dksX3_yearsUntilGone_2 13 rfl rfl)
theorem dX3_yearsUntilGone_60 : decode cX3_yearsUntilGone 60 = .ok (.invokevirtual 196, 3) := dk_182 0 196 (dk_at dksX3_yearsUntilGone_2 14 rfl rfl)
theorem dX3_yearsUntilGone_63 : decode cX3_yearsUntilGone 63 = .ok (.ireturn, 1) := dk_172 (dk_at dksX3_yearsUntilGone_2 17 rfl rfl)
abbrev cX3_bestRow : ByteArray := prog_9_method_136_code
def yX3_bestRow : MethodName := ⟨RX3, "bestRow", "()I"⟩
def dkwX3_bestRow_2 : List UInt8 := [132, 3, 1, 167, 255, 213, 42, 27, 182, 0, 196, 172]
abbrev dktX3_bestRow_2 : List UInt8 := dkwX3_bestRow_2 ++ []
def dkwX3_bestRow_1 : List UInt8 := [164, 0, 7, 29, 167, 0, 4, 27, 60, 21, 4, 28, 164, 0, 8, 21, 4, 167, 0, 4, 28, 61]
abbrev dktX3_bestRow_1 : List UInt8 := dkwX3_bestRow_1 ++ dktX3_bestRow_2
def dkwX3_bestRow_0 : List UInt8 := [3, 60, 2, 61, 3, 62, 29, 16, 8, 162, 0, 43, 42, 29, 4, 7, 182, 1, 22, 54, 4, 21, 4, 28]
abbrev dktX3_bestRow_0 : List UInt8 := dkwX3_bestRow_0 ++ dktX3_bestRow_1
theorem dksX3_bestRow_0 : cX3_bestRow.data.toList.drop 0 = dktX3_bestRow_0 := by decide +kernel
theorem dksX3_bestRow_1 : cX3_bestRow.data.toList.drop 24 = dktX3_bestRow_1 := dk_seg dksX3_bestRow_0 24 rfl rfl
theorem dksX3_bestRow_2 : cX3_bestRow.data.toList.drop 46 = dktX3_bestRow_2 := dk_seg dksX3_bestRow_1 22 rfl rfl
theorem dX3_bestRow_0 : decode cX3_bestRow 0 = .ok (.iconst 0, 1) := dk_3 (dk_at dksX3_bestRow_0 0 rfl rfl)
theorem dX3_bestRow_1 : decode cX3_bestRow 1 = .ok (.istore_n 1, 1) := dk_60 (dk_at dksX3_bestRow_0 1 rfl rfl)
theorem dX3_bestRow_2 : decode cX3_bestRow 2 = .ok (.iconst (-1), 1) := dk_2 (dk_at dksX3_bestRow_0 2 rfl rfl)
theorem dX3_bestRow_3 : decode cX3_bestRow 3 = .ok (.istore_n 2, 1) := dk_61 (dk_at dksX3_bestRow_0 3 rfl rfl)
theorem dX3_bestRow_4 : decode cX3_bestRow 4 = .ok (.iconst 0, 1) := dk_3 (dk_at dksX3_bestRow_0 4 rfl rfl)
theorem dX3_bestRow_5 : decode cX3_bestRow 5 = .ok (.istore_n 3, 1) := dk_62 (dk_at dksX3_bestRow_0 5 rfl rfl)
theorem dX3_bestRow_6 : decode cX3_bestRow 6 = .ok (.iload_n 3, 1) := dk_29 (dk_at dksX3_bestRow_0 6 rfl rfl)
theorem dX3_bestRow_7 : decode cX3_bestRow 7 = .ok (.bipush 8, 2) := dk_16 8 (dk_at dksX3_bestRow_0 7 rfl rfl)
theorem dX3_bestRow_9 : decode cX3_bestRow 9 = .ok (.if_icmp .ge 43, 3) := dk_162 0 43 (dk_at dksX3_bestRow_0 9 rfl rfl)
theorem dX3_bestRow_12 : decode cX3_bestRow 12 = .ok (.aload_n 0, 1) := dk_42 (dk_at dksX3_bestRow_0 12 rfl rfl)
theorem dX3_bestRow_13 : decode cX3_bestRow 13 = .ok (.iload_n 3, 1) := dk_29 (dk_at dksX3_bestRow_0 13 rfl rfl)
theorem dX3_bestRow_14 : decode cX3_bestRow 14 = .ok (.iconst 1, 1) := dk_4 (dk_at dksX3_bestRow_0 14 rfl rfl)
theorem dX3_bestRow_15 : decode cX3_bestRow 15 = .ok (.iconst 4, 1) := dk_7 (dk_at dksX3_bestRow_0 15 rfl rfl)
theorem dX3_bestRow_16 : decode cX3_bestRow 16 = .ok (.invokevirtual 278, 3) := dk_182 1 22 (dk_at dksX3_bestRow_0 16 rfl rfl)
theorem dX3_bestRow_19 : decode cX3_bestRow 19 = .ok (.istore 4, 2) := dk_54 4 (dk_at dksX3_bestRow_0 19 rfl rfl)
theorem dX3_bestRow_21 : decode cX3_bestRow 21 = .ok (.iload 4, 2) := dk_21 4 (dk_at dksX3_bestRow_0 21 rfl rfl)
theorem dX3_bestRow_23 : decode cX3_bestRow 23 = .ok (.iload_n 2, 1) := dk_28 (dk_at dksX3_bestRow_0 23 rfl rfl)
theorem dX3_bestRow_24 : decode cX3_bestRow 24 = .ok (.if_icmp .le 7, 3) := dk_164 0 7 (dk_at dksX3_bestRow_1 0 rfl rfl)
theorem dX3_bestRow_27 : decode cX3_bestRow 27 = .ok (.iload_n 3, 1) := dk_29 (dk_at dksX3_bestRow_1 3 rfl rfl)
theorem dX3_bestRow_28 : decode cX3_bestRow 28 = .ok (.goto 4, 3) := dk_167 0 4 (dk_at dksX3_bestRow_1 4 rfl rfl)
theorem dX3_bestRow_31 : decode cX3_bestRow 31 = .ok (.iload_n 1, 1) := dk_27 (dk_at dksX3_bestRow_1 7 rfl rfl)
theorem dX3_bestRow_32 : decode cX3_bestRow 32 = .ok (.istore_n 1, 1) := dk_60 (dk_at dksX3_bestRow_1 8 rfl rfl)
theorem dX3_bestRow_33 : decode cX3_bestRow 33 = .ok (.iload 4, 2) := dk_21 4 (dk_at dksX3_bestRow_1 9 rfl rfl)
theorem dX3_bestRow_35 : decode cX3_bestRow 35 = .ok (.iload_n 2, 1) := dk_28 (dk_at dksX3_bestRow_1 11 rfl rfl)
theorem dX3_bestRow_36 : decode cX3_bestRow 36 = .ok (.if_icmp .le 8, 3) := dk_164 0 8 (dk_at dksX3_bestRow_1 12 rfl rfl)
theorem dX3_bestRow_39 : decode cX3_bestRow 39 = .ok (.iload 4, 2) := dk_21 4 (dk_at dksX3_bestRow_1 15 rfl rfl)
theorem dX3_bestRow_41 : decode cX3_bestRow 41 = .ok (.goto 4, 3) := dk_167 0 4 (dk_at dksX3_bestRow_1 17 rfl rfl)
theorem dX3_bestRow_44 : decode cX3_bestRow 44 = .ok (.iload_n 2, 1) := dk_28 (dk_at dksX3_bestRow_1 20 rfl rfl)
theorem dX3_bestRow_45 : decode cX3_bestRow 45 = .ok (.istore_n 2, 1) := dk_61 (dk_at dksX3_bestRow_1 21 rfl rfl)
theorem dX3_bestRow_46 : decode cX3_bestRow 46 = .ok (.iinc 3 1, 3) := dk_132 3 1 (dk_at dksX3_bestRow_2 0 rfl rfl)
theorem dX3_bestRow_49 : decode cX3_bestRow 49 = .ok (.goto (-43), 3) := dk_167 255 213 (dk_at dksX3_bestRow_2 3 rfl rfl)
theorem dX3_bestRow_52 : decode cX3_bestRow 52 = .ok (.aload_n 0, 1) := dk_42 (dk_at dksX3_bestRow_2 6 rfl rfl)
theorem dX3_bestRow_53 : decode cX3_bestRow 53 = .ok (.iload_n 1, 1) := dk_27 (dk_at dksX3_bestRow_2 7 rfl rfl)
theorem dX3_bestRow_54 : decode cX3_bestRow 54 = .ok (.invokevirtual 196, 3) := dk_182 0 196 (dk_at dksX3_bestRow_2 8 rfl rfl)
theorem dX3_bestRow_57 : decode cX3_bestRow 57 = .ok (.ireturn, 1) := dk_172 (dk_at dksX3_bestRow_2 11 rfl rfl)
abbrev cX3_keep : ByteArray := prog_9_method_137_code
def yX3_keep : MethodName := ⟨RX3, "keep", "()I"⟩
def dkwX3_keep_1 : List UInt8 := [42, 180, 0, 7, 27, 46, 79, 132, 1, 1, 167, 255, 234, 42, 180, 0, 7, 3, 46, 172]
abbrev dktX3_keep_1 : List UInt8 := dkwX3_keep_1 ++ []
def dkwX3_keep_0 : List UInt8 := [42, 3, 181, 0, 35, 42, 4, 181, 1, 26, 3, 60, 27, 17, 2, 242, 162, 0, 21, 42, 180, 0, 16, 27]
abbrev dktX3_keep_0 : List UInt8 := dkwX3_keep_0 ++ dktX3_keep_1
theorem dksX3_keep_0 : cX3_keep.data.toList.drop 0 = dktX3_keep_0 := by decide +kernel
theorem dksX3_keep_1 : cX3_keep.data.toList.drop 24 = dktX3_keep_1 := dk_seg dksX3_keep_0 24 rfl rfl
theorem dX3_keep_0 : decode cX3_keep 0 = .ok (.aload_n 0, 1) := dk_42 (dk_at dksX3_keep_0 0 rfl rfl)
theorem dX3_keep_1 : decode cX3_keep 1 = .ok (.iconst 0, 1) := dk_3 (dk_at dksX3_keep_0 1 rfl rfl)
theorem dX3_keep_2 : decode cX3_keep 2 = .ok (.putfield 35, 3) := dk_181 0 35 (dk_at dksX3_keep_0 2 rfl rfl)
theorem dX3_keep_5 : decode cX3_keep 5 = .ok (.aload_n 0, 1) := dk_42 (dk_at dksX3_keep_0 5 rfl rfl)
theorem dX3_keep_6 : decode cX3_keep 6 = .ok (.iconst 1, 1) := dk_4 (dk_at dksX3_keep_0 6 rfl rfl)
theorem dX3_keep_7 : decode cX3_keep 7 = .ok (.putfield 282, 3) := dk_181 1 26 (dk_at dksX3_keep_0 7 rfl rfl)
theorem dX3_keep_10 : decode cX3_keep 10 = .ok (.iconst 0, 1) := dk_3 (dk_at dksX3_keep_0 10 rfl rfl)
theorem dX3_keep_11 : decode cX3_keep 11 = .ok (.istore_n 1, 1) := dk_60 (dk_at dksX3_keep_0 11 rfl rfl)
theorem dX3_keep_12 : decode cX3_keep 12 = .ok (.iload_n 1, 1) := dk_27 (dk_at dksX3_keep_0 12 rfl rfl)
theorem dX3_keep_13 : decode cX3_keep 13 = .ok (.sipush 754, 3) := dk_17 2 242 (dk_at dksX3_keep_0 13 rfl rfl)
theorem dX3_keep_16 : decode cX3_keep 16 = .ok (.if_icmp .ge 21, 3) := dk_162 0 21 (dk_at dksX3_keep_0 16 rfl rfl)
theorem dX3_keep_19 : decode cX3_keep 19 = .ok (.aload_n 0, 1) := dk_42 (dk_at dksX3_keep_0 19 rfl rfl)
theorem dX3_keep_20 : decode cX3_keep 20 = .ok (.getfield 16, 3) := dk_180 0 16 (dk_at dksX3_keep_0 20 rfl rfl)
theorem dX3_keep_23 : decode cX3_keep 23 = .ok (.iload_n 1, 1) := dk_27 (dk_at dksX3_keep_0 23 rfl rfl)
theorem dX3_keep_24 : decode cX3_keep 24 = .ok (.aload_n 0, 1) := dk_42 (dk_at dksX3_keep_1 0 rfl rfl)
theorem dX3_keep_25 : decode cX3_keep 25 = .ok (.getfield 7, 3) := dk_180 0 7 (dk_at dksX3_keep_1 1 rfl rfl)
theorem dX3_keep_28 : decode cX3_keep 28 = .ok (.iload_n 1, 1) := dk_27 (dk_at dksX3_keep_1 4 rfl rfl)
theorem dX3_keep_29 : decode cX3_keep 29 = .ok (.iaload, 1) := dk_46 (dk_at dksX3_keep_1 5 rfl rfl)
theorem dX3_keep_30 : decode cX3_keep 30 = .ok (.iastore, 1) := dk_79 (dk_at dksX3_keep_1 6 rfl rfl)
theorem dX3_keep_31 : decode cX3_keep 31 = .ok (.iinc 1 1, 3) := dk_132 1 1 (dk_at dksX3_keep_1 7 rfl rfl)
theorem dX3_keep_34 : decode cX3_keep 34 = .ok (.goto (-22), 3) := dk_167 255 234 (dk_at dksX3_keep_1 10 rfl rfl)
theorem dX3_keep_37 : decode cX3_keep 37 = .ok (.aload_n 0, 1) := dk_42 (dk_at dksX3_keep_1 13 rfl rfl)
theorem dX3_keep_38 : decode cX3_keep 38 = .ok (.getfield 7, 3) := dk_180 0 7 (dk_at dksX3_keep_1 14 rfl rfl)
theorem dX3_keep_41 : decode cX3_keep 41 = .ok (.iconst 0, 1) := dk_3 (dk_at dksX3_keep_1 17 rfl rfl)
theorem dX3_keep_42 : decode cX3_keep 42 = .ok (.iaload, 1) := dk_46 (dk_at dksX3_keep_1 18 rfl rfl)
theorem dX3_keep_43 : decode cX3_keep 43 = .ok (.ireturn, 1) := dk_172 (dk_at dksX3_keep_1 19 rfl rfl)
abbrev cX3_goBack : ByteArray := prog_9_method_138_code
def yX3_goBack : MethodName := ⟨RX3, "goBack", "()I"⟩
def dkwX3_goBack_2 : List UInt8 := [46, 79, 132, 1, 1, 167, 255, 234, 42, 180, 0, 7, 3, 46, 172]
abbrev dktX3_goBack_2 : List UInt8 := dkwX3_goBack_2 ++ []
def dkwX3_goBack_1 : List UInt8 := [172, 42, 182, 0, 79, 3, 60, 27, 17, 2, 242, 162, 0, 21, 42, 180, 0, 7, 27, 42, 180, 0, 16, 27]
abbrev dktX3_goBack_1 : List UInt8 := dkwX3_goBack_1 ++ dktX3_goBack_2
def dkwX3_goBack_0 : List UInt8 := [42, 42, 180, 1, 26, 153, 0, 7, 3, 167, 0, 4, 4, 181, 0, 35, 42, 180, 0, 35, 158, 0, 5, 3]
abbrev dktX3_goBack_0 : List UInt8 := dkwX3_goBack_0 ++ dktX3_goBack_1
theorem dksX3_goBack_0 : cX3_goBack.data.toList.drop 0 = dktX3_goBack_0 := by decide +kernel
theorem dksX3_goBack_1 : cX3_goBack.data.toList.drop 24 = dktX3_goBack_1 := dk_seg dksX3_goBack_0 24 rfl rfl
theorem dksX3_goBack_2 : cX3_goBack.data.toList.drop 48 = dktX3_goBack_2 := dk_seg dksX3_goBack_1 24 rfl rfl
theorem dX3_goBack_0 : decode cX3_goBack 0 = .ok (.aload_n 0, 1) := dk_42 (dk_at dksX3_goBack_0 0 rfl rfl)
theorem dX3_goBack_1 : decode cX3_goBack 1 = .ok (.aload_n 0, 1) := dk_42 (dk_at dksX3_goBack_0 1 rfl rfl)
theorem dX3_goBack_2 : decode cX3_goBack 2 = .ok (.getfield 282, 3) := dk_180 1 26 (dk_at dksX3_goBack_0 2 rfl rfl)
theorem dX3_goBack_5 : decode cX3_goBack 5 = .ok (.ifCond .eq 7, 3) := dk_153 0 7 (dk_at dksX3_goBack_0 5 rfl rfl)
theorem dX3_goBack_8 : decode cX3_goBack 8 = .ok (.iconst 0, 1) := dk_3 (dk_at dksX3_goBack_0 8 rfl rfl)
theorem dX3_goBack_9 : decode cX3_goBack 9 = .ok (.goto 4, 3) := dk_167 0 4 (dk_at dksX3_goBack_0 9 rfl rfl)
theorem dX3_goBack_12 : decode cX3_goBack 12 = .ok (.iconst 1, 1) := dk_4 (dk_at dksX3_goBack_0 12 rfl rfl)
theorem dX3_goBack_13 : decode cX3_goBack 13 = .ok (.putfield 35, 3) := dk_181 0 35 (dk_at dksX3_goBack_0 13 rfl rfl)
theorem dX3_goBack_16 : decode cX3_goBack 16 = .ok (.aload_n 0, 1) := dk_42 (dk_at dksX3_goBack_0 16 rfl rfl)
theorem dX3_goBack_17 : decode cX3_goBack 17 = .ok (.getfield 35, 3) := dk_180 0 35 (dk_at dksX3_goBack_0 17 rfl rfl)
theorem dX3_goBack_20 : decode cX3_goBack 20 = .ok (.ifCond .le 5, 3) := dk_158 0 5 (dk_at dksX3_goBack_0 20 rfl rfl)
theorem dX3_goBack_23 : decode cX3_goBack 23 = .ok (.iconst 0, 1) := dk_3 (dk_at dksX3_goBack_0 23 rfl rfl)
theorem dX3_goBack_24 : decode cX3_goBack 24 = .ok (.ireturn, 1) := dk_172 (dk_at dksX3_goBack_1 0 rfl rfl)
theorem dX3_goBack_25 : decode cX3_goBack 25 = .ok (.aload_n 0, 1) := dk_42 (dk_at dksX3_goBack_1 1 rfl rfl)
theorem dX3_goBack_26 : decode cX3_goBack 26 = .ok (.invokevirtual 79, 3) := dk_182 0 79 (dk_at dksX3_goBack_1 2 rfl rfl)
theorem dX3_goBack_29 : decode cX3_goBack 29 = .ok (.iconst 0, 1) := dk_3 (dk_at dksX3_goBack_1 5 rfl rfl)
theorem dX3_goBack_30 : decode cX3_goBack 30 = .ok (.istore_n 1, 1) := dk_60 (dk_at dksX3_goBack_1 6 rfl rfl)
theorem dX3_goBack_31 : decode cX3_goBack 31 = .ok (.iload_n 1, 1) := dk_27 (dk_at dksX3_goBack_1 7 rfl rfl)
theorem dX3_goBack_32 : decode cX3_goBack 32 = .ok (.sipush 754, 3) := dk_17 2 242 (dk_at dksX3_goBack_1 8 rfl rfl)
theorem dX3_goBack_35 : decode cX3_goBack 35 = .ok (.if_icmp .ge 21, 3) := dk_162 0 21 (dk_at dksX3_goBack_1 11 rfl rfl)
theorem dX3_goBack_38 : decode cX3_goBack 38 = .ok (.aload_n 0, 1) := dk_42 (dk_at dksX3_goBack_1 14 rfl rfl)
theorem dX3_goBack_39 : decode cX3_goBack 39 = .ok (.getfield 7, 3) := dk_180 0 7 (dk_at dksX3_goBack_1 15 rfl rfl)
theorem dX3_goBack_42 : decode cX3_goBack 42 = .ok (.iload_n 1, 1) := dk_27 (dk_at dksX3_goBack_1 18 rfl rfl)
theorem dX3_goBack_43 : decode cX3_goBack 43 = .ok (.aload_n 0, 1) := dk_42 (dk_at dksX3_goBack_1 19 rfl rfl)
theorem dX3_goBack_44 : decode cX3_goBack 44 = .ok (.getfield 16, 3) := dk_180 0 16 (dk_at dksX3_goBack_1 20 rfl rfl)
theorem dX3_goBack_47 : decode cX3_goBack 47 = .ok (.iload_n 1, 1) := dk_27 (dk_at dksX3_goBack_1 23 rfl rfl)
theorem dX3_goBack_48 : decode cX3_goBack 48 = .ok (.iaload, 1) := dk_46 (dk_at dksX3_goBack_2 0 rfl rfl)
theorem dX3_goBack_49 : decode cX3_goBack 49 = .ok (.iastore, 1) := dk_79 (dk_at dksX3_goBack_2 1 rfl rfl)
theorem dX3_goBack_50 : decode cX3_goBack 50 = .ok (.iinc 1 1, 3) := dk_132 1 1 (dk_at dksX3_goBack_2 2 rfl rfl)
theorem dX3_goBack_53 : decode cX3_goBack 53 = .ok (.goto (-22), 3) := dk_167 255 234 (dk_at dksX3_goBack_2 5 rfl rfl)
theorem dX3_goBack_56 : decode cX3_goBack 56 = .ok (.aload_n 0, 1) := dk_42 (dk_at dksX3_goBack_2 8 rfl rfl)
theorem dX3_goBack_57 : decode cX3_goBack 57 = .ok (.getfield 7, 3) := dk_180 0 7 (dk_at dksX3_goBack_2 9 rfl rfl)
theorem dX3_goBack_60 : decode cX3_goBack 60 = .ok (.iconst 0, 1) := dk_3 (dk_at dksX3_goBack_2 12 rfl rfl)
theorem dX3_goBack_61 : decode cX3_goBack 61 = .ok (.iaload, 1) := dk_46 (dk_at dksX3_goBack_2 13 rfl rfl)
theorem dX3_goBack_62 : decode cX3_goBack 62 = .ok (.ireturn, 1) := dk_172 (dk_at dksX3_goBack_2 14 rfl rfl)
abbrev cX3_append : ByteArray := prog_9_method_139_code
def yX3_append : MethodName := ⟨RX3, "append", "(I)I"⟩
def dkwX3_append_2 : List UInt8 := [42, 180, 1, 30, 27, 79, 42, 89, 180, 1, 30, 4, 96, 181, 1, 30, 42, 180, 1, 30, 172]
abbrev dktX3_append_2 : List UInt8 := dkwX3_append_2 ++ []
def dkwX3_append_1 : List UInt8 := [160, 0, 7, 5, 167, 0, 4, 3, 181, 0, 35, 42, 180, 0, 35, 158, 0, 5, 3, 172, 42, 180, 0, 32]
abbrev dktX3_append_1 : List UInt8 := dkwX3_append_1 ++ dktX3_append_2
def dkwX3_append_0 : List UInt8 := [42, 27, 16, 33, 16, 126, 184, 0, 42, 154, 0, 7, 4, 167, 0, 17, 42, 180, 1, 30, 16, 60]
abbrev dktX3_append_0 : List UInt8 := dkwX3_append_0 ++ dktX3_append_1
theorem dksX3_append_0 : cX3_append.data.toList.drop 0 = dktX3_append_0 := by decide +kernel
theorem dksX3_append_1 : cX3_append.data.toList.drop 22 = dktX3_append_1 := dk_seg dksX3_append_0 22 rfl rfl
theorem dksX3_append_2 : cX3_append.data.toList.drop 46 = dktX3_append_2 := dk_seg dksX3_append_1 24 rfl rfl
theorem dX3_append_0 : decode cX3_append 0 = .ok (.aload_n 0, 1) := dk_42 (dk_at dksX3_append_0 0 rfl rfl)
theorem dX3_append_1 : decode cX3_append 1 = .ok (.iload_n 1, 1) := dk_27 (dk_at dksX3_append_0 1 rfl rfl)
theorem dX3_append_2 : decode cX3_append 2 = .ok (.bipush 33, 2) := dk_16 33 (dk_at dksX3_append_0 2 rfl rfl)
theorem dX3_append_4 : decode cX3_append 4 = .ok (.bipush 126, 2) := dk_16 126 (dk_at dksX3_append_0 4 rfl rfl)
theorem dX3_append_6 : decode cX3_append 6 = .ok (.invokestatic 42, 3) := dk_184 0 42 (dk_at dksX3_append_0 6 rfl rfl)
theorem dX3_append_9 : decode cX3_append 9 = .ok (.ifCond .ne 7, 3) := dk_154 0 7 (dk_at dksX3_append_0 9 rfl rfl)
theorem dX3_append_12 : decode cX3_append 12 = .ok (.iconst 1, 1) := dk_4 (dk_at dksX3_append_0 12 rfl rfl)
theorem dX3_append_13 : decode cX3_append 13 = .ok (.goto 17, 3) := dk_167 0 17 (dk_at dksX3_append_0 13 rfl rfl)
theorem dX3_append_16 : decode cX3_append 16 = .ok (.aload_n 0, 1) := dk_42 (dk_at dksX3_append_0 16 rfl rfl)
theorem dX3_append_17 : decode cX3_append 17 = .ok (.getfield 286, 3) := dk_180 1 30 (dk_at dksX3_append_0 17 rfl rfl)
theorem dX3_append_20 : decode cX3_append 20 = .ok (.bipush 60, 2) := dk_16 60 (dk_at dksX3_append_0 20 rfl rfl)
theorem dX3_append_22 : decode cX3_append 22 = .ok (.if_icmp .ne 7, 3) := dk_160 0 7 (dk_at dksX3_append_1 0 rfl rfl)
theorem dX3_append_25 : decode cX3_append 25 = .ok (.iconst 2, 1) := dk_5 (dk_at dksX3_append_1 3 rfl rfl)
theorem dX3_append_26 : decode cX3_append 26 = .ok (.goto 4, 3) := dk_167 0 4 (dk_at dksX3_append_1 4 rfl rfl)
theorem dX3_append_29 : decode cX3_append 29 = .ok (.iconst 0, 1) := dk_3 (dk_at dksX3_append_1 7 rfl rfl)
theorem dX3_append_30 : decode cX3_append 30 = .ok (.putfield 35, 3) := dk_181 0 35 (dk_at dksX3_append_1 8 rfl rfl)
theorem dX3_append_33 : decode cX3_append 33 = .ok (.aload_n 0, 1) := dk_42 (dk_at dksX3_append_1 11 rfl rfl)
theorem dX3_append_34 : decode cX3_append 34 = .ok (.getfield 35, 3) := dk_180 0 35 (dk_at dksX3_append_1 12 rfl rfl)
theorem dX3_append_37 : decode cX3_append 37 = .ok (.ifCond .le 5, 3) := dk_158 0 5 (dk_at dksX3_append_1 15 rfl rfl)
theorem dX3_append_40 : decode cX3_append 40 = .ok (.iconst 0, 1) := dk_3 (dk_at dksX3_append_1 18 rfl rfl)
theorem dX3_append_41 : decode cX3_append 41 = .ok (.ireturn, 1) := dk_172 (dk_at dksX3_append_1 19 rfl rfl)
theorem dX3_append_42 : decode cX3_append 42 = .ok (.aload_n 0, 1) := dk_42 (dk_at dksX3_append_1 20 rfl rfl)
theorem dX3_append_43 : decode cX3_append 43 = .ok (.getfield 32, 3) := dk_180 0 32 (dk_at dksX3_append_1 21 rfl rfl)
theorem dX3_append_46 : decode cX3_append 46 = .ok (.aload_n 0, 1) := dk_42 (dk_at dksX3_append_2 0 rfl rfl)
theorem dX3_append_47 : decode cX3_append 47 = .ok (.getfield 286, 3) := dk_180 1 30 (dk_at dksX3_append_2 1 rfl rfl)
theorem dX3_append_50 : decode cX3_append 50 = .ok (.iload_n 1, 1) := dk_27 (dk_at dksX3_append_2 4 rfl rfl)
theorem dX3_append_51 : decode cX3_append 51 = .ok (.iastore, 1) := dk_79 (dk_at dksX3_append_2 5 rfl rfl)
theorem dX3_append_52 : decode cX3_append 52 = .ok (.aload_n 0, 1) := dk_42 (dk_at dksX3_append_2 6 rfl rfl)
theorem dX3_append_53 : decode cX3_append 53 = .ok (.dup, 1) := dk_89 (dk_at dksX3_append_2 7 rfl rfl)
theorem dX3_append_54 : decode cX3_append 54 = .ok (.getfield 286, 3) := dk_180 1 30 (dk_at dksX3_append_2 8 rfl rfl)
theorem dX3_append_57 : decode cX3_append 57 = .ok (.iconst 1, 1) := dk_4 (dk_at dksX3_append_2 11 rfl rfl)
theorem dX3_append_58 : decode cX3_append 58 = .ok (.iadd, 1) := dk_96 (dk_at dksX3_append_2 12 rfl rfl)
theorem dX3_append_59 : decode cX3_append 59 = .ok (.putfield 286, 3) := dk_181 1 30 (dk_at dksX3_append_2 13 rfl rfl)
theorem dX3_append_62 : decode cX3_append 62 = .ok (.aload_n 0, 1) := dk_42 (dk_at dksX3_append_2 16 rfl rfl)
theorem dX3_append_63 : decode cX3_append 63 = .ok (.getfield 286, 3) := dk_180 1 30 (dk_at dksX3_append_2 17 rfl rfl)
theorem dX3_append_66 : decode cX3_append 66 = .ok (.ireturn, 1) := dk_172 (dk_at dksX3_append_2 20 rfl rfl)
abbrev cX3_clearText : ByteArray := prog_9_method_140_code
def yX3_clearText : MethodName := ⟨RX3, "clearText", "()I"⟩
def dkwX3_clearText_0 : List UInt8 := [42, 3, 181, 0, 35, 42, 180, 1, 30, 60, 42, 3, 181, 1, 30, 27, 172]
abbrev dktX3_clearText_0 : List UInt8 := dkwX3_clearText_0 ++ []
theorem dksX3_clearText_0 : cX3_clearText.data.toList.drop 0 = dktX3_clearText_0 := by decide +kernel
theorem dX3_clearText_0 : decode cX3_clearText 0 = .ok (.aload_n 0, 1) := dk_42 (dk_at dksX3_clearText_0 0 rfl rfl)
theorem dX3_clearText_1 : decode cX3_clearText 1 = .ok (.iconst 0, 1) := dk_3 (dk_at dksX3_clearText_0 1 rfl rfl)
theorem dX3_clearText_2 : decode cX3_clearText 2 = .ok (.putfield 35, 3) := dk_181 0 35 (dk_at dksX3_clearText_0 2 rfl rfl)
theorem dX3_clearText_5 : decode cX3_clearText 5 = .ok (.aload_n 0, 1) := dk_42 (dk_at dksX3_clearText_0 5 rfl rfl)
theorem dX3_clearText_6 : decode cX3_clearText 6 = .ok (.getfield 286, 3) := dk_180 1 30 (dk_at dksX3_clearText_0 6 rfl rfl)
theorem dX3_clearText_9 : decode cX3_clearText 9 = .ok (.istore_n 1, 1) := dk_60 (dk_at dksX3_clearText_0 9 rfl rfl)
theorem dX3_clearText_10 : decode cX3_clearText 10 = .ok (.aload_n 0, 1) := dk_42 (dk_at dksX3_clearText_0 10 rfl rfl)
theorem dX3_clearText_11 : decode cX3_clearText 11 = .ok (.iconst 0, 1) := dk_3 (dk_at dksX3_clearText_0 11 rfl rfl)
theorem dX3_clearText_12 : decode cX3_clearText 12 = .ok (.putfield 286, 3) := dk_181 1 30 (dk_at dksX3_clearText_0 12 rfl rfl)
theorem dX3_clearText_15 : decode cX3_clearText 15 = .ok (.iload_n 1, 1) := dk_27 (dk_at dksX3_clearText_0 15 rfl rfl)
theorem dX3_clearText_16 : decode cX3_clearText 16 = .ok (.ireturn, 1) := dk_172 (dk_at dksX3_clearText_0 16 rfl rfl)
abbrev cX3_firstError : ByteArray := prog_9_method_146_code
def yX3_firstError : MethodName := ⟨RX3, "firstError", "()I"⟩
def dkwX3_firstError_0 : List UInt8 := [42, 3, 181, 0, 35, 42, 182, 1, 58, 172]
abbrev dktX3_firstError_0 : List UInt8 := dkwX3_firstError_0 ++ []
theorem dksX3_firstError_0 : cX3_firstError.data.toList.drop 0 = dktX3_firstError_0 := by decide +kernel
theorem dX3_firstError_0 : decode cX3_firstError 0 = .ok (.aload_n 0, 1) := dk_42 (dk_at dksX3_firstError_0 0 rfl rfl)
theorem dX3_firstError_1 : decode cX3_firstError 1 = .ok (.iconst 0, 1) := dk_3 (dk_at dksX3_firstError_0 1 rfl rfl)
theorem dX3_firstError_2 : decode cX3_firstError 2 = .ok (.putfield 35, 3) := dk_181 0 35 (dk_at dksX3_firstError_0 2 rfl rfl)
theorem dX3_firstError_5 : decode cX3_firstError 5 = .ok (.aload_n 0, 1) := dk_42 (dk_at dksX3_firstError_0 5 rfl rfl)
theorem dX3_firstError_6 : decode cX3_firstError 6 = .ok (.invokevirtual 314, 3) := dk_182 1 58 (dk_at dksX3_firstError_0 6 rfl rfl)
theorem dX3_firstError_9 : decode cX3_firstError 9 = .ok (.ireturn, 1) := dk_172 (dk_at dksX3_firstError_0 9 rfl rfl)
abbrev cX3_findError : ByteArray := prog_9_method_145_code
def yX3_findError : MethodName := ⟨RX3, "findError", "()I"⟩
def dkwX3_findError_2 : List UInt8 := [180, 1, 33, 172, 42, 89, 180, 1, 33, 4, 96, 181, 1, 33, 167, 255, 202]
abbrev dktX3_findError_2 : List UInt8 := dkwX3_findError_2 ++ []
def dkwX3_findError_1 : List UInt8 := [180, 1, 30, 160, 0, 5, 2, 172, 42, 180, 0, 32, 42, 180, 1, 33, 46, 16, 59, 159, 0, 8, 42]
abbrev dktX3_findError_1 : List UInt8 := dkwX3_findError_1 ++ dktX3_findError_2
def dkwX3_findError_0 : List UInt8 := [42, 3, 181, 1, 33, 42, 182, 1, 55, 154, 0, 8, 42, 180, 1, 33, 172, 42, 180, 1, 33, 42]
abbrev dktX3_findError_0 : List UInt8 := dkwX3_findError_0 ++ dktX3_findError_1
theorem dksX3_findError_0 : cX3_findError.data.toList.drop 0 = dktX3_findError_0 := by decide +kernel
theorem dksX3_findError_1 : cX3_findError.data.toList.drop 22 = dktX3_findError_1 := dk_seg dksX3_findError_0 22 rfl rfl
theorem dksX3_findError_2 : cX3_findError.data.toList.drop 45 = dktX3_findError_2 := dk_seg dksX3_findError_1 23 rfl rfl
theorem dX3_findError_0 : decode cX3_findError 0 = .ok (.aload_n 0, 1) := dk_42 (dk_at dksX3_findError_0 0 rfl rfl)
theorem dX3_findError_1 : decode cX3_findError 1 = .ok (.iconst 0, 1) := dk_3 (dk_at dksX3_findError_0 1 rfl rfl)
theorem dX3_findError_2 : decode cX3_findError 2 = .ok (.putfield 289, 3) := dk_181 1 33 (dk_at dksX3_findError_0 2 rfl rfl)
theorem dX3_findError_5 : decode cX3_findError 5 = .ok (.aload_n 0, 1) := dk_42 (dk_at dksX3_findError_0 5 rfl rfl)
theorem dX3_findError_6 : decode cX3_findError 6 = .ok (.invokevirtual 311, 3) := dk_182 1 55 (dk_at dksX3_findError_0 6 rfl rfl)
theorem dX3_findError_9 : decode cX3_findError 9 = .ok (.ifCond .ne 8, 3) := dk_154 0 8 (dk_at dksX3_findError_0 9 rfl rfl)
theorem dX3_findError_12 : decode cX3_findError 12 = .ok (.aload_n 0, 1) := dk_42 (dk_at dksX3_findError_0 12 rfl rfl)
theorem dX3_findError_13 : decode cX3_findError 13 = .ok (.getfield 289, 3) := dk_180 1 33 (dk_at dksX3_findError_0 13 rfl rfl)
theorem dX3_findError_16 : decode cX3_findError 16 = .ok (.ireturn, 1) := dk_172 (dk_at dksX3_findError_0 16 rfl rfl)
theorem dX3_findError_17 : decode cX3_findError 17 = .ok (.aload_n 0, 1) := dk_42 (dk_at dksX3_findError_0 17 rfl rfl)
theorem dX3_findError_18 : decode cX3_findError 18 = .ok (.getfield 289, 3) := dk_180 1 33 (dk_at dksX3_findError_0 18 rfl rfl)
theorem dX3_findError_21 : decode cX3_findError 21 = .ok (.aload_n 0, 1) := dk_42 (dk_at dksX3_findError_0 21 rfl rfl)
theorem dX3_findError_22 : decode cX3_findError 22 = .ok (.getfield 286, 3) := dk_180 1 30 (dk_at dksX3_findError_1 0 rfl rfl)
theorem dX3_findError_25 : decode cX3_findError 25 = .ok (.if_icmp .ne 5, 3) := dk_160 0 5 (dk_at dksX3_findError_1 3 rfl rfl)
theorem dX3_findError_28 : decode cX3_findError 28 = .ok (.iconst (-1), 1) := dk_2 (dk_at dksX3_findError_1 6 rfl rfl)
theorem dX3_findError_29 : decode cX3_findError 29 = .ok (.ireturn, 1) := dk_172 (dk_at dksX3_findError_1 7 rfl rfl)
theorem dX3_findError_30 : decode cX3_findError 30 = .ok (.aload_n 0, 1) := dk_42 (dk_at dksX3_findError_1 8 rfl rfl)
theorem dX3_findError_31 : decode cX3_findError 31 = .ok (.getfield 32, 3) := dk_180 0 32 (dk_at dksX3_findError_1 9 rfl rfl)
theorem dX3_findError_34 : decode cX3_findError 34 = .ok (.aload_n 0, 1) := dk_42 (dk_at dksX3_findError_1 12 rfl rfl)
theorem dX3_findError_35 : decode cX3_findError 35 = .ok (.getfield 289, 3) := dk_180 1 33 (dk_at dksX3_findError_1 13 rfl rfl)
theorem dX3_findError_38 : decode cX3_findError 38 = .ok (.iaload, 1) := dk_46 (dk_at dksX3_findError_1 16 rfl rfl)
theorem dX3_findError_39 : decode cX3_findError 39 = .ok (.bipush 59, 2) := dk_16 59 (dk_at dksX3_findError_1 17 rfl rfl)
theorem dX3_findError_41 : decode cX3_findError 41 = .ok (.if_icmp .eq 8, 3) := dk_159 0 8 (dk_at dksX3_findError_1 19 rfl rfl)
theorem dX3_findError_44 : decode cX3_findError 44 = .ok (.aload_n 0, 1) := dk_42 (dk_at dksX3_findError_1 22 rfl rfl)
theorem dX3_findError_45 : decode cX3_findError 45 = .ok (.getfield 289, 3) := dk_180 1 33 (dk_at dksX3_findError_2 0 rfl rfl)
theorem dX3_findError_48 : decode cX3_findError 48 = .ok (.ireturn, 1) := dk_172 (dk_at dksX3_findError_2 3 rfl rfl)
theorem dX3_findError_49 : decode cX3_findError 49 = .ok (.aload_n 0, 1) := dk_42 (dk_at dksX3_findError_2 4 rfl rfl)
theorem dX3_findError_50 : decode cX3_findError 50 = .ok (.dup, 1) := dk_89 (dk_at dksX3_findError_2 5 rfl rfl)
theorem dX3_findError_51 : decode cX3_findError 51 = .ok (.getfield 289, 3) := dk_180 1 33 (dk_at dksX3_findError_2 6 rfl rfl)
theorem dX3_findError_54 : decode cX3_findError 54 = .ok (.iconst 1, 1) := dk_4 (dk_at dksX3_findError_2 9 rfl rfl)
theorem dX3_findError_55 : decode cX3_findError 55 = .ok (.iadd, 1) := dk_96 (dk_at dksX3_findError_2 10 rfl rfl)
theorem dX3_findError_56 : decode cX3_findError 56 = .ok (.putfield 289, 3) := dk_181 1 33 (dk_at dksX3_findError_2 11 rfl rfl)
theorem dX3_findError_59 : decode cX3_findError 59 = .ok (.goto (-54), 3) := dk_167 255 202 (dk_at dksX3_findError_2 14 rfl rfl)
abbrev cX3_readsWork : ByteArray := prog_9_method_144_code
def yX3_readsWork : MethodName := ⟨RX3, "readsWork", "()Z"⟩
def dkwX3_readsWork_6 : List UInt8 := [16, 63, 182, 1, 42, 172]
abbrev dktX3_readsWork_6 : List UInt8 := dkwX3_readsWork_6 ++ []
def dkwX3_readsWork_5 : List UInt8 := [182, 1, 42, 167, 0, 26, 42, 180, 1, 48, 16, 111, 160, 0, 10, 42, 182, 1, 51, 167, 0, 10, 42, 3]
abbrev dktX3_readsWork_5 : List UInt8 := dkwX3_readsWork_5 ++ dktX3_readsWork_6
def dkwX3_readsWork_4 : List UInt8 := [89, 180, 1, 33, 4, 96, 181, 1, 33, 42, 180, 1, 48, 16, 121, 160, 0, 13, 42, 4, 16, 20]
abbrev dktX3_readsWork_4 : List UInt8 := dkwX3_readsWork_4 ++ dktX3_readsWork_5
def dkwX3_readsWork_3 : List UInt8 := [159, 0, 23, 42, 180, 1, 48, 16, 114, 159, 0, 14, 42, 180, 1, 48, 16, 111, 159, 0, 5, 3, 172, 42]
abbrev dktX3_readsWork_3 : List UInt8 := dkwX3_readsWork_3 ++ dktX3_readsWork_4
def dkwX3_readsWork_2 : List UInt8 := [180, 1, 48, 16, 102, 159, 0, 41, 42, 180, 1, 48, 16, 119, 159, 0, 32, 42, 180, 1, 48, 16, 109]
abbrev dktX3_readsWork_2 : List UInt8 := dkwX3_readsWork_2 ++ dktX3_readsWork_3
def dkwX3_readsWork_1 : List UInt8 := [2, 181, 1, 48, 42, 180, 1, 48, 16, 121, 159, 0, 59, 42, 180, 1, 48, 16, 98, 159, 0, 50, 42]
abbrev dktX3_readsWork_1 : List UInt8 := dkwX3_readsWork_1 ++ dktX3_readsWork_2
def dkwX3_readsWork_0 : List UInt8 := [42, 42, 180, 1, 33, 42, 180, 1, 30, 162, 0, 15, 42, 180, 0, 32, 42, 180, 1, 33, 46, 167, 0, 4]
abbrev dktX3_readsWork_0 : List UInt8 := dkwX3_readsWork_0 ++ dktX3_readsWork_1
theorem dksX3_readsWork_0 : cX3_readsWork.data.toList.drop 0 = dktX3_readsWork_0 := by decide +kernel
theorem dksX3_readsWork_1 : cX3_readsWork.data.toList.drop 24 = dktX3_readsWork_1 := dk_seg dksX3_readsWork_0 24 rfl rfl
theorem dksX3_readsWork_2 : cX3_readsWork.data.toList.drop 47 = dktX3_readsWork_2 := dk_seg dksX3_readsWork_1 23 rfl rfl
theorem dksX3_readsWork_3 : cX3_readsWork.data.toList.drop 70 = dktX3_readsWork_3 := dk_seg dksX3_readsWork_2 23 rfl rfl
theorem dksX3_readsWork_4 : cX3_readsWork.data.toList.drop 94 = dktX3_readsWork_4 := dk_seg dksX3_readsWork_3 24 rfl rfl
theorem dksX3_readsWork_5 : cX3_readsWork.data.toList.drop 116 = dktX3_readsWork_5 := dk_seg dksX3_readsWork_4 22 rfl rfl
theorem dksX3_readsWork_6 : cX3_readsWork.data.toList.drop 140 = dktX3_readsWork_6 := dk_seg dksX3_readsWork_5 24 rfl rfl
theorem dX3_readsWork_0 : decode cX3_readsWork 0 = .ok (.aload_n 0, 1) := dk_42 (dk_at dksX3_readsWork_0 0 rfl rfl)
theorem dX3_readsWork_1 : decode cX3_readsWork 1 = .ok (.aload_n 0, 1) := dk_42 (dk_at dksX3_readsWork_0 1 rfl rfl)
theorem dX3_readsWork_2 : decode cX3_readsWork 2 = .ok (.getfield 289, 3) := dk_180 1 33 (dk_at dksX3_readsWork_0 2 rfl rfl)
theorem dX3_readsWork_5 : decode cX3_readsWork 5 = .ok (.aload_n 0, 1) := dk_42 (dk_at dksX3_readsWork_0 5 rfl rfl)
theorem dX3_readsWork_6 : decode cX3_readsWork 6 = .ok (.getfield 286, 3) := dk_180 1 30 (dk_at dksX3_readsWork_0 6 rfl rfl)
theorem dX3_readsWork_9 : decode cX3_readsWork 9 = .ok (.if_icmp .ge 15, 3) := dk_162 0 15 (dk_at dksX3_readsWork_0 9 rfl rfl)
theorem dX3_readsWork_12 : decode cX3_readsWork 12 = .ok (.aload_n 0, 1) := dk_42 (dk_at dksX3_readsWork_0 12 rfl rfl)
theorem dX3_readsWork_13 : decode cX3_readsWork 13 = .ok (.getfield 32, 3) := dk_180 0 32 (dk_at dksX3_readsWork_0 13 rfl rfl)
theorem dX3_readsWork_16 : decode cX3_readsWork 16 = .ok (.aload_n 0, 1) := dk_42 (dk_at dksX3_readsWork_0 16 rfl rfl)
theorem dX3_readsWork_17 : decode cX3_readsWork 17 = .ok (.getfield 289, 3) := dk_180 1 33 (dk_at dksX3_readsWork_0 17 rfl rfl)
theorem dX3_readsWork_20 : decode cX3_readsWork 20 = .ok (.iaload, 1) := dk_46 (dk_at dksX3_readsWork_0 20 rfl rfl)
theorem dX3_readsWork_21 : decode cX3_readsWork 21 = .ok (.goto 4, 3) := dk_167 0 4 (dk_at dksX3_readsWork_0 21 rfl rfl)
theorem dX3_readsWork_24 : decode cX3_readsWork 24 = .ok (.iconst (-1), 1) := dk_2 (dk_at dksX3_readsWork_1 0 rfl rfl)
theorem dX3_readsWork_25 : decode cX3_readsWork 25 = .ok (.putfield 304, 3) := dk_181 1 48 (dk_at dksX3_readsWork_1 1 rfl rfl)
theorem dX3_readsWork_28 : decode cX3_readsWork 28 = .ok (.aload_n 0, 1) := dk_42 (dk_at dksX3_readsWork_1 4 rfl rfl)
theorem dX3_readsWork_29 : decode cX3_readsWork 29 = .ok (.getfield 304, 3) := dk_180 1 48 (dk_at dksX3_readsWork_1 5 rfl rfl)
theorem dX3_readsWork_32 : decode cX3_readsWork 32 = .ok (.bipush 121, 2) := dk_16 121 (dk_at dksX3_readsWork_1 8 rfl rfl)
theorem dX3_readsWork_34 : decode cX3_readsWork 34 = .ok (.if_icmp .eq 59, 3) := dk_159 0 59 (dk_at dksX3_readsWork_1 10 rfl rfl)
theorem dX3_readsWork_37 : decode cX3_readsWork 37 = .ok (.aload_n 0, 1) := dk_42 (dk_at dksX3_readsWork_1 13 rfl rfl)
theorem dX3_readsWork_38 : decode cX3_readsWork 38 = .ok (.getfield 304, 3) := dk_180 1 48 (dk_at dksX3_readsWork_1 14 rfl rfl)
theorem dX3_readsWork_41 : decode cX3_readsWork 41 = .ok (.bipush 98, 2) := dk_16 98 (dk_at dksX3_readsWork_1 17 rfl rfl)
theorem dX3_readsWork_43 : decode cX3_readsWork 43 = .ok (.if_icmp .eq 50, 3) := dk_159 0 50 (dk_at dksX3_readsWork_1 19 rfl rfl)
theorem dX3_readsWork_46 : decode cX3_readsWork 46 = .ok (.aload_n 0, 1) := dk_42 (dk_at dksX3_readsWork_1 22 rfl rfl)
theorem dX3_readsWork_47 : decode cX3_readsWork 47 = .ok (.getfield 304, 3) := dk_180 1 48 (dk_at dksX3_readsWork_2 0 rfl rfl)
theorem dX3_readsWork_50 : decode cX3_readsWork 50 = .ok (.bipush 102, 2) := dk_16 102 (dk_at dksX3_readsWork_2 3 rfl rfl)
theorem dX3_readsWork_52 : decode cX3_readsWork 52 = .ok (.if_icmp .eq 41, 3) := dk_159 0 41 (dk_at dksX3_readsWork_2 5 rfl rfl)
theorem dX3_readsWork_55 : decode cX3_readsWork 55 = .ok (.aload_n 0, 1) := dk_42 (dk_at dksX3_readsWork_2 8 rfl rfl)
theorem dX3_readsWork_56 : decode cX3_readsWork 56 = .ok (.getfield 304, 3) := dk_180 1 48 (dk_at dksX3_readsWork_2 9 rfl rfl)
theorem dX3_readsWork_59 : decode cX3_readsWork 59 = .ok (.bipush 119, 2) := dk_16 119 (dk_at dksX3_readsWork_2 12 rfl rfl)
theorem dX3_readsWork_61 : decode cX3_readsWork 61 = .ok (.if_icmp .eq 32, 3) := dk_159 0 32 (dk_at dksX3_readsWork_2 14 rfl rfl)
theorem dX3_readsWork_64 : decode cX3_readsWork 64 = .ok (.aload_n 0, 1) := dk_42 (dk_at dksX3_readsWork_2 17 rfl rfl)
theorem dX3_readsWork_65 : decode cX3_readsWork 65 = .ok (.getfield 304, 3) := dk_180 1 48 (dk_at dksX3_readsWork_2 18 rfl rfl)
theorem dX3_readsWork_68 : decode cX3_readsWork 68 = .ok (.bipush 109, 2) := dk_16 109 (dk_at dksX3_readsWork_2 21 rfl rfl)
theorem dX3_readsWork_70 : decode cX3_readsWork 70 = .ok (.if_icmp .eq 23, 3) := dk_159 0 23 (dk_at dksX3_readsWork_3 0 rfl rfl)
theorem dX3_readsWork_73 : decode cX3_readsWork 73 = .ok (.aload_n 0, 1) := dk_42 (dk_at dksX3_readsWork_3 3 rfl rfl)
theorem dX3_readsWork_74 : decode cX3_readsWork 74 = .ok (.getfield 304, 3) := dk_180 1 48 (dk_at dksX3_readsWork_3 4 rfl rfl)
theorem dX3_readsWork_77 : decode cX3_readsWork 77 = .ok (.bipush 114, 2) := dk_16 114 (dk_at dksX3_readsWork_3 7 rfl rfl)
theorem dX3_readsWork_79 : decode cX3_readsWork 79 = .ok (.if_icmp .eq 14, 3) := dk_159 0 14 (dk_at dksX3_readsWork_3 9 rfl rfl)
theorem dX3_readsWork_82 : decode cX3_readsWork 82 = .ok (.aload_n 0, 1) := dk_42 (dk_at dksX3_readsWork_3 12 rfl rfl)
theorem dX3_readsWork_83 : decode cX3_readsWork 83 = .ok (.getfield 304, 3) := dk_180 1 48 (dk_at dksX3_readsWork_3 13 rfl rfl)
theorem dX3_readsWork_86 : decode cX3_readsWork 86 = .ok (.bipush 111, 2) := dk_16 111 (dk_at dksX3_readsWork_3 16 rfl rfl)
theorem dX3_readsWork_88 : decode cX3_readsWork 88 = .ok (.if_icmp .eq 5, 3) := dk_159 0 5 (dk_at dksX3_readsWork_3 18 rfl rfl)
theorem dX3_readsWork_91 : decode cX3_readsWork 91 = .ok (.iconst 0, 1) := dk_3 (dk_at dksX3_readsWork_3 21 rfl rfl)
theorem dX3_readsWork_92 : decode cX3_readsWork 92 = .ok (.ireturn, 1) := dk_172 (dk_at dksX3_readsWork_3 22 rfl rfl)
theorem dX3_readsWork_93 : decode cX3_readsWork 93 = .ok (.aload_n 0, 1) := dk_42 (dk_at dksX3_readsWork_3 23 rfl rfl)
theorem dX3_readsWork_94 : decode cX3_readsWork 94 = .ok (.dup, 1) := dk_89 (dk_at dksX3_readsWork_4 0 rfl rfl)
theorem dX3_readsWork_95 : decode cX3_readsWork 95 = .ok (.getfield 289, 3) := dk_180 1 33 (dk_at dksX3_readsWork_4 1 rfl rfl)
theorem dX3_readsWork_98 : decode cX3_readsWork 98 = .ok (.iconst 1, 1) := dk_4 (dk_at dksX3_readsWork_4 4 rfl rfl)
theorem dX3_readsWork_99 : decode cX3_readsWork 99 = .ok (.iadd, 1) := dk_96 (dk_at dksX3_readsWork_4 5 rfl rfl)
theorem dX3_readsWork_100 : decode cX3_readsWork 100 = .ok (.putfield 289, 3) := dk_181 1 33 (dk_at dksX3_readsWork_4 6 rfl rfl)
theorem dX3_readsWork_103 : decode cX3_readsWork 103 = .ok (.aload_n 0, 1) := dk_42 (dk_at dksX3_readsWork_4 9 rfl rfl)
theorem dX3_readsWork_104 : decode cX3_readsWork 104 = .ok (.getfield 304, 3) := dk_180 1 48 (dk_at dksX3_readsWork_4 10 rfl rfl)
theorem dX3_readsWork_107 : decode cX3_readsWork 107 = .ok (.bipush 121, 2) := dk_16 121 (dk_at dksX3_readsWork_4 13 rfl rfl)
theorem dX3_readsWork_109 : decode cX3_readsWork 109 = .ok (.if_icmp .ne 13, 3) := dk_160 0 13 (dk_at dksX3_readsWork_4 15 rfl rfl)
theorem dX3_readsWork_112 : decode cX3_readsWork 112 = .ok (.aload_n 0, 1) := dk_42 (dk_at dksX3_readsWork_4 18 rfl rfl)
theorem dX3_readsWork_113 : decode cX3_readsWork 113 = .ok (.iconst 1, 1) := dk_4 (dk_at dksX3_readsWork_4 19 rfl rfl)
theorem dX3_readsWork_114 : decode cX3_readsWork 114 = .ok (.bipush 20, 2) := dk_16 20 (dk_at dksX3_readsWork_4 20 rfl rfl)
theorem dX3_readsWork_116 : decode cX3_readsWork 116 = .ok (.invokevirtual 298, 3) := dk_182 1 42 (dk_at dksX3_readsWork_5 0 rfl rfl)
theorem dX3_readsWork_119 : decode cX3_readsWork 119 = .ok (.goto 26, 3) := dk_167 0 26 (dk_at dksX3_readsWork_5 3 rfl rfl)
theorem dX3_readsWork_122 : decode cX3_readsWork 122 = .ok (.aload_n 0, 1) := dk_42 (dk_at dksX3_readsWork_5 6 rfl rfl)
theorem dX3_readsWork_123 : decode cX3_readsWork 123 = .ok (.getfield 304, 3) := dk_180 1 48 (dk_at dksX3_readsWork_5 7 rfl rfl)
theorem dX3_readsWork_126 : decode cX3_readsWork 126 = .ok (.bipush 111, 2) := dk_16 111 (dk_at dksX3_readsWork_5 10 rfl rfl)
theorem dX3_readsWork_128 : decode cX3_readsWork 128 = .ok (.if_icmp .ne 10, 3) := dk_160 0 10 (dk_at dksX3_readsWork_5 12 rfl rfl)
theorem dX3_readsWork_131 : decode cX3_readsWork 131 = .ok (.aload_n 0, 1) := dk_42 (dk_at dksX3_readsWork_5 15 rfl rfl)
theorem dX3_readsWork_132 : decode cX3_readsWork 132 = .ok (.invokevirtual 307, 3) := dk_182 1 51 (dk_at dksX3_readsWork_5 16 rfl rfl)
theorem dX3_readsWork_135 : decode cX3_readsWork 135 = .ok (.goto 10, 3) := dk_167 0 10 (dk_at dksX3_readsWork_5 19 rfl rfl)
theorem dX3_readsWork_138 : decode cX3_readsWork 138 = .ok (.aload_n 0, 1) := dk_42 (dk_at dksX3_readsWork_5 22 rfl rfl)
theorem dX3_readsWork_139 : decode cX3_readsWork 139 = .ok (.iconst 0, 1) := dk_3 (dk_at dksX3_readsWork_5 23 rfl rfl)
theorem dX3_readsWork_140 : decode cX3_readsWork 140 = .ok (.bipush 63, 2) := dk_16 63 (dk_at dksX3_readsWork_6 0 rfl rfl)
theorem dX3_readsWork_142 : decode cX3_readsWork 142 = .ok (.invokevirtual 298, 3) := dk_182 1 42 (dk_at dksX3_readsWork_6 2 rfl rfl)
theorem dX3_readsWork_145 : decode cX3_readsWork 145 = .ok (.ireturn, 1) := dk_172 (dk_at dksX3_readsWork_6 5 rfl rfl)
abbrev cX3_readsNumber : ByteArray := prog_9_method_142_code
def yX3_readsNumber : MethodName := ⟨RX3, "readsNumber", "(II)Z"⟩
def dkwX3_readsNumber_5 : List UInt8 := [89, 180, 1, 33, 4, 96, 181, 1, 33, 167, 255, 161, 4, 172]
abbrev dktX3_readsNumber_5 : List UInt8 := dkwX3_readsNumber_5 ++ []
def dkwX3_readsNumber_4 : List UInt8 := [16, 10, 42, 180, 1, 39, 104, 42, 180, 0, 32, 42, 180, 1, 33, 46, 96, 16, 48, 100, 181, 1, 39, 42]
abbrev dktX3_readsNumber_4 : List UInt8 := dkwX3_readsNumber_4 ++ dktX3_readsNumber_5
def dkwX3_readsNumber_3 : List UInt8 := [42, 180, 1, 39, 104, 42, 180, 0, 32, 42, 180, 1, 33, 46, 96, 16, 48, 100, 28, 163, 0, 40, 42]
abbrev dktX3_readsNumber_3 : List UInt8 := dkwX3_readsNumber_3 ++ dktX3_readsNumber_4
def dkwX3_readsNumber_2 : List UInt8 := [162, 0, 83, 42, 180, 0, 32, 42, 180, 1, 33, 46, 16, 48, 16, 57, 184, 0, 42, 153, 0, 64, 16, 10]
abbrev dktX3_readsNumber_2 : List UInt8 := dkwX3_readsNumber_2 ++ dktX3_readsNumber_3
def dkwX3_readsNumber_1 : List UInt8 := [4, 100, 46, 16, 48, 100, 181, 1, 39, 42, 180, 1, 39, 158, 0, 94, 42, 180, 1, 33, 42, 180, 1, 30]
abbrev dktX3_readsNumber_1 : List UInt8 := dkwX3_readsNumber_1 ++ dktX3_readsNumber_2
def dkwX3_readsNumber_0 : List UInt8 := [42, 16, 48, 27, 96, 16, 57, 182, 1, 36, 154, 0, 5, 3, 172, 42, 42, 180, 0, 32, 42, 180, 1, 33]
abbrev dktX3_readsNumber_0 : List UInt8 := dkwX3_readsNumber_0 ++ dktX3_readsNumber_1
theorem dksX3_readsNumber_0 : cX3_readsNumber.data.toList.drop 0 = dktX3_readsNumber_0 := by decide +kernel
theorem dksX3_readsNumber_1 : cX3_readsNumber.data.toList.drop 24 = dktX3_readsNumber_1 := dk_seg dksX3_readsNumber_0 24 rfl rfl
theorem dksX3_readsNumber_2 : cX3_readsNumber.data.toList.drop 48 = dktX3_readsNumber_2 := dk_seg dksX3_readsNumber_1 24 rfl rfl
theorem dksX3_readsNumber_3 : cX3_readsNumber.data.toList.drop 72 = dktX3_readsNumber_3 := dk_seg dksX3_readsNumber_2 24 rfl rfl
theorem dksX3_readsNumber_4 : cX3_readsNumber.data.toList.drop 95 = dktX3_readsNumber_4 := dk_seg dksX3_readsNumber_3 23 rfl rfl
theorem dksX3_readsNumber_5 : cX3_readsNumber.data.toList.drop 119 = dktX3_readsNumber_5 := dk_seg dksX3_readsNumber_4 24 rfl rfl
theorem dX3_readsNumber_0 : decode cX3_readsNumber 0 = .ok (.aload_n 0, 1) := dk_42 (dk_at dksX3_readsNumber_0 0 rfl rfl)
theorem dX3_readsNumber_1 : decode cX3_readsNumber 1 = .ok (.bipush 48, 2) := dk_16 48 (dk_at dksX3_readsNumber_0 1 rfl rfl)
theorem dX3_readsNumber_3 : decode cX3_readsNumber 3 = .ok (.iload_n 1, 1) := dk_27 (dk_at dksX3_readsNumber_0 3 rfl rfl)
theorem dX3_readsNumber_4 : decode cX3_readsNumber 4 = .ok (.iadd, 1) := dk_96 (dk_at dksX3_readsNumber_0 4 rfl rfl)
theorem dX3_readsNumber_5 : decode cX3_readsNumber 5 = .ok (.bipush 57, 2) := dk_16 57 (dk_at dksX3_readsNumber_0 5 rfl rfl)
theorem dX3_readsNumber_7 : decode cX3_readsNumber 7 = .ok (.invokevirtual 292, 3) := dk_182 1 36 (dk_at dksX3_readsNumber_0 7 rfl rfl)
theorem dX3_readsNumber_10 : decode cX3_readsNumber 10 = .ok (.ifCond .ne 5, 3) := dk_154 0 5 (dk_at dksX3_readsNumber_0 10 rfl rfl)
theorem dX3_readsNumber_13 : decode cX3_readsNumber 13 = .ok (.iconst 0, 1) := dk_3 (dk_at dksX3_readsNumber_0 13 rfl rfl)
theorem dX3_readsNumber_14 : decode cX3_readsNumber 14 = .ok (.ireturn, 1) := dk_172 (dk_at dksX3_readsNumber_0 14 rfl rfl)
theorem dX3_readsNumber_15 : decode cX3_readsNumber 15 = .ok (.aload_n 0, 1) := dk_42 (dk_at dksX3_readsNumber_0 15 rfl rfl)
theorem dX3_readsNumber_16 : decode cX3_readsNumber 16 = .ok (.aload_n 0, 1) := dk_42 (dk_at dksX3_readsNumber_0 16 rfl rfl)
theorem dX3_readsNumber_17 : decode cX3_readsNumber 17 = .ok (.getfield 32, 3) := dk_180 0 32 (dk_at dksX3_readsNumber_0 17 rfl rfl)
theorem dX3_readsNumber_20 : decode cX3_readsNumber 20 = .ok (.aload_n 0, 1) := dk_42 (dk_at dksX3_readsNumber_0 20 rfl rfl)
theorem dX3_readsNumber_21 : decode cX3_readsNumber 21 = .ok (.getfield 289, 3) := dk_180 1 33 (dk_at dksX3_readsNumber_0 21 rfl rfl)
theorem dX3_readsNumber_24 : decode cX3_readsNumber 24 = .ok (.iconst 1, 1) := dk_4 (dk_at dksX3_readsNumber_1 0 rfl rfl)
theorem dX3_readsNumber_25 : decode cX3_readsNumber 25 = .ok (.isub, 1) := dk_100 (dk_at dksX3_readsNumber_1 1 rfl rfl)
theorem dX3_readsNumber_26 : decode cX3_readsNumber 26 = .ok (.iaload, 1) := dk_46 (dk_at dksX3_readsNumber_1 2 rfl rfl)
theorem dX3_readsNumber_27 : decode cX3_readsNumber 27 = .ok (.bipush 48, 2) := dk_16 48 (dk_at dksX3_readsNumber_1 3 rfl rfl)
theorem dX3_readsNumber_29 : decode cX3_readsNumber 29 = .ok (.isub, 1) := dk_100 (dk_at dksX3_readsNumber_1 5 rfl rfl)
theorem dX3_readsNumber_30 : decode cX3_readsNumber 30 = .ok (.putfield 295, 3) := dk_181 1 39 (dk_at dksX3_readsNumber_1 6 rfl rfl)
theorem dX3_readsNumber_33 : decode cX3_readsNumber 33 = .ok (.aload_n 0, 1) := dk_42 (dk_at dksX3_readsNumber_1 9 rfl rfl)
theorem dX3_readsNumber_34 : decode cX3_readsNumber 34 = .ok (.getfield 295, 3) := dk_180 1 39 (dk_at dksX3_readsNumber_1 10 rfl rfl)
theorem dX3_readsNumber_37 : decode cX3_readsNumber 37 = .ok (.ifCond .le 94, 3) := dk_158 0 94 (dk_at dksX3_readsNumber_1 13 rfl rfl)
theorem dX3_readsNumber_40 : decode cX3_readsNumber 40 = .ok (.aload_n 0, 1) := dk_42 (dk_at dksX3_readsNumber_1 16 rfl rfl)
theorem dX3_readsNumber_41 : decode cX3_readsNumber 41 = .ok (.getfield 289, 3) := dk_180 1 33 (dk_at dksX3_readsNumber_1 17 rfl rfl)
theorem dX3_readsNumber_44 : decode cX3_readsNumber 44 = .ok (.aload_n 0, 1) := dk_42 (dk_at dksX3_readsNumber_1 20 rfl rfl)
theorem dX3_readsNumber_45 : decode cX3_readsNumber 45 = .ok (.getfield 286, 3) := dk_180 1 30 (dk_at dksX3_readsNumber_1 21 rfl rfl)
theorem dX3_readsNumber_48 : decode cX3_readsNumber 48 = .ok (.if_icmp .ge 83, 3) := dk_162 0 83 (dk_at dksX3_readsNumber_2 0 rfl rfl)
theorem dX3_readsNumber_51 : decode cX3_readsNumber 51 = .ok (.aload_n 0, 1) := dk_42 (dk_at dksX3_readsNumber_2 3 rfl rfl)
theorem dX3_readsNumber_52 : decode cX3_readsNumber 52 = .ok (.getfield 32, 3) := dk_180 0 32 (dk_at dksX3_readsNumber_2 4 rfl rfl)
theorem dX3_readsNumber_55 : decode cX3_readsNumber 55 = .ok (.aload_n 0, 1) := dk_42 (dk_at dksX3_readsNumber_2 7 rfl rfl)
theorem dX3_readsNumber_56 : decode cX3_readsNumber 56 = .ok (.getfield 289, 3) := dk_180 1 33 (dk_at dksX3_readsNumber_2 8 rfl rfl)
theorem dX3_readsNumber_59 : decode cX3_readsNumber 59 = .ok (.iaload, 1) := dk_46 (dk_at dksX3_readsNumber_2 11 rfl rfl)
theorem dX3_readsNumber_60 : decode cX3_readsNumber 60 = .ok (.bipush 48, 2) := dk_16 48 (dk_at dksX3_readsNumber_2 12 rfl rfl)
theorem dX3_readsNumber_62 : decode cX3_readsNumber 62 = .ok (.bipush 57, 2) := dk_16 57 (dk_at dksX3_readsNumber_2 14 rfl rfl)
theorem dX3_readsNumber_64 : decode cX3_readsNumber 64 = .ok (.invokestatic 42, 3) := dk_184 0 42 (dk_at dksX3_readsNumber_2 16 rfl rfl)
theorem dX3_readsNumber_67 : decode cX3_readsNumber 67 = .ok (.ifCond .eq 64, 3) := dk_153 0 64 (dk_at dksX3_readsNumber_2 19 rfl rfl)
theorem dX3_readsNumber_70 : decode cX3_readsNumber 70 = .ok (.bipush 10, 2) := dk_16 10 (dk_at dksX3_readsNumber_2 22 rfl rfl)
theorem dX3_readsNumber_72 : decode cX3_readsNumber 72 = .ok (.aload_n 0, 1) := dk_42 (dk_at dksX3_readsNumber_3 0 rfl rfl)
theorem dX3_readsNumber_73 : decode cX3_readsNumber 73 = .ok (.getfield 295, 3) := dk_180 1 39 (dk_at dksX3_readsNumber_3 1 rfl rfl)
theorem dX3_readsNumber_76 : decode cX3_readsNumber 76 = .ok (.imul, 1) := dk_104 (dk_at dksX3_readsNumber_3 4 rfl rfl)
theorem dX3_readsNumber_77 : decode cX3_readsNumber 77 = .ok (.aload_n 0, 1) := dk_42 (dk_at dksX3_readsNumber_3 5 rfl rfl)
theorem dX3_readsNumber_78 : decode cX3_readsNumber 78 = .ok (.getfield 32, 3) := dk_180 0 32 (dk_at dksX3_readsNumber_3 6 rfl rfl)
theorem dX3_readsNumber_81 : decode cX3_readsNumber 81 = .ok (.aload_n 0, 1) := dk_42 (dk_at dksX3_readsNumber_3 9 rfl rfl)
theorem dX3_readsNumber_82 : decode cX3_readsNumber 82 = .ok (.getfield 289, 3) := dk_180 1 33 (dk_at dksX3_readsNumber_3 10 rfl rfl)
theorem dX3_readsNumber_85 : decode cX3_readsNumber 85 = .ok (.iaload, 1) := dk_46 (dk_at dksX3_readsNumber_3 13 rfl rfl)
theorem dX3_readsNumber_86 : decode cX3_readsNumber 86 = .ok (.iadd, 1) := dk_96 (dk_at dksX3_readsNumber_3 14 rfl rfl)
theorem dX3_readsNumber_87 : decode cX3_readsNumber 87 = .ok (.bipush 48, 2) := dk_16 48 (dk_at dksX3_readsNumber_3 15 rfl rfl)
theorem dX3_readsNumber_89 : decode cX3_readsNumber 89 = .ok (.isub, 1) := dk_100 (dk_at dksX3_readsNumber_3 17 rfl rfl)
theorem dX3_readsNumber_90 : decode cX3_readsNumber 90 = .ok (.iload_n 2, 1) := dk_28 (dk_at dksX3_readsNumber_3 18 rfl rfl)
theorem dX3_readsNumber_91 : decode cX3_readsNumber 91 = .ok (.if_icmp .gt 40, 3) := dk_163 0 40 (dk_at dksX3_readsNumber_3 19 rfl rfl)
theorem dX3_readsNumber_94 : decode cX3_readsNumber 94 = .ok (.aload_n 0, 1) := dk_42 (dk_at dksX3_readsNumber_3 22 rfl rfl)
theorem dX3_readsNumber_95 : decode cX3_readsNumber 95 = .ok (.bipush 10, 2) := dk_16 10 (dk_at dksX3_readsNumber_4 0 rfl rfl)
theorem dX3_readsNumber_97 : decode cX3_readsNumber 97 = .ok (.aload_n 0, 1) := dk_42 (dk_at dksX3_readsNumber_4 2 rfl rfl)
theorem dX3_readsNumber_98 : decode cX3_readsNumber 98 = .ok (.getfield 295, 3) := dk_180 1 39 (dk_at dksX3_readsNumber_4 3 rfl rfl)
theorem dX3_readsNumber_101 : decode cX3_readsNumber 101 = .ok (.imul, 1) := dk_104 (dk_at dksX3_readsNumber_4 6 rfl rfl)
theorem dX3_readsNumber_102 : decode cX3_readsNumber 102 = .ok (.aload_n 0, 1) := dk_42 (dk_at dksX3_readsNumber_4 7 rfl rfl)
theorem dX3_readsNumber_103 : decode cX3_readsNumber 103 = .ok (.getfield 32, 3) := dk_180 0 32 (dk_at dksX3_readsNumber_4 8 rfl rfl)
theorem dX3_readsNumber_106 : decode cX3_readsNumber 106 = .ok (.aload_n 0, 1) := dk_42 (dk_at dksX3_readsNumber_4 11 rfl rfl)
theorem dX3_readsNumber_107 : decode cX3_readsNumber 107 = .ok (.getfield 289, 3) := dk_180 1 33 (dk_at dksX3_readsNumber_4 12 rfl rfl)
theorem dX3_readsNumber_110 : decode cX3_readsNumber 110 = .ok (.iaload, 1) := dk_46 (dk_at dksX3_readsNumber_4 15 rfl rfl)
theorem dX3_readsNumber_111 : decode cX3_readsNumber 111 = .ok (.iadd, 1) := dk_96 (dk_at dksX3_readsNumber_4 16 rfl rfl)
theorem dX3_readsNumber_112 : decode cX3_readsNumber 112 = .ok (.bipush 48, 2) := dk_16 48 (dk_at dksX3_readsNumber_4 17 rfl rfl)
theorem dX3_readsNumber_114 : decode cX3_readsNumber 114 = .ok (.isub, 1) := dk_100 (dk_at dksX3_readsNumber_4 19 rfl rfl)
theorem dX3_readsNumber_115 : decode cX3_readsNumber 115 = .ok (.putfield 295, 3) := dk_181 1 39 (dk_at dksX3_readsNumber_4 20 rfl rfl)
theorem dX3_readsNumber_118 : decode cX3_readsNumber 118 = .ok (.aload_n 0, 1) := dk_42 (dk_at dksX3_readsNumber_4 23 rfl rfl)
theorem dX3_readsNumber_119 : decode cX3_readsNumber 119 = .ok (.dup, 1) := dk_89 (dk_at dksX3_readsNumber_5 0 rfl rfl)
theorem dX3_readsNumber_120 : decode cX3_readsNumber 120 = .ok (.getfield 289, 3) := dk_180 1 33 (dk_at dksX3_readsNumber_5 1 rfl rfl)
theorem dX3_readsNumber_123 : decode cX3_readsNumber 123 = .ok (.iconst 1, 1) := dk_4 (dk_at dksX3_readsNumber_5 4 rfl rfl)
theorem dX3_readsNumber_124 : decode cX3_readsNumber 124 = .ok (.iadd, 1) := dk_96 (dk_at dksX3_readsNumber_5 5 rfl rfl)
theorem dX3_readsNumber_125 : decode cX3_readsNumber 125 = .ok (.putfield 289, 3) := dk_181 1 33 (dk_at dksX3_readsNumber_5 6 rfl rfl)
theorem dX3_readsNumber_128 : decode cX3_readsNumber 128 = .ok (.goto (-95), 3) := dk_167 255 161 (dk_at dksX3_readsNumber_5 9 rfl rfl)
theorem dX3_readsNumber_131 : decode cX3_readsNumber 131 = .ok (.iconst 1, 1) := dk_4 (dk_at dksX3_readsNumber_5 12 rfl rfl)
theorem dX3_readsNumber_132 : decode cX3_readsNumber 132 = .ok (.ireturn, 1) := dk_172 (dk_at dksX3_readsNumber_5 13 rfl rfl)
abbrev cX3_accepts : ByteArray := prog_9_method_141_code
def yX3_accepts : MethodName := ⟨RX3, "accepts", "(II)Z"⟩
def dkwX3_accepts_2 : List UInt8 := [167, 0, 4, 3, 96, 181, 1, 33, 29, 172]
abbrev dktX3_accepts_2 : List UInt8 := dkwX3_accepts_2 ++ []
def dkwX3_accepts_1 : List UInt8 := [184, 0, 42, 153, 0, 7, 4, 167, 0, 4, 3, 62, 42, 89, 180, 1, 33, 29, 153, 0, 7, 4]
abbrev dktX3_accepts_1 : List UInt8 := dkwX3_accepts_1 ++ dktX3_accepts_2
def dkwX3_accepts_0 : List UInt8 := [42, 180, 1, 33, 42, 180, 1, 30, 162, 0, 24, 42, 180, 0, 32, 42, 180, 1, 33, 46, 27, 28]
abbrev dktX3_accepts_0 : List UInt8 := dkwX3_accepts_0 ++ dktX3_accepts_1
theorem dksX3_accepts_0 : cX3_accepts.data.toList.drop 0 = dktX3_accepts_0 := by decide +kernel
theorem dksX3_accepts_1 : cX3_accepts.data.toList.drop 22 = dktX3_accepts_1 := dk_seg dksX3_accepts_0 22 rfl rfl
theorem dksX3_accepts_2 : cX3_accepts.data.toList.drop 44 = dktX3_accepts_2 := dk_seg dksX3_accepts_1 22 rfl rfl
theorem dX3_accepts_0 : decode cX3_accepts 0 = .ok (.aload_n 0, 1) := dk_42 (dk_at dksX3_accepts_0 0 rfl rfl)
theorem dX3_accepts_1 : decode cX3_accepts 1 = .ok (.getfield 289, 3) := dk_180 1 33 (dk_at dksX3_accepts_0 1 rfl rfl)
theorem dX3_accepts_4 : decode cX3_accepts 4 = .ok (.aload_n 0, 1) := dk_42 (dk_at dksX3_accepts_0 4 rfl rfl)
theorem dX3_accepts_5 : decode cX3_accepts 5 = .ok (.getfield 286, 3) := dk_180 1 30 (dk_at dksX3_accepts_0 5 rfl rfl)
theorem dX3_accepts_8 : decode cX3_accepts 8 = .ok (.if_icmp .ge 24, 3) := dk_162 0 24 (dk_at dksX3_accepts_0 8 rfl rfl)
theorem dX3_accepts_11 : decode cX3_accepts 11 = .ok (.aload_n 0, 1) := dk_42 (dk_at dksX3_accepts_0 11 rfl rfl)
theorem dX3_accepts_12 : decode cX3_accepts 12 = .ok (.getfield 32, 3) := dk_180 0 32 (dk_at dksX3_accepts_0 12 rfl rfl)
theorem dX3_accepts_15 : decode cX3_accepts 15 = .ok (.aload_n 0, 1) := dk_42 (dk_at dksX3_accepts_0 15 rfl rfl)
theorem dX3_accepts_16 : decode cX3_accepts 16 = .ok (.getfield 289, 3) := dk_180 1 33 (dk_at dksX3_accepts_0 16 rfl rfl)
theorem dX3_accepts_19 : decode cX3_accepts 19 = .ok (.iaload, 1) := dk_46 (dk_at dksX3_accepts_0 19 rfl rfl)
theorem dX3_accepts_20 : decode cX3_accepts 20 = .ok (.iload_n 1, 1) := dk_27 (dk_at dksX3_accepts_0 20 rfl rfl)
theorem dX3_accepts_21 : decode cX3_accepts 21 = .ok (.iload_n 2, 1) := dk_28 (dk_at dksX3_accepts_0 21 rfl rfl)
theorem dX3_accepts_22 : decode cX3_accepts 22 = .ok (.invokestatic 42, 3) := dk_184 0 42 (dk_at dksX3_accepts_1 0 rfl rfl)
theorem dX3_accepts_25 : decode cX3_accepts 25 = .ok (.ifCond .eq 7, 3) := dk_153 0 7 (dk_at dksX3_accepts_1 3 rfl rfl)
theorem dX3_accepts_28 : decode cX3_accepts 28 = .ok (.iconst 1, 1) := dk_4 (dk_at dksX3_accepts_1 6 rfl rfl)
theorem dX3_accepts_29 : decode cX3_accepts 29 = .ok (.goto 4, 3) := dk_167 0 4 (dk_at dksX3_accepts_1 7 rfl rfl)
theorem dX3_accepts_32 : decode cX3_accepts 32 = .ok (.iconst 0, 1) := dk_3 (dk_at dksX3_accepts_1 10 rfl rfl)
theorem dX3_accepts_33 : decode cX3_accepts 33 = .ok (.istore_n 3, 1) := dk_62 (dk_at dksX3_accepts_1 11 rfl rfl)
theorem dX3_accepts_34 : decode cX3_accepts 34 = .ok (.aload_n 0, 1) := dk_42 (dk_at dksX3_accepts_1 12 rfl rfl)
theorem dX3_accepts_35 : decode cX3_accepts 35 = .ok (.dup, 1) := dk_89 (dk_at dksX3_accepts_1 13 rfl rfl)
theorem dX3_accepts_36 : decode cX3_accepts 36 = .ok (.getfield 289, 3) := dk_180 1 33 (dk_at dksX3_accepts_1 14 rfl rfl)
theorem dX3_accepts_39 : decode cX3_accepts 39 = .ok (.iload_n 3, 1) := dk_29 (dk_at dksX3_accepts_1 17 rfl rfl)
theorem dX3_accepts_40 : decode cX3_accepts 40 = .ok (.ifCond .eq 7, 3) := dk_153 0 7 (dk_at dksX3_accepts_1 18 rfl rfl)
theorem dX3_accepts_43 : decode cX3_accepts 43 = .ok (.iconst 1, 1) := dk_4 (dk_at dksX3_accepts_1 21 rfl rfl)
theorem dX3_accepts_44 : decode cX3_accepts 44 = .ok (.goto 4, 3) := dk_167 0 4 (dk_at dksX3_accepts_2 0 rfl rfl)
theorem dX3_accepts_47 : decode cX3_accepts 47 = .ok (.iconst 0, 1) := dk_3 (dk_at dksX3_accepts_2 3 rfl rfl)
theorem dX3_accepts_48 : decode cX3_accepts 48 = .ok (.iadd, 1) := dk_96 (dk_at dksX3_accepts_2 4 rfl rfl)
theorem dX3_accepts_49 : decode cX3_accepts 49 = .ok (.putfield 289, 3) := dk_181 1 33 (dk_at dksX3_accepts_2 5 rfl rfl)
theorem dX3_accepts_52 : decode cX3_accepts 52 = .ok (.iload_n 3, 1) := dk_29 (dk_at dksX3_accepts_2 8 rfl rfl)
theorem dX3_accepts_53 : decode cX3_accepts 53 = .ok (.ireturn, 1) := dk_172 (dk_at dksX3_accepts_2 9 rfl rfl)
abbrev cX3_readsOwl : ByteArray := prog_9_method_143_code
def yX3_readsOwl : MethodName := ⟨RX3, "readsOwl", "()Z"⟩
def dkwX3_readsOwl_2 : List UInt8 := [180, 1, 45, 2, 159, 0, 7, 4, 167, 0, 4, 3, 172]
abbrev dktX3_readsOwl_2 : List UInt8 := dkwX3_readsOwl_2 ++ []
def dkwX3_readsOwl_1 : List UInt8 := [3, 167, 0, 19, 42, 16, 109, 16, 109, 182, 1, 36, 153, 0, 7, 4, 167, 0, 4, 2, 181, 1, 45, 42]
abbrev dktX3_readsOwl_1 : List UInt8 := dkwX3_readsOwl_1 ++ dktX3_readsOwl_2
def dkwX3_readsOwl_0 : List UInt8 := [42, 3, 16, 9, 182, 1, 42, 154, 0, 5, 3, 172, 42, 42, 16, 102, 16, 102, 182, 1, 36, 153, 0, 7]
abbrev dktX3_readsOwl_0 : List UInt8 := dkwX3_readsOwl_0 ++ dktX3_readsOwl_1
theorem dksX3_readsOwl_0 : cX3_readsOwl.data.toList.drop 0 = dktX3_readsOwl_0 := by decide +kernel
theorem dksX3_readsOwl_1 : cX3_readsOwl.data.toList.drop 24 = dktX3_readsOwl_1 := dk_seg dksX3_readsOwl_0 24 rfl rfl
theorem dksX3_readsOwl_2 : cX3_readsOwl.data.toList.drop 48 = dktX3_readsOwl_2 := dk_seg dksX3_readsOwl_1 24 rfl rfl
theorem dX3_readsOwl_0 : decode cX3_readsOwl 0 = .ok (.aload_n 0, 1) := dk_42 (dk_at dksX3_readsOwl_0 0 rfl rfl)
theorem dX3_readsOwl_1 : decode cX3_readsOwl 1 = .ok (.iconst 0, 1) := dk_3 (dk_at dksX3_readsOwl_0 1 rfl rfl)
theorem dX3_readsOwl_2 : decode cX3_readsOwl 2 = .ok (.bipush 9, 2) := dk_16 9 (dk_at dksX3_readsOwl_0 2 rfl rfl)
theorem dX3_readsOwl_4 : decode cX3_readsOwl 4 = .ok (.invokevirtual 298, 3) := dk_182 1 42 (dk_at dksX3_readsOwl_0 4 rfl rfl)
theorem dX3_readsOwl_7 : decode cX3_readsOwl 7 = .ok (.ifCond .ne 5, 3) := dk_154 0 5 (dk_at dksX3_readsOwl_0 7 rfl rfl)
theorem dX3_readsOwl_10 : decode cX3_readsOwl 10 = .ok (.iconst 0, 1) := dk_3 (dk_at dksX3_readsOwl_0 10 rfl rfl)
theorem dX3_readsOwl_11 : decode cX3_readsOwl 11 = .ok (.ireturn, 1) := dk_172 (dk_at dksX3_readsOwl_0 11 rfl rfl)
theorem dX3_readsOwl_12 : decode cX3_readsOwl 12 = .ok (.aload_n 0, 1) := dk_42 (dk_at dksX3_readsOwl_0 12 rfl rfl)
theorem dX3_readsOwl_13 : decode cX3_readsOwl 13 = .ok (.aload_n 0, 1) := dk_42 (dk_at dksX3_readsOwl_0 13 rfl rfl)
theorem dX3_readsOwl_14 : decode cX3_readsOwl 14 = .ok (.bipush 102, 2) := dk_16 102 (dk_at dksX3_readsOwl_0 14 rfl rfl)
theorem dX3_readsOwl_16 : decode cX3_readsOwl 16 = .ok (.bipush 102, 2) := dk_16 102 (dk_at dksX3_readsOwl_0 16 rfl rfl)
theorem dX3_readsOwl_18 : decode cX3_readsOwl 18 = .ok (.invokevirtual 292, 3) := dk_182 1 36 (dk_at dksX3_readsOwl_0 18 rfl rfl)
theorem dX3_readsOwl_21 : decode cX3_readsOwl 21 = .ok (.ifCond .eq 7, 3) := dk_153 0 7 (dk_at dksX3_readsOwl_0 21 rfl rfl)
theorem dX3_readsOwl_24 : decode cX3_readsOwl 24 = .ok (.iconst 0, 1) := dk_3 (dk_at dksX3_readsOwl_1 0 rfl rfl)
theorem dX3_readsOwl_25 : decode cX3_readsOwl 25 = .ok (.goto 19, 3) := dk_167 0 19 (dk_at dksX3_readsOwl_1 1 rfl rfl)
theorem dX3_readsOwl_28 : decode cX3_readsOwl 28 = .ok (.aload_n 0, 1) := dk_42 (dk_at dksX3_readsOwl_1 4 rfl rfl)
theorem dX3_readsOwl_29 : decode cX3_readsOwl 29 = .ok (.bipush 109, 2) := dk_16 109 (dk_at dksX3_readsOwl_1 5 rfl rfl)
theorem dX3_readsOwl_31 : decode cX3_readsOwl 31 = .ok (.bipush 109, 2) := dk_16 109 (dk_at dksX3_readsOwl_1 7 rfl rfl)
theorem dX3_readsOwl_33 : decode cX3_readsOwl 33 = .ok (.invokevirtual 292, 3) := dk_182 1 36 (dk_at dksX3_readsOwl_1 9 rfl rfl)
theorem dX3_readsOwl_36 : decode cX3_readsOwl 36 = .ok (.ifCond .eq 7, 3) := dk_153 0 7 (dk_at dksX3_readsOwl_1 12 rfl rfl)
theorem dX3_readsOwl_39 : decode cX3_readsOwl 39 = .ok (.iconst 1, 1) := dk_4 (dk_at dksX3_readsOwl_1 15 rfl rfl)
theorem dX3_readsOwl_40 : decode cX3_readsOwl 40 = .ok (.goto 4, 3) := dk_167 0 4 (dk_at dksX3_readsOwl_1 16 rfl rfl)
theorem dX3_readsOwl_43 : decode cX3_readsOwl 43 = .ok (.iconst (-1), 1) := dk_2 (dk_at dksX3_readsOwl_1 19 rfl rfl)
theorem dX3_readsOwl_44 : decode cX3_readsOwl 44 = .ok (.putfield 301, 3) := dk_181 1 45 (dk_at dksX3_readsOwl_1 20 rfl rfl)
theorem dX3_readsOwl_47 : decode cX3_readsOwl 47 = .ok (.aload_n 0, 1) := dk_42 (dk_at dksX3_readsOwl_1 23 rfl rfl)
theorem dX3_readsOwl_48 : decode cX3_readsOwl 48 = .ok (.getfield 301, 3) := dk_180 1 45 (dk_at dksX3_readsOwl_2 0 rfl rfl)
theorem dX3_readsOwl_51 : decode cX3_readsOwl 51 = .ok (.iconst (-1), 1) := dk_2 (dk_at dksX3_readsOwl_2 3 rfl rfl)
theorem dX3_readsOwl_52 : decode cX3_readsOwl 52 = .ok (.if_icmp .eq 7, 3) := dk_159 0 7 (dk_at dksX3_readsOwl_2 4 rfl rfl)
theorem dX3_readsOwl_55 : decode cX3_readsOwl 55 = .ok (.iconst 1, 1) := dk_4 (dk_at dksX3_readsOwl_2 7 rfl rfl)
theorem dX3_readsOwl_56 : decode cX3_readsOwl 56 = .ok (.goto 4, 3) := dk_167 0 4 (dk_at dksX3_readsOwl_2 8 rfl rfl)
theorem dX3_readsOwl_59 : decode cX3_readsOwl 59 = .ok (.iconst 0, 1) := dk_3 (dk_at dksX3_readsOwl_2 11 rfl rfl)
theorem dX3_readsOwl_60 : decode cX3_readsOwl 60 = .ok (.ireturn, 1) := dk_172 (dk_at dksX3_readsOwl_2 12 rfl rfl)
abbrev cX3_doWorks : ByteArray := prog_9_method_150_code
def yX3_doWorks : MethodName := ⟨RX3, "doWorks", "()I"⟩
def dkwX3_doWorks_4 : List UInt8 := [172]
abbrev dktX3_doWorks_4 : List UInt8 := dkwX3_doWorks_4 ++ []
def dkwX3_doWorks_3 : List UInt8 := [182, 1, 64, 61, 28, 153, 255, 220, 42, 182, 1, 67, 132, 1, 1, 167, 255, 210, 42, 3, 181, 1, 30, 27]
abbrev dktX3_doWorks_3 : List UInt8 := dkwX3_doWorks_3 ++ dktX3_doWorks_4
def dkwX3_doWorks_2 : List UInt8 := [180, 1, 30, 162, 0, 37, 42, 182, 1, 55, 87, 42, 89, 180, 1, 33, 4, 96, 181, 1, 33, 42]
abbrev dktX3_doWorks_2 : List UInt8 := dkwX3_doWorks_2 ++ dktX3_doWorks_3
def dkwX3_doWorks_1 : List UInt8 := [3, 172, 42, 182, 0, 79, 3, 60, 42, 3, 181, 1, 33, 4, 61, 28, 153, 0, 48, 42, 180, 1, 33, 42]
abbrev dktX3_doWorks_1 : List UInt8 := dkwX3_doWorks_1 ++ dktX3_doWorks_2
def dkwX3_doWorks_0 : List UInt8 := [42, 42, 182, 1, 58, 2, 160, 0, 7, 3, 167, 0, 4, 4, 181, 0, 35, 42, 180, 0, 35, 158, 0, 5]
abbrev dktX3_doWorks_0 : List UInt8 := dkwX3_doWorks_0 ++ dktX3_doWorks_1
theorem dksX3_doWorks_0 : cX3_doWorks.data.toList.drop 0 = dktX3_doWorks_0 := by decide +kernel
theorem dksX3_doWorks_1 : cX3_doWorks.data.toList.drop 24 = dktX3_doWorks_1 := dk_seg dksX3_doWorks_0 24 rfl rfl
theorem dksX3_doWorks_2 : cX3_doWorks.data.toList.drop 48 = dktX3_doWorks_2 := dk_seg dksX3_doWorks_1 24 rfl rfl
theorem dksX3_doWorks_3 : cX3_doWorks.data.toList.drop 70 = dktX3_doWorks_3 := dk_seg dksX3_doWorks_2 22 rfl rfl
theorem dksX3_doWorks_4 : cX3_doWorks.data.toList.drop 94 = dktX3_doWorks_4 := dk_seg dksX3_doWorks_3 24 rfl rfl
theorem dX3_doWorks_0 : decode cX3_doWorks 0 = .ok (.aload_n 0, 1) := dk_42 (dk_at dksX3_doWorks_0 0 rfl rfl)
theorem dX3_doWorks_1 : decode cX3_doWorks 1 = .ok (.aload_n 0, 1) := dk_42 (dk_at dksX3_doWorks_0 1 rfl rfl)
theorem dX3_doWorks_2 : decode cX3_doWorks 2 = .ok (.invokevirtual 314, 3) := dk_182 1 58 (dk_at dksX3_doWorks_0 2 rfl rfl)
theorem dX3_doWorks_5 : decode cX3_doWorks 5 = .ok (.iconst (-1), 1) := dk_2 (dk_at dksX3_doWorks_0 5 rfl rfl)
theorem dX3_doWorks_6 : decode cX3_doWorks 6 = .ok (.if_icmp .ne 7, 3) := dk_160 0 7 (dk_at dksX3_doWorks_0 6 rfl rfl)
theorem dX3_doWorks_9 : decode cX3_doWorks 9 = .ok (.iconst 0, 1) := dk_3 (dk_at dksX3_doWorks_0 9 rfl rfl)
theorem dX3_doWorks_10 : decode cX3_doWorks 10 = .ok (.goto 4, 3) := dk_167 0 4 (dk_at dksX3_doWorks_0 10 rfl rfl)
theorem dX3_doWorks_13 : decode cX3_doWorks 13 = .ok (.iconst 1, 1) := dk_4 (dk_at dksX3_doWorks_0 13 rfl rfl)
theorem dX3_doWorks_14 : decode cX3_doWorks 14 = .ok (.putfield 35, 3) := dk_181 0 35 (dk_at dksX3_doWorks_0 14 rfl rfl)
theorem dX3_doWorks_17 : decode cX3_doWorks 17 = .ok (.aload_n 0, 1) := dk_42 (dk_at dksX3_doWorks_0 17 rfl rfl)
theorem dX3_doWorks_18 : decode cX3_doWorks 18 = .ok (.getfield 35, 3) := dk_180 0 35 (dk_at dksX3_doWorks_0 18 rfl rfl)
theorem dX3_doWorks_21 : decode cX3_doWorks 21 = .ok (.ifCond .le 5, 3) := dk_158 0 5 (dk_at dksX3_doWorks_0 21 rfl rfl)
theorem dX3_doWorks_24 : decode cX3_doWorks 24 = .ok (.iconst 0, 1) := dk_3 (dk_at dksX3_doWorks_1 0 rfl rfl)
theorem dX3_doWorks_25 : decode cX3_doWorks 25 = .ok (.ireturn, 1) := dk_172 (dk_at dksX3_doWorks_1 1 rfl rfl)
theorem dX3_doWorks_26 : decode cX3_doWorks 26 = .ok (.aload_n 0, 1) := dk_42 (dk_at dksX3_doWorks_1 2 rfl rfl)
theorem dX3_doWorks_27 : decode cX3_doWorks 27 = .ok (.invokevirtual 79, 3) := dk_182 0 79 (dk_at dksX3_doWorks_1 3 rfl rfl)
theorem dX3_doWorks_30 : decode cX3_doWorks 30 = .ok (.iconst 0, 1) := dk_3 (dk_at dksX3_doWorks_1 6 rfl rfl)
theorem dX3_doWorks_31 : decode cX3_doWorks 31 = .ok (.istore_n 1, 1) := dk_60 (dk_at dksX3_doWorks_1 7 rfl rfl)
theorem dX3_doWorks_32 : decode cX3_doWorks 32 = .ok (.aload_n 0, 1) := dk_42 (dk_at dksX3_doWorks_1 8 rfl rfl)
theorem dX3_doWorks_33 : decode cX3_doWorks 33 = .ok (.iconst 0, 1) := dk_3 (dk_at dksX3_doWorks_1 9 rfl rfl)
theorem dX3_doWorks_34 : decode cX3_doWorks 34 = .ok (.putfield 289, 3) := dk_181 1 33 (dk_at dksX3_doWorks_1 10 rfl rfl)
theorem dX3_doWorks_37 : decode cX3_doWorks 37 = .ok (.iconst 1, 1) := dk_4 (dk_at dksX3_doWorks_1 13 rfl rfl)
theorem dX3_doWorks_38 : decode cX3_doWorks 38 = .ok (.istore_n 2, 1) := dk_61 (dk_at dksX3_doWorks_1 14 rfl rfl)
theorem dX3_doWorks_39 : decode cX3_doWorks 39 = .ok (.iload_n 2, 1) := dk_28 (dk_at dksX3_doWorks_1 15 rfl rfl)
theorem dX3_doWorks_40 : decode cX3_doWorks 40 = .ok (.ifCond .eq 48, 3) := dk_153 0 48 (dk_at dksX3_doWorks_1 16 rfl rfl)
theorem dX3_doWorks_43 : decode cX3_doWorks 43 = .ok (.aload_n 0, 1) := dk_42 (dk_at dksX3_doWorks_1 19 rfl rfl)
theorem dX3_doWorks_44 : decode cX3_doWorks 44 = .ok (.getfield 289, 3) := dk_180 1 33 (dk_at dksX3_doWorks_1 20 rfl rfl)
theorem dX3_doWorks_47 : decode cX3_doWorks 47 = .ok (.aload_n 0, 1) := dk_42 (dk_at dksX3_doWorks_1 23 rfl rfl)
theorem dX3_doWorks_48 : decode cX3_doWorks 48 = .ok (.getfield 286, 3) := dk_180 1 30 (dk_at dksX3_doWorks_2 0 rfl rfl)
theorem dX3_doWorks_51 : decode cX3_doWorks 51 = .ok (.if_icmp .ge 37, 3) := dk_162 0 37 (dk_at dksX3_doWorks_2 3 rfl rfl)
theorem dX3_doWorks_54 : decode cX3_doWorks 54 = .ok (.aload_n 0, 1) := dk_42 (dk_at dksX3_doWorks_2 6 rfl rfl)
theorem dX3_doWorks_55 : decode cX3_doWorks 55 = .ok (.invokevirtual 311, 3) := dk_182 1 55 (dk_at dksX3_doWorks_2 7 rfl rfl)
theorem dX3_doWorks_58 : decode cX3_doWorks 58 = .ok (.pop, 1) := dk_87 (dk_at dksX3_doWorks_2 10 rfl rfl)
theorem dX3_doWorks_59 : decode cX3_doWorks 59 = .ok (.aload_n 0, 1) := dk_42 (dk_at dksX3_doWorks_2 11 rfl rfl)
theorem dX3_doWorks_60 : decode cX3_doWorks 60 = .ok (.dup, 1) := dk_89 (dk_at dksX3_doWorks_2 12 rfl rfl)
theorem dX3_doWorks_61 : decode cX3_doWorks 61 = .ok (.getfield 289, 3) := dk_180 1 33 (dk_at dksX3_doWorks_2 13 rfl rfl)
theorem dX3_doWorks_64 : decode cX3_doWorks 64 = .ok (.iconst 1, 1) := dk_4 (dk_at dksX3_doWorks_2 16 rfl rfl)
theorem dX3_doWorks_65 : decode cX3_doWorks 65 = .ok (.iadd, 1) := dk_96 (dk_at dksX3_doWorks_2 17 rfl rfl)
theorem dX3_doWorks_66 : decode cX3_doWorks 66 = .ok (.putfield 289, 3) := dk_181 1 33 (dk_at dksX3_doWorks_2 18 rfl rfl)
theorem dX3_doWorks_69 : decode cX3_doWorks 69 = .ok (.aload_n 0, 1) := dk_42 (dk_at dksX3_doWorks_2 21 rfl rfl)
theorem dX3_doWorks_70 : decode cX3_doWorks 70 = .ok (.invokevirtual 320, 3) := dk_182 1 64 (dk_at dksX3_doWorks_3 0 rfl rfl)
theorem dX3_doWorks_73 : decode cX3_doWorks 73 = .ok (.istore_n 2, 1) := dk_61 (dk_at dksX3_doWorks_3 3 rfl rfl)
theorem dX3_doWorks_74 : decode cX3_doWorks 74 = .ok (.iload_n 2, 1) := dk_28 (dk_at dksX3_doWorks_3 4 rfl rfl)
theorem dX3_doWorks_75 : decode cX3_doWorks 75 = .ok (.ifCond .eq (-36), 3) := dk_153 255 220 (dk_at dksX3_doWorks_3 5 rfl rfl)
theorem dX3_doWorks_78 : decode cX3_doWorks 78 = .ok (.aload_n 0, 1) := dk_42 (dk_at dksX3_doWorks_3 8 rfl rfl)
theorem dX3_doWorks_79 : decode cX3_doWorks 79 = .ok (.invokevirtual 323, 3) := dk_182 1 67 (dk_at dksX3_doWorks_3 9 rfl rfl)
theorem dX3_doWorks_82 : decode cX3_doWorks 82 = .ok (.iinc 1 1, 3) := dk_132 1 1 (dk_at dksX3_doWorks_3 12 rfl rfl)
theorem dX3_doWorks_85 : decode cX3_doWorks 85 = .ok (.goto (-46), 3) := dk_167 255 210 (dk_at dksX3_doWorks_3 15 rfl rfl)
theorem dX3_doWorks_88 : decode cX3_doWorks 88 = .ok (.aload_n 0, 1) := dk_42 (dk_at dksX3_doWorks_3 18 rfl rfl)
theorem dX3_doWorks_89 : decode cX3_doWorks 89 = .ok (.iconst 0, 1) := dk_3 (dk_at dksX3_doWorks_3 19 rfl rfl)
theorem dX3_doWorks_90 : decode cX3_doWorks 90 = .ok (.putfield 286, 3) := dk_181 1 30 (dk_at dksX3_doWorks_3 20 rfl rfl)
theorem dX3_doWorks_93 : decode cX3_doWorks 93 = .ok (.iload_n 1, 1) := dk_27 (dk_at dksX3_doWorks_3 23 rfl rfl)
theorem dX3_doWorks_94 : decode cX3_doWorks 94 = .ok (.ireturn, 1) := dk_172 (dk_at dksX3_doWorks_4 0 rfl rfl)
abbrev cX3_canDo : ByteArray := prog_9_method_148_code
def yX3_canDo : MethodName := ⟨RX3, "canDo", "()Z"⟩
def dkwX3_canDo_5 : List UInt8 := [182, 0, 76, 172]
abbrev dktX3_canDo_5 : List UInt8 := dkwX3_canDo_5 ++ []
def dkwX3_canDo_4 : List UInt8 := [182, 0, 136, 153, 0, 7, 4, 167, 0, 19, 3, 167, 0, 15, 42, 42, 180, 1, 39, 42, 182, 1, 61]
abbrev dktX3_canDo_4 : List UInt8 := dkwX3_canDo_4 ++ dktX3_canDo_5
def dkwX3_canDo_3 : List UInt8 := [160, 0, 37, 42, 42, 180, 1, 39, 182, 0, 123, 153, 0, 22, 42, 42, 180, 1, 39, 42, 180, 1, 45]
abbrev dktX3_canDo_3 : List UInt8 := dkwX3_canDo_3 ++ dktX3_canDo_4
def dkwX3_canDo_2 : List UInt8 := [180, 1, 39, 182, 0, 117, 154, 0, 7, 4, 167, 0, 62, 3, 167, 0, 58, 42, 180, 1, 48, 16, 111]
abbrev dktX3_canDo_2 : List UInt8 := dkwX3_canDo_2 ++ dktX3_canDo_3
def dkwX3_canDo_1 : List UInt8 := [163, 0, 7, 4, 167, 0, 90, 3, 167, 0, 86, 42, 180, 1, 48, 16, 98, 160, 0, 22, 42, 42]
abbrev dktX3_canDo_1 : List UInt8 := dkwX3_canDo_1 ++ dktX3_canDo_2
def dkwX3_canDo_0 : List UInt8 := [42, 180, 1, 48, 16, 121, 160, 0, 28, 42, 180, 0, 7, 3, 46, 42, 180, 1, 39, 96, 17, 3, 231]
abbrev dktX3_canDo_0 : List UInt8 := dkwX3_canDo_0 ++ dktX3_canDo_1
theorem dksX3_canDo_0 : cX3_canDo.data.toList.drop 0 = dktX3_canDo_0 := by decide +kernel
theorem dksX3_canDo_1 : cX3_canDo.data.toList.drop 23 = dktX3_canDo_1 := dk_seg dksX3_canDo_0 23 rfl rfl
theorem dksX3_canDo_2 : cX3_canDo.data.toList.drop 45 = dktX3_canDo_2 := dk_seg dksX3_canDo_1 22 rfl rfl
theorem dksX3_canDo_3 : cX3_canDo.data.toList.drop 68 = dktX3_canDo_3 := dk_seg dksX3_canDo_2 23 rfl rfl
theorem dksX3_canDo_4 : cX3_canDo.data.toList.drop 91 = dktX3_canDo_4 := dk_seg dksX3_canDo_3 23 rfl rfl
theorem dksX3_canDo_5 : cX3_canDo.data.toList.drop 114 = dktX3_canDo_5 := dk_seg dksX3_canDo_4 23 rfl rfl
theorem dX3_canDo_0 : decode cX3_canDo 0 = .ok (.aload_n 0, 1) := dk_42 (dk_at dksX3_canDo_0 0 rfl rfl)
theorem dX3_canDo_1 : decode cX3_canDo 1 = .ok (.getfield 304, 3) := dk_180 1 48 (dk_at dksX3_canDo_0 1 rfl rfl)
theorem dX3_canDo_4 : decode cX3_canDo 4 = .ok (.bipush 121, 2) := dk_16 121 (dk_at dksX3_canDo_0 4 rfl rfl)
theorem dX3_canDo_6 : decode cX3_canDo 6 = .ok (.if_icmp .ne 28, 3) := dk_160 0 28 (dk_at dksX3_canDo_0 6 rfl rfl)
theorem dX3_canDo_9 : decode cX3_canDo 9 = .ok (.aload_n 0, 1) := dk_42 (dk_at dksX3_canDo_0 9 rfl rfl)
theorem dX3_canDo_10 : decode cX3_canDo 10 = .ok (.getfield 7, 3) := dk_180 0 7 (dk_at dksX3_canDo_0 10 rfl rfl)
theorem dX3_canDo_13 : decode cX3_canDo 13 = .ok (.iconst 0, 1) := dk_3 (dk_at dksX3_canDo_0 13 rfl rfl)
theorem dX3_canDo_14 : decode cX3_canDo 14 = .ok (.iaload, 1) := dk_46 (dk_at dksX3_canDo_0 14 rfl rfl)
theorem dX3_canDo_15 : decode cX3_canDo 15 = .ok (.aload_n 0, 1) := dk_42 (dk_at dksX3_canDo_0 15 rfl rfl)
theorem dX3_canDo_16 : decode cX3_canDo 16 = .ok (.getfield 295, 3) := dk_180 1 39 (dk_at dksX3_canDo_0 16 rfl rfl)
theorem dX3_canDo_19 : decode cX3_canDo 19 = .ok (.iadd, 1) := dk_96 (dk_at dksX3_canDo_0 19 rfl rfl)
theorem dX3_canDo_20 : decode cX3_canDo 20 = .ok (.sipush 999, 3) := dk_17 3 231 (dk_at dksX3_canDo_0 20 rfl rfl)
theorem dX3_canDo_23 : decode cX3_canDo 23 = .ok (.if_icmp .gt 7, 3) := dk_163 0 7 (dk_at dksX3_canDo_1 0 rfl rfl)
theorem dX3_canDo_26 : decode cX3_canDo 26 = .ok (.iconst 1, 1) := dk_4 (dk_at dksX3_canDo_1 3 rfl rfl)
theorem dX3_canDo_27 : decode cX3_canDo 27 = .ok (.goto 90, 3) := dk_167 0 90 (dk_at dksX3_canDo_1 4 rfl rfl)
theorem dX3_canDo_30 : decode cX3_canDo 30 = .ok (.iconst 0, 1) := dk_3 (dk_at dksX3_canDo_1 7 rfl rfl)
theorem dX3_canDo_31 : decode cX3_canDo 31 = .ok (.goto 86, 3) := dk_167 0 86 (dk_at dksX3_canDo_1 8 rfl rfl)
theorem dX3_canDo_34 : decode cX3_canDo 34 = .ok (.aload_n 0, 1) := dk_42 (dk_at dksX3_canDo_1 11 rfl rfl)
theorem dX3_canDo_35 : decode cX3_canDo 35 = .ok (.getfield 304, 3) := dk_180 1 48 (dk_at dksX3_canDo_1 12 rfl rfl)
theorem dX3_canDo_38 : decode cX3_canDo 38 = .ok (.bipush 98, 2) := dk_16 98 (dk_at dksX3_canDo_1 15 rfl rfl)
theorem dX3_canDo_40 : decode cX3_canDo 40 = .ok (.if_icmp .ne 22, 3) := dk_160 0 22 (dk_at dksX3_canDo_1 17 rfl rfl)
theorem dX3_canDo_43 : decode cX3_canDo 43 = .ok (.aload_n 0, 1) := dk_42 (dk_at dksX3_canDo_1 20 rfl rfl)
theorem dX3_canDo_44 : decode cX3_canDo 44 = .ok (.aload_n 0, 1) := dk_42 (dk_at dksX3_canDo_1 21 rfl rfl)
theorem dX3_canDo_45 : decode cX3_canDo 45 = .ok (.getfield 295, 3) := dk_180 1 39 (dk_at dksX3_canDo_2 0 rfl rfl)
theorem dX3_canDo_48 : decode cX3_canDo 48 = .ok (.invokevirtual 117, 3) := dk_182 0 117 (dk_at dksX3_canDo_2 3 rfl rfl)
theorem dX3_canDo_51 : decode cX3_canDo 51 = .ok (.ifCond .ne 7, 3) := dk_154 0 7 (dk_at dksX3_canDo_2 6 rfl rfl)
theorem dX3_canDo_54 : decode cX3_canDo 54 = .ok (.iconst 1, 1) := dk_4 (dk_at dksX3_canDo_2 9 rfl rfl)
theorem dX3_canDo_55 : decode cX3_canDo 55 = .ok (.goto 62, 3) := dk_167 0 62 (dk_at dksX3_canDo_2 10 rfl rfl)
theorem dX3_canDo_58 : decode cX3_canDo 58 = .ok (.iconst 0, 1) := dk_3 (dk_at dksX3_canDo_2 13 rfl rfl)
theorem dX3_canDo_59 : decode cX3_canDo 59 = .ok (.goto 58, 3) := dk_167 0 58 (dk_at dksX3_canDo_2 14 rfl rfl)
theorem dX3_canDo_62 : decode cX3_canDo 62 = .ok (.aload_n 0, 1) := dk_42 (dk_at dksX3_canDo_2 17 rfl rfl)
theorem dX3_canDo_63 : decode cX3_canDo 63 = .ok (.getfield 304, 3) := dk_180 1 48 (dk_at dksX3_canDo_2 18 rfl rfl)
theorem dX3_canDo_66 : decode cX3_canDo 66 = .ok (.bipush 111, 2) := dk_16 111 (dk_at dksX3_canDo_2 21 rfl rfl)
theorem dX3_canDo_68 : decode cX3_canDo 68 = .ok (.if_icmp .ne 37, 3) := dk_160 0 37 (dk_at dksX3_canDo_3 0 rfl rfl)
theorem dX3_canDo_71 : decode cX3_canDo 71 = .ok (.aload_n 0, 1) := dk_42 (dk_at dksX3_canDo_3 3 rfl rfl)
theorem dX3_canDo_72 : decode cX3_canDo 72 = .ok (.aload_n 0, 1) := dk_42 (dk_at dksX3_canDo_3 4 rfl rfl)
theorem dX3_canDo_73 : decode cX3_canDo 73 = .ok (.getfield 295, 3) := dk_180 1 39 (dk_at dksX3_canDo_3 5 rfl rfl)
theorem dX3_canDo_76 : decode cX3_canDo 76 = .ok (.invokevirtual 123, 3) := dk_182 0 123 (dk_at dksX3_canDo_3 8 rfl rfl)
theorem dX3_canDo_79 : decode cX3_canDo 79 = .ok (.ifCond .eq 22, 3) := dk_153 0 22 (dk_at dksX3_canDo_3 11 rfl rfl)
theorem dX3_canDo_82 : decode cX3_canDo 82 = .ok (.aload_n 0, 1) := dk_42 (dk_at dksX3_canDo_3 14 rfl rfl)
theorem dX3_canDo_83 : decode cX3_canDo 83 = .ok (.aload_n 0, 1) := dk_42 (dk_at dksX3_canDo_3 15 rfl rfl)
theorem dX3_canDo_84 : decode cX3_canDo 84 = .ok (.getfield 295, 3) := dk_180 1 39 (dk_at dksX3_canDo_3 16 rfl rfl)
theorem dX3_canDo_87 : decode cX3_canDo 87 = .ok (.aload_n 0, 1) := dk_42 (dk_at dksX3_canDo_3 19 rfl rfl)
theorem dX3_canDo_88 : decode cX3_canDo 88 = .ok (.getfield 301, 3) := dk_180 1 45 (dk_at dksX3_canDo_3 20 rfl rfl)
theorem dX3_canDo_91 : decode cX3_canDo 91 = .ok (.invokevirtual 136, 3) := dk_182 0 136 (dk_at dksX3_canDo_4 0 rfl rfl)
theorem dX3_canDo_94 : decode cX3_canDo 94 = .ok (.ifCond .eq 7, 3) := dk_153 0 7 (dk_at dksX3_canDo_4 3 rfl rfl)
theorem dX3_canDo_97 : decode cX3_canDo 97 = .ok (.iconst 1, 1) := dk_4 (dk_at dksX3_canDo_4 6 rfl rfl)
theorem dX3_canDo_98 : decode cX3_canDo 98 = .ok (.goto 19, 3) := dk_167 0 19 (dk_at dksX3_canDo_4 7 rfl rfl)
theorem dX3_canDo_101 : decode cX3_canDo 101 = .ok (.iconst 0, 1) := dk_3 (dk_at dksX3_canDo_4 10 rfl rfl)
theorem dX3_canDo_102 : decode cX3_canDo 102 = .ok (.goto 15, 3) := dk_167 0 15 (dk_at dksX3_canDo_4 11 rfl rfl)
theorem dX3_canDo_105 : decode cX3_canDo 105 = .ok (.aload_n 0, 1) := dk_42 (dk_at dksX3_canDo_4 14 rfl rfl)
theorem dX3_canDo_106 : decode cX3_canDo 106 = .ok (.aload_n 0, 1) := dk_42 (dk_at dksX3_canDo_4 15 rfl rfl)
theorem dX3_canDo_107 : decode cX3_canDo 107 = .ok (.getfield 295, 3) := dk_180 1 39 (dk_at dksX3_canDo_4 16 rfl rfl)
theorem dX3_canDo_110 : decode cX3_canDo 110 = .ok (.aload_n 0, 1) := dk_42 (dk_at dksX3_canDo_4 19 rfl rfl)
theorem dX3_canDo_111 : decode cX3_canDo 111 = .ok (.invokevirtual 317, 3) := dk_182 1 61 (dk_at dksX3_canDo_4 20 rfl rfl)
theorem dX3_canDo_114 : decode cX3_canDo 114 = .ok (.invokevirtual 76, 3) := dk_182 0 76 (dk_at dksX3_canDo_5 0 rfl rfl)
theorem dX3_canDo_117 : decode cX3_canDo 117 = .ok (.ireturn, 1) := dk_172 (dk_at dksX3_canDo_5 3 rfl rfl)
abbrev cX3_kindRead : ByteArray := prog_9_method_147_code
def yX3_kindRead : MethodName := ⟨RX3, "kindRead", "()I"⟩
def dkwX3_kindRead_1 : List UInt8 := [167, 0, 17, 42, 180, 1, 48, 16, 109, 160, 0, 7, 5, 167, 0, 4, 6, 172]
abbrev dktX3_kindRead_1 : List UInt8 := dkwX3_kindRead_1 ++ []
def dkwX3_kindRead_0 : List UInt8 := [42, 180, 1, 48, 16, 102, 160, 0, 7, 3, 167, 0, 30, 42, 180, 1, 48, 16, 119, 160, 0, 7, 4]
abbrev dktX3_kindRead_0 : List UInt8 := dkwX3_kindRead_0 ++ dktX3_kindRead_1
theorem dksX3_kindRead_0 : cX3_kindRead.data.toList.drop 0 = dktX3_kindRead_0 := by decide +kernel
theorem dksX3_kindRead_1 : cX3_kindRead.data.toList.drop 23 = dktX3_kindRead_1 := dk_seg dksX3_kindRead_0 23 rfl rfl
theorem dX3_kindRead_0 : decode cX3_kindRead 0 = .ok (.aload_n 0, 1) := dk_42 (dk_at dksX3_kindRead_0 0 rfl rfl)
theorem dX3_kindRead_1 : decode cX3_kindRead 1 = .ok (.getfield 304, 3) := dk_180 1 48 (dk_at dksX3_kindRead_0 1 rfl rfl)
theorem dX3_kindRead_4 : decode cX3_kindRead 4 = .ok (.bipush 102, 2) := dk_16 102 (dk_at dksX3_kindRead_0 4 rfl rfl)
theorem dX3_kindRead_6 : decode cX3_kindRead 6 = .ok (.if_icmp .ne 7, 3) := dk_160 0 7 (dk_at dksX3_kindRead_0 6 rfl rfl)
theorem dX3_kindRead_9 : decode cX3_kindRead 9 = .ok (.iconst 0, 1) := dk_3 (dk_at dksX3_kindRead_0 9 rfl rfl)
theorem dX3_kindRead_10 : decode cX3_kindRead 10 = .ok (.goto 30, 3) := dk_167 0 30 (dk_at dksX3_kindRead_0 10 rfl rfl)
theorem dX3_kindRead_13 : decode cX3_kindRead 13 = .ok (.aload_n 0, 1) := dk_42 (dk_at dksX3_kindRead_0 13 rfl rfl)
theorem dX3_kindRead_14 : decode cX3_kindRead 14 = .ok (.getfield 304, 3) := dk_180 1 48 (dk_at dksX3_kindRead_0 14 rfl rfl)
theorem dX3_kindRead_17 : decode cX3_kindRead 17 = .ok (.bipush 119, 2) := dk_16 119 (dk_at dksX3_kindRead_0 17 rfl rfl)
theorem dX3_kindRead_19 : decode cX3_kindRead 19 = .ok (.if_icmp .ne 7, 3) := dk_160 0 7 (dk_at dksX3_kindRead_0 19 rfl rfl)
theorem dX3_kindRead_22 : decode cX3_kindRead 22 = .ok (.iconst 1, 1) := dk_4 (dk_at dksX3_kindRead_0 22 rfl rfl)
theorem dX3_kindRead_23 : decode cX3_kindRead 23 = .ok (.goto 17, 3) := dk_167 0 17 (dk_at dksX3_kindRead_1 0 rfl rfl)
theorem dX3_kindRead_26 : decode cX3_kindRead 26 = .ok (.aload_n 0, 1) := dk_42 (dk_at dksX3_kindRead_1 3 rfl rfl)
theorem dX3_kindRead_27 : decode cX3_kindRead 27 = .ok (.getfield 304, 3) := dk_180 1 48 (dk_at dksX3_kindRead_1 4 rfl rfl)
theorem dX3_kindRead_30 : decode cX3_kindRead 30 = .ok (.bipush 109, 2) := dk_16 109 (dk_at dksX3_kindRead_1 7 rfl rfl)
theorem dX3_kindRead_32 : decode cX3_kindRead 32 = .ok (.if_icmp .ne 7, 3) := dk_160 0 7 (dk_at dksX3_kindRead_1 9 rfl rfl)
theorem dX3_kindRead_35 : decode cX3_kindRead 35 = .ok (.iconst 2, 1) := dk_5 (dk_at dksX3_kindRead_1 12 rfl rfl)
theorem dX3_kindRead_36 : decode cX3_kindRead 36 = .ok (.goto 4, 3) := dk_167 0 4 (dk_at dksX3_kindRead_1 13 rfl rfl)
theorem dX3_kindRead_39 : decode cX3_kindRead 39 = .ok (.iconst 3, 1) := dk_6 (dk_at dksX3_kindRead_1 16 rfl rfl)
theorem dX3_kindRead_40 : decode cX3_kindRead 40 = .ok (.ireturn, 1) := dk_172 (dk_at dksX3_kindRead_1 17 rfl rfl)
abbrev cX3_does : ByteArray := prog_9_method_149_code
def yX3_does : MethodName := ⟨RX3, "does", "()V"⟩
def dkwX3_does_3 : List UInt8 := [180, 1, 39, 42, 182, 1, 61, 182, 0, 82, 87, 177]
abbrev dktX3_does_3 : List UInt8 := dkwX3_does_3 ++ []
def dkwX3_does_2 : List UInt8 := [16, 111, 160, 0, 20, 42, 42, 180, 1, 39, 42, 180, 1, 45, 4, 182, 0, 139, 87, 167, 0, 16, 42, 42]
abbrev dktX3_does_2 : List UInt8 := dkwX3_does_2 ++ dktX3_does_3
def dkwX3_does_1 : List UInt8 := [180, 1, 48, 16, 98, 160, 0, 15, 42, 42, 180, 1, 39, 182, 0, 120, 87, 167, 0, 42, 42, 180, 1, 48]
abbrev dktX3_does_1 : List UInt8 := dkwX3_does_1 ++ dktX3_does_2
def dkwX3_does_0 : List UInt8 := [42, 180, 1, 48, 16, 121, 160, 0, 15, 42, 42, 180, 1, 39, 182, 0, 193, 87, 167, 0, 63, 42]
abbrev dktX3_does_0 : List UInt8 := dkwX3_does_0 ++ dktX3_does_1
theorem dksX3_does_0 : cX3_does.data.toList.drop 0 = dktX3_does_0 := by decide +kernel
theorem dksX3_does_1 : cX3_does.data.toList.drop 22 = dktX3_does_1 := dk_seg dksX3_does_0 22 rfl rfl
theorem dksX3_does_2 : cX3_does.data.toList.drop 46 = dktX3_does_2 := dk_seg dksX3_does_1 24 rfl rfl
theorem dksX3_does_3 : cX3_does.data.toList.drop 70 = dktX3_does_3 := dk_seg dksX3_does_2 24 rfl rfl
theorem dX3_does_0 : decode cX3_does 0 = .ok (.aload_n 0, 1) := dk_42 (dk_at dksX3_does_0 0 rfl rfl)
theorem dX3_does_1 : decode cX3_does 1 = .ok (.getfield 304, 3) := dk_180 1 48 (dk_at dksX3_does_0 1 rfl rfl)
theorem dX3_does_4 : decode cX3_does 4 = .ok (.bipush 121, 2) := dk_16 121 (dk_at dksX3_does_0 4 rfl rfl)
theorem dX3_does_6 : decode cX3_does 6 = .ok (.if_icmp .ne 15, 3) := dk_160 0 15 (dk_at dksX3_does_0 6 rfl rfl)
theorem dX3_does_9 : decode cX3_does 9 = .ok (.aload_n 0, 1) := dk_42 (dk_at dksX3_does_0 9 rfl rfl)
theorem dX3_does_10 : decode cX3_does 10 = .ok (.aload_n 0, 1) := dk_42 (dk_at dksX3_does_0 10 rfl rfl)
theorem dX3_does_11 : decode cX3_does 11 = .ok (.getfield 295, 3) := dk_180 1 39 (dk_at dksX3_does_0 11 rfl rfl)
theorem dX3_does_14 : decode cX3_does 14 = .ok (.invokevirtual 193, 3) := dk_182 0 193 (dk_at dksX3_does_0 14 rfl rfl)
theorem dX3_does_17 : decode cX3_does 17 = .ok (.pop, 1) := dk_87 (dk_at dksX3_does_0 17 rfl rfl)
theorem dX3_does_18 : decode cX3_does 18 = .ok (.goto 63, 3) := dk_167 0 63 (dk_at dksX3_does_0 18 rfl rfl)
theorem dX3_does_21 : decode cX3_does 21 = .ok (.aload_n 0, 1) := dk_42 (dk_at dksX3_does_0 21 rfl rfl)
theorem dX3_does_22 : decode cX3_does 22 = .ok (.getfield 304, 3) := dk_180 1 48 (dk_at dksX3_does_1 0 rfl rfl)
theorem dX3_does_25 : decode cX3_does 25 = .ok (.bipush 98, 2) := dk_16 98 (dk_at dksX3_does_1 3 rfl rfl)
theorem dX3_does_27 : decode cX3_does 27 = .ok (.if_icmp .ne 15, 3) := dk_160 0 15 (dk_at dksX3_does_1 5 rfl rfl)
theorem dX3_does_30 : decode cX3_does 30 = .ok (.aload_n 0, 1) := dk_42 (dk_at dksX3_does_1 8 rfl rfl)
theorem dX3_does_31 : decode cX3_does 31 = .ok (.aload_n 0, 1) := dk_42 (dk_at dksX3_does_1 9 rfl rfl)
theorem dX3_does_32 : decode cX3_does 32 = .ok (.getfield 295, 3) := dk_180 1 39 (dk_at dksX3_does_1 10 rfl rfl)
theorem dX3_does_35 : decode cX3_does 35 = .ok (.invokevirtual 120, 3) := dk_182 0 120 (dk_at dksX3_does_1 13 rfl rfl)
theorem dX3_does_38 : decode cX3_does 38 = .ok (.pop, 1) := dk_87 (dk_at dksX3_does_1 16 rfl rfl)
theorem dX3_does_39 : decode cX3_does 39 = .ok (.goto 42, 3) := dk_167 0 42 (dk_at dksX3_does_1 17 rfl rfl)
theorem dX3_does_42 : decode cX3_does 42 = .ok (.aload_n 0, 1) := dk_42 (dk_at dksX3_does_1 20 rfl rfl)
theorem dX3_does_43 : decode cX3_does 43 = .ok (.getfield 304, 3) := dk_180 1 48 (dk_at dksX3_does_1 21 rfl rfl)
theorem dX3_does_46 : decode cX3_does 46 = .ok (.bipush 111, 2) := dk_16 111 (dk_at dksX3_does_2 0 rfl rfl)
theorem dX3_does_48 : decode cX3_does 48 = .ok (.if_icmp .ne 20, 3) := dk_160 0 20 (dk_at dksX3_does_2 2 rfl rfl)
theorem dX3_does_51 : decode cX3_does 51 = .ok (.aload_n 0, 1) := dk_42 (dk_at dksX3_does_2 5 rfl rfl)
theorem dX3_does_52 : decode cX3_does 52 = .ok (.aload_n 0, 1) := dk_42 (dk_at dksX3_does_2 6 rfl rfl)
theorem dX3_does_53 : decode cX3_does 53 = .ok (.getfield 295, 3) := dk_180 1 39 (dk_at dksX3_does_2 7 rfl rfl)
theorem dX3_does_56 : decode cX3_does 56 = .ok (.aload_n 0, 1) := dk_42 (dk_at dksX3_does_2 10 rfl rfl)
theorem dX3_does_57 : decode cX3_does 57 = .ok (.getfield 301, 3) := dk_180 1 45 (dk_at dksX3_does_2 11 rfl rfl)
theorem dX3_does_60 : decode cX3_does 60 = .ok (.iconst 1, 1) := dk_4 (dk_at dksX3_does_2 14 rfl rfl)
theorem dX3_does_61 : decode cX3_does 61 = .ok (.invokevirtual 139, 3) := dk_182 0 139 (dk_at dksX3_does_2 15 rfl rfl)
theorem dX3_does_64 : decode cX3_does 64 = .ok (.pop, 1) := dk_87 (dk_at dksX3_does_2 18 rfl rfl)
theorem dX3_does_65 : decode cX3_does 65 = .ok (.goto 16, 3) := dk_167 0 16 (dk_at dksX3_does_2 19 rfl rfl)
theorem dX3_does_68 : decode cX3_does 68 = .ok (.aload_n 0, 1) := dk_42 (dk_at dksX3_does_2 22 rfl rfl)
theorem dX3_does_69 : decode cX3_does 69 = .ok (.aload_n 0, 1) := dk_42 (dk_at dksX3_does_2 23 rfl rfl)
theorem dX3_does_70 : decode cX3_does 70 = .ok (.getfield 295, 3) := dk_180 1 39 (dk_at dksX3_does_3 0 rfl rfl)
theorem dX3_does_73 : decode cX3_does 73 = .ok (.aload_n 0, 1) := dk_42 (dk_at dksX3_does_3 3 rfl rfl)
theorem dX3_does_74 : decode cX3_does 74 = .ok (.invokevirtual 317, 3) := dk_182 1 61 (dk_at dksX3_does_3 4 rfl rfl)
theorem dX3_does_77 : decode cX3_does 77 = .ok (.invokevirtual 82, 3) := dk_182 0 82 (dk_at dksX3_does_3 7 rfl rfl)
theorem dX3_does_80 : decode cX3_does 80 = .ok (.pop, 1) := dk_87 (dk_at dksX3_does_3 10 rfl rfl)
theorem dX3_does_81 : decode cX3_does 81 = .ok (.return_, 1) := dk_177 (dk_at dksX3_does_3 11 rfl rfl)
abbrev cX3_undo : ByteArray := prog_9_method_151_code
def yX3_undo : MethodName := ⟨RX3, "undo", "()I"⟩
def dkwX3_undo_3 : List UInt8 := [180, 0, 39, 172]
abbrev dktX3_undo_3 : List UInt8 := dkwX3_undo_3 ++ []
def dkwX3_undo_2 : List UInt8 := [27, 42, 180, 0, 13, 42, 180, 0, 39, 17, 2, 242, 104, 27, 96, 46, 79, 132, 1, 1, 167, 255, 225, 42]
abbrev dktX3_undo_2 : List UInt8 := dkwX3_undo_2 ++ dktX3_undo_3
def dkwX3_undo_1 : List UInt8 := [172, 42, 89, 180, 0, 39, 4, 100, 181, 0, 39, 3, 60, 27, 17, 2, 242, 162, 0, 30, 42, 180, 0, 7]
abbrev dktX3_undo_1 : List UInt8 := dkwX3_undo_1 ++ dktX3_undo_2
def dkwX3_undo_0 : List UInt8 := [42, 42, 180, 0, 39, 154, 0, 7, 4, 167, 0, 4, 3, 181, 0, 35, 42, 180, 0, 35, 158, 0, 5, 3]
abbrev dktX3_undo_0 : List UInt8 := dkwX3_undo_0 ++ dktX3_undo_1
theorem dksX3_undo_0 : cX3_undo.data.toList.drop 0 = dktX3_undo_0 := by decide +kernel
theorem dksX3_undo_1 : cX3_undo.data.toList.drop 24 = dktX3_undo_1 := dk_seg dksX3_undo_0 24 rfl rfl
theorem dksX3_undo_2 : cX3_undo.data.toList.drop 48 = dktX3_undo_2 := dk_seg dksX3_undo_1 24 rfl rfl
theorem dksX3_undo_3 : cX3_undo.data.toList.drop 72 = dktX3_undo_3 := dk_seg dksX3_undo_2 24 rfl rfl
theorem dX3_undo_0 : decode cX3_undo 0 = .ok (.aload_n 0, 1) := dk_42 (dk_at dksX3_undo_0 0 rfl rfl)
theorem dX3_undo_1 : decode cX3_undo 1 = .ok (.aload_n 0, 1) := dk_42 (dk_at dksX3_undo_0 1 rfl rfl)
theorem dX3_undo_2 : decode cX3_undo 2 = .ok (.getfield 39, 3) := dk_180 0 39 (dk_at dksX3_undo_0 2 rfl rfl)
theorem dX3_undo_5 : decode cX3_undo 5 = .ok (.ifCond .ne 7, 3) := dk_154 0 7 (dk_at dksX3_undo_0 5 rfl rfl)
theorem dX3_undo_8 : decode cX3_undo 8 = .ok (.iconst 1, 1) := dk_4 (dk_at dksX3_undo_0 8 rfl rfl)
theorem dX3_undo_9 : decode cX3_undo 9 = .ok (.goto 4, 3) := dk_167 0 4 (dk_at dksX3_undo_0 9 rfl rfl)
theorem dX3_undo_12 : decode cX3_undo 12 = .ok (.iconst 0, 1) := dk_3 (dk_at dksX3_undo_0 12 rfl rfl)
theorem dX3_undo_13 : decode cX3_undo 13 = .ok (.putfield 35, 3) := dk_181 0 35 (dk_at dksX3_undo_0 13 rfl rfl)
theorem dX3_undo_16 : decode cX3_undo 16 = .ok (.aload_n 0, 1) := dk_42 (dk_at dksX3_undo_0 16 rfl rfl)
theorem dX3_undo_17 : decode cX3_undo 17 = .ok (.getfield 35, 3) := dk_180 0 35 (dk_at dksX3_undo_0 17 rfl rfl)
theorem dX3_undo_20 : decode cX3_undo 20 = .ok (.ifCond .le 5, 3) := dk_158 0 5 (dk_at dksX3_undo_0 20 rfl rfl)
theorem dX3_undo_23 : decode cX3_undo 23 = .ok (.iconst 0, 1) := dk_3 (dk_at dksX3_undo_0 23 rfl rfl)
theorem dX3_undo_24 : decode cX3_undo 24 = .ok (.ireturn, 1) := dk_172 (dk_at dksX3_undo_1 0 rfl rfl)
theorem dX3_undo_25 : decode cX3_undo 25 = .ok (.aload_n 0, 1) := dk_42 (dk_at dksX3_undo_1 1 rfl rfl)
theorem dX3_undo_26 : decode cX3_undo 26 = .ok (.dup, 1) := dk_89 (dk_at dksX3_undo_1 2 rfl rfl)
theorem dX3_undo_27 : decode cX3_undo 27 = .ok (.getfield 39, 3) := dk_180 0 39 (dk_at dksX3_undo_1 3 rfl rfl)
theorem dX3_undo_30 : decode cX3_undo 30 = .ok (.iconst 1, 1) := dk_4 (dk_at dksX3_undo_1 6 rfl rfl)
theorem dX3_undo_31 : decode cX3_undo 31 = .ok (.isub, 1) := dk_100 (dk_at dksX3_undo_1 7 rfl rfl)
theorem dX3_undo_32 : decode cX3_undo 32 = .ok (.putfield 39, 3) := dk_181 0 39 (dk_at dksX3_undo_1 8 rfl rfl)
theorem dX3_undo_35 : decode cX3_undo 35 = .ok (.iconst 0, 1) := dk_3 (dk_at dksX3_undo_1 11 rfl rfl)
theorem dX3_undo_36 : decode cX3_undo 36 = .ok (.istore_n 1, 1) := dk_60 (dk_at dksX3_undo_1 12 rfl rfl)
theorem dX3_undo_37 : decode cX3_undo 37 = .ok (.iload_n 1, 1) := dk_27 (dk_at dksX3_undo_1 13 rfl rfl)
theorem dX3_undo_38 : decode cX3_undo 38 = .ok (.sipush 754, 3) := dk_17 2 242 (dk_at dksX3_undo_1 14 rfl rfl)
theorem dX3_undo_41 : decode cX3_undo 41 = .ok (.if_icmp .ge 30, 3) := dk_162 0 30 (dk_at dksX3_undo_1 17 rfl rfl)
theorem dX3_undo_44 : decode cX3_undo 44 = .ok (.aload_n 0, 1) := dk_42 (dk_at dksX3_undo_1 20 rfl rfl)
theorem dX3_undo_45 : decode cX3_undo 45 = .ok (.getfield 7, 3) := dk_180 0 7 (dk_at dksX3_undo_1 21 rfl rfl)
theorem dX3_undo_48 : decode cX3_undo 48 = .ok (.iload_n 1, 1) := dk_27 (dk_at dksX3_undo_2 0 rfl rfl)
theorem dX3_undo_49 : decode cX3_undo 49 = .ok (.aload_n 0, 1) := dk_42 (dk_at dksX3_undo_2 1 rfl rfl)
theorem dX3_undo_50 : decode cX3_undo 50 = .ok (.getfield 13, 3) := dk_180 0 13 (dk_at dksX3_undo_2 2 rfl rfl)
theorem dX3_undo_53 : decode cX3_undo 53 = .ok (.aload_n 0, 1) := dk_42 (dk_at dksX3_undo_2 5 rfl rfl)
theorem dX3_undo_54 : decode cX3_undo 54 = .ok (.getfield 39, 3) := dk_180 0 39 (dk_at dksX3_undo_2 6 rfl rfl)
theorem dX3_undo_57 : decode cX3_undo 57 = .ok (.sipush 754, 3) := dk_17 2 242 (dk_at dksX3_undo_2 9 rfl rfl)
theorem dX3_undo_60 : decode cX3_undo 60 = .ok (.imul, 1) := dk_104 (dk_at dksX3_undo_2 12 rfl rfl)
theorem dX3_undo_61 : decode cX3_undo 61 = .ok (.iload_n 1, 1) := dk_27 (dk_at dksX3_undo_2 13 rfl rfl)
theorem dX3_undo_62 : decode cX3_undo 62 = .ok (.iadd, 1) := dk_96 (dk_at dksX3_undo_2 14 rfl rfl)
theorem dX3_undo_63 : decode cX3_undo 63 = .ok (.iaload, 1) := dk_46 (dk_at dksX3_undo_2 15 rfl rfl)
theorem dX3_undo_64 : decode cX3_undo 64 = .ok (.iastore, 1) := dk_79 (dk_at dksX3_undo_2 16 rfl rfl)
theorem dX3_undo_65 : decode cX3_undo 65 = .ok (.iinc 1 1, 3) := dk_132 1 1 (dk_at dksX3_undo_2 17 rfl rfl)
theorem dX3_undo_68 : decode cX3_undo 68 = .ok (.goto (-31), 3) := dk_167 255 225 (dk_at dksX3_undo_2 20 rfl rfl)
theorem dX3_undo_71 : decode cX3_undo 71 = .ok (.aload_n 0, 1) := dk_42 (dk_at dksX3_undo_2 23 rfl rfl)
theorem dX3_undo_72 : decode cX3_undo 72 = .ok (.getfield 39, 3) := dk_180 0 39 (dk_at dksX3_undo_3 0 rfl rfl)
theorem dX3_undo_75 : decode cX3_undo 75 = .ok (.ireturn, 1) := dk_172 (dk_at dksX3_undo_3 3 rfl rfl)
abbrev cX3_digest : ByteArray := prog_9_method_152_code
def yX3_digest : MethodName := ⟨RX3, "digest", "()J"⟩
def dkwX3_digest_25 : List UInt8 := [133, 97, 64, 20, 1, 72, 31, 105, 42, 7, 182, 1, 19, 133, 97, 64, 42, 3, 181, 0, 35, 31, 173]
abbrev dktX3_digest_25 : List UInt8 := dkwX3_digest_25 ++ []
def dkwX3_digest_24 : List UInt8 := [133, 97, 64, 132, 4, 1, 167, 255, 232, 132, 3, 1, 167, 255, 212, 20, 1, 72, 31, 105, 42, 182, 1, 10]
abbrev dktX3_digest_24 : List UInt8 := dkwX3_digest_24 ++ dktX3_digest_25
def dkwX3_digest_23 : List UInt8 := [162, 0, 39, 3, 54, 4, 21, 4, 6, 162, 0, 24, 20, 1, 72, 31, 105, 42, 29, 21, 4, 182, 1, 4]
abbrev dktX3_digest_23 : List UInt8 := dkwX3_digest_23 ++ dktX3_digest_24
def dkwX3_digest_22 : List UInt8 := [42, 29, 182, 0, 245, 133, 97, 64, 132, 3, 1, 167, 255, 133, 3, 62, 29, 42, 180, 0, 7, 16, 9, 46]
abbrev dktX3_digest_22 : List UInt8 := dkwX3_digest_22 ++ dktX3_digest_23
def dkwX3_digest_21 : List UInt8 := [182, 0, 230, 133, 97, 64, 20, 1, 72, 31, 105, 42, 29, 182, 0, 239, 133, 97, 64, 20, 1, 72, 31, 105]
abbrev dktX3_digest_21 : List UInt8 := dkwX3_digest_21 ++ dktX3_digest_22
def dkwX3_digest_20 : List UInt8 := [20, 1, 72, 31, 105, 42, 29, 6, 182, 0, 230, 133, 97, 64, 20, 1, 72, 31, 105, 42, 29, 7]
abbrev dktX3_digest_20 : List UInt8 := dkwX3_digest_20 ++ dktX3_digest_21
def dkwX3_digest_19 : List UInt8 := [105, 42, 29, 5, 182, 0, 93, 133, 97, 64, 20, 1, 72, 31, 105, 42, 29, 8, 182, 0, 93, 133, 97, 64]
abbrev dktX3_digest_19 : List UInt8 := dkwX3_digest_19 ++ dktX3_digest_20
def dkwX3_digest_18 : List UInt8 := [182, 0, 93, 133, 97, 64, 20, 1, 72, 31, 105, 42, 29, 4, 182, 0, 93, 133, 97, 64, 20, 1, 72, 31]
abbrev dktX3_digest_18 : List UInt8 := dkwX3_digest_18 ++ dktX3_digest_19
def dkwX3_digest_17 : List UInt8 := [167, 255, 132, 3, 62, 29, 42, 180, 0, 7, 6, 46, 162, 0, 119, 20, 1, 72, 31, 105, 42, 29, 3]
abbrev dktX3_digest_17 : List UInt8 := dkwX3_digest_17 ++ dktX3_digest_18
def dkwX3_digest_16 : List UInt8 := [182, 0, 160, 133, 97, 64, 20, 1, 72, 31, 105, 42, 29, 182, 0, 163, 133, 97, 64, 132, 3, 1]
abbrev dktX3_digest_16 : List UInt8 := dkwX3_digest_16 ++ dktX3_digest_17
def dkwX3_digest_15 : List UInt8 := [133, 97, 64, 20, 1, 72, 31, 105, 42, 29, 4, 182, 0, 209, 133, 97, 64, 20, 1, 72, 31, 105, 42, 29]
abbrev dktX3_digest_15 : List UInt8 := dkwX3_digest_15 ++ dktX3_digest_16
def dkwX3_digest_14 : List UInt8 := [20, 1, 72, 31, 105, 42, 29, 182, 0, 156, 133, 97, 64, 20, 1, 72, 31, 105, 42, 29, 3, 182, 0, 209]
abbrev dktX3_digest_14 : List UInt8 := dkwX3_digest_14 ++ dktX3_digest_15
def dkwX3_digest_13 : List UInt8 := [31, 105, 42, 180, 0, 22, 29, 47, 97, 64, 20, 1, 72, 31, 105, 42, 29, 182, 0, 146, 133, 97, 64]
abbrev dktX3_digest_13 : List UInt8 := dkwX3_digest_13 ++ dktX3_digest_14
def dkwX3_digest_12 : List UInt8 := [162, 0, 120, 20, 1, 72, 31, 105, 42, 180, 0, 7, 17, 0, 144, 29, 96, 46, 133, 97, 64, 20, 1, 72]
abbrev dktX3_digest_12 : List UInt8 := dkwX3_digest_12 ++ dktX3_digest_13
def dkwX3_digest_11 : List UInt8 := [16, 80, 29, 96, 46, 133, 97, 64, 132, 3, 1, 167, 255, 230, 3, 62, 29, 42, 180, 0, 7, 5, 46]
abbrev dktX3_digest_11 : List UInt8 := dkwX3_digest_11 ++ dktX3_digest_12
def dkwX3_digest_10 : List UInt8 := [64, 132, 3, 1, 167, 255, 236, 3, 62, 29, 16, 64, 162, 0, 26, 20, 1, 72, 31, 105, 42, 180, 0, 7]
abbrev dktX3_digest_10 : List UInt8 := dkwX3_digest_10 ++ dktX3_digest_11
def dkwX3_digest_9 : List UInt8 := [132, 3, 1, 167, 255, 231, 3, 62, 29, 6, 163, 0, 21, 20, 1, 72, 31, 105, 42, 29, 182, 0, 202, 97]
abbrev dktX3_digest_9 : List UInt8 := dkwX3_digest_9 ++ dktX3_digest_10
def dkwX3_digest_8 : List UInt8 := [3, 62, 29, 6, 163, 0, 26, 20, 1, 72, 31, 105, 42, 180, 0, 7, 16, 10, 29, 96, 46, 133, 97, 64]
abbrev dktX3_digest_8 : List UInt8 := dkwX3_digest_8 ++ dktX3_digest_9
def dkwX3_digest_7 : List UInt8 := [180, 0, 7, 16, 7, 46, 133, 97, 64, 20, 1, 72, 31, 105, 42, 180, 0, 7, 16, 8, 46, 133, 97, 64]
abbrev dktX3_digest_7 : List UInt8 := dkwX3_digest_7 ++ dktX3_digest_8
def dkwX3_digest_6 : List UInt8 := [97, 64, 20, 1, 72, 31, 105, 42, 180, 0, 7, 16, 6, 46, 133, 97, 64, 20, 1, 72, 31, 105, 42]
abbrev dktX3_digest_6 : List UInt8 := dkwX3_digest_6 ++ dktX3_digest_7
def dkwX3_digest_5 : List UInt8 := [20, 1, 72, 31, 105, 42, 182, 1, 1, 133, 97, 64, 20, 1, 72, 31, 105, 42, 180, 0, 7, 8, 46, 133]
abbrev dktX3_digest_5 : List UInt8 := dkwX3_digest_5 ++ dktX3_digest_6
def dkwX3_digest_4 : List UInt8 := [105, 42, 180, 0, 7, 7, 46, 133, 97, 64, 20, 1, 72, 31, 105, 42, 182, 0, 224, 133, 97, 64]
abbrev dktX3_digest_4 : List UInt8 := dkwX3_digest_4 ++ dktX3_digest_5
def dkwX3_digest_3 : List UInt8 := [180, 0, 7, 6, 46, 133, 97, 64, 20, 1, 72, 31, 105, 42, 182, 0, 212, 133, 97, 64, 20, 1, 72, 31]
abbrev dktX3_digest_3 : List UInt8 := dkwX3_digest_3 ++ dktX3_digest_4
def dkwX3_digest_2 : List UInt8 := [97, 64, 20, 1, 72, 31, 105, 42, 180, 0, 7, 5, 46, 133, 97, 64, 20, 1, 72, 31, 105, 42]
abbrev dktX3_digest_2 : List UInt8 := dkwX3_digest_2 ++ dktX3_digest_3
def dkwX3_digest_1 : List UInt8 := [20, 1, 72, 31, 105, 42, 182, 0, 205, 133, 97, 64, 20, 1, 72, 31, 105, 42, 180, 0, 7, 4, 46, 133]
abbrev dktX3_digest_1 : List UInt8 := dkwX3_digest_1 ++ dktX3_digest_2
def dkwX3_digest_0 : List UInt8 := [42, 182, 0, 166, 20, 1, 70, 64, 20, 1, 72, 31, 105, 42, 180, 0, 7, 3, 46, 133, 97, 64]
abbrev dktX3_digest_0 : List UInt8 := dkwX3_digest_0 ++ dktX3_digest_1
theorem dksX3_digest_0 : cX3_digest.data.toList.drop 0 = dktX3_digest_0 := by decide +kernel
theorem dksX3_digest_1 : cX3_digest.data.toList.drop 22 = dktX3_digest_1 := dk_seg dksX3_digest_0 22 rfl rfl
theorem dksX3_digest_2 : cX3_digest.data.toList.drop 46 = dktX3_digest_2 := dk_seg dksX3_digest_1 24 rfl rfl
theorem dksX3_digest_3 : cX3_digest.data.toList.drop 68 = dktX3_digest_3 := dk_seg dksX3_digest_2 22 rfl rfl
theorem dksX3_digest_4 : cX3_digest.data.toList.drop 92 = dktX3_digest_4 := dk_seg dksX3_digest_3 24 rfl rfl
theorem dksX3_digest_5 : cX3_digest.data.toList.drop 114 = dktX3_digest_5 := dk_seg dksX3_digest_4 22 rfl rfl
theorem dksX3_digest_6 : cX3_digest.data.toList.drop 138 = dktX3_digest_6 := dk_seg dksX3_digest_5 24 rfl rfl
theorem dksX3_digest_7 : cX3_digest.data.toList.drop 161 = dktX3_digest_7 := dk_seg dksX3_digest_6 23 rfl rfl
theorem dksX3_digest_8 : cX3_digest.data.toList.drop 185 = dktX3_digest_8 := dk_seg dksX3_digest_7 24 rfl rfl
theorem dksX3_digest_9 : cX3_digest.data.toList.drop 209 = dktX3_digest_9 := dk_seg dksX3_digest_8 24 rfl rfl
theorem dksX3_digest_10 : cX3_digest.data.toList.drop 233 = dktX3_digest_10 := dk_seg dksX3_digest_9 24 rfl rfl
theorem dksX3_digest_11 : cX3_digest.data.toList.drop 257 = dktX3_digest_11 := dk_seg dksX3_digest_10 24 rfl rfl
theorem dksX3_digest_12 : cX3_digest.data.toList.drop 280 = dktX3_digest_12 := dk_seg dksX3_digest_11 23 rfl rfl
theorem dksX3_digest_13 : cX3_digest.data.toList.drop 304 = dktX3_digest_13 := dk_seg dksX3_digest_12 24 rfl rfl
theorem dksX3_digest_14 : cX3_digest.data.toList.drop 327 = dktX3_digest_14 := dk_seg dksX3_digest_13 23 rfl rfl
theorem dksX3_digest_15 : cX3_digest.data.toList.drop 351 = dktX3_digest_15 := dk_seg dksX3_digest_14 24 rfl rfl
theorem dksX3_digest_16 : cX3_digest.data.toList.drop 375 = dktX3_digest_16 := dk_seg dksX3_digest_15 24 rfl rfl
theorem dksX3_digest_17 : cX3_digest.data.toList.drop 397 = dktX3_digest_17 := dk_seg dksX3_digest_16 22 rfl rfl
theorem dksX3_digest_18 : cX3_digest.data.toList.drop 420 = dktX3_digest_18 := dk_seg dksX3_digest_17 23 rfl rfl
theorem dksX3_digest_19 : cX3_digest.data.toList.drop 444 = dktX3_digest_19 := dk_seg dksX3_digest_18 24 rfl rfl
theorem dksX3_digest_20 : cX3_digest.data.toList.drop 468 = dktX3_digest_20 := dk_seg dksX3_digest_19 24 rfl rfl
theorem dksX3_digest_21 : cX3_digest.data.toList.drop 490 = dktX3_digest_21 := dk_seg dksX3_digest_20 22 rfl rfl
theorem dksX3_digest_22 : cX3_digest.data.toList.drop 514 = dktX3_digest_22 := dk_seg dksX3_digest_21 24 rfl rfl
theorem dksX3_digest_23 : cX3_digest.data.toList.drop 538 = dktX3_digest_23 := dk_seg dksX3_digest_22 24 rfl rfl
theorem dksX3_digest_24 : cX3_digest.data.toList.drop 562 = dktX3_digest_24 := dk_seg dksX3_digest_23 24 rfl rfl
theorem dksX3_digest_25 : cX3_digest.data.toList.drop 586 = dktX3_digest_25 := dk_seg dksX3_digest_24 24 rfl rfl
theorem dX3_digest_0 : decode cX3_digest 0 = .ok (.aload_n 0, 1) := dk_42 (dk_at dksX3_digest_0 0 rfl rfl)
theorem dX3_digest_1 : decode cX3_digest 1 = .ok (.invokevirtual 166, 3) := dk_182 0 166 (dk_at dksX3_digest_0 1 rfl rfl)
theorem dX3_digest_4 : decode cX3_digest 4 = .ok (.ldc2_w 326, 3) := dk_20 1 70 (dk_at dksX3_digest_0 4 rfl rfl)
theorem dX3_digest_7 : decode cX3_digest 7 = .ok (.lstore_n 1, 1) := dk_64 (dk_at dksX3_digest_0 7 rfl rfl)
theorem dX3_digest_8 : decode cX3_digest 8 = .ok (.ldc2_w 328, 3) := dk_20 1 72 (dk_at dksX3_digest_0 8 rfl rfl)
theorem dX3_digest_11 : decode cX3_digest 11 = .ok (.lload_n 1, 1) := dk_31 (dk_at dksX3_digest_0 11 rfl rfl)
theorem dX3_digest_12 : decode cX3_digest 12 = .ok (.lmul, 1) := dk_105 (dk_at dksX3_digest_0 12 rfl rfl)
theorem dX3_digest_13 : decode cX3_digest 13 = .ok (.aload_n 0, 1) := dk_42 (dk_at dksX3_digest_0 13 rfl rfl)
theorem dX3_digest_14 : decode cX3_digest 14 = .ok (.getfield 7, 3) := dk_180 0 7 (dk_at dksX3_digest_0 14 rfl rfl)
theorem dX3_digest_17 : decode cX3_digest 17 = .ok (.iconst 0, 1) := dk_3 (dk_at dksX3_digest_0 17 rfl rfl)
theorem dX3_digest_18 : decode cX3_digest 18 = .ok (.iaload, 1) := dk_46 (dk_at dksX3_digest_0 18 rfl rfl)
theorem dX3_digest_19 : decode cX3_digest 19 = .ok (.i2l, 1) := dk_133 (dk_at dksX3_digest_0 19 rfl rfl)
theorem dX3_digest_20 : decode cX3_digest 20 = .ok (.ladd, 1) := dk_97 (dk_at dksX3_digest_0 20 rfl rfl)
theorem dX3_digest_21 : decode cX3_digest 21 = .ok (.lstore_n 1, 1) := dk_64 (dk_at dksX3_digest_0 21 rfl rfl)
theorem dX3_digest_22 : decode cX3_digest 22 = .ok (.ldc2_w 328, 3) := dk_20 1 72 (dk_at dksX3_digest_1 0 rfl rfl)
theorem dX3_digest_25 : decode cX3_digest 25 = .ok (.lload_n 1, 1) := dk_31 (dk_at dksX3_digest_1 3 rfl rfl)
theorem dX3_digest_26 : decode cX3_digest 26 = .ok (.lmul, 1) := dk_105 (dk_at dksX3_digest_1 4 rfl rfl)
theorem dX3_digest_27 : decode cX3_digest 27 = .ok (.aload_n 0, 1) := dk_42 (dk_at dksX3_digest_1 5 rfl rfl)
theorem dX3_digest_28 : decode cX3_digest 28 = .ok (.invokevirtual 205, 3) := dk_182 0 205 (dk_at dksX3_digest_1 6 rfl rfl)
theorem dX3_digest_31 : decode cX3_digest 31 = .ok (.i2l, 1) := dk_133 (dk_at dksX3_digest_1 9 rfl rfl)
theorem dX3_digest_32 : decode cX3_digest 32 = .ok (.ladd, 1) := dk_97 (dk_at dksX3_digest_1 10 rfl rfl)
theorem dX3_digest_33 : decode cX3_digest 33 = .ok (.lstore_n 1, 1) := dk_64 (dk_at dksX3_digest_1 11 rfl rfl)
theorem dX3_digest_34 : decode cX3_digest 34 = .ok (.ldc2_w 328, 3) := dk_20 1 72 (dk_at dksX3_digest_1 12 rfl rfl)
theorem dX3_digest_37 : decode cX3_digest 37 = .ok (.lload_n 1, 1) := dk_31 (dk_at dksX3_digest_1 15 rfl rfl)
theorem dX3_digest_38 : decode cX3_digest 38 = .ok (.lmul, 1) := dk_105 (dk_at dksX3_digest_1 16 rfl rfl)
theorem dX3_digest_39 : decode cX3_digest 39 = .ok (.aload_n 0, 1) := dk_42 (dk_at dksX3_digest_1 17 rfl rfl)
theorem dX3_digest_40 : decode cX3_digest 40 = .ok (.getfield 7, 3) := dk_180 0 7 (dk_at dksX3_digest_1 18 rfl rfl)
theorem dX3_digest_43 : decode cX3_digest 43 = .ok (.iconst 1, 1) := dk_4 (dk_at dksX3_digest_1 21 rfl rfl)
theorem dX3_digest_44 : decode cX3_digest 44 = .ok (.iaload, 1) := dk_46 (dk_at dksX3_digest_1 22 rfl rfl)
theorem dX3_digest_45 : decode cX3_digest 45 = .ok (.i2l, 1) := dk_133 (dk_at dksX3_digest_1 23 rfl rfl)
theorem dX3_digest_46 : decode cX3_digest 46 = .ok (.ladd, 1) := dk_97 (dk_at dksX3_digest_2 0 rfl rfl)
theorem dX3_digest_47 : decode cX3_digest 47 = .ok (.lstore_n 1, 1) := dk_64 (dk_at dksX3_digest_2 1 rfl rfl)
theorem dX3_digest_48 : decode cX3_digest 48 = .ok (.ldc2_w 328, 3) := dk_20 1 72 (dk_at dksX3_digest_2 2 rfl rfl)
theorem dX3_digest_51 : decode cX3_digest 51 = .ok (.lload_n 1, 1) := dk_31 (dk_at dksX3_digest_2 5 rfl rfl)
theorem dX3_digest_52 : decode cX3_digest 52 = .ok (.lmul, 1) := dk_105 (dk_at dksX3_digest_2 6 rfl rfl)
theorem dX3_digest_53 : decode cX3_digest 53 = .ok (.aload_n 0, 1) := dk_42 (dk_at dksX3_digest_2 7 rfl rfl)
theorem dX3_digest_54 : decode cX3_digest 54 = .ok (.getfield 7, 3) := dk_180 0 7 (dk_at dksX3_digest_2 8 rfl rfl)
theorem dX3_digest_57 : decode cX3_digest 57 = .ok (.iconst 2, 1) := dk_5 (dk_at dksX3_digest_2 11 rfl rfl)
theorem dX3_digest_58 : decode cX3_digest 58 = .ok (.iaload, 1) := dk_46 (dk_at dksX3_digest_2 12 rfl rfl)
theorem dX3_digest_59 : decode cX3_digest 59 = .ok (.i2l, 1) := dk_133 (dk_at dksX3_digest_2 13 rfl rfl)
theorem dX3_digest_60 : decode cX3_digest 60 = .ok (.ladd, 1) := dk_97 (dk_at dksX3_digest_2 14 rfl rfl)
theorem dX3_digest_61 : decode cX3_digest 61 = .ok (.lstore_n 1, 1) := dk_64 (dk_at dksX3_digest_2 15 rfl rfl)
theorem dX3_digest_62 : decode cX3_digest 62 = .ok (.ldc2_w 328, 3) := dk_20 1 72 (dk_at dksX3_digest_2 16 rfl rfl)
theorem dX3_digest_65 : decode cX3_digest 65 = .ok (.lload_n 1, 1) := dk_31 (dk_at dksX3_digest_2 19 rfl rfl)
theorem dX3_digest_66 : decode cX3_digest 66 = .ok (.lmul, 1) := dk_105 (dk_at dksX3_digest_2 20 rfl rfl)
theorem dX3_digest_67 : decode cX3_digest 67 = .ok (.aload_n 0, 1) := dk_42 (dk_at dksX3_digest_2 21 rfl rfl)
theorem dX3_digest_68 : decode cX3_digest 68 = .ok (.getfield 7, 3) := dk_180 0 7 (dk_at dksX3_digest_3 0 rfl rfl)
theorem dX3_digest_71 : decode cX3_digest 71 = .ok (.iconst 3, 1) := dk_6 (dk_at dksX3_digest_3 3 rfl rfl)
theorem dX3_digest_72 : decode cX3_digest 72 = .ok (.iaload, 1) := dk_46 (dk_at dksX3_digest_3 4 rfl rfl)
theorem dX3_digest_73 : decode cX3_digest 73 = .ok (.i2l, 1) := dk_133 (dk_at dksX3_digest_3 5 rfl rfl)
theorem dX3_digest_74 : decode cX3_digest 74 = .ok (.ladd, 1) := dk_97 (dk_at dksX3_digest_3 6 rfl rfl)
theorem dX3_digest_75 : decode cX3_digest 75 = .ok (.lstore_n 1, 1) := dk_64 (dk_at dksX3_digest_3 7 rfl rfl)
theorem dX3_digest_76 : decode cX3_digest 76 = .ok (.ldc2_w 328, 3) := dk_20 1 72 (dk_at dksX3_digest_3 8 rfl rfl)
theorem dX3_digest_79 : decode cX3_digest 79 = .ok (.lload_n 1, 1) := dk_31 (dk_at dksX3_digest_3 11 rfl rfl)
theorem dX3_digest_80 : decode cX3_digest 80 = .ok (.lmul, 1) := dk_105 (dk_at dksX3_digest_3 12 rfl rfl)
theorem dX3_digest_81 : decode cX3_digest 81 = .ok (.aload_n 0, 1) := dk_42 (dk_at dksX3_digest_3 13 rfl rfl)
theorem dX3_digest_82 : decode cX3_digest 82 = .ok (.invokevirtual 212, 3) := dk_182 0 212 (dk_at dksX3_digest_3 14 rfl rfl)
theorem dX3_digest_85 : decode cX3_digest 85 = .ok (.i2l, 1) := dk_133 (dk_at dksX3_digest_3 17 rfl rfl)
theorem dX3_digest_86 : decode cX3_digest 86 = .ok (.ladd, 1) := dk_97 (dk_at dksX3_digest_3 18 rfl rfl)
theorem dX3_digest_87 : decode cX3_digest 87 = .ok (.lstore_n 1, 1) := dk_64 (dk_at dksX3_digest_3 19 rfl rfl)
theorem dX3_digest_88 : decode cX3_digest 88 = .ok (.ldc2_w 328, 3) := dk_20 1 72 (dk_at dksX3_digest_3 20 rfl rfl)
theorem dX3_digest_91 : decode cX3_digest 91 = .ok (.lload_n 1, 1) := dk_31 (dk_at dksX3_digest_3 23 rfl rfl)
theorem dX3_digest_92 : decode cX3_digest 92 = .ok (.lmul, 1) := dk_105 (dk_at dksX3_digest_4 0 rfl rfl)
theorem dX3_digest_93 : decode cX3_digest 93 = .ok (.aload_n 0, 1) := dk_42 (dk_at dksX3_digest_4 1 rfl rfl)
theorem dX3_digest_94 : decode cX3_digest 94 = .ok (.getfield 7, 3) := dk_180 0 7 (dk_at dksX3_digest_4 2 rfl rfl)
theorem dX3_digest_97 : decode cX3_digest 97 = .ok (.iconst 4, 1) := dk_7 (dk_at dksX3_digest_4 5 rfl rfl)
theorem dX3_digest_98 : decode cX3_digest 98 = .ok (.iaload, 1) := dk_46 (dk_at dksX3_digest_4 6 rfl rfl)
theorem dX3_digest_99 : decode cX3_digest 99 = .ok (.i2l, 1) := dk_133 (dk_at dksX3_digest_4 7 rfl rfl)
theorem dX3_digest_100 : decode cX3_digest 100 = .ok (.ladd, 1) := dk_97 (dk_at dksX3_digest_4 8 rfl rfl)
theorem dX3_digest_101 : decode cX3_digest 101 = .ok (.lstore_n 1, 1) := dk_64 (dk_at dksX3_digest_4 9 rfl rfl)
theorem dX3_digest_102 : decode cX3_digest 102 = .ok (.ldc2_w 328, 3) := dk_20 1 72 (dk_at dksX3_digest_4 10 rfl rfl)
theorem dX3_digest_105 : decode cX3_digest 105 = .ok (.lload_n 1, 1) := dk_31 (dk_at dksX3_digest_4 13 rfl rfl)
theorem dX3_digest_106 : decode cX3_digest 106 = .ok (.lmul, 1) := dk_105 (dk_at dksX3_digest_4 14 rfl rfl)
theorem dX3_digest_107 : decode cX3_digest 107 = .ok (.aload_n 0, 1) := dk_42 (dk_at dksX3_digest_4 15 rfl rfl)
theorem dX3_digest_108 : decode cX3_digest 108 = .ok (.invokevirtual 224, 3) := dk_182 0 224 (dk_at dksX3_digest_4 16 rfl rfl)
theorem dX3_digest_111 : decode cX3_digest 111 = .ok (.i2l, 1) := dk_133 (dk_at dksX3_digest_4 19 rfl rfl)
theorem dX3_digest_112 : decode cX3_digest 112 = .ok (.ladd, 1) := dk_97 (dk_at dksX3_digest_4 20 rfl rfl)
theorem dX3_digest_113 : decode cX3_digest 113 = .ok (.lstore_n 1, 1) := dk_64 (dk_at dksX3_digest_4 21 rfl rfl)
theorem dX3_digest_114 : decode cX3_digest 114 = .ok (.ldc2_w 328, 3) := dk_20 1 72 (dk_at dksX3_digest_5 0 rfl rfl)
theorem dX3_digest_117 : decode cX3_digest 117 = .ok (.lload_n 1, 1) := dk_31 (dk_at dksX3_digest_5 3 rfl rfl)
theorem dX3_digest_118 : decode cX3_digest 118 = .ok (.lmul, 1) := dk_105 (dk_at dksX3_digest_5 4 rfl rfl)
theorem dX3_digest_119 : decode cX3_digest 119 = .ok (.aload_n 0, 1) := dk_42 (dk_at dksX3_digest_5 5 rfl rfl)
theorem dX3_digest_120 : decode cX3_digest 120 = .ok (.invokevirtual 257, 3) := dk_182 1 1 (dk_at dksX3_digest_5 6 rfl rfl)
theorem dX3_digest_123 : decode cX3_digest 123 = .ok (.i2l, 1) := dk_133 (dk_at dksX3_digest_5 9 rfl rfl)
theorem dX3_digest_124 : decode cX3_digest 124 = .ok (.ladd, 1) := dk_97 (dk_at dksX3_digest_5 10 rfl rfl)
theorem dX3_digest_125 : decode cX3_digest 125 = .ok (.lstore_n 1, 1) := dk_64 (dk_at dksX3_digest_5 11 rfl rfl)
theorem dX3_digest_126 : decode cX3_digest 126 = .ok (.ldc2_w 328, 3) := dk_20 1 72 (dk_at dksX3_digest_5 12 rfl rfl)
theorem dX3_digest_129 : decode cX3_digest 129 = .ok (.lload_n 1, 1) := dk_31 (dk_at dksX3_digest_5 15 rfl rfl)
theorem dX3_digest_130 : decode cX3_digest 130 = .ok (.lmul, 1) := dk_105 (dk_at dksX3_digest_5 16 rfl rfl)
theorem dX3_digest_131 : decode cX3_digest 131 = .ok (.aload_n 0, 1) := dk_42 (dk_at dksX3_digest_5 17 rfl rfl)
theorem dX3_digest_132 : decode cX3_digest 132 = .ok (.getfield 7, 3) := dk_180 0 7 (dk_at dksX3_digest_5 18 rfl rfl)
theorem dX3_digest_135 : decode cX3_digest 135 = .ok (.iconst 5, 1) := dk_8 (dk_at dksX3_digest_5 21 rfl rfl)
theorem dX3_digest_136 : decode cX3_digest 136 = .ok (.iaload, 1) := dk_46 (dk_at dksX3_digest_5 22 rfl rfl)
theorem dX3_digest_137 : decode cX3_digest 137 = .ok (.i2l, 1) := dk_133 (dk_at dksX3_digest_5 23 rfl rfl)
theorem dX3_digest_138 : decode cX3_digest 138 = .ok (.ladd, 1) := dk_97 (dk_at dksX3_digest_6 0 rfl rfl)
theorem dX3_digest_139 : decode cX3_digest 139 = .ok (.lstore_n 1, 1) := dk_64 (dk_at dksX3_digest_6 1 rfl rfl)
theorem dX3_digest_140 : decode cX3_digest 140 = .ok (.ldc2_w 328, 3) := dk_20 1 72 (dk_at dksX3_digest_6 2 rfl rfl)
theorem dX3_digest_143 : decode cX3_digest 143 = .ok (.lload_n 1, 1) := dk_31 (dk_at dksX3_digest_6 5 rfl rfl)
theorem dX3_digest_144 : decode cX3_digest 144 = .ok (.lmul, 1) := dk_105 (dk_at dksX3_digest_6 6 rfl rfl)
theorem dX3_digest_145 : decode cX3_digest 145 = .ok (.aload_n 0, 1) := dk_42 (dk_at dksX3_digest_6 7 rfl rfl)
theorem dX3_digest_146 : decode cX3_digest 146 = .ok (.getfield 7, 3) := dk_180 0 7 (dk_at dksX3_digest_6 8 rfl rfl)
theorem dX3_digest_149 : decode cX3_digest 149 = .ok (.bipush 6, 2) := dk_16 6 (dk_at dksX3_digest_6 11 rfl rfl)
theorem dX3_digest_151 : decode cX3_digest 151 = .ok (.iaload, 1) := dk_46 (dk_at dksX3_digest_6 13 rfl rfl)
theorem dX3_digest_152 : decode cX3_digest 152 = .ok (.i2l, 1) := dk_133 (dk_at dksX3_digest_6 14 rfl rfl)
theorem dX3_digest_153 : decode cX3_digest 153 = .ok (.ladd, 1) := dk_97 (dk_at dksX3_digest_6 15 rfl rfl)
theorem dX3_digest_154 : decode cX3_digest 154 = .ok (.lstore_n 1, 1) := dk_64 (dk_at dksX3_digest_6 16 rfl rfl)
theorem dX3_digest_155 : decode cX3_digest 155 = .ok (.ldc2_w 328, 3) := dk_20 1 72 (dk_at dksX3_digest_6 17 rfl rfl)
theorem dX3_digest_158 : decode cX3_digest 158 = .ok (.lload_n 1, 1) := dk_31 (dk_at dksX3_digest_6 20 rfl rfl)
theorem dX3_digest_159 : decode cX3_digest 159 = .ok (.lmul, 1) := dk_105 (dk_at dksX3_digest_6 21 rfl rfl)
theorem dX3_digest_160 : decode cX3_digest 160 = .ok (.aload_n 0, 1) := dk_42 (dk_at dksX3_digest_6 22 rfl rfl)
theorem dX3_digest_161 : decode cX3_digest 161 = .ok (.getfield 7, 3) := dk_180 0 7 (dk_at dksX3_digest_7 0 rfl rfl)
theorem dX3_digest_164 : decode cX3_digest 164 = .ok (.bipush 7, 2) := dk_16 7 (dk_at dksX3_digest_7 3 rfl rfl)
theorem dX3_digest_166 : decode cX3_digest 166 = .ok (.iaload, 1) := dk_46 (dk_at dksX3_digest_7 5 rfl rfl)
theorem dX3_digest_167 : decode cX3_digest 167 = .ok (.i2l, 1) := dk_133 (dk_at dksX3_digest_7 6 rfl rfl)
theorem dX3_digest_168 : decode cX3_digest 168 = .ok (.ladd, 1) := dk_97 (dk_at dksX3_digest_7 7 rfl rfl)
theorem dX3_digest_169 : decode cX3_digest 169 = .ok (.lstore_n 1, 1) := dk_64 (dk_at dksX3_digest_7 8 rfl rfl)
theorem dX3_digest_170 : decode cX3_digest 170 = .ok (.ldc2_w 328, 3) := dk_20 1 72 (dk_at dksX3_digest_7 9 rfl rfl)
theorem dX3_digest_173 : decode cX3_digest 173 = .ok (.lload_n 1, 1) := dk_31 (dk_at dksX3_digest_7 12 rfl rfl)
theorem dX3_digest_174 : decode cX3_digest 174 = .ok (.lmul, 1) := dk_105 (dk_at dksX3_digest_7 13 rfl rfl)
theorem dX3_digest_175 : decode cX3_digest 175 = .ok (.aload_n 0, 1) := dk_42 (dk_at dksX3_digest_7 14 rfl rfl)
theorem dX3_digest_176 : decode cX3_digest 176 = .ok (.getfield 7, 3) := dk_180 0 7 (dk_at dksX3_digest_7 15 rfl rfl)
theorem dX3_digest_179 : decode cX3_digest 179 = .ok (.bipush 8, 2) := dk_16 8 (dk_at dksX3_digest_7 18 rfl rfl)
theorem dX3_digest_181 : decode cX3_digest 181 = .ok (.iaload, 1) := dk_46 (dk_at dksX3_digest_7 20 rfl rfl)
theorem dX3_digest_182 : decode cX3_digest 182 = .ok (.i2l, 1) := dk_133 (dk_at dksX3_digest_7 21 rfl rfl)
theorem dX3_digest_183 : decode cX3_digest 183 = .ok (.ladd, 1) := dk_97 (dk_at dksX3_digest_7 22 rfl rfl)
theorem dX3_digest_184 : decode cX3_digest 184 = .ok (.lstore_n 1, 1) := dk_64 (dk_at dksX3_digest_7 23 rfl rfl)
theorem dX3_digest_185 : decode cX3_digest 185 = .ok (.iconst 0, 1) := dk_3 (dk_at dksX3_digest_8 0 rfl rfl)
theorem dX3_digest_186 : decode cX3_digest 186 = .ok (.istore_n 3, 1) := dk_62 (dk_at dksX3_digest_8 1 rfl rfl)
theorem dX3_digest_187 : decode cX3_digest 187 = .ok (.iload_n 3, 1) := dk_29 (dk_at dksX3_digest_8 2 rfl rfl)
theorem dX3_digest_188 : decode cX3_digest 188 = .ok (.iconst 3, 1) := dk_6 (dk_at dksX3_digest_8 3 rfl rfl)
theorem dX3_digest_189 : decode cX3_digest 189 = .ok (.if_icmp .gt 26, 3) := dk_163 0 26 (dk_at dksX3_digest_8 4 rfl rfl)
theorem dX3_digest_192 : decode cX3_digest 192 = .ok (.ldc2_w 328, 3) := dk_20 1 72 (dk_at dksX3_digest_8 7 rfl rfl)
theorem dX3_digest_195 : decode cX3_digest 195 = .ok (.lload_n 1, 1) := dk_31 (dk_at dksX3_digest_8 10 rfl rfl)
theorem dX3_digest_196 : decode cX3_digest 196 = .ok (.lmul, 1) := dk_105 (dk_at dksX3_digest_8 11 rfl rfl)
theorem dX3_digest_197 : decode cX3_digest 197 = .ok (.aload_n 0, 1) := dk_42 (dk_at dksX3_digest_8 12 rfl rfl)
theorem dX3_digest_198 : decode cX3_digest 198 = .ok (.getfield 7, 3) := dk_180 0 7 (dk_at dksX3_digest_8 13 rfl rfl)
theorem dX3_digest_201 : decode cX3_digest 201 = .ok (.bipush 10, 2) := dk_16 10 (dk_at dksX3_digest_8 16 rfl rfl)
theorem dX3_digest_203 : decode cX3_digest 203 = .ok (.iload_n 3, 1) := dk_29 (dk_at dksX3_digest_8 18 rfl rfl)
theorem dX3_digest_204 : decode cX3_digest 204 = .ok (.iadd, 1) := dk_96 (dk_at dksX3_digest_8 19 rfl rfl)
theorem dX3_digest_205 : decode cX3_digest 205 = .ok (.iaload, 1) := dk_46 (dk_at dksX3_digest_8 20 rfl rfl)
theorem dX3_digest_206 : decode cX3_digest 206 = .ok (.i2l, 1) := dk_133 (dk_at dksX3_digest_8 21 rfl rfl)
theorem dX3_digest_207 : decode cX3_digest 207 = .ok (.ladd, 1) := dk_97 (dk_at dksX3_digest_8 22 rfl rfl)
theorem dX3_digest_208 : decode cX3_digest 208 = .ok (.lstore_n 1, 1) := dk_64 (dk_at dksX3_digest_8 23 rfl rfl)
theorem dX3_digest_209 : decode cX3_digest 209 = .ok (.iinc 3 1, 3) := dk_132 3 1 (dk_at dksX3_digest_9 0 rfl rfl)
theorem dX3_digest_212 : decode cX3_digest 212 = .ok (.goto (-25), 3) := dk_167 255 231 (dk_at dksX3_digest_9 3 rfl rfl)
theorem dX3_digest_215 : decode cX3_digest 215 = .ok (.iconst 0, 1) := dk_3 (dk_at dksX3_digest_9 6 rfl rfl)
theorem dX3_digest_216 : decode cX3_digest 216 = .ok (.istore_n 3, 1) := dk_62 (dk_at dksX3_digest_9 7 rfl rfl)
theorem dX3_digest_217 : decode cX3_digest 217 = .ok (.iload_n 3, 1) := dk_29 (dk_at dksX3_digest_9 8 rfl rfl)
theorem dX3_digest_218 : decode cX3_digest 218 = .ok (.iconst 3, 1) := dk_6 (dk_at dksX3_digest_9 9 rfl rfl)
theorem dX3_digest_219 : decode cX3_digest 219 = .ok (.if_icmp .gt 21, 3) := dk_163 0 21 (dk_at dksX3_digest_9 10 rfl rfl)
theorem dX3_digest_222 : decode cX3_digest 222 = .ok (.ldc2_w 328, 3) := dk_20 1 72 (dk_at dksX3_digest_9 13 rfl rfl)
theorem dX3_digest_225 : decode cX3_digest 225 = .ok (.lload_n 1, 1) := dk_31 (dk_at dksX3_digest_9 16 rfl rfl)
theorem dX3_digest_226 : decode cX3_digest 226 = .ok (.lmul, 1) := dk_105 (dk_at dksX3_digest_9 17 rfl rfl)
theorem dX3_digest_227 : decode cX3_digest 227 = .ok (.aload_n 0, 1) := dk_42 (dk_at dksX3_digest_9 18 rfl rfl)
theorem dX3_digest_228 : decode cX3_digest 228 = .ok (.iload_n 3, 1) := dk_29 (dk_at dksX3_digest_9 19 rfl rfl)
theorem dX3_digest_229 : decode cX3_digest 229 = .ok (.invokevirtual 202, 3) := dk_182 0 202 (dk_at dksX3_digest_9 20 rfl rfl)
theorem dX3_digest_232 : decode cX3_digest 232 = .ok (.ladd, 1) := dk_97 (dk_at dksX3_digest_9 23 rfl rfl)
theorem dX3_digest_233 : decode cX3_digest 233 = .ok (.lstore_n 1, 1) := dk_64 (dk_at dksX3_digest_10 0 rfl rfl)
theorem dX3_digest_234 : decode cX3_digest 234 = .ok (.iinc 3 1, 3) := dk_132 3 1 (dk_at dksX3_digest_10 1 rfl rfl)
theorem dX3_digest_237 : decode cX3_digest 237 = .ok (.goto (-20), 3) := dk_167 255 236 (dk_at dksX3_digest_10 4 rfl rfl)
theorem dX3_digest_240 : decode cX3_digest 240 = .ok (.iconst 0, 1) := dk_3 (dk_at dksX3_digest_10 7 rfl rfl)
theorem dX3_digest_241 : decode cX3_digest 241 = .ok (.istore_n 3, 1) := dk_62 (dk_at dksX3_digest_10 8 rfl rfl)
theorem dX3_digest_242 : decode cX3_digest 242 = .ok (.iload_n 3, 1) := dk_29 (dk_at dksX3_digest_10 9 rfl rfl)
theorem dX3_digest_243 : decode cX3_digest 243 = .ok (.bipush 64, 2) := dk_16 64 (dk_at dksX3_digest_10 10 rfl rfl)
theorem dX3_digest_245 : decode cX3_digest 245 = .ok (.if_icmp .ge 26, 3) := dk_162 0 26 (dk_at dksX3_digest_10 12 rfl rfl)
theorem dX3_digest_248 : decode cX3_digest 248 = .ok (.ldc2_w 328, 3) := dk_20 1 72 (dk_at dksX3_digest_10 15 rfl rfl)
theorem dX3_digest_251 : decode cX3_digest 251 = .ok (.lload_n 1, 1) := dk_31 (dk_at dksX3_digest_10 18 rfl rfl)
theorem dX3_digest_252 : decode cX3_digest 252 = .ok (.lmul, 1) := dk_105 (dk_at dksX3_digest_10 19 rfl rfl)
theorem dX3_digest_253 : decode cX3_digest 253 = .ok (.aload_n 0, 1) := dk_42 (dk_at dksX3_digest_10 20 rfl rfl)
theorem dX3_digest_254 : decode cX3_digest 254 = .ok (.getfield 7, 3) := dk_180 0 7 (dk_at dksX3_digest_10 21 rfl rfl)
theorem dX3_digest_257 : decode cX3_digest 257 = .ok (.bipush 80, 2) := dk_16 80 (dk_at dksX3_digest_11 0 rfl rfl)
theorem dX3_digest_259 : decode cX3_digest 259 = .ok (.iload_n 3, 1) := dk_29 (dk_at dksX3_digest_11 2 rfl rfl)
theorem dX3_digest_260 : decode cX3_digest 260 = .ok (.iadd, 1) := dk_96 (dk_at dksX3_digest_11 3 rfl rfl)
theorem dX3_digest_261 : decode cX3_digest 261 = .ok (.iaload, 1) := dk_46 (dk_at dksX3_digest_11 4 rfl rfl)
theorem dX3_digest_262 : decode cX3_digest 262 = .ok (.i2l, 1) := dk_133 (dk_at dksX3_digest_11 5 rfl rfl)
theorem dX3_digest_263 : decode cX3_digest 263 = .ok (.ladd, 1) := dk_97 (dk_at dksX3_digest_11 6 rfl rfl)
theorem dX3_digest_264 : decode cX3_digest 264 = .ok (.lstore_n 1, 1) := dk_64 (dk_at dksX3_digest_11 7 rfl rfl)
theorem dX3_digest_265 : decode cX3_digest 265 = .ok (.iinc 3 1, 3) := dk_132 3 1 (dk_at dksX3_digest_11 8 rfl rfl)
theorem dX3_digest_268 : decode cX3_digest 268 = .ok (.goto (-26), 3) := dk_167 255 230 (dk_at dksX3_digest_11 11 rfl rfl)
theorem dX3_digest_271 : decode cX3_digest 271 = .ok (.iconst 0, 1) := dk_3 (dk_at dksX3_digest_11 14 rfl rfl)
theorem dX3_digest_272 : decode cX3_digest 272 = .ok (.istore_n 3, 1) := dk_62 (dk_at dksX3_digest_11 15 rfl rfl)
theorem dX3_digest_273 : decode cX3_digest 273 = .ok (.iload_n 3, 1) := dk_29 (dk_at dksX3_digest_11 16 rfl rfl)
theorem dX3_digest_274 : decode cX3_digest 274 = .ok (.aload_n 0, 1) := dk_42 (dk_at dksX3_digest_11 17 rfl rfl)
theorem dX3_digest_275 : decode cX3_digest 275 = .ok (.getfield 7, 3) := dk_180 0 7 (dk_at dksX3_digest_11 18 rfl rfl)
theorem dX3_digest_278 : decode cX3_digest 278 = .ok (.iconst 2, 1) := dk_5 (dk_at dksX3_digest_11 21 rfl rfl)
theorem dX3_digest_279 : decode cX3_digest 279 = .ok (.iaload, 1) := dk_46 (dk_at dksX3_digest_11 22 rfl rfl)
theorem dX3_digest_280 : decode cX3_digest 280 = .ok (.if_icmp .ge 120, 3) := dk_162 0 120 (dk_at dksX3_digest_12 0 rfl rfl)
theorem dX3_digest_283 : decode cX3_digest 283 = .ok (.ldc2_w 328, 3) := dk_20 1 72 (dk_at dksX3_digest_12 3 rfl rfl)
theorem dX3_digest_286 : decode cX3_digest 286 = .ok (.lload_n 1, 1) := dk_31 (dk_at dksX3_digest_12 6 rfl rfl)
theorem dX3_digest_287 : decode cX3_digest 287 = .ok (.lmul, 1) := dk_105 (dk_at dksX3_digest_12 7 rfl rfl)
theorem dX3_digest_288 : decode cX3_digest 288 = .ok (.aload_n 0, 1) := dk_42 (dk_at dksX3_digest_12 8 rfl rfl)
theorem dX3_digest_289 : decode cX3_digest 289 = .ok (.getfield 7, 3) := dk_180 0 7 (dk_at dksX3_digest_12 9 rfl rfl)
theorem dX3_digest_292 : decode cX3_digest 292 = .ok (.sipush 144, 3) := dk_17 0 144 (dk_at dksX3_digest_12 12 rfl rfl)
theorem dX3_digest_295 : decode cX3_digest 295 = .ok (.iload_n 3, 1) := dk_29 (dk_at dksX3_digest_12 15 rfl rfl)
theorem dX3_digest_296 : decode cX3_digest 296 = .ok (.iadd, 1) := dk_96 (dk_at dksX3_digest_12 16 rfl rfl)
theorem dX3_digest_297 : decode cX3_digest 297 = .ok (.iaload, 1) := dk_46 (dk_at dksX3_digest_12 17 rfl rfl)
theorem dX3_digest_298 : decode cX3_digest 298 = .ok (.i2l, 1) := dk_133 (dk_at dksX3_digest_12 18 rfl rfl)
theorem dX3_digest_299 : decode cX3_digest 299 = .ok (.ladd, 1) := dk_97 (dk_at dksX3_digest_12 19 rfl rfl)
theorem dX3_digest_300 : decode cX3_digest 300 = .ok (.lstore_n 1, 1) := dk_64 (dk_at dksX3_digest_12 20 rfl rfl)
theorem dX3_digest_301 : decode cX3_digest 301 = .ok (.ldc2_w 328, 3) := dk_20 1 72 (dk_at dksX3_digest_12 21 rfl rfl)
theorem dX3_digest_304 : decode cX3_digest 304 = .ok (.lload_n 1, 1) := dk_31 (dk_at dksX3_digest_13 0 rfl rfl)
theorem dX3_digest_305 : decode cX3_digest 305 = .ok (.lmul, 1) := dk_105 (dk_at dksX3_digest_13 1 rfl rfl)
theorem dX3_digest_306 : decode cX3_digest 306 = .ok (.aload_n 0, 1) := dk_42 (dk_at dksX3_digest_13 2 rfl rfl)
theorem dX3_digest_307 : decode cX3_digest 307 = .ok (.getfield 22, 3) := dk_180 0 22 (dk_at dksX3_digest_13 3 rfl rfl)
theorem dX3_digest_310 : decode cX3_digest 310 = .ok (.iload_n 3, 1) := dk_29 (dk_at dksX3_digest_13 6 rfl rfl)
theorem dX3_digest_311 : decode cX3_digest 311 = .ok (.laload, 1) := dk_47 (dk_at dksX3_digest_13 7 rfl rfl)
theorem dX3_digest_312 : decode cX3_digest 312 = .ok (.ladd, 1) := dk_97 (dk_at dksX3_digest_13 8 rfl rfl)
theorem dX3_digest_313 : decode cX3_digest 313 = .ok (.lstore_n 1, 1) := dk_64 (dk_at dksX3_digest_13 9 rfl rfl)
theorem dX3_digest_314 : decode cX3_digest 314 = .ok (.ldc2_w 328, 3) := dk_20 1 72 (dk_at dksX3_digest_13 10 rfl rfl)
theorem dX3_digest_317 : decode cX3_digest 317 = .ok (.lload_n 1, 1) := dk_31 (dk_at dksX3_digest_13 13 rfl rfl)
theorem dX3_digest_318 : decode cX3_digest 318 = .ok (.lmul, 1) := dk_105 (dk_at dksX3_digest_13 14 rfl rfl)
theorem dX3_digest_319 : decode cX3_digest 319 = .ok (.aload_n 0, 1) := dk_42 (dk_at dksX3_digest_13 15 rfl rfl)
theorem dX3_digest_320 : decode cX3_digest 320 = .ok (.iload_n 3, 1) := dk_29 (dk_at dksX3_digest_13 16 rfl rfl)
theorem dX3_digest_321 : decode cX3_digest 321 = .ok (.invokevirtual 146, 3) := dk_182 0 146 (dk_at dksX3_digest_13 17 rfl rfl)
theorem dX3_digest_324 : decode cX3_digest 324 = .ok (.i2l, 1) := dk_133 (dk_at dksX3_digest_13 20 rfl rfl)
theorem dX3_digest_325 : decode cX3_digest 325 = .ok (.ladd, 1) := dk_97 (dk_at dksX3_digest_13 21 rfl rfl)
theorem dX3_digest_326 : decode cX3_digest 326 = .ok (.lstore_n 1, 1) := dk_64 (dk_at dksX3_digest_13 22 rfl rfl)
theorem dX3_digest_327 : decode cX3_digest 327 = .ok (.ldc2_w 328, 3) := dk_20 1 72 (dk_at dksX3_digest_14 0 rfl rfl)
theorem dX3_digest_330 : decode cX3_digest 330 = .ok (.lload_n 1, 1) := dk_31 (dk_at dksX3_digest_14 3 rfl rfl)
theorem dX3_digest_331 : decode cX3_digest 331 = .ok (.lmul, 1) := dk_105 (dk_at dksX3_digest_14 4 rfl rfl)
theorem dX3_digest_332 : decode cX3_digest 332 = .ok (.aload_n 0, 1) := dk_42 (dk_at dksX3_digest_14 5 rfl rfl)
theorem dX3_digest_333 : decode cX3_digest 333 = .ok (.iload_n 3, 1) := dk_29 (dk_at dksX3_digest_14 6 rfl rfl)
theorem dX3_digest_334 : decode cX3_digest 334 = .ok (.invokevirtual 156, 3) := dk_182 0 156 (dk_at dksX3_digest_14 7 rfl rfl)
theorem dX3_digest_337 : decode cX3_digest 337 = .ok (.i2l, 1) := dk_133 (dk_at dksX3_digest_14 10 rfl rfl)
theorem dX3_digest_338 : decode cX3_digest 338 = .ok (.ladd, 1) := dk_97 (dk_at dksX3_digest_14 11 rfl rfl)
theorem dX3_digest_339 : decode cX3_digest 339 = .ok (.lstore_n 1, 1) := dk_64 (dk_at dksX3_digest_14 12 rfl rfl)
theorem dX3_digest_340 : decode cX3_digest 340 = .ok (.ldc2_w 328, 3) := dk_20 1 72 (dk_at dksX3_digest_14 13 rfl rfl)
theorem dX3_digest_343 : decode cX3_digest 343 = .ok (.lload_n 1, 1) := dk_31 (dk_at dksX3_digest_14 16 rfl rfl)
theorem dX3_digest_344 : decode cX3_digest 344 = .ok (.lmul, 1) := dk_105 (dk_at dksX3_digest_14 17 rfl rfl)
theorem dX3_digest_345 : decode cX3_digest 345 = .ok (.aload_n 0, 1) := dk_42 (dk_at dksX3_digest_14 18 rfl rfl)
theorem dX3_digest_346 : decode cX3_digest 346 = .ok (.iload_n 3, 1) := dk_29 (dk_at dksX3_digest_14 19 rfl rfl)
theorem dX3_digest_347 : decode cX3_digest 347 = .ok (.iconst 0, 1) := dk_3 (dk_at dksX3_digest_14 20 rfl rfl)
theorem dX3_digest_348 : decode cX3_digest 348 = .ok (.invokevirtual 209, 3) := dk_182 0 209 (dk_at dksX3_digest_14 21 rfl rfl)
theorem dX3_digest_351 : decode cX3_digest 351 = .ok (.i2l, 1) := dk_133 (dk_at dksX3_digest_15 0 rfl rfl)
theorem dX3_digest_352 : decode cX3_digest 352 = .ok (.ladd, 1) := dk_97 (dk_at dksX3_digest_15 1 rfl rfl)
theorem dX3_digest_353 : decode cX3_digest 353 = .ok (.lstore_n 1, 1) := dk_64 (dk_at dksX3_digest_15 2 rfl rfl)
theorem dX3_digest_354 : decode cX3_digest 354 = .ok (.ldc2_w 328, 3) := dk_20 1 72 (dk_at dksX3_digest_15 3 rfl rfl)
theorem dX3_digest_357 : decode cX3_digest 357 = .ok (.lload_n 1, 1) := dk_31 (dk_at dksX3_digest_15 6 rfl rfl)
theorem dX3_digest_358 : decode cX3_digest 358 = .ok (.lmul, 1) := dk_105 (dk_at dksX3_digest_15 7 rfl rfl)
theorem dX3_digest_359 : decode cX3_digest 359 = .ok (.aload_n 0, 1) := dk_42 (dk_at dksX3_digest_15 8 rfl rfl)
theorem dX3_digest_360 : decode cX3_digest 360 = .ok (.iload_n 3, 1) := dk_29 (dk_at dksX3_digest_15 9 rfl rfl)
theorem dX3_digest_361 : decode cX3_digest 361 = .ok (.iconst 1, 1) := dk_4 (dk_at dksX3_digest_15 10 rfl rfl)
theorem dX3_digest_362 : decode cX3_digest 362 = .ok (.invokevirtual 209, 3) := dk_182 0 209 (dk_at dksX3_digest_15 11 rfl rfl)
theorem dX3_digest_365 : decode cX3_digest 365 = .ok (.i2l, 1) := dk_133 (dk_at dksX3_digest_15 14 rfl rfl)
theorem dX3_digest_366 : decode cX3_digest 366 = .ok (.ladd, 1) := dk_97 (dk_at dksX3_digest_15 15 rfl rfl)
theorem dX3_digest_367 : decode cX3_digest 367 = .ok (.lstore_n 1, 1) := dk_64 (dk_at dksX3_digest_15 16 rfl rfl)
theorem dX3_digest_368 : decode cX3_digest 368 = .ok (.ldc2_w 328, 3) := dk_20 1 72 (dk_at dksX3_digest_15 17 rfl rfl)
theorem dX3_digest_371 : decode cX3_digest 371 = .ok (.lload_n 1, 1) := dk_31 (dk_at dksX3_digest_15 20 rfl rfl)
theorem dX3_digest_372 : decode cX3_digest 372 = .ok (.lmul, 1) := dk_105 (dk_at dksX3_digest_15 21 rfl rfl)
theorem dX3_digest_373 : decode cX3_digest 373 = .ok (.aload_n 0, 1) := dk_42 (dk_at dksX3_digest_15 22 rfl rfl)
theorem dX3_digest_374 : decode cX3_digest 374 = .ok (.iload_n 3, 1) := dk_29 (dk_at dksX3_digest_15 23 rfl rfl)
theorem dX3_digest_375 : decode cX3_digest 375 = .ok (.invokevirtual 160, 3) := dk_182 0 160 (dk_at dksX3_digest_16 0 rfl rfl)
theorem dX3_digest_378 : decode cX3_digest 378 = .ok (.i2l, 1) := dk_133 (dk_at dksX3_digest_16 3 rfl rfl)
theorem dX3_digest_379 : decode cX3_digest 379 = .ok (.ladd, 1) := dk_97 (dk_at dksX3_digest_16 4 rfl rfl)
theorem dX3_digest_380 : decode cX3_digest 380 = .ok (.lstore_n 1, 1) := dk_64 (dk_at dksX3_digest_16 5 rfl rfl)
theorem dX3_digest_381 : decode cX3_digest 381 = .ok (.ldc2_w 328, 3) := dk_20 1 72 (dk_at dksX3_digest_16 6 rfl rfl)
theorem dX3_digest_384 : decode cX3_digest 384 = .ok (.lload_n 1, 1) := dk_31 (dk_at dksX3_digest_16 9 rfl rfl)
theorem dX3_digest_385 : decode cX3_digest 385 = .ok (.lmul, 1) := dk_105 (dk_at dksX3_digest_16 10 rfl rfl)
theorem dX3_digest_386 : decode cX3_digest 386 = .ok (.aload_n 0, 1) := dk_42 (dk_at dksX3_digest_16 11 rfl rfl)
theorem dX3_digest_387 : decode cX3_digest 387 = .ok (.iload_n 3, 1) := dk_29 (dk_at dksX3_digest_16 12 rfl rfl)
theorem dX3_digest_388 : decode cX3_digest 388 = .ok (.invokevirtual 163, 3) := dk_182 0 163 (dk_at dksX3_digest_16 13 rfl rfl)
theorem dX3_digest_391 : decode cX3_digest 391 = .ok (.i2l, 1) := dk_133 (dk_at dksX3_digest_16 16 rfl rfl)
theorem dX3_digest_392 : decode cX3_digest 392 = .ok (.ladd, 1) := dk_97 (dk_at dksX3_digest_16 17 rfl rfl)
theorem dX3_digest_393 : decode cX3_digest 393 = .ok (.lstore_n 1, 1) := dk_64 (dk_at dksX3_digest_16 18 rfl rfl)
theorem dX3_digest_394 : decode cX3_digest 394 = .ok (.iinc 3 1, 3) := dk_132 3 1 (dk_at dksX3_digest_16 19 rfl rfl)
theorem dX3_digest_397 : decode cX3_digest 397 = .ok (.goto (-124), 3) := dk_167 255 132 (dk_at dksX3_digest_17 0 rfl rfl)
theorem dX3_digest_400 : decode cX3_digest 400 = .ok (.iconst 0, 1) := dk_3 (dk_at dksX3_digest_17 3 rfl rfl)
theorem dX3_digest_401 : decode cX3_digest 401 = .ok (.istore_n 3, 1) := dk_62 (dk_at dksX3_digest_17 4 rfl rfl)
theorem dX3_digest_402 : decode cX3_digest 402 = .ok (.iload_n 3, 1) := dk_29 (dk_at dksX3_digest_17 5 rfl rfl)
theorem dX3_digest_403 : decode cX3_digest 403 = .ok (.aload_n 0, 1) := dk_42 (dk_at dksX3_digest_17 6 rfl rfl)
theorem dX3_digest_404 : decode cX3_digest 404 = .ok (.getfield 7, 3) := dk_180 0 7 (dk_at dksX3_digest_17 7 rfl rfl)
theorem dX3_digest_407 : decode cX3_digest 407 = .ok (.iconst 3, 1) := dk_6 (dk_at dksX3_digest_17 10 rfl rfl)
theorem dX3_digest_408 : decode cX3_digest 408 = .ok (.iaload, 1) := dk_46 (dk_at dksX3_digest_17 11 rfl rfl)
theorem dX3_digest_409 : decode cX3_digest 409 = .ok (.if_icmp .ge 119, 3) := dk_162 0 119 (dk_at dksX3_digest_17 12 rfl rfl)
theorem dX3_digest_412 : decode cX3_digest 412 = .ok (.ldc2_w 328, 3) := dk_20 1 72 (dk_at dksX3_digest_17 15 rfl rfl)
theorem dX3_digest_415 : decode cX3_digest 415 = .ok (.lload_n 1, 1) := dk_31 (dk_at dksX3_digest_17 18 rfl rfl)
theorem dX3_digest_416 : decode cX3_digest 416 = .ok (.lmul, 1) := dk_105 (dk_at dksX3_digest_17 19 rfl rfl)
theorem dX3_digest_417 : decode cX3_digest 417 = .ok (.aload_n 0, 1) := dk_42 (dk_at dksX3_digest_17 20 rfl rfl)
theorem dX3_digest_418 : decode cX3_digest 418 = .ok (.iload_n 3, 1) := dk_29 (dk_at dksX3_digest_17 21 rfl rfl)
theorem dX3_digest_419 : decode cX3_digest 419 = .ok (.iconst 0, 1) := dk_3 (dk_at dksX3_digest_17 22 rfl rfl)
theorem dX3_digest_420 : decode cX3_digest 420 = .ok (.invokevirtual 93, 3) := dk_182 0 93 (dk_at dksX3_digest_18 0 rfl rfl)
theorem dX3_digest_423 : decode cX3_digest 423 = .ok (.i2l, 1) := dk_133 (dk_at dksX3_digest_18 3 rfl rfl)
theorem dX3_digest_424 : decode cX3_digest 424 = .ok (.ladd, 1) := dk_97 (dk_at dksX3_digest_18 4 rfl rfl)
theorem dX3_digest_425 : decode cX3_digest 425 = .ok (.lstore_n 1, 1) := dk_64 (dk_at dksX3_digest_18 5 rfl rfl)
theorem dX3_digest_426 : decode cX3_digest 426 = .ok (.ldc2_w 328, 3) := dk_20 1 72 (dk_at dksX3_digest_18 6 rfl rfl)
theorem dX3_digest_429 : decode cX3_digest 429 = .ok (.lload_n 1, 1) := dk_31 (dk_at dksX3_digest_18 9 rfl rfl)
theorem dX3_digest_430 : decode cX3_digest 430 = .ok (.lmul, 1) := dk_105 (dk_at dksX3_digest_18 10 rfl rfl)
theorem dX3_digest_431 : decode cX3_digest 431 = .ok (.aload_n 0, 1) := dk_42 (dk_at dksX3_digest_18 11 rfl rfl)
theorem dX3_digest_432 : decode cX3_digest 432 = .ok (.iload_n 3, 1) := dk_29 (dk_at dksX3_digest_18 12 rfl rfl)
theorem dX3_digest_433 : decode cX3_digest 433 = .ok (.iconst 1, 1) := dk_4 (dk_at dksX3_digest_18 13 rfl rfl)
theorem dX3_digest_434 : decode cX3_digest 434 = .ok (.invokevirtual 93, 3) := dk_182 0 93 (dk_at dksX3_digest_18 14 rfl rfl)
theorem dX3_digest_437 : decode cX3_digest 437 = .ok (.i2l, 1) := dk_133 (dk_at dksX3_digest_18 17 rfl rfl)
theorem dX3_digest_438 : decode cX3_digest 438 = .ok (.ladd, 1) := dk_97 (dk_at dksX3_digest_18 18 rfl rfl)
theorem dX3_digest_439 : decode cX3_digest 439 = .ok (.lstore_n 1, 1) := dk_64 (dk_at dksX3_digest_18 19 rfl rfl)
theorem dX3_digest_440 : decode cX3_digest 440 = .ok (.ldc2_w 328, 3) := dk_20 1 72 (dk_at dksX3_digest_18 20 rfl rfl)
theorem dX3_digest_443 : decode cX3_digest 443 = .ok (.lload_n 1, 1) := dk_31 (dk_at dksX3_digest_18 23 rfl rfl)
theorem dX3_digest_444 : decode cX3_digest 444 = .ok (.lmul, 1) := dk_105 (dk_at dksX3_digest_19 0 rfl rfl)
theorem dX3_digest_445 : decode cX3_digest 445 = .ok (.aload_n 0, 1) := dk_42 (dk_at dksX3_digest_19 1 rfl rfl)
theorem dX3_digest_446 : decode cX3_digest 446 = .ok (.iload_n 3, 1) := dk_29 (dk_at dksX3_digest_19 2 rfl rfl)
theorem dX3_digest_447 : decode cX3_digest 447 = .ok (.iconst 2, 1) := dk_5 (dk_at dksX3_digest_19 3 rfl rfl)
theorem dX3_digest_448 : decode cX3_digest 448 = .ok (.invokevirtual 93, 3) := dk_182 0 93 (dk_at dksX3_digest_19 4 rfl rfl)
theorem dX3_digest_451 : decode cX3_digest 451 = .ok (.i2l, 1) := dk_133 (dk_at dksX3_digest_19 7 rfl rfl)
theorem dX3_digest_452 : decode cX3_digest 452 = .ok (.ladd, 1) := dk_97 (dk_at dksX3_digest_19 8 rfl rfl)
theorem dX3_digest_453 : decode cX3_digest 453 = .ok (.lstore_n 1, 1) := dk_64 (dk_at dksX3_digest_19 9 rfl rfl)
theorem dX3_digest_454 : decode cX3_digest 454 = .ok (.ldc2_w 328, 3) := dk_20 1 72 (dk_at dksX3_digest_19 10 rfl rfl)
theorem dX3_digest_457 : decode cX3_digest 457 = .ok (.lload_n 1, 1) := dk_31 (dk_at dksX3_digest_19 13 rfl rfl)
theorem dX3_digest_458 : decode cX3_digest 458 = .ok (.lmul, 1) := dk_105 (dk_at dksX3_digest_19 14 rfl rfl)
theorem dX3_digest_459 : decode cX3_digest 459 = .ok (.aload_n 0, 1) := dk_42 (dk_at dksX3_digest_19 15 rfl rfl)
theorem dX3_digest_460 : decode cX3_digest 460 = .ok (.iload_n 3, 1) := dk_29 (dk_at dksX3_digest_19 16 rfl rfl)
theorem dX3_digest_461 : decode cX3_digest 461 = .ok (.iconst 5, 1) := dk_8 (dk_at dksX3_digest_19 17 rfl rfl)
theorem dX3_digest_462 : decode cX3_digest 462 = .ok (.invokevirtual 93, 3) := dk_182 0 93 (dk_at dksX3_digest_19 18 rfl rfl)
theorem dX3_digest_465 : decode cX3_digest 465 = .ok (.i2l, 1) := dk_133 (dk_at dksX3_digest_19 21 rfl rfl)
theorem dX3_digest_466 : decode cX3_digest 466 = .ok (.ladd, 1) := dk_97 (dk_at dksX3_digest_19 22 rfl rfl)
theorem dX3_digest_467 : decode cX3_digest 467 = .ok (.lstore_n 1, 1) := dk_64 (dk_at dksX3_digest_19 23 rfl rfl)
theorem dX3_digest_468 : decode cX3_digest 468 = .ok (.ldc2_w 328, 3) := dk_20 1 72 (dk_at dksX3_digest_20 0 rfl rfl)
theorem dX3_digest_471 : decode cX3_digest 471 = .ok (.lload_n 1, 1) := dk_31 (dk_at dksX3_digest_20 3 rfl rfl)
theorem dX3_digest_472 : decode cX3_digest 472 = .ok (.lmul, 1) := dk_105 (dk_at dksX3_digest_20 4 rfl rfl)
theorem dX3_digest_473 : decode cX3_digest 473 = .ok (.aload_n 0, 1) := dk_42 (dk_at dksX3_digest_20 5 rfl rfl)
theorem dX3_digest_474 : decode cX3_digest 474 = .ok (.iload_n 3, 1) := dk_29 (dk_at dksX3_digest_20 6 rfl rfl)
theorem dX3_digest_475 : decode cX3_digest 475 = .ok (.iconst 3, 1) := dk_6 (dk_at dksX3_digest_20 7 rfl rfl)
theorem dX3_digest_476 : decode cX3_digest 476 = .ok (.invokevirtual 230, 3) := dk_182 0 230 (dk_at dksX3_digest_20 8 rfl rfl)
theorem dX3_digest_479 : decode cX3_digest 479 = .ok (.i2l, 1) := dk_133 (dk_at dksX3_digest_20 11 rfl rfl)
theorem dX3_digest_480 : decode cX3_digest 480 = .ok (.ladd, 1) := dk_97 (dk_at dksX3_digest_20 12 rfl rfl)
theorem dX3_digest_481 : decode cX3_digest 481 = .ok (.lstore_n 1, 1) := dk_64 (dk_at dksX3_digest_20 13 rfl rfl)
theorem dX3_digest_482 : decode cX3_digest 482 = .ok (.ldc2_w 328, 3) := dk_20 1 72 (dk_at dksX3_digest_20 14 rfl rfl)
theorem dX3_digest_485 : decode cX3_digest 485 = .ok (.lload_n 1, 1) := dk_31 (dk_at dksX3_digest_20 17 rfl rfl)
theorem dX3_digest_486 : decode cX3_digest 486 = .ok (.lmul, 1) := dk_105 (dk_at dksX3_digest_20 18 rfl rfl)
theorem dX3_digest_487 : decode cX3_digest 487 = .ok (.aload_n 0, 1) := dk_42 (dk_at dksX3_digest_20 19 rfl rfl)
theorem dX3_digest_488 : decode cX3_digest 488 = .ok (.iload_n 3, 1) := dk_29 (dk_at dksX3_digest_20 20 rfl rfl)
theorem dX3_digest_489 : decode cX3_digest 489 = .ok (.iconst 4, 1) := dk_7 (dk_at dksX3_digest_20 21 rfl rfl)
theorem dX3_digest_490 : decode cX3_digest 490 = .ok (.invokevirtual 230, 3) := dk_182 0 230 (dk_at dksX3_digest_21 0 rfl rfl)
theorem dX3_digest_493 : decode cX3_digest 493 = .ok (.i2l, 1) := dk_133 (dk_at dksX3_digest_21 3 rfl rfl)
theorem dX3_digest_494 : decode cX3_digest 494 = .ok (.ladd, 1) := dk_97 (dk_at dksX3_digest_21 4 rfl rfl)
theorem dX3_digest_495 : decode cX3_digest 495 = .ok (.lstore_n 1, 1) := dk_64 (dk_at dksX3_digest_21 5 rfl rfl)
theorem dX3_digest_496 : decode cX3_digest 496 = .ok (.ldc2_w 328, 3) := dk_20 1 72 (dk_at dksX3_digest_21 6 rfl rfl)
theorem dX3_digest_499 : decode cX3_digest 499 = .ok (.lload_n 1, 1) := dk_31 (dk_at dksX3_digest_21 9 rfl rfl)
theorem dX3_digest_500 : decode cX3_digest 500 = .ok (.lmul, 1) := dk_105 (dk_at dksX3_digest_21 10 rfl rfl)
theorem dX3_digest_501 : decode cX3_digest 501 = .ok (.aload_n 0, 1) := dk_42 (dk_at dksX3_digest_21 11 rfl rfl)
theorem dX3_digest_502 : decode cX3_digest 502 = .ok (.iload_n 3, 1) := dk_29 (dk_at dksX3_digest_21 12 rfl rfl)
theorem dX3_digest_503 : decode cX3_digest 503 = .ok (.invokevirtual 239, 3) := dk_182 0 239 (dk_at dksX3_digest_21 13 rfl rfl)
theorem dX3_digest_506 : decode cX3_digest 506 = .ok (.i2l, 1) := dk_133 (dk_at dksX3_digest_21 16 rfl rfl)
theorem dX3_digest_507 : decode cX3_digest 507 = .ok (.ladd, 1) := dk_97 (dk_at dksX3_digest_21 17 rfl rfl)
theorem dX3_digest_508 : decode cX3_digest 508 = .ok (.lstore_n 1, 1) := dk_64 (dk_at dksX3_digest_21 18 rfl rfl)
theorem dX3_digest_509 : decode cX3_digest 509 = .ok (.ldc2_w 328, 3) := dk_20 1 72 (dk_at dksX3_digest_21 19 rfl rfl)
theorem dX3_digest_512 : decode cX3_digest 512 = .ok (.lload_n 1, 1) := dk_31 (dk_at dksX3_digest_21 22 rfl rfl)
theorem dX3_digest_513 : decode cX3_digest 513 = .ok (.lmul, 1) := dk_105 (dk_at dksX3_digest_21 23 rfl rfl)
theorem dX3_digest_514 : decode cX3_digest 514 = .ok (.aload_n 0, 1) := dk_42 (dk_at dksX3_digest_22 0 rfl rfl)
theorem dX3_digest_515 : decode cX3_digest 515 = .ok (.iload_n 3, 1) := dk_29 (dk_at dksX3_digest_22 1 rfl rfl)
theorem dX3_digest_516 : decode cX3_digest 516 = .ok (.invokevirtual 245, 3) := dk_182 0 245 (dk_at dksX3_digest_22 2 rfl rfl)
theorem dX3_digest_519 : decode cX3_digest 519 = .ok (.i2l, 1) := dk_133 (dk_at dksX3_digest_22 5 rfl rfl)
theorem dX3_digest_520 : decode cX3_digest 520 = .ok (.ladd, 1) := dk_97 (dk_at dksX3_digest_22 6 rfl rfl)
theorem dX3_digest_521 : decode cX3_digest 521 = .ok (.lstore_n 1, 1) := dk_64 (dk_at dksX3_digest_22 7 rfl rfl)
theorem dX3_digest_522 : decode cX3_digest 522 = .ok (.iinc 3 1, 3) := dk_132 3 1 (dk_at dksX3_digest_22 8 rfl rfl)
theorem dX3_digest_525 : decode cX3_digest 525 = .ok (.goto (-123), 3) := dk_167 255 133 (dk_at dksX3_digest_22 11 rfl rfl)
theorem dX3_digest_528 : decode cX3_digest 528 = .ok (.iconst 0, 1) := dk_3 (dk_at dksX3_digest_22 14 rfl rfl)
theorem dX3_digest_529 : decode cX3_digest 529 = .ok (.istore_n 3, 1) := dk_62 (dk_at dksX3_digest_22 15 rfl rfl)
theorem dX3_digest_530 : decode cX3_digest 530 = .ok (.iload_n 3, 1) := dk_29 (dk_at dksX3_digest_22 16 rfl rfl)
theorem dX3_digest_531 : decode cX3_digest 531 = .ok (.aload_n 0, 1) := dk_42 (dk_at dksX3_digest_22 17 rfl rfl)
theorem dX3_digest_532 : decode cX3_digest 532 = .ok (.getfield 7, 3) := dk_180 0 7 (dk_at dksX3_digest_22 18 rfl rfl)
theorem dX3_digest_535 : decode cX3_digest 535 = .ok (.bipush 9, 2) := dk_16 9 (dk_at dksX3_digest_22 21 rfl rfl)
theorem dX3_digest_537 : decode cX3_digest 537 = .ok (.iaload, 1) := dk_46 (dk_at dksX3_digest_22 23 rfl rfl)
theorem dX3_digest_538 : decode cX3_digest 538 = .ok (.if_icmp .ge 39, 3) := dk_162 0 39 (dk_at dksX3_digest_23 0 rfl rfl)
theorem dX3_digest_541 : decode cX3_digest 541 = .ok (.iconst 0, 1) := dk_3 (dk_at dksX3_digest_23 3 rfl rfl)
theorem dX3_digest_542 : decode cX3_digest 542 = .ok (.istore 4, 2) := dk_54 4 (dk_at dksX3_digest_23 4 rfl rfl)
theorem dX3_digest_544 : decode cX3_digest 544 = .ok (.iload 4, 2) := dk_21 4 (dk_at dksX3_digest_23 6 rfl rfl)
theorem dX3_digest_546 : decode cX3_digest 546 = .ok (.iconst 3, 1) := dk_6 (dk_at dksX3_digest_23 8 rfl rfl)
theorem dX3_digest_547 : decode cX3_digest 547 = .ok (.if_icmp .ge 24, 3) := dk_162 0 24 (dk_at dksX3_digest_23 9 rfl rfl)
theorem dX3_digest_550 : decode cX3_digest 550 = .ok (.ldc2_w 328, 3) := dk_20 1 72 (dk_at dksX3_digest_23 12 rfl rfl)
theorem dX3_digest_553 : decode cX3_digest 553 = .ok (.lload_n 1, 1) := dk_31 (dk_at dksX3_digest_23 15 rfl rfl)
theorem dX3_digest_554 : decode cX3_digest 554 = .ok (.lmul, 1) := dk_105 (dk_at dksX3_digest_23 16 rfl rfl)
theorem dX3_digest_555 : decode cX3_digest 555 = .ok (.aload_n 0, 1) := dk_42 (dk_at dksX3_digest_23 17 rfl rfl)
theorem dX3_digest_556 : decode cX3_digest 556 = .ok (.iload_n 3, 1) := dk_29 (dk_at dksX3_digest_23 18 rfl rfl)
theorem dX3_digest_557 : decode cX3_digest 557 = .ok (.iload 4, 2) := dk_21 4 (dk_at dksX3_digest_23 19 rfl rfl)
theorem dX3_digest_559 : decode cX3_digest 559 = .ok (.invokevirtual 260, 3) := dk_182 1 4 (dk_at dksX3_digest_23 21 rfl rfl)
theorem dX3_digest_562 : decode cX3_digest 562 = .ok (.i2l, 1) := dk_133 (dk_at dksX3_digest_24 0 rfl rfl)
theorem dX3_digest_563 : decode cX3_digest 563 = .ok (.ladd, 1) := dk_97 (dk_at dksX3_digest_24 1 rfl rfl)
theorem dX3_digest_564 : decode cX3_digest 564 = .ok (.lstore_n 1, 1) := dk_64 (dk_at dksX3_digest_24 2 rfl rfl)
theorem dX3_digest_565 : decode cX3_digest 565 = .ok (.iinc 4 1, 3) := dk_132 4 1 (dk_at dksX3_digest_24 3 rfl rfl)
theorem dX3_digest_568 : decode cX3_digest 568 = .ok (.goto (-24), 3) := dk_167 255 232 (dk_at dksX3_digest_24 6 rfl rfl)
theorem dX3_digest_571 : decode cX3_digest 571 = .ok (.iinc 3 1, 3) := dk_132 3 1 (dk_at dksX3_digest_24 9 rfl rfl)
theorem dX3_digest_574 : decode cX3_digest 574 = .ok (.goto (-44), 3) := dk_167 255 212 (dk_at dksX3_digest_24 12 rfl rfl)
theorem dX3_digest_577 : decode cX3_digest 577 = .ok (.ldc2_w 328, 3) := dk_20 1 72 (dk_at dksX3_digest_24 15 rfl rfl)
theorem dX3_digest_580 : decode cX3_digest 580 = .ok (.lload_n 1, 1) := dk_31 (dk_at dksX3_digest_24 18 rfl rfl)
theorem dX3_digest_581 : decode cX3_digest 581 = .ok (.lmul, 1) := dk_105 (dk_at dksX3_digest_24 19 rfl rfl)
theorem dX3_digest_582 : decode cX3_digest 582 = .ok (.aload_n 0, 1) := dk_42 (dk_at dksX3_digest_24 20 rfl rfl)
theorem dX3_digest_583 : decode cX3_digest 583 = .ok (.invokevirtual 266, 3) := dk_182 1 10 (dk_at dksX3_digest_24 21 rfl rfl)
theorem dX3_digest_586 : decode cX3_digest 586 = .ok (.i2l, 1) := dk_133 (dk_at dksX3_digest_25 0 rfl rfl)
theorem dX3_digest_587 : decode cX3_digest 587 = .ok (.ladd, 1) := dk_97 (dk_at dksX3_digest_25 1 rfl rfl)
theorem dX3_digest_588 : decode cX3_digest 588 = .ok (.lstore_n 1, 1) := dk_64 (dk_at dksX3_digest_25 2 rfl rfl)
theorem dX3_digest_589 : decode cX3_digest 589 = .ok (.ldc2_w 328, 3) := dk_20 1 72 (dk_at dksX3_digest_25 3 rfl rfl)
theorem dX3_digest_592 : decode cX3_digest 592 = .ok (.lload_n 1, 1) := dk_31 (dk_at dksX3_digest_25 6 rfl rfl)
theorem dX3_digest_593 : decode cX3_digest 593 = .ok (.lmul, 1) := dk_105 (dk_at dksX3_digest_25 7 rfl rfl)
theorem dX3_digest_594 : decode cX3_digest 594 = .ok (.aload_n 0, 1) := dk_42 (dk_at dksX3_digest_25 8 rfl rfl)
theorem dX3_digest_595 : decode cX3_digest 595 = .ok (.iconst 4, 1) := dk_7 (dk_at dksX3_digest_25 9 rfl rfl)
theorem dX3_digest_596 : decode cX3_digest 596 = .ok (.invokevirtual 275, 3) := dk_182 1 19 (dk_at dksX3_digest_25 10 rfl rfl)
theorem dX3_digest_599 : decode cX3_digest 599 = .ok (.i2l, 1) := dk_133 (dk_at dksX3_digest_25 13 rfl rfl)
theorem dX3_digest_600 : decode cX3_digest 600 = .ok (.ladd, 1) := dk_97 (dk_at dksX3_digest_25 14 rfl rfl)
theorem dX3_digest_601 : decode cX3_digest 601 = .ok (.lstore_n 1, 1) := dk_64 (dk_at dksX3_digest_25 15 rfl rfl)
theorem dX3_digest_602 : decode cX3_digest 602 = .ok (.aload_n 0, 1) := dk_42 (dk_at dksX3_digest_25 16 rfl rfl)
theorem dX3_digest_603 : decode cX3_digest 603 = .ok (.iconst 0, 1) := dk_3 (dk_at dksX3_digest_25 17 rfl rfl)
theorem dX3_digest_604 : decode cX3_digest 604 = .ok (.putfield 35, 3) := dk_181 0 35 (dk_at dksX3_digest_25 18 rfl rfl)
theorem dX3_digest_607 : decode cX3_digest 607 = .ok (.lload_n 1, 1) := dk_31 (dk_at dksX3_digest_25 21 rfl rfl)
theorem dX3_digest_608 : decode cX3_digest 608 = .ok (.lreturn, 1) := dk_173 (dk_at dksX3_digest_25 22 rfl rfl)
theorem q130 : (Jvm.Cond.initialized "OwlYearsModel") ∈ lw_all := lw_g (lw_at lw_m1 12 rfl) rfl
theorem q448 : (Jvm.Cond.selects "OwlYearsModel" ({ cls := "java/lang/Object", name := "getClass", desc := "()Ljava/lang/Class;" } : Jvm.MethodName) ({ cls := "java/lang/Object", name := "getClass", desc := "()Ljava/lang/Class;" } : Jvm.MethodName)) ∈ lw_all := lw_g (lw_at lw_m2 90 rfl) rfl
theorem q510 : (Jvm.Cond.selects "OwlYearsModel" ({ cls := "java/lang/Object", name := "hashCode", desc := "()I" } : Jvm.MethodName) ({ cls := "java/lang/Object", name := "hashCode", desc := "()I" } : Jvm.MethodName)) ∈ lw_all := lw_g (lw_at lw_m2 152 rfl) rfl
theorem q1130 : (Jvm.Cond.selects "OwlYearsModel" ({ cls := "java/lang/Object", name := "equals", desc := "(Ljava/lang/Object;)Z" } : Jvm.MethodName) ({ cls := "java/lang/Object", name := "equals", desc := "(Ljava/lang/Object;)Z" } : Jvm.MethodName)) ∈ lw_all := lw_g (lw_at lw_m5 52 rfl) rfl
theorem q2295 : (Jvm.Cond.instantiable "OwlYearsModel" (16 : Nat)) ∈ lw_all := lw_g (lw_at lw_m10 17 rfl) rfl
theorem q2297 : (Jvm.Cond.instanceMethod ({ cls := "OwlYearsModel", name := "<init>", desc := "()V" } : Jvm.MethodName)) ∈ lw_all := lw_g (lw_at lw_m10 19 rfl) rfl
theorem q2298 : (Jvm.Cond.code ({ cls := "OwlYearsModel", name := "<init>", desc := "()V" } : Jvm.MethodName) prog_9_method_1_code (2 : Nat) (Option.none : Option Jvm.ClassFile.FieldType)) ∈ lw_all := lw_g (lw_at lw_m10 20 rfl) rfl
theorem q2299 : (Jvm.Cond.methodLink "OwlYearsModel" (1 : Nat) ({ cls := "java/lang/Object", name := "<init>", desc := "()V" } : Jvm.MethodName)) ∈ lw_all := lw_g (lw_at lw_m10 21 rfl) rfl
theorem q2300 : (Jvm.Cond.fieldLink "OwlYearsModel" (35 : Nat) "OwlYearsModel" "thrown" "I") ∈ lw_all := lw_g (lw_at lw_m10 22 rfl) rfl
theorem q2301 : (Jvm.Cond.fieldLink "OwlYearsModel" (7 : Nat) "OwlYearsModel" "state" "[I") ∈ lw_all := lw_g (lw_at lw_m10 23 rfl) rfl
theorem q2302 : (Jvm.Cond.fieldLink "OwlYearsModel" (13 : Nat) "OwlYearsModel" "history" "[I") ∈ lw_all := lw_g (lw_at lw_m10 24 rfl) rfl
theorem q2303 : (Jvm.Cond.fieldLink "OwlYearsModel" (39 : Nat) "OwlYearsModel" "recorded" "I") ∈ lw_all := lw_g (lw_at lw_m10 25 rfl) rfl
theorem q2304 : (Jvm.Cond.fieldLink "OwlYearsModel" (16 : Nat) "OwlYearsModel" "snapshot" "[I") ∈ lw_all := lw_g (lw_at lw_m10 26 rfl) rfl
theorem q2305 : (Jvm.Cond.fieldLink "OwlYearsModel" (282 : Nat) "OwlYearsModel" "isTaken" "Z") ∈ lw_all := lw_g (lw_at lw_m10 27 rfl) rfl
theorem q2306 : (Jvm.Cond.fieldLink "OwlYearsModel" (19 : Nat) "OwlYearsModel" "kept" "[I") ∈ lw_all := lw_g (lw_at lw_m10 28 rfl) rfl
theorem q2307 : (Jvm.Cond.fieldLink "OwlYearsModel" (22 : Nat) "OwlYearsModel" "ranges" "[J") ∈ lw_all := lw_g (lw_at lw_m10 29 rfl) rfl
theorem q2308 : (Jvm.Cond.fieldLink "OwlYearsModel" (26 : Nat) "OwlYearsModel" "marks" "[I") ∈ lw_all := lw_g (lw_at lw_m10 30 rfl) rfl
theorem q2309 : (Jvm.Cond.fieldLink "OwlYearsModel" (29 : Nat) "OwlYearsModel" "others" "[I") ∈ lw_all := lw_g (lw_at lw_m10 31 rfl) rfl
theorem q2310 : (Jvm.Cond.fieldLink "OwlYearsModel" (32 : Nat) "OwlYearsModel" "text" "[I") ∈ lw_all := lw_g (lw_at lw_m10 32 rfl) rfl
theorem q2311 : (Jvm.Cond.fieldLink "OwlYearsModel" (286 : Nat) "OwlYearsModel" "textLength" "I") ∈ lw_all := lw_g (lw_at lw_m10 33 rfl) rfl
theorem q2312 : (Jvm.Cond.fieldLink "OwlYearsModel" (289 : Nat) "OwlYearsModel" "reading" "I") ∈ lw_all := lw_g (lw_at lw_m10 34 rfl) rfl
theorem q2313 : (Jvm.Cond.fieldLink "OwlYearsModel" (295 : Nat) "OwlYearsModel" "number" "I") ∈ lw_all := lw_g (lw_at lw_m10 35 rfl) rfl
theorem q2314 : (Jvm.Cond.fieldLink "OwlYearsModel" (304 : Nat) "OwlYearsModel" "work" "I") ∈ lw_all := lw_g (lw_at lw_m10 36 rfl) rfl
theorem q2315 : (Jvm.Cond.fieldLink "OwlYearsModel" (301 : Nat) "OwlYearsModel" "sexRead" "I") ∈ lw_all := lw_g (lw_at lw_m10 37 rfl) rfl
theorem q2316 : (Jvm.Cond.lays "OwlYearsModel" "OwlYearsModel" "thrown" "I") ∈ lw_all := lw_g (lw_at lw_m10 38 rfl) rfl
theorem q2317 : (Jvm.Cond.soleField "OwlYearsModel" "thrown") ∈ lw_all := lw_g (lw_at lw_m10 39 rfl) rfl
theorem q2318 : (Jvm.Cond.laysFinal "OwlYearsModel" "OwlYearsModel" "state" "[I") ∈ lw_all := lw_g (lw_at lw_m10 40 rfl) rfl
theorem q2319 : (Jvm.Cond.soleField "OwlYearsModel" "state") ∈ lw_all := lw_g (lw_at lw_m10 41 rfl) rfl
theorem q2320 : (Jvm.Cond.laysFinal "OwlYearsModel" "OwlYearsModel" "history" "[I") ∈ lw_all := lw_g (lw_at lw_m10 42 rfl) rfl
theorem q2321 : (Jvm.Cond.soleField "OwlYearsModel" "history") ∈ lw_all := lw_g (lw_at lw_m10 43 rfl) rfl
theorem q2322 : (Jvm.Cond.lays "OwlYearsModel" "OwlYearsModel" "recorded" "I") ∈ lw_all := lw_g (lw_at lw_m10 44 rfl) rfl
theorem q2323 : (Jvm.Cond.soleField "OwlYearsModel" "recorded") ∈ lw_all := lw_g (lw_at lw_m10 45 rfl) rfl
theorem q2324 : (Jvm.Cond.laysFinal "OwlYearsModel" "OwlYearsModel" "snapshot" "[I") ∈ lw_all := lw_g (lw_at lw_m10 46 rfl) rfl
theorem q2325 : (Jvm.Cond.soleField "OwlYearsModel" "snapshot") ∈ lw_all := lw_g (lw_at lw_m10 47 rfl) rfl
theorem q2326 : (Jvm.Cond.lays "OwlYearsModel" "OwlYearsModel" "isTaken" "Z") ∈ lw_all := lw_g (lw_at lw_m10 48 rfl) rfl
theorem q2327 : (Jvm.Cond.soleField "OwlYearsModel" "isTaken") ∈ lw_all := lw_g (lw_at lw_m10 49 rfl) rfl
theorem q2328 : (Jvm.Cond.laysFinal "OwlYearsModel" "OwlYearsModel" "kept" "[I") ∈ lw_all := lw_g (lw_at lw_m10 50 rfl) rfl
theorem q2329 : (Jvm.Cond.soleField "OwlYearsModel" "kept") ∈ lw_all := lw_g (lw_at lw_m10 51 rfl) rfl
theorem q2330 : (Jvm.Cond.laysFinal "OwlYearsModel" "OwlYearsModel" "ranges" "[J") ∈ lw_all := lw_g (lw_at lw_m10 52 rfl) rfl
theorem q2331 : (Jvm.Cond.soleField "OwlYearsModel" "ranges") ∈ lw_all := lw_g (lw_at lw_m10 53 rfl) rfl
theorem q2332 : (Jvm.Cond.laysFinal "OwlYearsModel" "OwlYearsModel" "marks" "[I") ∈ lw_all := lw_g (lw_at lw_m10 54 rfl) rfl
theorem q2333 : (Jvm.Cond.soleField "OwlYearsModel" "marks") ∈ lw_all := lw_g (lw_at lw_m10 55 rfl) rfl
theorem q2334 : (Jvm.Cond.laysFinal "OwlYearsModel" "OwlYearsModel" "others" "[I") ∈ lw_all := lw_g (lw_at lw_m10 56 rfl) rfl
theorem q2335 : (Jvm.Cond.soleField "OwlYearsModel" "others") ∈ lw_all := lw_g (lw_at lw_m10 57 rfl) rfl
theorem q2336 : (Jvm.Cond.laysFinal "OwlYearsModel" "OwlYearsModel" "text" "[I") ∈ lw_all := lw_g (lw_at lw_m10 58 rfl) rfl
theorem q2337 : (Jvm.Cond.soleField "OwlYearsModel" "text") ∈ lw_all := lw_g (lw_at lw_m10 59 rfl) rfl
theorem q2338 : (Jvm.Cond.lays "OwlYearsModel" "OwlYearsModel" "textLength" "I") ∈ lw_all := lw_g (lw_at lw_m10 60 rfl) rfl
theorem q2339 : (Jvm.Cond.soleField "OwlYearsModel" "textLength") ∈ lw_all := lw_g (lw_at lw_m10 61 rfl) rfl
theorem q2340 : (Jvm.Cond.lays "OwlYearsModel" "OwlYearsModel" "reading" "I") ∈ lw_all := lw_g (lw_at lw_m10 62 rfl) rfl
theorem q2341 : (Jvm.Cond.soleField "OwlYearsModel" "reading") ∈ lw_all := lw_g (lw_at lw_m10 63 rfl) rfl
theorem q2342 : (Jvm.Cond.lays "OwlYearsModel" "OwlYearsModel" "number" "I") ∈ lw_all := lw_g (lw_at lw_m10 64 rfl) rfl
theorem q2343 : (Jvm.Cond.soleField "OwlYearsModel" "number") ∈ lw_all := lw_g (lw_at lw_m10 65 rfl) rfl
theorem q2344 : (Jvm.Cond.lays "OwlYearsModel" "OwlYearsModel" "work" "I") ∈ lw_all := lw_g (lw_at lw_m10 66 rfl) rfl
theorem q2345 : (Jvm.Cond.soleField "OwlYearsModel" "work") ∈ lw_all := lw_g (lw_at lw_m10 67 rfl) rfl
theorem q2346 : (Jvm.Cond.lays "OwlYearsModel" "OwlYearsModel" "sexRead" "I") ∈ lw_all := lw_g (lw_at lw_m10 68 rfl) rfl
theorem q2347 : (Jvm.Cond.soleField "OwlYearsModel" "sexRead") ∈ lw_all := lw_g (lw_at lw_m10 69 rfl) rfl
theorem q2348 : (Jvm.Cond.superclass "OwlYearsModel" "java/lang/Object") ∈ lw_all := lw_g (lw_at lw_m10 70 rfl) rfl
theorem q2350 : (Jvm.Cond.instanceMethod ({ cls := "OwlYearsModel", name := "thrown", desc := "()I" } : Jvm.MethodName)) ∈ lw_all := lw_g (lw_at lw_m10 72 rfl) rfl
theorem q2351 : (Jvm.Cond.selects "OwlYearsModel" ({ cls := "OwlYearsModel", name := "thrown", desc := "()I" } : Jvm.MethodName) ({ cls := "OwlYearsModel", name := "thrown", desc := "()I" } : Jvm.MethodName)) ∈ lw_all := lw_g (lw_at lw_m10 73 rfl) rfl
theorem q2352 : (Jvm.Cond.code ({ cls := "OwlYearsModel", name := "thrown", desc := "()I" } : Jvm.MethodName) prog_9_method_2_code (1 : Nat) (Option.some Jvm.ClassFile.FieldType.int)) ∈ lw_all := lw_g (lw_at lw_m10 74 rfl) rfl
theorem q2354 : (Jvm.Cond.instanceMethod ({ cls := "OwlYearsModel", name := "setLand", desc := "(II)I" } : Jvm.MethodName)) ∈ lw_all := lw_g (lw_at lw_m10 76 rfl) rfl
theorem q2355 : (Jvm.Cond.selects "OwlYearsModel" ({ cls := "OwlYearsModel", name := "setLand", desc := "(II)I" } : Jvm.MethodName) ({ cls := "OwlYearsModel", name := "setLand", desc := "(II)I" } : Jvm.MethodName)) ∈ lw_all := lw_g (lw_at lw_m10 77 rfl) rfl
theorem q2356 : (Jvm.Cond.code ({ cls := "OwlYearsModel", name := "setLand", desc := "(II)I" } : Jvm.MethodName) prog_9_method_18_code (3 : Nat) (Option.some Jvm.ClassFile.FieldType.int)) ∈ lw_all := lw_g (lw_at lw_m10 78 rfl) rfl
theorem q2357 : (Jvm.Cond.methodLink "OwlYearsModel" (73 : Nat) ({ cls := "OwlYearsModel", name := "isSquare", desc := "(I)Z" } : Jvm.MethodName)) ∈ lw_all := lw_g (lw_at lw_m10 79 rfl) rfl
theorem q2358 : (Jvm.Cond.static ({ cls := "OwlYearsModel", name := "isSquare", desc := "(I)Z" } : Jvm.MethodName)) ∈ lw_all := lw_g (lw_at lw_m10 80 rfl) rfl
theorem q2359 : (Jvm.Cond.code ({ cls := "OwlYearsModel", name := "isSquare", desc := "(I)Z" } : Jvm.MethodName) prog_9_method_7_code (1 : Nat) (Option.some Jvm.ClassFile.FieldType.boolean)) ∈ lw_all := lw_g (lw_at lw_m10 81 rfl) rfl
theorem q2360 : (Jvm.Cond.methodLink "OwlYearsModel" (42 : Nat) ({ cls := "OwlYearsModel", name := "within", desc := "(III)Z" } : Jvm.MethodName)) ∈ lw_all := lw_g (lw_at lw_m10 82 rfl) rfl
theorem q2361 : (Jvm.Cond.static ({ cls := "OwlYearsModel", name := "within", desc := "(III)Z" } : Jvm.MethodName)) ∈ lw_all := lw_g (lw_at lw_m10 83 rfl) rfl
theorem q2362 : (Jvm.Cond.code ({ cls := "OwlYearsModel", name := "within", desc := "(III)Z" } : Jvm.MethodName) prog_9_method_3_code (3 : Nat) (Option.some Jvm.ClassFile.FieldType.boolean)) ∈ lw_all := lw_g (lw_at lw_m10 84 rfl) rfl
theorem q2363 : (Jvm.Cond.methodLink "OwlYearsModel" (76 : Nat) ({ cls := "OwlYearsModel", name := "canSetLand", desc := "(II)Z" } : Jvm.MethodName)) ∈ lw_all := lw_g (lw_at lw_m10 85 rfl) rfl
theorem q2364 : (Jvm.Cond.privateMethod ({ cls := "OwlYearsModel", name := "canSetLand", desc := "(II)Z" } : Jvm.MethodName)) ∈ lw_tbl := lw_at lw_m10 86 rfl
theorem q2365 : (Jvm.Cond.instanceMethod ({ cls := "OwlYearsModel", name := "canSetLand", desc := "(II)Z" } : Jvm.MethodName)) ∈ lw_all := lw_g (lw_at lw_m10 87 rfl) rfl
theorem q2366 : (Jvm.Cond.code ({ cls := "OwlYearsModel", name := "canSetLand", desc := "(II)Z" } : Jvm.MethodName) prog_9_method_16_code (3 : Nat) (Option.some Jvm.ClassFile.FieldType.boolean)) ∈ lw_all := lw_g (lw_at lw_m10 88 rfl) rfl
theorem q2367 : (Jvm.Cond.methodLink "OwlYearsModel" (70 : Nat) ({ cls := "OwlYearsModel", name := "boxAt", desc := "(I)I" } : Jvm.MethodName)) ∈ lw_all := lw_g (lw_at lw_m10 89 rfl) rfl
theorem q2368 : (Jvm.Cond.privateMethod ({ cls := "OwlYearsModel", name := "boxAt", desc := "(I)I" } : Jvm.MethodName)) ∈ lw_tbl := lw_at lw_m10 90 rfl
theorem q2369 : (Jvm.Cond.instanceMethod ({ cls := "OwlYearsModel", name := "boxAt", desc := "(I)I" } : Jvm.MethodName)) ∈ lw_all := lw_g (lw_at lw_m10 91 rfl) rfl
theorem q2370 : (Jvm.Cond.code ({ cls := "OwlYearsModel", name := "boxAt", desc := "(I)I" } : Jvm.MethodName) prog_9_method_13_code (4 : Nat) (Option.some Jvm.ClassFile.FieldType.int)) ∈ lw_all := lw_g (lw_at lw_m10 92 rfl) rfl
theorem q2371 : (Jvm.Cond.methodLink "OwlYearsModel" (79 : Nat) ({ cls := "OwlYearsModel", name := "record", desc := "()V" } : Jvm.MethodName)) ∈ lw_all := lw_g (lw_at lw_m10 93 rfl) rfl
theorem q2372 : (Jvm.Cond.privateMethod ({ cls := "OwlYearsModel", name := "record", desc := "()V" } : Jvm.MethodName)) ∈ lw_tbl := lw_at lw_m10 94 rfl
theorem q2373 : (Jvm.Cond.instanceMethod ({ cls := "OwlYearsModel", name := "record", desc := "()V" } : Jvm.MethodName)) ∈ lw_all := lw_g (lw_at lw_m10 95 rfl) rfl
theorem q2374 : (Jvm.Cond.code ({ cls := "OwlYearsModel", name := "record", desc := "()V" } : Jvm.MethodName) prog_9_method_4_code (2 : Nat) (Option.none : Option Jvm.ClassFile.FieldType)) ∈ lw_all := lw_g (lw_at lw_m10 96 rfl) rfl
theorem q2375 : (Jvm.Cond.methodLink "OwlYearsModel" (82 : Nat) ({ cls := "OwlYearsModel", name := "setsLand", desc := "(II)I" } : Jvm.MethodName)) ∈ lw_all := lw_g (lw_at lw_m10 97 rfl) rfl
theorem q2376 : (Jvm.Cond.privateMethod ({ cls := "OwlYearsModel", name := "setsLand", desc := "(II)I" } : Jvm.MethodName)) ∈ lw_tbl := lw_at lw_m10 98 rfl
theorem q2377 : (Jvm.Cond.instanceMethod ({ cls := "OwlYearsModel", name := "setsLand", desc := "(II)I" } : Jvm.MethodName)) ∈ lw_all := lw_g (lw_at lw_m10 99 rfl) rfl
theorem q2378 : (Jvm.Cond.code ({ cls := "OwlYearsModel", name := "setsLand", desc := "(II)I" } : Jvm.MethodName) prog_9_method_17_code (4 : Nat) (Option.some Jvm.ClassFile.FieldType.int)) ∈ lw_all := lw_g (lw_at lw_m10 100 rfl) rfl
theorem q2380 : (Jvm.Cond.instanceMethod ({ cls := "OwlYearsModel", name := "buildRoad", desc := "(IZ)I" } : Jvm.MethodName)) ∈ lw_all := lw_g (lw_at lw_m10 102 rfl) rfl
theorem q2381 : (Jvm.Cond.selects "OwlYearsModel" ({ cls := "OwlYearsModel", name := "buildRoad", desc := "(IZ)I" } : Jvm.MethodName) ({ cls := "OwlYearsModel", name := "buildRoad", desc := "(IZ)I" } : Jvm.MethodName)) ∈ lw_all := lw_g (lw_at lw_m10 103 rfl) rfl
theorem q2382 : (Jvm.Cond.code ({ cls := "OwlYearsModel", name := "buildRoad", desc := "(IZ)I" } : Jvm.MethodName) prog_9_method_21_code (3 : Nat) (Option.some Jvm.ClassFile.FieldType.int)) ∈ lw_all := lw_g (lw_at lw_m10 104 rfl) rfl
theorem q2383 : (Jvm.Cond.methodLink "OwlYearsModel" (85 : Nat) ({ cls := "OwlYearsModel", name := "isLine", desc := "(I)Z" } : Jvm.MethodName)) ∈ lw_all := lw_g (lw_at lw_m10 105 rfl) rfl
theorem q2384 : (Jvm.Cond.static ({ cls := "OwlYearsModel", name := "isLine", desc := "(I)Z" } : Jvm.MethodName)) ∈ lw_all := lw_g (lw_at lw_m10 106 rfl) rfl
theorem q2385 : (Jvm.Cond.code ({ cls := "OwlYearsModel", name := "isLine", desc := "(I)Z" } : Jvm.MethodName) prog_9_method_20_code (1 : Nat) (Option.some Jvm.ClassFile.FieldType.boolean)) ∈ lw_all := lw_g (lw_at lw_m10 107 rfl) rfl
theorem q2386 : (Jvm.Cond.methodLink "OwlYearsModel" (88 : Nat) ({ cls := "OwlYearsModel", name := "buildsRoad", desc := "(IZ)I" } : Jvm.MethodName)) ∈ lw_all := lw_g (lw_at lw_m10 108 rfl) rfl
theorem q2387 : (Jvm.Cond.privateMethod ({ cls := "OwlYearsModel", name := "buildsRoad", desc := "(IZ)I" } : Jvm.MethodName)) ∈ lw_tbl := lw_at lw_m10 109 rfl
theorem q2388 : (Jvm.Cond.instanceMethod ({ cls := "OwlYearsModel", name := "buildsRoad", desc := "(IZ)I" } : Jvm.MethodName)) ∈ lw_all := lw_g (lw_at lw_m10 110 rfl) rfl
theorem q2389 : (Jvm.Cond.code ({ cls := "OwlYearsModel", name := "buildsRoad", desc := "(IZ)I" } : Jvm.MethodName) prog_9_method_19_code (6 : Nat) (Option.some Jvm.ClassFile.FieldType.int)) ∈ lw_all := lw_g (lw_at lw_m10 111 rfl) rfl
theorem q2390 : (Jvm.Cond.methodLink "OwlYearsModel" (58 : Nat) ({ cls := "OwlYearsModel", name := "isRoad", desc := "(I)Z" } : Jvm.MethodName)) ∈ lw_all := lw_g (lw_at lw_m10 112 rfl) rfl
theorem q2391 : (Jvm.Cond.privateMethod ({ cls := "OwlYearsModel", name := "isRoad", desc := "(I)Z" } : Jvm.MethodName)) ∈ lw_tbl := lw_at lw_m10 113 rfl
theorem q2392 : (Jvm.Cond.instanceMethod ({ cls := "OwlYearsModel", name := "isRoad", desc := "(I)Z" } : Jvm.MethodName)) ∈ lw_all := lw_g (lw_at lw_m10 114 rfl) rfl
theorem q2393 : (Jvm.Cond.code ({ cls := "OwlYearsModel", name := "isRoad", desc := "(I)Z" } : Jvm.MethodName) prog_9_method_12_code (2 : Nat) (Option.some Jvm.ClassFile.FieldType.boolean)) ∈ lw_all := lw_g (lw_at lw_m10 115 rfl) rfl
theorem q2395 : (Jvm.Cond.instanceMethod ({ cls := "OwlYearsModel", name := "setVoles", desc := "(II)I" } : Jvm.MethodName)) ∈ lw_all := lw_g (lw_at lw_m10 117 rfl) rfl
theorem q2396 : (Jvm.Cond.selects "OwlYearsModel" ({ cls := "OwlYearsModel", name := "setVoles", desc := "(II)I" } : Jvm.MethodName) ({ cls := "OwlYearsModel", name := "setVoles", desc := "(II)I" } : Jvm.MethodName)) ∈ lw_all := lw_g (lw_at lw_m10 118 rfl) rfl
theorem q2397 : (Jvm.Cond.code ({ cls := "OwlYearsModel", name := "setVoles", desc := "(II)I" } : Jvm.MethodName) prog_9_method_22_code (4 : Nat) (Option.some Jvm.ClassFile.FieldType.int)) ∈ lw_all := lw_g (lw_at lw_m10 119 rfl) rfl
theorem q2399 : (Jvm.Cond.instanceMethod ({ cls := "OwlYearsModel", name := "setChances", desc := "(I)I" } : Jvm.MethodName)) ∈ lw_all := lw_g (lw_at lw_m10 121 rfl) rfl
theorem q2400 : (Jvm.Cond.selects "OwlYearsModel" ({ cls := "OwlYearsModel", name := "setChances", desc := "(I)I" } : Jvm.MethodName) ({ cls := "OwlYearsModel", name := "setChances", desc := "(I)I" } : Jvm.MethodName)) ∈ lw_all := lw_g (lw_at lw_m10 122 rfl) rfl
theorem q2401 : (Jvm.Cond.code ({ cls := "OwlYearsModel", name := "setChances", desc := "(I)I" } : Jvm.MethodName) prog_9_method_23_code (3 : Nat) (Option.some Jvm.ClassFile.FieldType.int)) ∈ lw_all := lw_g (lw_at lw_m10 123 rfl) rfl
theorem q2402 : (Jvm.Cond.constant "OwlYearsModel" (92 : Nat) (65536 : Int32)) ∈ lw_all := lw_g (lw_at lw_m10 124 rfl) rfl
theorem q2404 : (Jvm.Cond.instanceMethod ({ cls := "OwlYearsModel", name := "putBox", desc := "(I)I" } : Jvm.MethodName)) ∈ lw_all := lw_g (lw_at lw_m10 126 rfl) rfl
theorem q2405 : (Jvm.Cond.selects "OwlYearsModel" ({ cls := "OwlYearsModel", name := "putBox", desc := "(I)I" } : Jvm.MethodName) ({ cls := "OwlYearsModel", name := "putBox", desc := "(I)I" } : Jvm.MethodName)) ∈ lw_all := lw_g (lw_at lw_m10 127 rfl) rfl
theorem q2406 : (Jvm.Cond.code ({ cls := "OwlYearsModel", name := "putBox", desc := "(I)I" } : Jvm.MethodName) prog_9_method_39_code (2 : Nat) (Option.some Jvm.ClassFile.FieldType.int)) ∈ lw_all := lw_g (lw_at lw_m10 128 rfl) rfl
theorem q2407 : (Jvm.Cond.methodLink "OwlYearsModel" (117 : Nat) ({ cls := "OwlYearsModel", name := "whyNoBox", desc := "(I)I" } : Jvm.MethodName)) ∈ lw_all := lw_g (lw_at lw_m10 129 rfl) rfl
theorem q2408 : (Jvm.Cond.privateMethod ({ cls := "OwlYearsModel", name := "whyNoBox", desc := "(I)I" } : Jvm.MethodName)) ∈ lw_tbl := lw_at lw_m10 130 rfl
theorem q2409 : (Jvm.Cond.instanceMethod ({ cls := "OwlYearsModel", name := "whyNoBox", desc := "(I)I" } : Jvm.MethodName)) ∈ lw_all := lw_g (lw_at lw_m10 131 rfl) rfl
theorem q2410 : (Jvm.Cond.code ({ cls := "OwlYearsModel", name := "whyNoBox", desc := "(I)I" } : Jvm.MethodName) prog_9_method_37_code (2 : Nat) (Option.some Jvm.ClassFile.FieldType.int)) ∈ lw_all := lw_g (lw_at lw_m10 132 rfl) rfl
theorem q2411 : (Jvm.Cond.methodLink "OwlYearsModel" (120 : Nat) ({ cls := "OwlYearsModel", name := "putsBox", desc := "(I)I" } : Jvm.MethodName)) ∈ lw_all := lw_g (lw_at lw_m10 133 rfl) rfl
theorem q2412 : (Jvm.Cond.privateMethod ({ cls := "OwlYearsModel", name := "putsBox", desc := "(I)I" } : Jvm.MethodName)) ∈ lw_tbl := lw_at lw_m10 134 rfl
theorem q2413 : (Jvm.Cond.instanceMethod ({ cls := "OwlYearsModel", name := "putsBox", desc := "(I)I" } : Jvm.MethodName)) ∈ lw_all := lw_g (lw_at lw_m10 135 rfl) rfl
theorem q2414 : (Jvm.Cond.code ({ cls := "OwlYearsModel", name := "putsBox", desc := "(I)I" } : Jvm.MethodName) prog_9_method_38_code (2 : Nat) (Option.some Jvm.ClassFile.FieldType.int)) ∈ lw_all := lw_g (lw_at lw_m10 136 rfl) rfl
theorem q2416 : (Jvm.Cond.instanceMethod ({ cls := "OwlYearsModel", name := "takeBox", desc := "(I)I" } : Jvm.MethodName)) ∈ lw_all := lw_g (lw_at lw_m10 138 rfl) rfl
theorem q2417 : (Jvm.Cond.selects "OwlYearsModel" ({ cls := "OwlYearsModel", name := "takeBox", desc := "(I)I" } : Jvm.MethodName) ({ cls := "OwlYearsModel", name := "takeBox", desc := "(I)I" } : Jvm.MethodName)) ∈ lw_all := lw_g (lw_at lw_m10 139 rfl) rfl
theorem q2418 : (Jvm.Cond.code ({ cls := "OwlYearsModel", name := "takeBox", desc := "(I)I" } : Jvm.MethodName) prog_9_method_41_code (5 : Nat) (Option.some Jvm.ClassFile.FieldType.int)) ∈ lw_all := lw_g (lw_at lw_m10 140 rfl) rfl
theorem q2419 : (Jvm.Cond.methodLink "OwlYearsModel" (126 : Nat) ({ cls := "OwlYearsModel", name := "asksBox", desc := "(I)Z" } : Jvm.MethodName)) ∈ lw_all := lw_g (lw_at lw_m10 141 rfl) rfl
theorem q2420 : (Jvm.Cond.privateMethod ({ cls := "OwlYearsModel", name := "asksBox", desc := "(I)Z" } : Jvm.MethodName)) ∈ lw_tbl := lw_at lw_m10 142 rfl
theorem q2421 : (Jvm.Cond.instanceMethod ({ cls := "OwlYearsModel", name := "asksBox", desc := "(I)Z" } : Jvm.MethodName)) ∈ lw_all := lw_g (lw_at lw_m10 143 rfl) rfl
theorem q2422 : (Jvm.Cond.code ({ cls := "OwlYearsModel", name := "asksBox", desc := "(I)Z" } : Jvm.MethodName) prog_9_method_40_code (2 : Nat) (Option.some Jvm.ClassFile.FieldType.boolean)) ∈ lw_all := lw_g (lw_at lw_m10 144 rfl) rfl
theorem q2423 : (Jvm.Cond.methodLink "OwlYearsModel" (123 : Nat) ({ cls := "OwlYearsModel", name := "isBox", desc := "(I)Z" } : Jvm.MethodName)) ∈ lw_all := lw_g (lw_at lw_m10 145 rfl) rfl
theorem q2424 : (Jvm.Cond.privateMethod ({ cls := "OwlYearsModel", name := "isBox", desc := "(I)Z" } : Jvm.MethodName)) ∈ lw_tbl := lw_at lw_m10 146 rfl
theorem q2425 : (Jvm.Cond.instanceMethod ({ cls := "OwlYearsModel", name := "isBox", desc := "(I)Z" } : Jvm.MethodName)) ∈ lw_all := lw_g (lw_at lw_m10 147 rfl) rfl
theorem q2426 : (Jvm.Cond.code ({ cls := "OwlYearsModel", name := "isBox", desc := "(I)Z" } : Jvm.MethodName) prog_9_method_26_code (2 : Nat) (Option.some Jvm.ClassFile.FieldType.boolean)) ∈ lw_all := lw_g (lw_at lw_m10 148 rfl) rfl
theorem q2427 : (Jvm.Cond.methodLink "OwlYearsModel" (107 : Nat) ({ cls := "OwlYearsModel", name := "many", desc := "(I)I" } : Jvm.MethodName)) ∈ lw_all := lw_g (lw_at lw_m10 149 rfl) rfl
theorem q2428 : (Jvm.Cond.privateMethod ({ cls := "OwlYearsModel", name := "many", desc := "(I)I" } : Jvm.MethodName)) ∈ lw_tbl := lw_at lw_m10 150 rfl
theorem q2429 : (Jvm.Cond.instanceMethod ({ cls := "OwlYearsModel", name := "many", desc := "(I)I" } : Jvm.MethodName)) ∈ lw_all := lw_g (lw_at lw_m10 151 rfl) rfl
theorem q2430 : (Jvm.Cond.code ({ cls := "OwlYearsModel", name := "many", desc := "(I)I" } : Jvm.MethodName) prog_9_method_28_code (2 : Nat) (Option.some Jvm.ClassFile.FieldType.int)) ∈ lw_all := lw_g (lw_at lw_m10 152 rfl) rfl
theorem q2431 : (Jvm.Cond.methodLink "OwlYearsModel" (96 : Nat) ({ cls := "OwlYearsModel", name := "owlIn", desc := "(II)I" } : Jvm.MethodName)) ∈ lw_all := lw_g (lw_at lw_m10 153 rfl) rfl
theorem q2432 : (Jvm.Cond.privateMethod ({ cls := "OwlYearsModel", name := "owlIn", desc := "(II)I" } : Jvm.MethodName)) ∈ lw_tbl := lw_at lw_m10 154 rfl
theorem q2433 : (Jvm.Cond.instanceMethod ({ cls := "OwlYearsModel", name := "owlIn", desc := "(II)I" } : Jvm.MethodName)) ∈ lw_all := lw_g (lw_at lw_m10 155 rfl) rfl
theorem q2434 : (Jvm.Cond.code ({ cls := "OwlYearsModel", name := "owlIn", desc := "(II)I" } : Jvm.MethodName) prog_9_method_27_code (5 : Nat) (Option.some Jvm.ClassFile.FieldType.int)) ∈ lw_all := lw_g (lw_at lw_m10 156 rfl) rfl
theorem q2435 : (Jvm.Cond.methodLink "OwlYearsModel" (93 : Nat) ({ cls := "OwlYearsModel", name := "of", desc := "(II)I" } : Jvm.MethodName)) ∈ lw_all := lw_g (lw_at lw_m10 157 rfl) rfl
theorem q2436 : (Jvm.Cond.privateMethod ({ cls := "OwlYearsModel", name := "of", desc := "(II)I" } : Jvm.MethodName)) ∈ lw_tbl := lw_at lw_m10 158 rfl
theorem q2437 : (Jvm.Cond.instanceMethod ({ cls := "OwlYearsModel", name := "of", desc := "(II)I" } : Jvm.MethodName)) ∈ lw_all := lw_g (lw_at lw_m10 159 rfl) rfl
theorem q2438 : (Jvm.Cond.code ({ cls := "OwlYearsModel", name := "of", desc := "(II)I" } : Jvm.MethodName) prog_9_method_24_code (3 : Nat) (Option.some Jvm.ClassFile.FieldType.int)) ∈ lw_all := lw_g (lw_at lw_m10 160 rfl) rfl
theorem q2439 : (Jvm.Cond.methodLink "OwlYearsModel" (99 : Nat) ({ cls := "OwlYearsModel", name := "puts", desc := "(III)V" } : Jvm.MethodName)) ∈ lw_all := lw_g (lw_at lw_m10 161 rfl) rfl
theorem q2440 : (Jvm.Cond.privateMethod ({ cls := "OwlYearsModel", name := "puts", desc := "(III)V" } : Jvm.MethodName)) ∈ lw_tbl := lw_at lw_m10 162 rfl
theorem q2441 : (Jvm.Cond.instanceMethod ({ cls := "OwlYearsModel", name := "puts", desc := "(III)V" } : Jvm.MethodName)) ∈ lw_all := lw_g (lw_at lw_m10 163 rfl) rfl
theorem q2442 : (Jvm.Cond.code ({ cls := "OwlYearsModel", name := "puts", desc := "(III)V" } : Jvm.MethodName) prog_9_method_25_code (4 : Nat) (Option.none : Option Jvm.ClassFile.FieldType)) ∈ lw_all := lw_g (lw_at lw_m10 164 rfl) rfl
theorem q2444 : (Jvm.Cond.instanceMethod ({ cls := "OwlYearsModel", name := "letIn", desc := "(III)I" } : Jvm.MethodName)) ∈ lw_all := lw_g (lw_at lw_m10 166 rfl) rfl
theorem q2445 : (Jvm.Cond.selects "OwlYearsModel" ({ cls := "OwlYearsModel", name := "letIn", desc := "(III)I" } : Jvm.MethodName) ({ cls := "OwlYearsModel", name := "letIn", desc := "(III)I" } : Jvm.MethodName)) ∈ lw_all := lw_g (lw_at lw_m10 167 rfl) rfl
theorem q2446 : (Jvm.Cond.code ({ cls := "OwlYearsModel", name := "letIn", desc := "(III)I" } : Jvm.MethodName) prog_9_method_45_code (4 : Nat) (Option.some Jvm.ClassFile.FieldType.int)) ∈ lw_all := lw_g (lw_at lw_m10 168 rfl) rfl
theorem q2447 : (Jvm.Cond.methodLink "OwlYearsModel" (133 : Nat) ({ cls := "OwlYearsModel", name := "isSex", desc := "(I)Z" } : Jvm.MethodName)) ∈ lw_all := lw_g (lw_at lw_m10 169 rfl) rfl
theorem q2448 : (Jvm.Cond.static ({ cls := "OwlYearsModel", name := "isSex", desc := "(I)Z" } : Jvm.MethodName)) ∈ lw_all := lw_g (lw_at lw_m10 170 rfl) rfl
theorem q2449 : (Jvm.Cond.code ({ cls := "OwlYearsModel", name := "isSex", desc := "(I)Z" } : Jvm.MethodName) prog_9_method_44_code (1 : Nat) (Option.some Jvm.ClassFile.FieldType.boolean)) ∈ lw_all := lw_g (lw_at lw_m10 171 rfl) rfl
theorem q2450 : (Jvm.Cond.methodLink "OwlYearsModel" (136 : Nat) ({ cls := "OwlYearsModel", name := "canLetIn", desc := "(II)Z" } : Jvm.MethodName)) ∈ lw_all := lw_g (lw_at lw_m10 172 rfl) rfl
theorem q2451 : (Jvm.Cond.privateMethod ({ cls := "OwlYearsModel", name := "canLetIn", desc := "(II)Z" } : Jvm.MethodName)) ∈ lw_tbl := lw_at lw_m10 173 rfl
theorem q2452 : (Jvm.Cond.instanceMethod ({ cls := "OwlYearsModel", name := "canLetIn", desc := "(II)Z" } : Jvm.MethodName)) ∈ lw_all := lw_g (lw_at lw_m10 174 rfl) rfl
theorem q2453 : (Jvm.Cond.code ({ cls := "OwlYearsModel", name := "canLetIn", desc := "(II)Z" } : Jvm.MethodName) prog_9_method_42_code (3 : Nat) (Option.some Jvm.ClassFile.FieldType.boolean)) ∈ lw_all := lw_g (lw_at lw_m10 175 rfl) rfl
theorem q2454 : (Jvm.Cond.methodLink "OwlYearsModel" (139 : Nat) ({ cls := "OwlYearsModel", name := "letsIn", desc := "(III)I" } : Jvm.MethodName)) ∈ lw_all := lw_g (lw_at lw_m10 176 rfl) rfl
theorem q2455 : (Jvm.Cond.privateMethod ({ cls := "OwlYearsModel", name := "letsIn", desc := "(III)I" } : Jvm.MethodName)) ∈ lw_tbl := lw_at lw_m10 177 rfl
theorem q2456 : (Jvm.Cond.instanceMethod ({ cls := "OwlYearsModel", name := "letsIn", desc := "(III)I" } : Jvm.MethodName)) ∈ lw_all := lw_g (lw_at lw_m10 178 rfl) rfl
theorem q2457 : (Jvm.Cond.code ({ cls := "OwlYearsModel", name := "letsIn", desc := "(III)I" } : Jvm.MethodName) prog_9_method_43_code (4 : Nat) (Option.some Jvm.ClassFile.FieldType.int)) ∈ lw_all := lw_g (lw_at lw_m10 179 rfl) rfl
theorem q2458 : (Jvm.Cond.methodLink "OwlYearsModel" (129 : Nat) ({ cls := "OwlYearsModel", name := "adds", desc := "(IIIII)I" } : Jvm.MethodName)) ∈ lw_all := lw_g (lw_at lw_m10 180 rfl) rfl
theorem q2459 : (Jvm.Cond.privateMethod ({ cls := "OwlYearsModel", name := "adds", desc := "(IIIII)I" } : Jvm.MethodName)) ∈ lw_tbl := lw_at lw_m10 181 rfl
theorem q2460 : (Jvm.Cond.instanceMethod ({ cls := "OwlYearsModel", name := "adds", desc := "(IIIII)I" } : Jvm.MethodName)) ∈ lw_all := lw_g (lw_at lw_m10 182 rfl) rfl
theorem q2461 : (Jvm.Cond.code ({ cls := "OwlYearsModel", name := "adds", desc := "(IIIII)I" } : Jvm.MethodName) prog_9_method_30_code (8 : Nat) (Option.some Jvm.ClassFile.FieldType.int)) ∈ lw_all := lw_g (lw_at lw_m10 183 rfl) rfl
theorem q2463 : (Jvm.Cond.instanceMethod ({ cls := "OwlYearsModel", name := "takeOut", desc := "(I)I" } : Jvm.MethodName)) ∈ lw_all := lw_g (lw_at lw_m10 185 rfl) rfl
theorem q2464 : (Jvm.Cond.selects "OwlYearsModel" ({ cls := "OwlYearsModel", name := "takeOut", desc := "(I)I" } : Jvm.MethodName) ({ cls := "OwlYearsModel", name := "takeOut", desc := "(I)I" } : Jvm.MethodName)) ∈ lw_all := lw_g (lw_at lw_m10 186 rfl) rfl
theorem q2465 : (Jvm.Cond.code ({ cls := "OwlYearsModel", name := "takeOut", desc := "(I)I" } : Jvm.MethodName) prog_9_method_46_code (4 : Nat) (Option.some Jvm.ClassFile.FieldType.int)) ∈ lw_all := lw_g (lw_at lw_m10 187 rfl) rfl
theorem q2466 : (Jvm.Cond.methodLink "OwlYearsModel" (143 : Nat) ({ cls := "OwlYearsModel", name := "placeOf", desc := "(I)I" } : Jvm.MethodName)) ∈ lw_all := lw_g (lw_at lw_m10 188 rfl) rfl
theorem q2467 : (Jvm.Cond.privateMethod ({ cls := "OwlYearsModel", name := "placeOf", desc := "(I)I" } : Jvm.MethodName)) ∈ lw_tbl := lw_at lw_m10 189 rfl
theorem q2468 : (Jvm.Cond.instanceMethod ({ cls := "OwlYearsModel", name := "placeOf", desc := "(I)I" } : Jvm.MethodName)) ∈ lw_all := lw_g (lw_at lw_m10 190 rfl) rfl
theorem q2469 : (Jvm.Cond.code ({ cls := "OwlYearsModel", name := "placeOf", desc := "(I)I" } : Jvm.MethodName) prog_9_method_29_code (4 : Nat) (Option.some Jvm.ClassFile.FieldType.int)) ∈ lw_all := lw_g (lw_at lw_m10 191 rfl) rfl
theorem q2470 : (Jvm.Cond.methodLink "OwlYearsModel" (103 : Nat) ({ cls := "OwlYearsModel", name := "drops", desc := "(I)V" } : Jvm.MethodName)) ∈ lw_all := lw_g (lw_at lw_m10 192 rfl) rfl
theorem q2471 : (Jvm.Cond.privateMethod ({ cls := "OwlYearsModel", name := "drops", desc := "(I)V" } : Jvm.MethodName)) ∈ lw_tbl := lw_at lw_m10 193 rfl
theorem q2472 : (Jvm.Cond.instanceMethod ({ cls := "OwlYearsModel", name := "drops", desc := "(I)V" } : Jvm.MethodName)) ∈ lw_all := lw_g (lw_at lw_m10 194 rfl) rfl
theorem q2473 : (Jvm.Cond.code ({ cls := "OwlYearsModel", name := "drops", desc := "(I)V" } : Jvm.MethodName) prog_9_method_31_code (4 : Nat) (Option.none : Option Jvm.ClassFile.FieldType)) ∈ lw_all := lw_g (lw_at lw_m10 195 rfl) rfl
theorem q2475 : (Jvm.Cond.instanceMethod ({ cls := "OwlYearsModel", name := "pass", desc := "(I)I" } : Jvm.MethodName)) ∈ lw_all := lw_g (lw_at lw_m10 197 rfl) rfl
theorem q2476 : (Jvm.Cond.selects "OwlYearsModel" ({ cls := "OwlYearsModel", name := "pass", desc := "(I)I" } : Jvm.MethodName) ({ cls := "OwlYearsModel", name := "pass", desc := "(I)I" } : Jvm.MethodName)) ∈ lw_all := lw_g (lw_at lw_m10 198 rfl) rfl
theorem q2477 : (Jvm.Cond.code ({ cls := "OwlYearsModel", name := "pass", desc := "(I)I" } : Jvm.MethodName) prog_9_method_59_code (2 : Nat) (Option.some Jvm.ClassFile.FieldType.int)) ∈ lw_all := lw_g (lw_at lw_m10 199 rfl) rfl
theorem q2478 : (Jvm.Cond.methodLink "OwlYearsModel" (190 : Nat) ({ cls := "OwlYearsModel", name := "areYears", desc := "(I)Z" } : Jvm.MethodName)) ∈ lw_all := lw_g (lw_at lw_m10 200 rfl) rfl
theorem q2479 : (Jvm.Cond.static ({ cls := "OwlYearsModel", name := "areYears", desc := "(I)Z" } : Jvm.MethodName)) ∈ lw_all := lw_g (lw_at lw_m10 201 rfl) rfl
theorem q2480 : (Jvm.Cond.code ({ cls := "OwlYearsModel", name := "areYears", desc := "(I)Z" } : Jvm.MethodName) prog_9_method_58_code (1 : Nat) (Option.some Jvm.ClassFile.FieldType.boolean)) ∈ lw_all := lw_g (lw_at lw_m10 202 rfl) rfl
theorem q2481 : (Jvm.Cond.methodLink "OwlYearsModel" (193 : Nat) ({ cls := "OwlYearsModel", name := "years", desc := "(I)I" } : Jvm.MethodName)) ∈ lw_all := lw_g (lw_at lw_m10 203 rfl) rfl
theorem q2482 : (Jvm.Cond.privateMethod ({ cls := "OwlYearsModel", name := "years", desc := "(I)I" } : Jvm.MethodName)) ∈ lw_tbl := lw_at lw_m10 204 rfl
theorem q2483 : (Jvm.Cond.instanceMethod ({ cls := "OwlYearsModel", name := "years", desc := "(I)I" } : Jvm.MethodName)) ∈ lw_all := lw_g (lw_at lw_m10 205 rfl) rfl
theorem q2484 : (Jvm.Cond.code ({ cls := "OwlYearsModel", name := "years", desc := "(I)I" } : Jvm.MethodName) prog_9_method_57_code (3 : Nat) (Option.some Jvm.ClassFile.FieldType.int)) ∈ lw_all := lw_g (lw_at lw_m10 206 rfl) rfl
theorem q2485 : (Jvm.Cond.methodLink "OwlYearsModel" (187 : Nat) ({ cls := "OwlYearsModel", name := "passesYear", desc := "()V" } : Jvm.MethodName)) ∈ lw_all := lw_g (lw_at lw_m10 207 rfl) rfl
theorem q2486 : (Jvm.Cond.privateMethod ({ cls := "OwlYearsModel", name := "passesYear", desc := "()V" } : Jvm.MethodName)) ∈ lw_tbl := lw_at lw_m10 208 rfl
theorem q2487 : (Jvm.Cond.instanceMethod ({ cls := "OwlYearsModel", name := "passesYear", desc := "()V" } : Jvm.MethodName)) ∈ lw_all := lw_g (lw_at lw_m10 209 rfl) rfl
theorem q2488 : (Jvm.Cond.code ({ cls := "OwlYearsModel", name := "passesYear", desc := "()V" } : Jvm.MethodName) prog_9_method_56_code (2 : Nat) (Option.none : Option Jvm.ClassFile.FieldType)) ∈ lw_all := lw_g (lw_at lw_m10 210 rfl) rfl
theorem q2489 : (Jvm.Cond.methodLink "OwlYearsModel" (166 : Nat) ({ cls := "OwlYearsModel", name := "laysRanges", desc := "()V" } : Jvm.MethodName)) ∈ lw_all := lw_g (lw_at lw_m10 211 rfl) rfl
theorem q2490 : (Jvm.Cond.privateMethod ({ cls := "OwlYearsModel", name := "laysRanges", desc := "()V" } : Jvm.MethodName)) ∈ lw_tbl := lw_at lw_m10 212 rfl
theorem q2491 : (Jvm.Cond.instanceMethod ({ cls := "OwlYearsModel", name := "laysRanges", desc := "()V" } : Jvm.MethodName)) ∈ lw_all := lw_g (lw_at lw_m10 213 rfl) rfl
theorem q2492 : (Jvm.Cond.code ({ cls := "OwlYearsModel", name := "laysRanges", desc := "()V" } : Jvm.MethodName) prog_9_method_15_code (2 : Nat) (Option.none : Option Jvm.ClassFile.FieldType)) ∈ lw_all := lw_g (lw_at lw_m10 214 rfl) rfl
theorem q2493 : (Jvm.Cond.methodLink "OwlYearsModel" (66 : Nat) ({ cls := "OwlYearsModel", name := "rangeFrom", desc := "(I)J" } : Jvm.MethodName)) ∈ lw_all := lw_g (lw_at lw_m10 215 rfl) rfl
theorem q2494 : (Jvm.Cond.privateMethod ({ cls := "OwlYearsModel", name := "rangeFrom", desc := "(I)J" } : Jvm.MethodName)) ∈ lw_tbl := lw_at lw_m10 216 rfl
theorem q2495 : (Jvm.Cond.instanceMethod ({ cls := "OwlYearsModel", name := "rangeFrom", desc := "(I)J" } : Jvm.MethodName)) ∈ lw_all := lw_g (lw_at lw_m10 217 rfl) rfl
theorem q2496 : (Jvm.Cond.code ({ cls := "OwlYearsModel", name := "rangeFrom", desc := "(I)J" } : Jvm.MethodName) prog_9_method_14_code (9 : Nat) (Option.some Jvm.ClassFile.FieldType.long)) ∈ lw_all := lw_g (lw_at lw_m10 218 rfl) rfl
theorem q2497 : (Jvm.Cond.methodLink "OwlYearsModel" (50 : Nat) ({ cls := "OwlYearsModel", name := "has", desc := "(JI)Z" } : Jvm.MethodName)) ∈ lw_all := lw_g (lw_at lw_m10 219 rfl) rfl
theorem q2498 : (Jvm.Cond.static ({ cls := "OwlYearsModel", name := "has", desc := "(JI)Z" } : Jvm.MethodName)) ∈ lw_all := lw_g (lw_at lw_m10 220 rfl) rfl
theorem q2499 : (Jvm.Cond.code ({ cls := "OwlYearsModel", name := "has", desc := "(JI)Z" } : Jvm.MethodName) prog_9_method_11_code (3 : Nat) (Option.some Jvm.ClassFile.FieldType.boolean)) ∈ lw_all := lw_g (lw_at lw_m10 221 rfl) rfl
theorem q2500 : (Jvm.Cond.methodLink "OwlYearsModel" (54 : Nat) ({ cls := "OwlYearsModel", name := "far", desc := "(II)I" } : Jvm.MethodName)) ∈ lw_all := lw_g (lw_at lw_m10 222 rfl) rfl
theorem q2501 : (Jvm.Cond.static ({ cls := "OwlYearsModel", name := "far", desc := "(II)I" } : Jvm.MethodName)) ∈ lw_all := lw_g (lw_at lw_m10 223 rfl) rfl
theorem q2502 : (Jvm.Cond.code ({ cls := "OwlYearsModel", name := "far", desc := "(II)I" } : Jvm.MethodName) prog_9_method_9_code (4 : Nat) (Option.some Jvm.ClassFile.FieldType.int)) ∈ lw_all := lw_g (lw_at lw_m10 224 rfl) rfl
theorem q2503 : (Jvm.Cond.methodLink "OwlYearsModel" (46 : Nat) ({ cls := "OwlYearsModel", name := "size", desc := "(I)I" } : Jvm.MethodName)) ∈ lw_all := lw_g (lw_at lw_m10 225 rfl) rfl
theorem q2504 : (Jvm.Cond.static ({ cls := "OwlYearsModel", name := "size", desc := "(I)I" } : Jvm.MethodName)) ∈ lw_all := lw_g (lw_at lw_m10 226 rfl) rfl
theorem q2505 : (Jvm.Cond.code ({ cls := "OwlYearsModel", name := "size", desc := "(I)I" } : Jvm.MethodName) prog_9_method_8_code (1 : Nat) (Option.some Jvm.ClassFile.FieldType.int)) ∈ lw_all := lw_g (lw_at lw_m10 227 rfl) rfl
theorem q2506 : (Jvm.Cond.methodLink "OwlYearsModel" (62 : Nat) ({ cls := "OwlYearsModel", name := "areBeside", desc := "(II)Z" } : Jvm.MethodName)) ∈ lw_all := lw_g (lw_at lw_m10 228 rfl) rfl
theorem q2507 : (Jvm.Cond.static ({ cls := "OwlYearsModel", name := "areBeside", desc := "(II)Z" } : Jvm.MethodName)) ∈ lw_all := lw_g (lw_at lw_m10 229 rfl) rfl
theorem q2508 : (Jvm.Cond.code ({ cls := "OwlYearsModel", name := "areBeside", desc := "(II)Z" } : Jvm.MethodName) prog_9_method_10_code (2 : Nat) (Option.some Jvm.ClassFile.FieldType.boolean)) ∈ lw_all := lw_g (lw_at lw_m10 230 rfl) rfl
theorem q2509 : (Jvm.Cond.methodLink "OwlYearsModel" (169 : Nat) ({ cls := "OwlYearsModel", name := "next", desc := "(I)I" } : Jvm.MethodName)) ∈ lw_all := lw_g (lw_at lw_m10 231 rfl) rfl
theorem q2510 : (Jvm.Cond.privateMethod ({ cls := "OwlYearsModel", name := "next", desc := "(I)I" } : Jvm.MethodName)) ∈ lw_tbl := lw_at lw_m10 232 rfl
theorem q2511 : (Jvm.Cond.instanceMethod ({ cls := "OwlYearsModel", name := "next", desc := "(I)I" } : Jvm.MethodName)) ∈ lw_all := lw_g (lw_at lw_m10 233 rfl) rfl
theorem q2512 : (Jvm.Cond.code ({ cls := "OwlYearsModel", name := "next", desc := "(I)I" } : Jvm.MethodName) prog_9_method_47_code (7 : Nat) (Option.some Jvm.ClassFile.FieldType.int)) ∈ lw_all := lw_g (lw_at lw_m10 234 rfl) rfl
theorem q2513 : (Jvm.Cond.methodLink "OwlYearsModel" (172 : Nat) ({ cls := "OwlYearsModel", name := "feeds", desc := "(I)V" } : Jvm.MethodName)) ∈ lw_all := lw_g (lw_at lw_m10 235 rfl) rfl
theorem q2514 : (Jvm.Cond.privateMethod ({ cls := "OwlYearsModel", name := "feeds", desc := "(I)V" } : Jvm.MethodName)) ∈ lw_tbl := lw_at lw_m10 236 rfl
theorem q2515 : (Jvm.Cond.instanceMethod ({ cls := "OwlYearsModel", name := "feeds", desc := "(I)V" } : Jvm.MethodName)) ∈ lw_all := lw_g (lw_at lw_m10 237 rfl) rfl
theorem q2516 : (Jvm.Cond.code ({ cls := "OwlYearsModel", name := "feeds", desc := "(I)V" } : Jvm.MethodName) prog_9_method_49_code (8 : Nat) (Option.none : Option Jvm.ClassFile.FieldType)) ∈ lw_all := lw_g (lw_at lw_m10 238 rfl) rfl
theorem q2517 : (Jvm.Cond.methodLink "OwlYearsModel" (146 : Nat) ({ cls := "OwlYearsModel", name := "share", desc := "(I)I" } : Jvm.MethodName)) ∈ lw_all := lw_g (lw_at lw_m10 239 rfl) rfl
theorem q2518 : (Jvm.Cond.privateMethod ({ cls := "OwlYearsModel", name := "share", desc := "(I)I" } : Jvm.MethodName)) ∈ lw_tbl := lw_at lw_m11 0 rfl
theorem q2519 : (Jvm.Cond.instanceMethod ({ cls := "OwlYearsModel", name := "share", desc := "(I)I" } : Jvm.MethodName)) ∈ lw_all := lw_g (lw_at lw_m11 1 rfl) rfl
theorem q2520 : (Jvm.Cond.code ({ cls := "OwlYearsModel", name := "share", desc := "(I)I" } : Jvm.MethodName) prog_9_method_35_code (2 : Nat) (Option.some Jvm.ClassFile.FieldType.int)) ∈ lw_all := lw_g (lw_at lw_m11 2 rfl) rfl
theorem q2521 : (Jvm.Cond.methodLink "OwlYearsModel" (113 : Nat) ({ cls := "OwlYearsModel", name := "shareIn", desc := "(JI)I" } : Jvm.MethodName)) ∈ lw_all := lw_g (lw_at lw_m11 3 rfl) rfl
theorem q2522 : (Jvm.Cond.privateMethod ({ cls := "OwlYearsModel", name := "shareIn", desc := "(JI)I" } : Jvm.MethodName)) ∈ lw_tbl := lw_at lw_m11 4 rfl
theorem q2523 : (Jvm.Cond.instanceMethod ({ cls := "OwlYearsModel", name := "shareIn", desc := "(JI)I" } : Jvm.MethodName)) ∈ lw_all := lw_g (lw_at lw_m11 5 rfl) rfl
theorem q2524 : (Jvm.Cond.code ({ cls := "OwlYearsModel", name := "shareIn", desc := "(JI)I" } : Jvm.MethodName) prog_9_method_34_code (6 : Nat) (Option.some Jvm.ClassFile.FieldType.int)) ∈ lw_all := lw_g (lw_at lw_m11 6 rfl) rfl
theorem q2525 : (Jvm.Cond.methodLink "OwlYearsModel" (110 : Nat) ({ cls := "OwlYearsModel", name := "crowd", desc := "(I)I" } : Jvm.MethodName)) ∈ lw_all := lw_g (lw_at lw_m11 7 rfl) rfl
theorem q2526 : (Jvm.Cond.privateMethod ({ cls := "OwlYearsModel", name := "crowd", desc := "(I)I" } : Jvm.MethodName)) ∈ lw_tbl := lw_at lw_m11 8 rfl
theorem q2527 : (Jvm.Cond.instanceMethod ({ cls := "OwlYearsModel", name := "crowd", desc := "(I)I" } : Jvm.MethodName)) ∈ lw_all := lw_g (lw_at lw_m11 9 rfl) rfl
theorem q2528 : (Jvm.Cond.code ({ cls := "OwlYearsModel", name := "crowd", desc := "(I)I" } : Jvm.MethodName) prog_9_method_33_code (4 : Nat) (Option.some Jvm.ClassFile.FieldType.int)) ∈ lw_all := lw_g (lw_at lw_m11 10 rfl) rfl
theorem q2529 : (Jvm.Cond.methodLink "OwlYearsModel" (149 : Nat) ({ cls := "OwlYearsModel", name := "dies", desc := "(II)V" } : Jvm.MethodName)) ∈ lw_all := lw_g (lw_at lw_m11 11 rfl) rfl
theorem q2530 : (Jvm.Cond.privateMethod ({ cls := "OwlYearsModel", name := "dies", desc := "(II)V" } : Jvm.MethodName)) ∈ lw_tbl := lw_at lw_m11 12 rfl
theorem q2531 : (Jvm.Cond.instanceMethod ({ cls := "OwlYearsModel", name := "dies", desc := "(II)V" } : Jvm.MethodName)) ∈ lw_all := lw_g (lw_at lw_m11 13 rfl) rfl
theorem q2532 : (Jvm.Cond.code ({ cls := "OwlYearsModel", name := "dies", desc := "(II)V" } : Jvm.MethodName) prog_9_method_32_code (4 : Nat) (Option.none : Option Jvm.ClassFile.FieldType)) ∈ lw_all := lw_g (lw_at lw_m11 14 rfl) rfl
theorem q2533 : (Jvm.Cond.methodLink "OwlYearsModel" (153 : Nat) ({ cls := "OwlYearsModel", name := "younger", desc := "(II)I" } : Jvm.MethodName)) ∈ lw_all := lw_g (lw_at lw_m11 15 rfl) rfl
theorem q2534 : (Jvm.Cond.privateMethod ({ cls := "OwlYearsModel", name := "younger", desc := "(II)I" } : Jvm.MethodName)) ∈ lw_tbl := lw_at lw_m11 16 rfl
theorem q2535 : (Jvm.Cond.instanceMethod ({ cls := "OwlYearsModel", name := "younger", desc := "(II)I" } : Jvm.MethodName)) ∈ lw_all := lw_g (lw_at lw_m11 17 rfl) rfl
theorem q2536 : (Jvm.Cond.code ({ cls := "OwlYearsModel", name := "younger", desc := "(II)I" } : Jvm.MethodName) prog_9_method_48_code (4 : Nat) (Option.some Jvm.ClassFile.FieldType.int)) ∈ lw_all := lw_g (lw_at lw_m11 18 rfl) rfl
theorem q2537 : (Jvm.Cond.methodLink "OwlYearsModel" (175 : Nat) ({ cls := "OwlYearsModel", name := "meetsRoads", desc := "()V" } : Jvm.MethodName)) ∈ lw_all := lw_g (lw_at lw_m11 19 rfl) rfl
theorem q2538 : (Jvm.Cond.privateMethod ({ cls := "OwlYearsModel", name := "meetsRoads", desc := "()V" } : Jvm.MethodName)) ∈ lw_tbl := lw_at lw_m11 20 rfl
theorem q2539 : (Jvm.Cond.instanceMethod ({ cls := "OwlYearsModel", name := "meetsRoads", desc := "()V" } : Jvm.MethodName)) ∈ lw_all := lw_g (lw_at lw_m11 21 rfl) rfl
theorem q2540 : (Jvm.Cond.code ({ cls := "OwlYearsModel", name := "meetsRoads", desc := "()V" } : Jvm.MethodName) prog_9_method_50_code (3 : Nat) (Option.none : Option Jvm.ClassFile.FieldType)) ∈ lw_all := lw_g (lw_at lw_m11 22 rfl) rfl
theorem q2541 : (Jvm.Cond.methodLink "OwlYearsModel" (156 : Nat) ({ cls := "OwlYearsModel", name := "risk", desc := "(I)I" } : Jvm.MethodName)) ∈ lw_all := lw_g (lw_at lw_m11 23 rfl) rfl
theorem q2542 : (Jvm.Cond.privateMethod ({ cls := "OwlYearsModel", name := "risk", desc := "(I)I" } : Jvm.MethodName)) ∈ lw_tbl := lw_at lw_m11 24 rfl
theorem q2543 : (Jvm.Cond.instanceMethod ({ cls := "OwlYearsModel", name := "risk", desc := "(I)I" } : Jvm.MethodName)) ∈ lw_all := lw_g (lw_at lw_m11 25 rfl) rfl
theorem q2544 : (Jvm.Cond.code ({ cls := "OwlYearsModel", name := "risk", desc := "(I)I" } : Jvm.MethodName) prog_9_method_36_code (4 : Nat) (Option.some Jvm.ClassFile.FieldType.int)) ∈ lw_all := lw_g (lw_at lw_m11 26 rfl) rfl
theorem q2545 : (Jvm.Cond.constant "OwlYearsModel" (159 : Nat) (65537 : Int32)) ∈ lw_all := lw_g (lw_at lw_m11 27 rfl) rfl
theorem q2546 : (Jvm.Cond.methodLink "OwlYearsModel" (178 : Nat) ({ cls := "OwlYearsModel", name := "ages", desc := "()V" } : Jvm.MethodName)) ∈ lw_all := lw_g (lw_at lw_m11 28 rfl) rfl
theorem q2547 : (Jvm.Cond.privateMethod ({ cls := "OwlYearsModel", name := "ages", desc := "()V" } : Jvm.MethodName)) ∈ lw_tbl := lw_at lw_m11 29 rfl
theorem q2548 : (Jvm.Cond.instanceMethod ({ cls := "OwlYearsModel", name := "ages", desc := "()V" } : Jvm.MethodName)) ∈ lw_all := lw_g (lw_at lw_m11 30 rfl) rfl
theorem q2549 : (Jvm.Cond.code ({ cls := "OwlYearsModel", name := "ages", desc := "()V" } : Jvm.MethodName) prog_9_method_51_code (3 : Nat) (Option.none : Option Jvm.ClassFile.FieldType)) ∈ lw_all := lw_g (lw_at lw_m11 31 rfl) rfl
theorem q2550 : (Jvm.Cond.methodLink "OwlYearsModel" (181 : Nat) ({ cls := "OwlYearsModel", name := "breeds", desc := "(I)V" } : Jvm.MethodName)) ∈ lw_all := lw_g (lw_at lw_m11 32 rfl) rfl
theorem q2551 : (Jvm.Cond.privateMethod ({ cls := "OwlYearsModel", name := "breeds", desc := "(I)V" } : Jvm.MethodName)) ∈ lw_tbl := lw_at lw_m11 33 rfl
theorem q2552 : (Jvm.Cond.instanceMethod ({ cls := "OwlYearsModel", name := "breeds", desc := "(I)V" } : Jvm.MethodName)) ∈ lw_all := lw_g (lw_at lw_m11 34 rfl) rfl
theorem q2553 : (Jvm.Cond.code ({ cls := "OwlYearsModel", name := "breeds", desc := "(I)V" } : Jvm.MethodName) prog_9_method_54_code (6 : Nat) (Option.none : Option Jvm.ClassFile.FieldType)) ∈ lw_all := lw_g (lw_at lw_m11 35 rfl) rfl
theorem q2554 : (Jvm.Cond.methodLink "OwlYearsModel" (163 : Nat) ({ cls := "OwlYearsModel", name := "young", desc := "(I)I" } : Jvm.MethodName)) ∈ lw_all := lw_g (lw_at lw_m11 36 rfl) rfl
theorem q2555 : (Jvm.Cond.privateMethod ({ cls := "OwlYearsModel", name := "young", desc := "(I)I" } : Jvm.MethodName)) ∈ lw_tbl := lw_at lw_m11 37 rfl
theorem q2556 : (Jvm.Cond.instanceMethod ({ cls := "OwlYearsModel", name := "young", desc := "(I)I" } : Jvm.MethodName)) ∈ lw_all := lw_g (lw_at lw_m11 38 rfl) rfl
theorem q2557 : (Jvm.Cond.code ({ cls := "OwlYearsModel", name := "young", desc := "(I)I" } : Jvm.MethodName) prog_9_method_53_code (3 : Nat) (Option.some Jvm.ClassFile.FieldType.int)) ∈ lw_all := lw_g (lw_at lw_m11 39 rfl) rfl
theorem q2558 : (Jvm.Cond.methodLink "OwlYearsModel" (160 : Nat) ({ cls := "OwlYearsModel", name := "reason", desc := "(I)I" } : Jvm.MethodName)) ∈ lw_all := lw_g (lw_at lw_m11 40 rfl) rfl
theorem q2559 : (Jvm.Cond.privateMethod ({ cls := "OwlYearsModel", name := "reason", desc := "(I)I" } : Jvm.MethodName)) ∈ lw_tbl := lw_at lw_m11 41 rfl
theorem q2560 : (Jvm.Cond.instanceMethod ({ cls := "OwlYearsModel", name := "reason", desc := "(I)I" } : Jvm.MethodName)) ∈ lw_all := lw_g (lw_at lw_m11 42 rfl) rfl
theorem q2561 : (Jvm.Cond.code ({ cls := "OwlYearsModel", name := "reason", desc := "(I)I" } : Jvm.MethodName) prog_9_method_52_code (4 : Nat) (Option.some Jvm.ClassFile.FieldType.int)) ∈ lw_all := lw_g (lw_at lw_m11 43 rfl) rfl
theorem q2562 : (Jvm.Cond.methodLink "OwlYearsModel" (184 : Nat) ({ cls := "OwlYearsModel", name := "settles", desc := "(I)V" } : Jvm.MethodName)) ∈ lw_all := lw_g (lw_at lw_m11 44 rfl) rfl
theorem q2563 : (Jvm.Cond.privateMethod ({ cls := "OwlYearsModel", name := "settles", desc := "(I)V" } : Jvm.MethodName)) ∈ lw_tbl := lw_at lw_m11 45 rfl
theorem q2564 : (Jvm.Cond.instanceMethod ({ cls := "OwlYearsModel", name := "settles", desc := "(I)V" } : Jvm.MethodName)) ∈ lw_all := lw_g (lw_at lw_m11 46 rfl) rfl
theorem q2565 : (Jvm.Cond.code ({ cls := "OwlYearsModel", name := "settles", desc := "(I)V" } : Jvm.MethodName) prog_9_method_55_code (6 : Nat) (Option.none : Option Jvm.ClassFile.FieldType)) ∈ lw_all := lw_g (lw_at lw_m11 47 rfl) rfl
theorem q2567 : (Jvm.Cond.instanceMethod ({ cls := "OwlYearsModel", name := "year", desc := "()I" } : Jvm.MethodName)) ∈ lw_all := lw_g (lw_at lw_m11 49 rfl) rfl
theorem q2568 : (Jvm.Cond.selects "OwlYearsModel" ({ cls := "OwlYearsModel", name := "year", desc := "()I" } : Jvm.MethodName) ({ cls := "OwlYearsModel", name := "year", desc := "()I" } : Jvm.MethodName)) ∈ lw_all := lw_g (lw_at lw_m11 50 rfl) rfl
theorem q2569 : (Jvm.Cond.code ({ cls := "OwlYearsModel", name := "year", desc := "()I" } : Jvm.MethodName) prog_9_method_61_code (1 : Nat) (Option.some Jvm.ClassFile.FieldType.int)) ∈ lw_all := lw_g (lw_at lw_m11 51 rfl) rfl
theorem q2570 : (Jvm.Cond.methodLink "OwlYearsModel" (196 : Nat) ({ cls := "OwlYearsModel", name := "tells", desc := "(I)I" } : Jvm.MethodName)) ∈ lw_all := lw_g (lw_at lw_m11 52 rfl) rfl
theorem q2571 : (Jvm.Cond.privateMethod ({ cls := "OwlYearsModel", name := "tells", desc := "(I)I" } : Jvm.MethodName)) ∈ lw_tbl := lw_at lw_m11 53 rfl
theorem q2572 : (Jvm.Cond.instanceMethod ({ cls := "OwlYearsModel", name := "tells", desc := "(I)I" } : Jvm.MethodName)) ∈ lw_all := lw_g (lw_at lw_m11 54 rfl) rfl
theorem q2573 : (Jvm.Cond.code ({ cls := "OwlYearsModel", name := "tells", desc := "(I)I" } : Jvm.MethodName) prog_9_method_60_code (2 : Nat) (Option.some Jvm.ClassFile.FieldType.int)) ∈ lw_all := lw_g (lw_at lw_m11 55 rfl) rfl
theorem q2575 : (Jvm.Cond.instanceMethod ({ cls := "OwlYearsModel", name := "phase", desc := "()I" } : Jvm.MethodName)) ∈ lw_all := lw_g (lw_at lw_m11 57 rfl) rfl
theorem q2576 : (Jvm.Cond.selects "OwlYearsModel" ({ cls := "OwlYearsModel", name := "phase", desc := "()I" } : Jvm.MethodName) ({ cls := "OwlYearsModel", name := "phase", desc := "()I" } : Jvm.MethodName)) ∈ lw_all := lw_g (lw_at lw_m11 58 rfl) rfl
theorem q2577 : (Jvm.Cond.code ({ cls := "OwlYearsModel", name := "phase", desc := "()I" } : Jvm.MethodName) prog_9_method_62_code (1 : Nat) (Option.some Jvm.ClassFile.FieldType.int)) ∈ lw_all := lw_g (lw_at lw_m11 59 rfl) rfl
theorem q2579 : (Jvm.Cond.instanceMethod ({ cls := "OwlYearsModel", name := "landOf", desc := "(I)I" } : Jvm.MethodName)) ∈ lw_all := lw_g (lw_at lw_m11 61 rfl) rfl
theorem q2580 : (Jvm.Cond.selects "OwlYearsModel" ({ cls := "OwlYearsModel", name := "landOf", desc := "(I)I" } : Jvm.MethodName) ({ cls := "OwlYearsModel", name := "landOf", desc := "(I)I" } : Jvm.MethodName)) ∈ lw_all := lw_g (lw_at lw_m11 62 rfl) rfl
theorem q2581 : (Jvm.Cond.code ({ cls := "OwlYearsModel", name := "landOf", desc := "(I)I" } : Jvm.MethodName) prog_9_method_64_code (2 : Nat) (Option.some Jvm.ClassFile.FieldType.int)) ∈ lw_all := lw_g (lw_at lw_m11 63 rfl) rfl
theorem q2582 : (Jvm.Cond.methodLink "OwlYearsModel" (199 : Nat) ({ cls := "OwlYearsModel", name := "asksSquare", desc := "(I)Z" } : Jvm.MethodName)) ∈ lw_all := lw_g (lw_at lw_m11 64 rfl) rfl
theorem q2583 : (Jvm.Cond.privateMethod ({ cls := "OwlYearsModel", name := "asksSquare", desc := "(I)Z" } : Jvm.MethodName)) ∈ lw_tbl := lw_at lw_m11 65 rfl
theorem q2584 : (Jvm.Cond.instanceMethod ({ cls := "OwlYearsModel", name := "asksSquare", desc := "(I)Z" } : Jvm.MethodName)) ∈ lw_all := lw_g (lw_at lw_m11 66 rfl) rfl
theorem q2585 : (Jvm.Cond.code ({ cls := "OwlYearsModel", name := "asksSquare", desc := "(I)Z" } : Jvm.MethodName) prog_9_method_63_code (2 : Nat) (Option.some Jvm.ClassFile.FieldType.boolean)) ∈ lw_all := lw_g (lw_at lw_m11 67 rfl) rfl
theorem q2587 : (Jvm.Cond.instanceMethod ({ cls := "OwlYearsModel", name := "squaresOf", desc := "(I)J" } : Jvm.MethodName)) ∈ lw_all := lw_g (lw_at lw_m11 69 rfl) rfl
theorem q2588 : (Jvm.Cond.selects "OwlYearsModel" ({ cls := "OwlYearsModel", name := "squaresOf", desc := "(I)J" } : Jvm.MethodName) ({ cls := "OwlYearsModel", name := "squaresOf", desc := "(I)J" } : Jvm.MethodName)) ∈ lw_all := lw_g (lw_at lw_m11 70 rfl) rfl
theorem q2589 : (Jvm.Cond.code ({ cls := "OwlYearsModel", name := "squaresOf", desc := "(I)J" } : Jvm.MethodName) prog_9_method_66_code (2 : Nat) (Option.some Jvm.ClassFile.FieldType.long)) ∈ lw_all := lw_g (lw_at lw_m11 71 rfl) rfl
theorem q2590 : (Jvm.Cond.methodLink "OwlYearsModel" (202 : Nat) ({ cls := "OwlYearsModel", name := "ofKind", desc := "(I)J" } : Jvm.MethodName)) ∈ lw_all := lw_g (lw_at lw_m11 72 rfl) rfl
theorem q2591 : (Jvm.Cond.privateMethod ({ cls := "OwlYearsModel", name := "ofKind", desc := "(I)J" } : Jvm.MethodName)) ∈ lw_tbl := lw_at lw_m11 73 rfl
theorem q2592 : (Jvm.Cond.instanceMethod ({ cls := "OwlYearsModel", name := "ofKind", desc := "(I)J" } : Jvm.MethodName)) ∈ lw_all := lw_g (lw_at lw_m11 74 rfl) rfl
theorem q2593 : (Jvm.Cond.code ({ cls := "OwlYearsModel", name := "ofKind", desc := "(I)J" } : Jvm.MethodName) prog_9_method_65_code (5 : Nat) (Option.some Jvm.ClassFile.FieldType.long)) ∈ lw_all := lw_g (lw_at lw_m11 75 rfl) rfl
theorem q2595 : (Jvm.Cond.instanceMethod ({ cls := "OwlYearsModel", name := "volesOf", desc := "(I)I" } : Jvm.MethodName)) ∈ lw_all := lw_g (lw_at lw_m11 77 rfl) rfl
theorem q2596 : (Jvm.Cond.selects "OwlYearsModel" ({ cls := "OwlYearsModel", name := "volesOf", desc := "(I)I" } : Jvm.MethodName) ({ cls := "OwlYearsModel", name := "volesOf", desc := "(I)I" } : Jvm.MethodName)) ∈ lw_all := lw_g (lw_at lw_m11 78 rfl) rfl
theorem q2597 : (Jvm.Cond.code ({ cls := "OwlYearsModel", name := "volesOf", desc := "(I)I" } : Jvm.MethodName) prog_9_method_67_code (2 : Nat) (Option.some Jvm.ClassFile.FieldType.int)) ∈ lw_all := lw_g (lw_at lw_m11 79 rfl) rfl
theorem q2599 : (Jvm.Cond.instanceMethod ({ cls := "OwlYearsModel", name := "voles", desc := "()I" } : Jvm.MethodName)) ∈ lw_all := lw_g (lw_at lw_m11 81 rfl) rfl
theorem q2600 : (Jvm.Cond.selects "OwlYearsModel" ({ cls := "OwlYearsModel", name := "voles", desc := "()I" } : Jvm.MethodName) ({ cls := "OwlYearsModel", name := "voles", desc := "()I" } : Jvm.MethodName)) ∈ lw_all := lw_g (lw_at lw_m11 82 rfl) rfl
theorem q2601 : (Jvm.Cond.code ({ cls := "OwlYearsModel", name := "voles", desc := "()I" } : Jvm.MethodName) prog_9_method_69_code (1 : Nat) (Option.some Jvm.ClassFile.FieldType.int)) ∈ lw_all := lw_g (lw_at lw_m11 83 rfl) rfl
theorem q2602 : (Jvm.Cond.methodLink "OwlYearsModel" (205 : Nat) ({ cls := "OwlYearsModel", name := "allVoles", desc := "()I" } : Jvm.MethodName)) ∈ lw_all := lw_g (lw_at lw_m11 84 rfl) rfl
theorem q2603 : (Jvm.Cond.privateMethod ({ cls := "OwlYearsModel", name := "allVoles", desc := "()I" } : Jvm.MethodName)) ∈ lw_tbl := lw_at lw_m11 85 rfl
theorem q2604 : (Jvm.Cond.instanceMethod ({ cls := "OwlYearsModel", name := "allVoles", desc := "()I" } : Jvm.MethodName)) ∈ lw_all := lw_g (lw_at lw_m11 86 rfl) rfl
theorem q2605 : (Jvm.Cond.code ({ cls := "OwlYearsModel", name := "allVoles", desc := "()I" } : Jvm.MethodName) prog_9_method_68_code (3 : Nat) (Option.some Jvm.ClassFile.FieldType.int)) ∈ lw_all := lw_g (lw_at lw_m11 87 rfl) rfl
theorem q2607 : (Jvm.Cond.instanceMethod ({ cls := "OwlYearsModel", name := "volesNext", desc := "(I)I" } : Jvm.MethodName)) ∈ lw_all := lw_g (lw_at lw_m11 89 rfl) rfl
theorem q2608 : (Jvm.Cond.selects "OwlYearsModel" ({ cls := "OwlYearsModel", name := "volesNext", desc := "(I)I" } : Jvm.MethodName) ({ cls := "OwlYearsModel", name := "volesNext", desc := "(I)I" } : Jvm.MethodName)) ∈ lw_all := lw_g (lw_at lw_m11 90 rfl) rfl
theorem q2609 : (Jvm.Cond.code ({ cls := "OwlYearsModel", name := "volesNext", desc := "(I)I" } : Jvm.MethodName) prog_9_method_70_code (2 : Nat) (Option.some Jvm.ClassFile.FieldType.int)) ∈ lw_all := lw_g (lw_at lw_m11 91 rfl) rfl
theorem q2611 : (Jvm.Cond.instanceMethod ({ cls := "OwlYearsModel", name := "distance", desc := "(II)I" } : Jvm.MethodName)) ∈ lw_all := lw_g (lw_at lw_m11 93 rfl) rfl
theorem q2612 : (Jvm.Cond.selects "OwlYearsModel" ({ cls := "OwlYearsModel", name := "distance", desc := "(II)I" } : Jvm.MethodName) ({ cls := "OwlYearsModel", name := "distance", desc := "(II)I" } : Jvm.MethodName)) ∈ lw_all := lw_g (lw_at lw_m11 94 rfl) rfl
theorem q2613 : (Jvm.Cond.code ({ cls := "OwlYearsModel", name := "distance", desc := "(II)I" } : Jvm.MethodName) prog_9_method_71_code (3 : Nat) (Option.some Jvm.ClassFile.FieldType.int)) ∈ lw_all := lw_g (lw_at lw_m11 95 rfl) rfl
theorem q2615 : (Jvm.Cond.instanceMethod ({ cls := "OwlYearsModel", name := "chances", desc := "()I" } : Jvm.MethodName)) ∈ lw_all := lw_g (lw_at lw_m11 97 rfl) rfl
theorem q2616 : (Jvm.Cond.selects "OwlYearsModel" ({ cls := "OwlYearsModel", name := "chances", desc := "()I" } : Jvm.MethodName) ({ cls := "OwlYearsModel", name := "chances", desc := "()I" } : Jvm.MethodName)) ∈ lw_all := lw_g (lw_at lw_m11 98 rfl) rfl
theorem q2617 : (Jvm.Cond.code ({ cls := "OwlYearsModel", name := "chances", desc := "()I" } : Jvm.MethodName) prog_9_method_72_code (1 : Nat) (Option.some Jvm.ClassFile.FieldType.int)) ∈ lw_all := lw_g (lw_at lw_m11 99 rfl) rfl
theorem q2619 : (Jvm.Cond.instanceMethod ({ cls := "OwlYearsModel", name := "boxes", desc := "()I" } : Jvm.MethodName)) ∈ lw_all := lw_g (lw_at lw_m11 101 rfl) rfl
theorem q2620 : (Jvm.Cond.selects "OwlYearsModel" ({ cls := "OwlYearsModel", name := "boxes", desc := "()I" } : Jvm.MethodName) ({ cls := "OwlYearsModel", name := "boxes", desc := "()I" } : Jvm.MethodName)) ∈ lw_all := lw_g (lw_at lw_m11 102 rfl) rfl
theorem q2621 : (Jvm.Cond.code ({ cls := "OwlYearsModel", name := "boxes", desc := "()I" } : Jvm.MethodName) prog_9_method_73_code (1 : Nat) (Option.some Jvm.ClassFile.FieldType.int)) ∈ lw_all := lw_g (lw_at lw_m11 103 rfl) rfl
theorem q2623 : (Jvm.Cond.instanceMethod ({ cls := "OwlYearsModel", name := "squareOf", desc := "(I)I" } : Jvm.MethodName)) ∈ lw_all := lw_g (lw_at lw_m11 105 rfl) rfl
theorem q2624 : (Jvm.Cond.selects "OwlYearsModel" ({ cls := "OwlYearsModel", name := "squareOf", desc := "(I)I" } : Jvm.MethodName) ({ cls := "OwlYearsModel", name := "squareOf", desc := "(I)I" } : Jvm.MethodName)) ∈ lw_all := lw_g (lw_at lw_m11 106 rfl) rfl
theorem q2625 : (Jvm.Cond.code ({ cls := "OwlYearsModel", name := "squareOf", desc := "(I)I" } : Jvm.MethodName) prog_9_method_74_code (2 : Nat) (Option.some Jvm.ClassFile.FieldType.int)) ∈ lw_all := lw_g (lw_at lw_m11 107 rfl) rfl
theorem q2627 : (Jvm.Cond.instanceMethod ({ cls := "OwlYearsModel", name := "rangeOf", desc := "(I)J" } : Jvm.MethodName)) ∈ lw_all := lw_g (lw_at lw_m11 109 rfl) rfl
theorem q2628 : (Jvm.Cond.selects "OwlYearsModel" ({ cls := "OwlYearsModel", name := "rangeOf", desc := "(I)J" } : Jvm.MethodName) ({ cls := "OwlYearsModel", name := "rangeOf", desc := "(I)J" } : Jvm.MethodName)) ∈ lw_all := lw_g (lw_at lw_m11 110 rfl) rfl
theorem q2629 : (Jvm.Cond.code ({ cls := "OwlYearsModel", name := "rangeOf", desc := "(I)J" } : Jvm.MethodName) prog_9_method_75_code (2 : Nat) (Option.some Jvm.ClassFile.FieldType.long)) ∈ lw_all := lw_g (lw_at lw_m11 111 rfl) rfl
theorem q2631 : (Jvm.Cond.instanceMethod ({ cls := "OwlYearsModel", name := "rangeByJoining", desc := "(I)J" } : Jvm.MethodName)) ∈ lw_all := lw_g (lw_at lw_m11 113 rfl) rfl
theorem q2632 : (Jvm.Cond.selects "OwlYearsModel" ({ cls := "OwlYearsModel", name := "rangeByJoining", desc := "(I)J" } : Jvm.MethodName) ({ cls := "OwlYearsModel", name := "rangeByJoining", desc := "(I)J" } : Jvm.MethodName)) ∈ lw_all := lw_g (lw_at lw_m11 114 rfl) rfl
theorem q2633 : (Jvm.Cond.code ({ cls := "OwlYearsModel", name := "rangeByJoining", desc := "(I)J" } : Jvm.MethodName) prog_9_method_76_code (2 : Nat) (Option.some Jvm.ClassFile.FieldType.long)) ∈ lw_all := lw_g (lw_at lw_m11 115 rfl) rfl
theorem q2635 : (Jvm.Cond.instanceMethod ({ cls := "OwlYearsModel", name := "shareOf", desc := "(I)I" } : Jvm.MethodName)) ∈ lw_all := lw_g (lw_at lw_m11 117 rfl) rfl
theorem q2636 : (Jvm.Cond.selects "OwlYearsModel" ({ cls := "OwlYearsModel", name := "shareOf", desc := "(I)I" } : Jvm.MethodName) ({ cls := "OwlYearsModel", name := "shareOf", desc := "(I)I" } : Jvm.MethodName)) ∈ lw_all := lw_g (lw_at lw_m11 118 rfl) rfl
theorem q2637 : (Jvm.Cond.code ({ cls := "OwlYearsModel", name := "shareOf", desc := "(I)I" } : Jvm.MethodName) prog_9_method_77_code (2 : Nat) (Option.some Jvm.ClassFile.FieldType.int)) ∈ lw_all := lw_g (lw_at lw_m11 119 rfl) rfl
theorem q2639 : (Jvm.Cond.instanceMethod ({ cls := "OwlYearsModel", name := "crowdOf", desc := "(I)I" } : Jvm.MethodName)) ∈ lw_all := lw_g (lw_at lw_m11 121 rfl) rfl
theorem q2640 : (Jvm.Cond.selects "OwlYearsModel" ({ cls := "OwlYearsModel", name := "crowdOf", desc := "(I)I" } : Jvm.MethodName) ({ cls := "OwlYearsModel", name := "crowdOf", desc := "(I)I" } : Jvm.MethodName)) ∈ lw_all := lw_g (lw_at lw_m11 122 rfl) rfl
theorem q2641 : (Jvm.Cond.code ({ cls := "OwlYearsModel", name := "crowdOf", desc := "(I)I" } : Jvm.MethodName) prog_9_method_78_code (2 : Nat) (Option.some Jvm.ClassFile.FieldType.int)) ∈ lw_all := lw_g (lw_at lw_m11 123 rfl) rfl
theorem q2643 : (Jvm.Cond.instanceMethod ({ cls := "OwlYearsModel", name := "riskOf", desc := "(I)I" } : Jvm.MethodName)) ∈ lw_all := lw_g (lw_at lw_m11 125 rfl) rfl
theorem q2644 : (Jvm.Cond.selects "OwlYearsModel" ({ cls := "OwlYearsModel", name := "riskOf", desc := "(I)I" } : Jvm.MethodName) ({ cls := "OwlYearsModel", name := "riskOf", desc := "(I)I" } : Jvm.MethodName)) ∈ lw_all := lw_g (lw_at lw_m11 126 rfl) rfl
theorem q2645 : (Jvm.Cond.code ({ cls := "OwlYearsModel", name := "riskOf", desc := "(I)I" } : Jvm.MethodName) prog_9_method_79_code (2 : Nat) (Option.some Jvm.ClassFile.FieldType.int)) ∈ lw_all := lw_g (lw_at lw_m11 127 rfl) rfl
theorem q2647 : (Jvm.Cond.instanceMethod ({ cls := "OwlYearsModel", name := "livesIn", desc := "(II)I" } : Jvm.MethodName)) ∈ lw_all := lw_g (lw_at lw_m11 129 rfl) rfl
theorem q2648 : (Jvm.Cond.selects "OwlYearsModel" ({ cls := "OwlYearsModel", name := "livesIn", desc := "(II)I" } : Jvm.MethodName) ({ cls := "OwlYearsModel", name := "livesIn", desc := "(II)I" } : Jvm.MethodName)) ∈ lw_all := lw_g (lw_at lw_m11 130 rfl) rfl
theorem q2649 : (Jvm.Cond.code ({ cls := "OwlYearsModel", name := "livesIn", desc := "(II)I" } : Jvm.MethodName) prog_9_method_81_code (3 : Nat) (Option.some Jvm.ClassFile.FieldType.int)) ∈ lw_all := lw_g (lw_at lw_m11 131 rfl) rfl
theorem q2650 : (Jvm.Cond.methodLink "OwlYearsModel" (209 : Nat) ({ cls := "OwlYearsModel", name := "ringIn", desc := "(II)I" } : Jvm.MethodName)) ∈ lw_all := lw_g (lw_at lw_m11 132 rfl) rfl
theorem q2651 : (Jvm.Cond.privateMethod ({ cls := "OwlYearsModel", name := "ringIn", desc := "(II)I" } : Jvm.MethodName)) ∈ lw_tbl := lw_at lw_m11 133 rfl
theorem q2652 : (Jvm.Cond.instanceMethod ({ cls := "OwlYearsModel", name := "ringIn", desc := "(II)I" } : Jvm.MethodName)) ∈ lw_all := lw_g (lw_at lw_m11 134 rfl) rfl
theorem q2653 : (Jvm.Cond.code ({ cls := "OwlYearsModel", name := "ringIn", desc := "(II)I" } : Jvm.MethodName) prog_9_method_80_code (4 : Nat) (Option.some Jvm.ClassFile.FieldType.int)) ∈ lw_all := lw_g (lw_at lw_m11 135 rfl) rfl
theorem q2655 : (Jvm.Cond.instanceMethod ({ cls := "OwlYearsModel", name := "whyNoYoung", desc := "(I)I" } : Jvm.MethodName)) ∈ lw_all := lw_g (lw_at lw_m11 137 rfl) rfl
theorem q2656 : (Jvm.Cond.selects "OwlYearsModel" ({ cls := "OwlYearsModel", name := "whyNoYoung", desc := "(I)I" } : Jvm.MethodName) ({ cls := "OwlYearsModel", name := "whyNoYoung", desc := "(I)I" } : Jvm.MethodName)) ∈ lw_all := lw_g (lw_at lw_m11 138 rfl) rfl
theorem q2657 : (Jvm.Cond.code ({ cls := "OwlYearsModel", name := "whyNoYoung", desc := "(I)I" } : Jvm.MethodName) prog_9_method_82_code (2 : Nat) (Option.some Jvm.ClassFile.FieldType.int)) ∈ lw_all := lw_g (lw_at lw_m11 139 rfl) rfl
theorem q2659 : (Jvm.Cond.instanceMethod ({ cls := "OwlYearsModel", name := "youngOf", desc := "(I)I" } : Jvm.MethodName)) ∈ lw_all := lw_g (lw_at lw_m11 141 rfl) rfl
theorem q2660 : (Jvm.Cond.selects "OwlYearsModel" ({ cls := "OwlYearsModel", name := "youngOf", desc := "(I)I" } : Jvm.MethodName) ({ cls := "OwlYearsModel", name := "youngOf", desc := "(I)I" } : Jvm.MethodName)) ∈ lw_all := lw_g (lw_at lw_m11 142 rfl) rfl
theorem q2661 : (Jvm.Cond.code ({ cls := "OwlYearsModel", name := "youngOf", desc := "(I)I" } : Jvm.MethodName) prog_9_method_83_code (2 : Nat) (Option.some Jvm.ClassFile.FieldType.int)) ∈ lw_all := lw_g (lw_at lw_m11 143 rfl) rfl
theorem q2663 : (Jvm.Cond.instanceMethod ({ cls := "OwlYearsModel", name := "owls", desc := "()I" } : Jvm.MethodName)) ∈ lw_all := lw_g (lw_at lw_m11 145 rfl) rfl
theorem q2664 : (Jvm.Cond.selects "OwlYearsModel" ({ cls := "OwlYearsModel", name := "owls", desc := "()I" } : Jvm.MethodName) ({ cls := "OwlYearsModel", name := "owls", desc := "()I" } : Jvm.MethodName)) ∈ lw_all := lw_g (lw_at lw_m11 146 rfl) rfl
theorem q2665 : (Jvm.Cond.code ({ cls := "OwlYearsModel", name := "owls", desc := "()I" } : Jvm.MethodName) prog_9_method_84_code (1 : Nat) (Option.some Jvm.ClassFile.FieldType.int)) ∈ lw_all := lw_g (lw_at lw_m11 147 rfl) rfl
theorem q2667 : (Jvm.Cond.instanceMethod ({ cls := "OwlYearsModel", name := "owlsByAccount", desc := "()I" } : Jvm.MethodName)) ∈ lw_all := lw_g (lw_at lw_m11 149 rfl) rfl
theorem q2668 : (Jvm.Cond.selects "OwlYearsModel" ({ cls := "OwlYearsModel", name := "owlsByAccount", desc := "()I" } : Jvm.MethodName) ({ cls := "OwlYearsModel", name := "owlsByAccount", desc := "()I" } : Jvm.MethodName)) ∈ lw_all := lw_g (lw_at lw_m11 150 rfl) rfl
theorem q2669 : (Jvm.Cond.code ({ cls := "OwlYearsModel", name := "owlsByAccount", desc := "()I" } : Jvm.MethodName) prog_9_method_85_code (1 : Nat) (Option.some Jvm.ClassFile.FieldType.int)) ∈ lw_all := lw_g (lw_at lw_m11 151 rfl) rfl
theorem q2671 : (Jvm.Cond.instanceMethod ({ cls := "OwlYearsModel", name := "wanderers", desc := "()I" } : Jvm.MethodName)) ∈ lw_all := lw_g (lw_at lw_m11 153 rfl) rfl
theorem q2672 : (Jvm.Cond.selects "OwlYearsModel" ({ cls := "OwlYearsModel", name := "wanderers", desc := "()I" } : Jvm.MethodName) ({ cls := "OwlYearsModel", name := "wanderers", desc := "()I" } : Jvm.MethodName)) ∈ lw_all := lw_g (lw_at lw_m11 154 rfl) rfl
theorem q2673 : (Jvm.Cond.code ({ cls := "OwlYearsModel", name := "wanderers", desc := "()I" } : Jvm.MethodName) prog_9_method_87_code (1 : Nat) (Option.some Jvm.ClassFile.FieldType.int)) ∈ lw_all := lw_g (lw_at lw_m11 155 rfl) rfl
theorem q2674 : (Jvm.Cond.methodLink "OwlYearsModel" (212 : Nat) ({ cls := "OwlYearsModel", name := "wandering", desc := "()I" } : Jvm.MethodName)) ∈ lw_all := lw_g (lw_at lw_m11 156 rfl) rfl
theorem q2675 : (Jvm.Cond.privateMethod ({ cls := "OwlYearsModel", name := "wandering", desc := "()I" } : Jvm.MethodName)) ∈ lw_tbl := lw_at lw_m11 157 rfl
theorem q2676 : (Jvm.Cond.instanceMethod ({ cls := "OwlYearsModel", name := "wandering", desc := "()I" } : Jvm.MethodName)) ∈ lw_all := lw_g (lw_at lw_m11 158 rfl) rfl
theorem q2677 : (Jvm.Cond.code ({ cls := "OwlYearsModel", name := "wandering", desc := "()I" } : Jvm.MethodName) prog_9_method_86_code (3 : Nat) (Option.some Jvm.ClassFile.FieldType.int)) ∈ lw_all := lw_g (lw_at lw_m11 159 rfl) rfl
theorem q2679 : (Jvm.Cond.instanceMethod ({ cls := "OwlYearsModel", name := "ringAt", desc := "(I)I" } : Jvm.MethodName)) ∈ lw_all := lw_g (lw_at lw_m11 161 rfl) rfl
theorem q2680 : (Jvm.Cond.selects "OwlYearsModel" ({ cls := "OwlYearsModel", name := "ringAt", desc := "(I)I" } : Jvm.MethodName) ({ cls := "OwlYearsModel", name := "ringAt", desc := "(I)I" } : Jvm.MethodName)) ∈ lw_all := lw_g (lw_at lw_m11 162 rfl) rfl
theorem q2681 : (Jvm.Cond.code ({ cls := "OwlYearsModel", name := "ringAt", desc := "(I)I" } : Jvm.MethodName) prog_9_method_88_code (2 : Nat) (Option.some Jvm.ClassFile.FieldType.int)) ∈ lw_all := lw_g (lw_at lw_m11 163 rfl) rfl
theorem q2683 : (Jvm.Cond.instanceMethod ({ cls := "OwlYearsModel", name := "rings", desc := "()I" } : Jvm.MethodName)) ∈ lw_all := lw_g (lw_at lw_m11 165 rfl) rfl
theorem q2684 : (Jvm.Cond.selects "OwlYearsModel" ({ cls := "OwlYearsModel", name := "rings", desc := "()I" } : Jvm.MethodName) ({ cls := "OwlYearsModel", name := "rings", desc := "()I" } : Jvm.MethodName)) ∈ lw_all := lw_g (lw_at lw_m11 166 rfl) rfl
theorem q2685 : (Jvm.Cond.code ({ cls := "OwlYearsModel", name := "rings", desc := "()I" } : Jvm.MethodName) prog_9_method_89_code (1 : Nat) (Option.some Jvm.ClassFile.FieldType.int)) ∈ lw_all := lw_g (lw_at lw_m11 167 rfl) rfl
theorem q2687 : (Jvm.Cond.instanceMethod ({ cls := "OwlYearsModel", name := "isAlive", desc := "(I)Z" } : Jvm.MethodName)) ∈ lw_all := lw_g (lw_at lw_m11 169 rfl) rfl
theorem q2688 : (Jvm.Cond.selects "OwlYearsModel" ({ cls := "OwlYearsModel", name := "isAlive", desc := "(I)Z" } : Jvm.MethodName) ({ cls := "OwlYearsModel", name := "isAlive", desc := "(I)Z" } : Jvm.MethodName)) ∈ lw_all := lw_g (lw_at lw_m11 170 rfl) rfl
theorem q2689 : (Jvm.Cond.code ({ cls := "OwlYearsModel", name := "isAlive", desc := "(I)Z" } : Jvm.MethodName) prog_9_method_90_code (2 : Nat) (Option.some Jvm.ClassFile.FieldType.boolean)) ∈ lw_all := lw_g (lw_at lw_m11 171 rfl) rfl
theorem q2691 : (Jvm.Cond.instanceMethod ({ cls := "OwlYearsModel", name := "sexOf", desc := "(I)I" } : Jvm.MethodName)) ∈ lw_all := lw_g (lw_at lw_m11 173 rfl) rfl
theorem q2692 : (Jvm.Cond.selects "OwlYearsModel" ({ cls := "OwlYearsModel", name := "sexOf", desc := "(I)I" } : Jvm.MethodName) ({ cls := "OwlYearsModel", name := "sexOf", desc := "(I)I" } : Jvm.MethodName)) ∈ lw_all := lw_g (lw_at lw_m11 174 rfl) rfl
theorem q2693 : (Jvm.Cond.code ({ cls := "OwlYearsModel", name := "sexOf", desc := "(I)I" } : Jvm.MethodName) prog_9_method_95_code (2 : Nat) (Option.some Jvm.ClassFile.FieldType.int)) ∈ lw_all := lw_g (lw_at lw_m11 175 rfl) rfl
theorem q2694 : (Jvm.Cond.methodLink "OwlYearsModel" (221 : Nat) ({ cls := "OwlYearsModel", name := "tellsNode", desc := "(II)I" } : Jvm.MethodName)) ∈ lw_all := lw_g (lw_at lw_m11 176 rfl) rfl
theorem q2695 : (Jvm.Cond.privateMethod ({ cls := "OwlYearsModel", name := "tellsNode", desc := "(II)I" } : Jvm.MethodName)) ∈ lw_tbl := lw_at lw_m11 177 rfl
theorem q2696 : (Jvm.Cond.instanceMethod ({ cls := "OwlYearsModel", name := "tellsNode", desc := "(II)I" } : Jvm.MethodName)) ∈ lw_all := lw_g (lw_at lw_m11 178 rfl) rfl
theorem q2697 : (Jvm.Cond.code ({ cls := "OwlYearsModel", name := "tellsNode", desc := "(II)I" } : Jvm.MethodName) prog_9_method_94_code (4 : Nat) (Option.some Jvm.ClassFile.FieldType.int)) ∈ lw_all := lw_g (lw_at lw_m11 179 rfl) rfl
theorem q2698 : (Jvm.Cond.methodLink "OwlYearsModel" (215 : Nat) ({ cls := "OwlYearsModel", name := "node", desc := "(I)I" } : Jvm.MethodName)) ∈ lw_all := lw_g (lw_at lw_m11 180 rfl) rfl
theorem q2699 : (Jvm.Cond.privateMethod ({ cls := "OwlYearsModel", name := "node", desc := "(I)I" } : Jvm.MethodName)) ∈ lw_tbl := lw_at lw_m11 181 rfl
theorem q2700 : (Jvm.Cond.instanceMethod ({ cls := "OwlYearsModel", name := "node", desc := "(I)I" } : Jvm.MethodName)) ∈ lw_all := lw_g (lw_at lw_m11 182 rfl) rfl
theorem q2701 : (Jvm.Cond.code ({ cls := "OwlYearsModel", name := "node", desc := "(I)I" } : Jvm.MethodName) prog_9_method_91_code (4 : Nat) (Option.some Jvm.ClassFile.FieldType.int)) ∈ lw_all := lw_g (lw_at lw_m11 183 rfl) rfl
theorem q2702 : (Jvm.Cond.methodLink "OwlYearsModel" (218 : Nat) ({ cls := "OwlYearsModel", name := "ofNode", desc := "(II)I" } : Jvm.MethodName)) ∈ lw_all := lw_g (lw_at lw_m11 184 rfl) rfl
theorem q2703 : (Jvm.Cond.privateMethod ({ cls := "OwlYearsModel", name := "ofNode", desc := "(II)I" } : Jvm.MethodName)) ∈ lw_tbl := lw_at lw_m11 185 rfl
theorem q2704 : (Jvm.Cond.instanceMethod ({ cls := "OwlYearsModel", name := "ofNode", desc := "(II)I" } : Jvm.MethodName)) ∈ lw_all := lw_g (lw_at lw_m11 186 rfl) rfl
theorem q2705 : (Jvm.Cond.code ({ cls := "OwlYearsModel", name := "ofNode", desc := "(II)I" } : Jvm.MethodName) prog_9_method_93_code (3 : Nat) (Option.some Jvm.ClassFile.FieldType.int)) ∈ lw_all := lw_g (lw_at lw_m11 187 rfl) rfl
theorem q2707 : (Jvm.Cond.instanceMethod ({ cls := "OwlYearsModel", name := "ageOf", desc := "(I)I" } : Jvm.MethodName)) ∈ lw_all := lw_g (lw_at lw_m11 189 rfl) rfl
theorem q2708 : (Jvm.Cond.selects "OwlYearsModel" ({ cls := "OwlYearsModel", name := "ageOf", desc := "(I)I" } : Jvm.MethodName) ({ cls := "OwlYearsModel", name := "ageOf", desc := "(I)I" } : Jvm.MethodName)) ∈ lw_all := lw_g (lw_at lw_m11 190 rfl) rfl
theorem q2709 : (Jvm.Cond.code ({ cls := "OwlYearsModel", name := "ageOf", desc := "(I)I" } : Jvm.MethodName) prog_9_method_96_code (2 : Nat) (Option.some Jvm.ClassFile.FieldType.int)) ∈ lw_all := lw_g (lw_at lw_m11 191 rfl) rfl
theorem q2711 : (Jvm.Cond.instanceMethod ({ cls := "OwlYearsModel", name := "boxOf", desc := "(I)I" } : Jvm.MethodName)) ∈ lw_all := lw_g (lw_at lw_m11 193 rfl) rfl
theorem q2712 : (Jvm.Cond.selects "OwlYearsModel" ({ cls := "OwlYearsModel", name := "boxOf", desc := "(I)I" } : Jvm.MethodName) ({ cls := "OwlYearsModel", name := "boxOf", desc := "(I)I" } : Jvm.MethodName)) ∈ lw_all := lw_g (lw_at lw_m11 194 rfl) rfl
theorem q2713 : (Jvm.Cond.code ({ cls := "OwlYearsModel", name := "boxOf", desc := "(I)I" } : Jvm.MethodName) prog_9_method_97_code (3 : Nat) (Option.some Jvm.ClassFile.FieldType.int)) ∈ lw_all := lw_g (lw_at lw_m11 195 rfl) rfl
theorem q2715 : (Jvm.Cond.instanceMethod ({ cls := "OwlYearsModel", name := "oldest", desc := "()I" } : Jvm.MethodName)) ∈ lw_all := lw_g (lw_at lw_m11 197 rfl) rfl
theorem q2716 : (Jvm.Cond.selects "OwlYearsModel" ({ cls := "OwlYearsModel", name := "oldest", desc := "()I" } : Jvm.MethodName) ({ cls := "OwlYearsModel", name := "oldest", desc := "()I" } : Jvm.MethodName)) ∈ lw_all := lw_g (lw_at lw_m11 198 rfl) rfl
theorem q2717 : (Jvm.Cond.code ({ cls := "OwlYearsModel", name := "oldest", desc := "()I" } : Jvm.MethodName) prog_9_method_99_code (1 : Nat) (Option.some Jvm.ClassFile.FieldType.int)) ∈ lw_all := lw_g (lw_at lw_m11 199 rfl) rfl
theorem q2718 : (Jvm.Cond.methodLink "OwlYearsModel" (224 : Nat) ({ cls := "OwlYearsModel", name := "eldest", desc := "()I" } : Jvm.MethodName)) ∈ lw_all := lw_g (lw_at lw_m11 200 rfl) rfl
theorem q2719 : (Jvm.Cond.privateMethod ({ cls := "OwlYearsModel", name := "eldest", desc := "()I" } : Jvm.MethodName)) ∈ lw_tbl := lw_at lw_m11 201 rfl
theorem q2720 : (Jvm.Cond.instanceMethod ({ cls := "OwlYearsModel", name := "eldest", desc := "()I" } : Jvm.MethodName)) ∈ lw_all := lw_g (lw_at lw_m11 202 rfl) rfl
theorem q2721 : (Jvm.Cond.code ({ cls := "OwlYearsModel", name := "eldest", desc := "()I" } : Jvm.MethodName) prog_9_method_98_code (3 : Nat) (Option.some Jvm.ClassFile.FieldType.int)) ∈ lw_all := lw_g (lw_at lw_m11 203 rfl) rfl
theorem q2723 : (Jvm.Cond.instanceMethod ({ cls := "OwlYearsModel", name := "meanAge", desc := "()D" } : Jvm.MethodName)) ∈ lw_all := lw_g (lw_at lw_m11 205 rfl) rfl
theorem q2724 : (Jvm.Cond.selects "OwlYearsModel" ({ cls := "OwlYearsModel", name := "meanAge", desc := "()D" } : Jvm.MethodName) ({ cls := "OwlYearsModel", name := "meanAge", desc := "()D" } : Jvm.MethodName)) ∈ lw_all := lw_g (lw_at lw_m11 206 rfl) rfl
theorem q2725 : (Jvm.Cond.code ({ cls := "OwlYearsModel", name := "meanAge", desc := "()D" } : Jvm.MethodName) prog_9_method_100_code (3 : Nat) (Option.some Jvm.ClassFile.FieldType.double)) ∈ lw_all := lw_g (lw_at lw_m11 207 rfl) rfl
theorem q2727 : (Jvm.Cond.instanceMethod ({ cls := "OwlYearsModel", name := "motherOf", desc := "(I)I" } : Jvm.MethodName)) ∈ lw_all := lw_g (lw_at lw_m11 209 rfl) rfl
theorem q2728 : (Jvm.Cond.selects "OwlYearsModel" ({ cls := "OwlYearsModel", name := "motherOf", desc := "(I)I" } : Jvm.MethodName) ({ cls := "OwlYearsModel", name := "motherOf", desc := "(I)I" } : Jvm.MethodName)) ∈ lw_all := lw_g (lw_at lw_m11 210 rfl) rfl
theorem q2729 : (Jvm.Cond.code ({ cls := "OwlYearsModel", name := "motherOf", desc := "(I)I" } : Jvm.MethodName) prog_9_method_104_code (2 : Nat) (Option.some Jvm.ClassFile.FieldType.int)) ∈ lw_all := lw_g (lw_at lw_m11 211 rfl) rfl
theorem q2730 : (Jvm.Cond.methodLink "OwlYearsModel" (233 : Nat) ({ cls := "OwlYearsModel", name := "tellsParent", desc := "(II)I" } : Jvm.MethodName)) ∈ lw_all := lw_g (lw_at lw_m11 212 rfl) rfl
theorem q2731 : (Jvm.Cond.privateMethod ({ cls := "OwlYearsModel", name := "tellsParent", desc := "(II)I" } : Jvm.MethodName)) ∈ lw_tbl := lw_at lw_m11 213 rfl
theorem q2732 : (Jvm.Cond.instanceMethod ({ cls := "OwlYearsModel", name := "tellsParent", desc := "(II)I" } : Jvm.MethodName)) ∈ lw_all := lw_g (lw_at lw_m11 214 rfl) rfl
theorem q2733 : (Jvm.Cond.code ({ cls := "OwlYearsModel", name := "tellsParent", desc := "(II)I" } : Jvm.MethodName) prog_9_method_103_code (4 : Nat) (Option.some Jvm.ClassFile.FieldType.int)) ∈ lw_all := lw_g (lw_at lw_m11 215 rfl) rfl
theorem q2734 : (Jvm.Cond.methodLink "OwlYearsModel" (230 : Nat) ({ cls := "OwlYearsModel", name := "parentRing", desc := "(II)I" } : Jvm.MethodName)) ∈ lw_all := lw_g (lw_at lw_m11 216 rfl) rfl
theorem q2735 : (Jvm.Cond.privateMethod ({ cls := "OwlYearsModel", name := "parentRing", desc := "(II)I" } : Jvm.MethodName)) ∈ lw_tbl := lw_at lw_m11 217 rfl
theorem q2736 : (Jvm.Cond.instanceMethod ({ cls := "OwlYearsModel", name := "parentRing", desc := "(II)I" } : Jvm.MethodName)) ∈ lw_all := lw_g (lw_at lw_m11 218 rfl) rfl
theorem q2737 : (Jvm.Cond.code ({ cls := "OwlYearsModel", name := "parentRing", desc := "(II)I" } : Jvm.MethodName) prog_9_method_102_code (3 : Nat) (Option.some Jvm.ClassFile.FieldType.int)) ∈ lw_all := lw_g (lw_at lw_m11 219 rfl) rfl
theorem q2738 : (Jvm.Cond.methodLink "OwlYearsModel" (227 : Nat) ({ cls := "OwlYearsModel", name := "parent", desc := "(II)I" } : Jvm.MethodName)) ∈ lw_all := lw_g (lw_at lw_m11 220 rfl) rfl
theorem q2739 : (Jvm.Cond.privateMethod ({ cls := "OwlYearsModel", name := "parent", desc := "(II)I" } : Jvm.MethodName)) ∈ lw_tbl := lw_at lw_m11 221 rfl
theorem q2740 : (Jvm.Cond.instanceMethod ({ cls := "OwlYearsModel", name := "parent", desc := "(II)I" } : Jvm.MethodName)) ∈ lw_all := lw_g (lw_at lw_m11 222 rfl) rfl
theorem q2741 : (Jvm.Cond.code ({ cls := "OwlYearsModel", name := "parent", desc := "(II)I" } : Jvm.MethodName) prog_9_method_101_code (3 : Nat) (Option.some Jvm.ClassFile.FieldType.int)) ∈ lw_all := lw_g (lw_at lw_m11 223 rfl) rfl
theorem q2743 : (Jvm.Cond.instanceMethod ({ cls := "OwlYearsModel", name := "fatherOf", desc := "(I)I" } : Jvm.MethodName)) ∈ lw_all := lw_g (lw_at lw_m11 225 rfl) rfl
theorem q2744 : (Jvm.Cond.selects "OwlYearsModel" ({ cls := "OwlYearsModel", name := "fatherOf", desc := "(I)I" } : Jvm.MethodName) ({ cls := "OwlYearsModel", name := "fatherOf", desc := "(I)I" } : Jvm.MethodName)) ∈ lw_all := lw_g (lw_at lw_m11 226 rfl) rfl
theorem q2745 : (Jvm.Cond.code ({ cls := "OwlYearsModel", name := "fatherOf", desc := "(I)I" } : Jvm.MethodName) prog_9_method_105_code (2 : Nat) (Option.some Jvm.ClassFile.FieldType.int)) ∈ lw_all := lw_g (lw_at lw_m11 227 rfl) rfl
theorem q2747 : (Jvm.Cond.instanceMethod ({ cls := "OwlYearsModel", name := "childrenOf", desc := "(I)I" } : Jvm.MethodName)) ∈ lw_all := lw_g (lw_at lw_m11 229 rfl) rfl
theorem q2748 : (Jvm.Cond.selects "OwlYearsModel" ({ cls := "OwlYearsModel", name := "childrenOf", desc := "(I)I" } : Jvm.MethodName) ({ cls := "OwlYearsModel", name := "childrenOf", desc := "(I)I" } : Jvm.MethodName)) ∈ lw_all := lw_g (lw_at lw_m11 230 rfl) rfl
theorem q2749 : (Jvm.Cond.code ({ cls := "OwlYearsModel", name := "childrenOf", desc := "(I)I" } : Jvm.MethodName) prog_9_method_107_code (3 : Nat) (Option.some Jvm.ClassFile.FieldType.int)) ∈ lw_all := lw_g (lw_at lw_m11 231 rfl) rfl
theorem q2750 : (Jvm.Cond.methodLink "OwlYearsModel" (239 : Nat) ({ cls := "OwlYearsModel", name := "children", desc := "(I)I" } : Jvm.MethodName)) ∈ lw_all := lw_g (lw_at lw_m11 232 rfl) rfl
theorem q2751 : (Jvm.Cond.privateMethod ({ cls := "OwlYearsModel", name := "children", desc := "(I)I" } : Jvm.MethodName)) ∈ lw_tbl := lw_at lw_m11 233 rfl
theorem q2752 : (Jvm.Cond.instanceMethod ({ cls := "OwlYearsModel", name := "children", desc := "(I)I" } : Jvm.MethodName)) ∈ lw_all := lw_g (lw_at lw_m11 234 rfl) rfl
theorem q2753 : (Jvm.Cond.code ({ cls := "OwlYearsModel", name := "children", desc := "(I)I" } : Jvm.MethodName) prog_9_method_106_code (4 : Nat) (Option.some Jvm.ClassFile.FieldType.int)) ∈ lw_all := lw_g (lw_at lw_m11 235 rfl) rfl
theorem q2754 : (Jvm.Cond.methodLink "OwlYearsModel" (236 : Nat) ({ cls := "OwlYearsModel", name := "isNode", desc := "(I)Z" } : Jvm.MethodName)) ∈ lw_all := lw_g (lw_at lw_m11 236 rfl) rfl
theorem q2755 : (Jvm.Cond.privateMethod ({ cls := "OwlYearsModel", name := "isNode", desc := "(I)Z" } : Jvm.MethodName)) ∈ lw_tbl := lw_at lw_m11 237 rfl
theorem q2756 : (Jvm.Cond.instanceMethod ({ cls := "OwlYearsModel", name := "isNode", desc := "(I)Z" } : Jvm.MethodName)) ∈ lw_all := lw_g (lw_at lw_m11 238 rfl) rfl
theorem q2757 : (Jvm.Cond.code ({ cls := "OwlYearsModel", name := "isNode", desc := "(I)Z" } : Jvm.MethodName) prog_9_method_92_code (3 : Nat) (Option.some Jvm.ClassFile.FieldType.boolean)) ∈ lw_all := lw_g (lw_at lw_m11 239 rfl) rfl
theorem q2759 : (Jvm.Cond.instanceMethod ({ cls := "OwlYearsModel", name := "offspringOf", desc := "(I)I" } : Jvm.MethodName)) ∈ lw_all := lw_g (lw_at lw_m12 1 rfl) rfl
theorem q2760 : (Jvm.Cond.selects "OwlYearsModel" ({ cls := "OwlYearsModel", name := "offspringOf", desc := "(I)I" } : Jvm.MethodName) ({ cls := "OwlYearsModel", name := "offspringOf", desc := "(I)I" } : Jvm.MethodName)) ∈ lw_all := lw_g (lw_at lw_m12 2 rfl) rfl
theorem q2761 : (Jvm.Cond.code ({ cls := "OwlYearsModel", name := "offspringOf", desc := "(I)I" } : Jvm.MethodName) prog_9_method_111_code (2 : Nat) (Option.some Jvm.ClassFile.FieldType.int)) ∈ lw_all := lw_g (lw_at lw_m12 3 rfl) rfl
theorem q2762 : (Jvm.Cond.methodLink "OwlYearsModel" (248 : Nat) ({ cls := "OwlYearsModel", name := "tellsOffspring", desc := "(I)I" } : Jvm.MethodName)) ∈ lw_all := lw_g (lw_at lw_m12 4 rfl) rfl
theorem q2763 : (Jvm.Cond.privateMethod ({ cls := "OwlYearsModel", name := "tellsOffspring", desc := "(I)I" } : Jvm.MethodName)) ∈ lw_tbl := lw_at lw_m12 5 rfl
theorem q2764 : (Jvm.Cond.instanceMethod ({ cls := "OwlYearsModel", name := "tellsOffspring", desc := "(I)I" } : Jvm.MethodName)) ∈ lw_all := lw_g (lw_at lw_m12 6 rfl) rfl
theorem q2765 : (Jvm.Cond.code ({ cls := "OwlYearsModel", name := "tellsOffspring", desc := "(I)I" } : Jvm.MethodName) prog_9_method_110_code (3 : Nat) (Option.some Jvm.ClassFile.FieldType.int)) ∈ lw_all := lw_g (lw_at lw_m12 7 rfl) rfl
theorem q2766 : (Jvm.Cond.methodLink "OwlYearsModel" (245 : Nat) ({ cls := "OwlYearsModel", name := "offspring", desc := "(I)I" } : Jvm.MethodName)) ∈ lw_all := lw_g (lw_at lw_m12 8 rfl) rfl
theorem q2767 : (Jvm.Cond.privateMethod ({ cls := "OwlYearsModel", name := "offspring", desc := "(I)I" } : Jvm.MethodName)) ∈ lw_tbl := lw_at lw_m12 9 rfl
theorem q2768 : (Jvm.Cond.instanceMethod ({ cls := "OwlYearsModel", name := "offspring", desc := "(I)I" } : Jvm.MethodName)) ∈ lw_all := lw_g (lw_at lw_m12 10 rfl) rfl
theorem q2769 : (Jvm.Cond.code ({ cls := "OwlYearsModel", name := "offspring", desc := "(I)I" } : Jvm.MethodName) prog_9_method_109_code (5 : Nat) (Option.some Jvm.ClassFile.FieldType.int)) ∈ lw_all := lw_g (lw_at lw_m12 11 rfl) rfl
theorem q2770 : (Jvm.Cond.methodLink "OwlYearsModel" (242 : Nat) ({ cls := "OwlYearsModel", name := "isMarked", desc := "(I)Z" } : Jvm.MethodName)) ∈ lw_all := lw_g (lw_at lw_m12 12 rfl) rfl
theorem q2771 : (Jvm.Cond.privateMethod ({ cls := "OwlYearsModel", name := "isMarked", desc := "(I)Z" } : Jvm.MethodName)) ∈ lw_tbl := lw_at lw_m12 13 rfl
theorem q2772 : (Jvm.Cond.instanceMethod ({ cls := "OwlYearsModel", name := "isMarked", desc := "(I)Z" } : Jvm.MethodName)) ∈ lw_all := lw_g (lw_at lw_m12 14 rfl) rfl
theorem q2773 : (Jvm.Cond.code ({ cls := "OwlYearsModel", name := "isMarked", desc := "(I)Z" } : Jvm.MethodName) prog_9_method_108_code (2 : Nat) (Option.some Jvm.ClassFile.FieldType.boolean)) ∈ lw_all := lw_g (lw_at lw_m12 15 rfl) rfl
theorem q2775 : (Jvm.Cond.instanceMethod ({ cls := "OwlYearsModel", name := "offspringByParents", desc := "(I)I" } : Jvm.MethodName)) ∈ lw_all := lw_g (lw_at lw_m12 17 rfl) rfl
theorem q2776 : (Jvm.Cond.selects "OwlYearsModel" ({ cls := "OwlYearsModel", name := "offspringByParents", desc := "(I)I" } : Jvm.MethodName) ({ cls := "OwlYearsModel", name := "offspringByParents", desc := "(I)I" } : Jvm.MethodName)) ∈ lw_all := lw_g (lw_at lw_m12 18 rfl) rfl
theorem q2777 : (Jvm.Cond.code ({ cls := "OwlYearsModel", name := "offspringByParents", desc := "(I)I" } : Jvm.MethodName) prog_9_method_112_code (2 : Nat) (Option.some Jvm.ClassFile.FieldType.int)) ∈ lw_all := lw_g (lw_at lw_m12 19 rfl) rfl
theorem q2779 : (Jvm.Cond.instanceMethod ({ cls := "OwlYearsModel", name := "areKin", desc := "(II)Z" } : Jvm.MethodName)) ∈ lw_all := lw_g (lw_at lw_m12 21 rfl) rfl
theorem q2780 : (Jvm.Cond.selects "OwlYearsModel" ({ cls := "OwlYearsModel", name := "areKin", desc := "(II)Z" } : Jvm.MethodName) ({ cls := "OwlYearsModel", name := "areKin", desc := "(II)Z" } : Jvm.MethodName)) ∈ lw_all := lw_g (lw_at lw_m12 22 rfl) rfl
theorem q2781 : (Jvm.Cond.code ({ cls := "OwlYearsModel", name := "areKin", desc := "(II)Z" } : Jvm.MethodName) prog_9_method_115_code (5 : Nat) (Option.some Jvm.ClassFile.FieldType.boolean)) ∈ lw_all := lw_g (lw_at lw_m12 23 rfl) rfl
theorem q2782 : (Jvm.Cond.methodLink "OwlYearsModel" (254 : Nat) ({ cls := "OwlYearsModel", name := "kin", desc := "(II)Z" } : Jvm.MethodName)) ∈ lw_all := lw_g (lw_at lw_m12 24 rfl) rfl
theorem q2783 : (Jvm.Cond.privateMethod ({ cls := "OwlYearsModel", name := "kin", desc := "(II)Z" } : Jvm.MethodName)) ∈ lw_tbl := lw_at lw_m12 25 rfl
theorem q2784 : (Jvm.Cond.instanceMethod ({ cls := "OwlYearsModel", name := "kin", desc := "(II)Z" } : Jvm.MethodName)) ∈ lw_all := lw_g (lw_at lw_m12 26 rfl) rfl
theorem q2785 : (Jvm.Cond.code ({ cls := "OwlYearsModel", name := "kin", desc := "(II)Z" } : Jvm.MethodName) prog_9_method_114_code (5 : Nat) (Option.some Jvm.ClassFile.FieldType.boolean)) ∈ lw_all := lw_g (lw_at lw_m12 27 rfl) rfl
theorem q2786 : (Jvm.Cond.methodLink "OwlYearsModel" (251 : Nat) ({ cls := "OwlYearsModel", name := "marksUp", desc := "(I)V" } : Jvm.MethodName)) ∈ lw_all := lw_g (lw_at lw_m12 28 rfl) rfl
theorem q2787 : (Jvm.Cond.privateMethod ({ cls := "OwlYearsModel", name := "marksUp", desc := "(I)V" } : Jvm.MethodName)) ∈ lw_tbl := lw_at lw_m12 29 rfl
theorem q2788 : (Jvm.Cond.instanceMethod ({ cls := "OwlYearsModel", name := "marksUp", desc := "(I)V" } : Jvm.MethodName)) ∈ lw_all := lw_g (lw_at lw_m12 30 rfl) rfl
theorem q2789 : (Jvm.Cond.code ({ cls := "OwlYearsModel", name := "marksUp", desc := "(I)V" } : Jvm.MethodName) prog_9_method_113_code (6 : Nat) (Option.none : Option Jvm.ClassFile.FieldType)) ∈ lw_all := lw_g (lw_at lw_m12 31 rfl) rfl
theorem q2791 : (Jvm.Cond.instanceMethod ({ cls := "OwlYearsModel", name := "kinPairs", desc := "()I" } : Jvm.MethodName)) ∈ lw_all := lw_g (lw_at lw_m12 33 rfl) rfl
theorem q2792 : (Jvm.Cond.selects "OwlYearsModel" ({ cls := "OwlYearsModel", name := "kinPairs", desc := "()I" } : Jvm.MethodName) ({ cls := "OwlYearsModel", name := "kinPairs", desc := "()I" } : Jvm.MethodName)) ∈ lw_all := lw_g (lw_at lw_m12 34 rfl) rfl
theorem q2793 : (Jvm.Cond.code ({ cls := "OwlYearsModel", name := "kinPairs", desc := "()I" } : Jvm.MethodName) prog_9_method_117_code (1 : Nat) (Option.some Jvm.ClassFile.FieldType.int)) ∈ lw_all := lw_g (lw_at lw_m12 35 rfl) rfl
theorem q2794 : (Jvm.Cond.methodLink "OwlYearsModel" (257 : Nat) ({ cls := "OwlYearsModel", name := "pairsOfKin", desc := "()I" } : Jvm.MethodName)) ∈ lw_all := lw_g (lw_at lw_m12 36 rfl) rfl
theorem q2795 : (Jvm.Cond.privateMethod ({ cls := "OwlYearsModel", name := "pairsOfKin", desc := "()I" } : Jvm.MethodName)) ∈ lw_tbl := lw_at lw_m12 37 rfl
theorem q2796 : (Jvm.Cond.instanceMethod ({ cls := "OwlYearsModel", name := "pairsOfKin", desc := "()I" } : Jvm.MethodName)) ∈ lw_all := lw_g (lw_at lw_m12 38 rfl) rfl
theorem q2797 : (Jvm.Cond.code ({ cls := "OwlYearsModel", name := "pairsOfKin", desc := "()I" } : Jvm.MethodName) prog_9_method_116_code (3 : Nat) (Option.some Jvm.ClassFile.FieldType.int)) ∈ lw_all := lw_g (lw_at lw_m12 39 rfl) rfl
theorem q2799 : (Jvm.Cond.instanceMethod ({ cls := "OwlYearsModel", name := "born", desc := "()I" } : Jvm.MethodName)) ∈ lw_all := lw_g (lw_at lw_m12 41 rfl) rfl
theorem q2800 : (Jvm.Cond.selects "OwlYearsModel" ({ cls := "OwlYearsModel", name := "born", desc := "()I" } : Jvm.MethodName) ({ cls := "OwlYearsModel", name := "born", desc := "()I" } : Jvm.MethodName)) ∈ lw_all := lw_g (lw_at lw_m12 42 rfl) rfl
theorem q2801 : (Jvm.Cond.code ({ cls := "OwlYearsModel", name := "born", desc := "()I" } : Jvm.MethodName) prog_9_method_118_code (1 : Nat) (Option.some Jvm.ClassFile.FieldType.int)) ∈ lw_all := lw_g (lw_at lw_m12 43 rfl) rfl
theorem q2803 : (Jvm.Cond.instanceMethod ({ cls := "OwlYearsModel", name := "died", desc := "(I)I" } : Jvm.MethodName)) ∈ lw_all := lw_g (lw_at lw_m12 45 rfl) rfl
theorem q2804 : (Jvm.Cond.selects "OwlYearsModel" ({ cls := "OwlYearsModel", name := "died", desc := "(I)I" } : Jvm.MethodName) ({ cls := "OwlYearsModel", name := "died", desc := "(I)I" } : Jvm.MethodName)) ∈ lw_all := lw_g (lw_at lw_m12 46 rfl) rfl
theorem q2805 : (Jvm.Cond.code ({ cls := "OwlYearsModel", name := "died", desc := "(I)I" } : Jvm.MethodName) prog_9_method_119_code (2 : Nat) (Option.some Jvm.ClassFile.FieldType.int)) ∈ lw_all := lw_g (lw_at lw_m12 47 rfl) rfl
theorem q2807 : (Jvm.Cond.instanceMethod ({ cls := "OwlYearsModel", name := "takenOut", desc := "()I" } : Jvm.MethodName)) ∈ lw_all := lw_g (lw_at lw_m12 49 rfl) rfl
theorem q2808 : (Jvm.Cond.selects "OwlYearsModel" ({ cls := "OwlYearsModel", name := "takenOut", desc := "()I" } : Jvm.MethodName) ({ cls := "OwlYearsModel", name := "takenOut", desc := "()I" } : Jvm.MethodName)) ∈ lw_all := lw_g (lw_at lw_m12 50 rfl) rfl
theorem q2809 : (Jvm.Cond.code ({ cls := "OwlYearsModel", name := "takenOut", desc := "()I" } : Jvm.MethodName) prog_9_method_120_code (1 : Nat) (Option.some Jvm.ClassFile.FieldType.int)) ∈ lw_all := lw_g (lw_at lw_m12 51 rfl) rfl
theorem q2811 : (Jvm.Cond.instanceMethod ({ cls := "OwlYearsModel", name := "eaten", desc := "()I" } : Jvm.MethodName)) ∈ lw_all := lw_g (lw_at lw_m12 53 rfl) rfl
theorem q2812 : (Jvm.Cond.selects "OwlYearsModel" ({ cls := "OwlYearsModel", name := "eaten", desc := "()I" } : Jvm.MethodName) ({ cls := "OwlYearsModel", name := "eaten", desc := "()I" } : Jvm.MethodName)) ∈ lw_all := lw_g (lw_at lw_m12 54 rfl) rfl
theorem q2813 : (Jvm.Cond.code ({ cls := "OwlYearsModel", name := "eaten", desc := "()I" } : Jvm.MethodName) prog_9_method_121_code (1 : Nat) (Option.some Jvm.ClassFile.FieldType.int)) ∈ lw_all := lw_g (lw_at lw_m12 55 rfl) rfl
theorem q2815 : (Jvm.Cond.instanceMethod ({ cls := "OwlYearsModel", name := "mostOwls", desc := "()I" } : Jvm.MethodName)) ∈ lw_all := lw_g (lw_at lw_m12 57 rfl) rfl
theorem q2816 : (Jvm.Cond.selects "OwlYearsModel" ({ cls := "OwlYearsModel", name := "mostOwls", desc := "()I" } : Jvm.MethodName) ({ cls := "OwlYearsModel", name := "mostOwls", desc := "()I" } : Jvm.MethodName)) ∈ lw_all := lw_g (lw_at lw_m12 58 rfl) rfl
theorem q2817 : (Jvm.Cond.code ({ cls := "OwlYearsModel", name := "mostOwls", desc := "()I" } : Jvm.MethodName) prog_9_method_122_code (1 : Nat) (Option.some Jvm.ClassFile.FieldType.int)) ∈ lw_all := lw_g (lw_at lw_m12 59 rfl) rfl
theorem q2819 : (Jvm.Cond.instanceMethod ({ cls := "OwlYearsModel", name := "deaths", desc := "()I" } : Jvm.MethodName)) ∈ lw_all := lw_g (lw_at lw_m12 61 rfl) rfl
theorem q2820 : (Jvm.Cond.selects "OwlYearsModel" ({ cls := "OwlYearsModel", name := "deaths", desc := "()I" } : Jvm.MethodName) ({ cls := "OwlYearsModel", name := "deaths", desc := "()I" } : Jvm.MethodName)) ∈ lw_all := lw_g (lw_at lw_m12 62 rfl) rfl
theorem q2821 : (Jvm.Cond.code ({ cls := "OwlYearsModel", name := "deaths", desc := "()I" } : Jvm.MethodName) prog_9_method_123_code (1 : Nat) (Option.some Jvm.ClassFile.FieldType.int)) ∈ lw_all := lw_g (lw_at lw_m12 63 rfl) rfl
theorem q2823 : (Jvm.Cond.instanceMethod ({ cls := "OwlYearsModel", name := "deathRing", desc := "(I)I" } : Jvm.MethodName)) ∈ lw_all := lw_g (lw_at lw_m12 65 rfl) rfl
theorem q2824 : (Jvm.Cond.selects "OwlYearsModel" ({ cls := "OwlYearsModel", name := "deathRing", desc := "(I)I" } : Jvm.MethodName) ({ cls := "OwlYearsModel", name := "deathRing", desc := "(I)I" } : Jvm.MethodName)) ∈ lw_all := lw_g (lw_at lw_m12 66 rfl) rfl
theorem q2825 : (Jvm.Cond.code ({ cls := "OwlYearsModel", name := "deathRing", desc := "(I)I" } : Jvm.MethodName) prog_9_method_126_code (2 : Nat) (Option.some Jvm.ClassFile.FieldType.int)) ∈ lw_all := lw_g (lw_at lw_m12 67 rfl) rfl
theorem q2826 : (Jvm.Cond.methodLink "OwlYearsModel" (263 : Nat) ({ cls := "OwlYearsModel", name := "tellsDeath", desc := "(II)I" } : Jvm.MethodName)) ∈ lw_all := lw_g (lw_at lw_m12 68 rfl) rfl
theorem q2827 : (Jvm.Cond.privateMethod ({ cls := "OwlYearsModel", name := "tellsDeath", desc := "(II)I" } : Jvm.MethodName)) ∈ lw_tbl := lw_at lw_m12 69 rfl
theorem q2828 : (Jvm.Cond.instanceMethod ({ cls := "OwlYearsModel", name := "tellsDeath", desc := "(II)I" } : Jvm.MethodName)) ∈ lw_all := lw_g (lw_at lw_m12 70 rfl) rfl
theorem q2829 : (Jvm.Cond.code ({ cls := "OwlYearsModel", name := "tellsDeath", desc := "(II)I" } : Jvm.MethodName) prog_9_method_125_code (3 : Nat) (Option.some Jvm.ClassFile.FieldType.int)) ∈ lw_all := lw_g (lw_at lw_m12 71 rfl) rfl
theorem q2830 : (Jvm.Cond.methodLink "OwlYearsModel" (260 : Nat) ({ cls := "OwlYearsModel", name := "ofDeath", desc := "(II)I" } : Jvm.MethodName)) ∈ lw_all := lw_g (lw_at lw_m12 72 rfl) rfl
theorem q2831 : (Jvm.Cond.privateMethod ({ cls := "OwlYearsModel", name := "ofDeath", desc := "(II)I" } : Jvm.MethodName)) ∈ lw_tbl := lw_at lw_m12 73 rfl
theorem q2832 : (Jvm.Cond.instanceMethod ({ cls := "OwlYearsModel", name := "ofDeath", desc := "(II)I" } : Jvm.MethodName)) ∈ lw_all := lw_g (lw_at lw_m12 74 rfl) rfl
theorem q2833 : (Jvm.Cond.code ({ cls := "OwlYearsModel", name := "ofDeath", desc := "(II)I" } : Jvm.MethodName) prog_9_method_124_code (3 : Nat) (Option.some Jvm.ClassFile.FieldType.int)) ∈ lw_all := lw_g (lw_at lw_m12 75 rfl) rfl
theorem q2835 : (Jvm.Cond.instanceMethod ({ cls := "OwlYearsModel", name := "deathCause", desc := "(I)I" } : Jvm.MethodName)) ∈ lw_all := lw_g (lw_at lw_m12 77 rfl) rfl
theorem q2836 : (Jvm.Cond.selects "OwlYearsModel" ({ cls := "OwlYearsModel", name := "deathCause", desc := "(I)I" } : Jvm.MethodName) ({ cls := "OwlYearsModel", name := "deathCause", desc := "(I)I" } : Jvm.MethodName)) ∈ lw_all := lw_g (lw_at lw_m12 78 rfl) rfl
theorem q2837 : (Jvm.Cond.code ({ cls := "OwlYearsModel", name := "deathCause", desc := "(I)I" } : Jvm.MethodName) prog_9_method_127_code (2 : Nat) (Option.some Jvm.ClassFile.FieldType.int)) ∈ lw_all := lw_g (lw_at lw_m12 79 rfl) rfl
theorem q2839 : (Jvm.Cond.instanceMethod ({ cls := "OwlYearsModel", name := "deathYear", desc := "(I)I" } : Jvm.MethodName)) ∈ lw_all := lw_g (lw_at lw_m12 81 rfl) rfl
theorem q2840 : (Jvm.Cond.selects "OwlYearsModel" ({ cls := "OwlYearsModel", name := "deathYear", desc := "(I)I" } : Jvm.MethodName) ({ cls := "OwlYearsModel", name := "deathYear", desc := "(I)I" } : Jvm.MethodName)) ∈ lw_all := lw_g (lw_at lw_m12 82 rfl) rfl
theorem q2841 : (Jvm.Cond.code ({ cls := "OwlYearsModel", name := "deathYear", desc := "(I)I" } : Jvm.MethodName) prog_9_method_128_code (2 : Nat) (Option.some Jvm.ClassFile.FieldType.int)) ∈ lw_all := lw_g (lw_at lw_m12 83 rfl) rfl
theorem q2843 : (Jvm.Cond.instanceMethod ({ cls := "OwlYearsModel", name := "bestSquare", desc := "()I" } : Jvm.MethodName)) ∈ lw_all := lw_g (lw_at lw_m12 85 rfl) rfl
theorem q2844 : (Jvm.Cond.selects "OwlYearsModel" ({ cls := "OwlYearsModel", name := "bestSquare", desc := "()I" } : Jvm.MethodName) ({ cls := "OwlYearsModel", name := "bestSquare", desc := "()I" } : Jvm.MethodName)) ∈ lw_all := lw_g (lw_at lw_m12 86 rfl) rfl
theorem q2845 : (Jvm.Cond.code ({ cls := "OwlYearsModel", name := "bestSquare", desc := "()I" } : Jvm.MethodName) prog_9_method_130_code (1 : Nat) (Option.some Jvm.ClassFile.FieldType.int)) ∈ lw_all := lw_g (lw_at lw_m12 87 rfl) rfl
theorem q2846 : (Jvm.Cond.methodLink "OwlYearsModel" (266 : Nat) ({ cls := "OwlYearsModel", name := "bestForBox", desc := "()I" } : Jvm.MethodName)) ∈ lw_all := lw_g (lw_at lw_m12 88 rfl) rfl
theorem q2847 : (Jvm.Cond.privateMethod ({ cls := "OwlYearsModel", name := "bestForBox", desc := "()I" } : Jvm.MethodName)) ∈ lw_tbl := lw_at lw_m12 89 rfl
theorem q2848 : (Jvm.Cond.instanceMethod ({ cls := "OwlYearsModel", name := "bestForBox", desc := "()I" } : Jvm.MethodName)) ∈ lw_all := lw_g (lw_at lw_m12 90 rfl) rfl
theorem q2849 : (Jvm.Cond.code ({ cls := "OwlYearsModel", name := "bestForBox", desc := "()I" } : Jvm.MethodName) prog_9_method_129_code (5 : Nat) (Option.some Jvm.ClassFile.FieldType.int)) ∈ lw_all := lw_g (lw_at lw_m12 91 rfl) rfl
theorem q2851 : (Jvm.Cond.instanceMethod ({ cls := "OwlYearsModel", name := "owlsIn", desc := "(I)I" } : Jvm.MethodName)) ∈ lw_all := lw_g (lw_at lw_m12 93 rfl) rfl
theorem q2852 : (Jvm.Cond.selects "OwlYearsModel" ({ cls := "OwlYearsModel", name := "owlsIn", desc := "(I)I" } : Jvm.MethodName) ({ cls := "OwlYearsModel", name := "owlsIn", desc := "(I)I" } : Jvm.MethodName)) ∈ lw_all := lw_g (lw_at lw_m12 94 rfl) rfl
theorem q2853 : (Jvm.Cond.code ({ cls := "OwlYearsModel", name := "owlsIn", desc := "(I)I" } : Jvm.MethodName) prog_9_method_132_code (2 : Nat) (Option.some Jvm.ClassFile.FieldType.int)) ∈ lw_all := lw_g (lw_at lw_m12 95 rfl) rfl
theorem q2854 : (Jvm.Cond.methodLink "OwlYearsModel" (275 : Nat) ({ cls := "OwlYearsModel", name := "owlsThen", desc := "(I)I" } : Jvm.MethodName)) ∈ lw_all := lw_g (lw_at lw_m12 96 rfl) rfl
theorem q2855 : (Jvm.Cond.privateMethod ({ cls := "OwlYearsModel", name := "owlsThen", desc := "(I)I" } : Jvm.MethodName)) ∈ lw_tbl := lw_at lw_m12 97 rfl
theorem q2856 : (Jvm.Cond.instanceMethod ({ cls := "OwlYearsModel", name := "owlsThen", desc := "(I)I" } : Jvm.MethodName)) ∈ lw_all := lw_g (lw_at lw_m12 98 rfl) rfl
theorem q2857 : (Jvm.Cond.code ({ cls := "OwlYearsModel", name := "owlsThen", desc := "(I)I" } : Jvm.MethodName) prog_9_method_131_code (3 : Nat) (Option.some Jvm.ClassFile.FieldType.int)) ∈ lw_all := lw_g (lw_at lw_m12 99 rfl) rfl
theorem q2858 : (Jvm.Cond.methodLink "OwlYearsModel" (269 : Nat) ({ cls := "OwlYearsModel", name := "keeps", desc := "()V" } : Jvm.MethodName)) ∈ lw_all := lw_g (lw_at lw_m12 100 rfl) rfl
theorem q2859 : (Jvm.Cond.privateMethod ({ cls := "OwlYearsModel", name := "keeps", desc := "()V" } : Jvm.MethodName)) ∈ lw_tbl := lw_at lw_m12 101 rfl
theorem q2860 : (Jvm.Cond.instanceMethod ({ cls := "OwlYearsModel", name := "keeps", desc := "()V" } : Jvm.MethodName)) ∈ lw_all := lw_g (lw_at lw_m12 102 rfl) rfl
theorem q2861 : (Jvm.Cond.code ({ cls := "OwlYearsModel", name := "keeps", desc := "()V" } : Jvm.MethodName) prog_9_method_5_code (2 : Nat) (Option.none : Option Jvm.ClassFile.FieldType)) ∈ lw_all := lw_g (lw_at lw_m12 103 rfl) rfl
theorem q2862 : (Jvm.Cond.methodLink "OwlYearsModel" (272 : Nat) ({ cls := "OwlYearsModel", name := "returns", desc := "()V" } : Jvm.MethodName)) ∈ lw_all := lw_g (lw_at lw_m12 104 rfl) rfl
theorem q2863 : (Jvm.Cond.privateMethod ({ cls := "OwlYearsModel", name := "returns", desc := "()V" } : Jvm.MethodName)) ∈ lw_tbl := lw_at lw_m12 105 rfl
theorem q2864 : (Jvm.Cond.instanceMethod ({ cls := "OwlYearsModel", name := "returns", desc := "()V" } : Jvm.MethodName)) ∈ lw_all := lw_g (lw_at lw_m12 106 rfl) rfl
theorem q2865 : (Jvm.Cond.code ({ cls := "OwlYearsModel", name := "returns", desc := "()V" } : Jvm.MethodName) prog_9_method_6_code (2 : Nat) (Option.none : Option Jvm.ClassFile.FieldType)) ∈ lw_all := lw_g (lw_at lw_m12 107 rfl) rfl
theorem q2867 : (Jvm.Cond.instanceMethod ({ cls := "OwlYearsModel", name := "owlsWithRoad", desc := "(IZI)I" } : Jvm.MethodName)) ∈ lw_all := lw_g (lw_at lw_m12 109 rfl) rfl
theorem q2868 : (Jvm.Cond.selects "OwlYearsModel" ({ cls := "OwlYearsModel", name := "owlsWithRoad", desc := "(IZI)I" } : Jvm.MethodName) ({ cls := "OwlYearsModel", name := "owlsWithRoad", desc := "(IZI)I" } : Jvm.MethodName)) ∈ lw_all := lw_g (lw_at lw_m12 110 rfl) rfl
theorem q2869 : (Jvm.Cond.code ({ cls := "OwlYearsModel", name := "owlsWithRoad", desc := "(IZI)I" } : Jvm.MethodName) prog_9_method_134_code (4 : Nat) (Option.some Jvm.ClassFile.FieldType.int)) ∈ lw_all := lw_g (lw_at lw_m12 111 rfl) rfl
theorem q2870 : (Jvm.Cond.methodLink "OwlYearsModel" (278 : Nat) ({ cls := "OwlYearsModel", name := "owlsBehindRoad", desc := "(IZI)I" } : Jvm.MethodName)) ∈ lw_all := lw_g (lw_at lw_m12 112 rfl) rfl
theorem q2871 : (Jvm.Cond.privateMethod ({ cls := "OwlYearsModel", name := "owlsBehindRoad", desc := "(IZI)I" } : Jvm.MethodName)) ∈ lw_tbl := lw_at lw_m12 113 rfl
theorem q2872 : (Jvm.Cond.instanceMethod ({ cls := "OwlYearsModel", name := "owlsBehindRoad", desc := "(IZI)I" } : Jvm.MethodName)) ∈ lw_all := lw_g (lw_at lw_m12 114 rfl) rfl
theorem q2873 : (Jvm.Cond.code ({ cls := "OwlYearsModel", name := "owlsBehindRoad", desc := "(IZI)I" } : Jvm.MethodName) prog_9_method_133_code (5 : Nat) (Option.some Jvm.ClassFile.FieldType.int)) ∈ lw_all := lw_g (lw_at lw_m12 115 rfl) rfl
theorem q2875 : (Jvm.Cond.instanceMethod ({ cls := "OwlYearsModel", name := "yearsUntilGone", desc := "()I" } : Jvm.MethodName)) ∈ lw_all := lw_g (lw_at lw_m12 117 rfl) rfl
theorem q2876 : (Jvm.Cond.selects "OwlYearsModel" ({ cls := "OwlYearsModel", name := "yearsUntilGone", desc := "()I" } : Jvm.MethodName) ({ cls := "OwlYearsModel", name := "yearsUntilGone", desc := "()I" } : Jvm.MethodName)) ∈ lw_all := lw_g (lw_at lw_m12 118 rfl) rfl
theorem q2877 : (Jvm.Cond.code ({ cls := "OwlYearsModel", name := "yearsUntilGone", desc := "()I" } : Jvm.MethodName) prog_9_method_135_code (3 : Nat) (Option.some Jvm.ClassFile.FieldType.int)) ∈ lw_all := lw_g (lw_at lw_m12 119 rfl) rfl
theorem q2879 : (Jvm.Cond.instanceMethod ({ cls := "OwlYearsModel", name := "bestRow", desc := "()I" } : Jvm.MethodName)) ∈ lw_all := lw_g (lw_at lw_m12 121 rfl) rfl
theorem q2880 : (Jvm.Cond.selects "OwlYearsModel" ({ cls := "OwlYearsModel", name := "bestRow", desc := "()I" } : Jvm.MethodName) ({ cls := "OwlYearsModel", name := "bestRow", desc := "()I" } : Jvm.MethodName)) ∈ lw_all := lw_g (lw_at lw_m12 122 rfl) rfl
theorem q2881 : (Jvm.Cond.code ({ cls := "OwlYearsModel", name := "bestRow", desc := "()I" } : Jvm.MethodName) prog_9_method_136_code (5 : Nat) (Option.some Jvm.ClassFile.FieldType.int)) ∈ lw_all := lw_g (lw_at lw_m12 123 rfl) rfl
theorem q2883 : (Jvm.Cond.instanceMethod ({ cls := "OwlYearsModel", name := "keep", desc := "()I" } : Jvm.MethodName)) ∈ lw_all := lw_g (lw_at lw_m12 125 rfl) rfl
theorem q2884 : (Jvm.Cond.selects "OwlYearsModel" ({ cls := "OwlYearsModel", name := "keep", desc := "()I" } : Jvm.MethodName) ({ cls := "OwlYearsModel", name := "keep", desc := "()I" } : Jvm.MethodName)) ∈ lw_all := lw_g (lw_at lw_m12 126 rfl) rfl
theorem q2885 : (Jvm.Cond.code ({ cls := "OwlYearsModel", name := "keep", desc := "()I" } : Jvm.MethodName) prog_9_method_137_code (2 : Nat) (Option.some Jvm.ClassFile.FieldType.int)) ∈ lw_all := lw_g (lw_at lw_m12 127 rfl) rfl
theorem q2887 : (Jvm.Cond.instanceMethod ({ cls := "OwlYearsModel", name := "goBack", desc := "()I" } : Jvm.MethodName)) ∈ lw_all := lw_g (lw_at lw_m12 129 rfl) rfl
theorem q2888 : (Jvm.Cond.selects "OwlYearsModel" ({ cls := "OwlYearsModel", name := "goBack", desc := "()I" } : Jvm.MethodName) ({ cls := "OwlYearsModel", name := "goBack", desc := "()I" } : Jvm.MethodName)) ∈ lw_all := lw_g (lw_at lw_m12 130 rfl) rfl
theorem q2889 : (Jvm.Cond.code ({ cls := "OwlYearsModel", name := "goBack", desc := "()I" } : Jvm.MethodName) prog_9_method_138_code (2 : Nat) (Option.some Jvm.ClassFile.FieldType.int)) ∈ lw_all := lw_g (lw_at lw_m12 131 rfl) rfl
theorem q2891 : (Jvm.Cond.instanceMethod ({ cls := "OwlYearsModel", name := "append", desc := "(I)I" } : Jvm.MethodName)) ∈ lw_all := lw_g (lw_at lw_m12 133 rfl) rfl
theorem q2892 : (Jvm.Cond.selects "OwlYearsModel" ({ cls := "OwlYearsModel", name := "append", desc := "(I)I" } : Jvm.MethodName) ({ cls := "OwlYearsModel", name := "append", desc := "(I)I" } : Jvm.MethodName)) ∈ lw_all := lw_g (lw_at lw_m12 134 rfl) rfl
theorem q2893 : (Jvm.Cond.code ({ cls := "OwlYearsModel", name := "append", desc := "(I)I" } : Jvm.MethodName) prog_9_method_139_code (2 : Nat) (Option.some Jvm.ClassFile.FieldType.int)) ∈ lw_all := lw_g (lw_at lw_m12 135 rfl) rfl
theorem q2895 : (Jvm.Cond.instanceMethod ({ cls := "OwlYearsModel", name := "clearText", desc := "()I" } : Jvm.MethodName)) ∈ lw_all := lw_g (lw_at lw_m12 137 rfl) rfl
theorem q2896 : (Jvm.Cond.selects "OwlYearsModel" ({ cls := "OwlYearsModel", name := "clearText", desc := "()I" } : Jvm.MethodName) ({ cls := "OwlYearsModel", name := "clearText", desc := "()I" } : Jvm.MethodName)) ∈ lw_all := lw_g (lw_at lw_m12 138 rfl) rfl
theorem q2897 : (Jvm.Cond.code ({ cls := "OwlYearsModel", name := "clearText", desc := "()I" } : Jvm.MethodName) prog_9_method_140_code (2 : Nat) (Option.some Jvm.ClassFile.FieldType.int)) ∈ lw_all := lw_g (lw_at lw_m12 139 rfl) rfl
theorem q2899 : (Jvm.Cond.instanceMethod ({ cls := "OwlYearsModel", name := "firstError", desc := "()I" } : Jvm.MethodName)) ∈ lw_all := lw_g (lw_at lw_m12 141 rfl) rfl
theorem q2900 : (Jvm.Cond.selects "OwlYearsModel" ({ cls := "OwlYearsModel", name := "firstError", desc := "()I" } : Jvm.MethodName) ({ cls := "OwlYearsModel", name := "firstError", desc := "()I" } : Jvm.MethodName)) ∈ lw_all := lw_g (lw_at lw_m12 142 rfl) rfl
theorem q2901 : (Jvm.Cond.code ({ cls := "OwlYearsModel", name := "firstError", desc := "()I" } : Jvm.MethodName) prog_9_method_146_code (1 : Nat) (Option.some Jvm.ClassFile.FieldType.int)) ∈ lw_all := lw_g (lw_at lw_m12 143 rfl) rfl
theorem q2902 : (Jvm.Cond.methodLink "OwlYearsModel" (314 : Nat) ({ cls := "OwlYearsModel", name := "findError", desc := "()I" } : Jvm.MethodName)) ∈ lw_all := lw_g (lw_at lw_m12 144 rfl) rfl
theorem q2903 : (Jvm.Cond.privateMethod ({ cls := "OwlYearsModel", name := "findError", desc := "()I" } : Jvm.MethodName)) ∈ lw_tbl := lw_at lw_m12 145 rfl
theorem q2904 : (Jvm.Cond.instanceMethod ({ cls := "OwlYearsModel", name := "findError", desc := "()I" } : Jvm.MethodName)) ∈ lw_all := lw_g (lw_at lw_m12 146 rfl) rfl
theorem q2905 : (Jvm.Cond.code ({ cls := "OwlYearsModel", name := "findError", desc := "()I" } : Jvm.MethodName) prog_9_method_145_code (1 : Nat) (Option.some Jvm.ClassFile.FieldType.int)) ∈ lw_all := lw_g (lw_at lw_m12 147 rfl) rfl
theorem q2906 : (Jvm.Cond.methodLink "OwlYearsModel" (311 : Nat) ({ cls := "OwlYearsModel", name := "readsWork", desc := "()Z" } : Jvm.MethodName)) ∈ lw_all := lw_g (lw_at lw_m12 148 rfl) rfl
theorem q2907 : (Jvm.Cond.privateMethod ({ cls := "OwlYearsModel", name := "readsWork", desc := "()Z" } : Jvm.MethodName)) ∈ lw_tbl := lw_at lw_m12 149 rfl
theorem q2908 : (Jvm.Cond.instanceMethod ({ cls := "OwlYearsModel", name := "readsWork", desc := "()Z" } : Jvm.MethodName)) ∈ lw_all := lw_g (lw_at lw_m12 150 rfl) rfl
theorem q2909 : (Jvm.Cond.code ({ cls := "OwlYearsModel", name := "readsWork", desc := "()Z" } : Jvm.MethodName) prog_9_method_144_code (1 : Nat) (Option.some Jvm.ClassFile.FieldType.boolean)) ∈ lw_all := lw_g (lw_at lw_m12 151 rfl) rfl
theorem q2910 : (Jvm.Cond.methodLink "OwlYearsModel" (298 : Nat) ({ cls := "OwlYearsModel", name := "readsNumber", desc := "(II)Z" } : Jvm.MethodName)) ∈ lw_all := lw_g (lw_at lw_m12 152 rfl) rfl
theorem q2911 : (Jvm.Cond.privateMethod ({ cls := "OwlYearsModel", name := "readsNumber", desc := "(II)Z" } : Jvm.MethodName)) ∈ lw_tbl := lw_at lw_m12 153 rfl
theorem q2912 : (Jvm.Cond.instanceMethod ({ cls := "OwlYearsModel", name := "readsNumber", desc := "(II)Z" } : Jvm.MethodName)) ∈ lw_all := lw_g (lw_at lw_m12 154 rfl) rfl
theorem q2913 : (Jvm.Cond.code ({ cls := "OwlYearsModel", name := "readsNumber", desc := "(II)Z" } : Jvm.MethodName) prog_9_method_142_code (3 : Nat) (Option.some Jvm.ClassFile.FieldType.boolean)) ∈ lw_all := lw_g (lw_at lw_m12 155 rfl) rfl
theorem q2914 : (Jvm.Cond.methodLink "OwlYearsModel" (292 : Nat) ({ cls := "OwlYearsModel", name := "accepts", desc := "(II)Z" } : Jvm.MethodName)) ∈ lw_all := lw_g (lw_at lw_m12 156 rfl) rfl
theorem q2915 : (Jvm.Cond.privateMethod ({ cls := "OwlYearsModel", name := "accepts", desc := "(II)Z" } : Jvm.MethodName)) ∈ lw_tbl := lw_at lw_m12 157 rfl
theorem q2916 : (Jvm.Cond.instanceMethod ({ cls := "OwlYearsModel", name := "accepts", desc := "(II)Z" } : Jvm.MethodName)) ∈ lw_all := lw_g (lw_at lw_m12 158 rfl) rfl
theorem q2917 : (Jvm.Cond.code ({ cls := "OwlYearsModel", name := "accepts", desc := "(II)Z" } : Jvm.MethodName) prog_9_method_141_code (4 : Nat) (Option.some Jvm.ClassFile.FieldType.boolean)) ∈ lw_all := lw_g (lw_at lw_m12 159 rfl) rfl
theorem q2918 : (Jvm.Cond.methodLink "OwlYearsModel" (307 : Nat) ({ cls := "OwlYearsModel", name := "readsOwl", desc := "()Z" } : Jvm.MethodName)) ∈ lw_all := lw_g (lw_at lw_m12 160 rfl) rfl
theorem q2919 : (Jvm.Cond.privateMethod ({ cls := "OwlYearsModel", name := "readsOwl", desc := "()Z" } : Jvm.MethodName)) ∈ lw_tbl := lw_at lw_m12 161 rfl
theorem q2920 : (Jvm.Cond.instanceMethod ({ cls := "OwlYearsModel", name := "readsOwl", desc := "()Z" } : Jvm.MethodName)) ∈ lw_all := lw_g (lw_at lw_m12 162 rfl) rfl
theorem q2921 : (Jvm.Cond.code ({ cls := "OwlYearsModel", name := "readsOwl", desc := "()Z" } : Jvm.MethodName) prog_9_method_143_code (1 : Nat) (Option.some Jvm.ClassFile.FieldType.boolean)) ∈ lw_all := lw_g (lw_at lw_m12 163 rfl) rfl
theorem q2923 : (Jvm.Cond.instanceMethod ({ cls := "OwlYearsModel", name := "doWorks", desc := "()I" } : Jvm.MethodName)) ∈ lw_all := lw_g (lw_at lw_m12 165 rfl) rfl
theorem q2924 : (Jvm.Cond.selects "OwlYearsModel" ({ cls := "OwlYearsModel", name := "doWorks", desc := "()I" } : Jvm.MethodName) ({ cls := "OwlYearsModel", name := "doWorks", desc := "()I" } : Jvm.MethodName)) ∈ lw_all := lw_g (lw_at lw_m12 166 rfl) rfl
theorem q2925 : (Jvm.Cond.code ({ cls := "OwlYearsModel", name := "doWorks", desc := "()I" } : Jvm.MethodName) prog_9_method_150_code (3 : Nat) (Option.some Jvm.ClassFile.FieldType.int)) ∈ lw_all := lw_g (lw_at lw_m12 167 rfl) rfl
theorem q2926 : (Jvm.Cond.methodLink "OwlYearsModel" (320 : Nat) ({ cls := "OwlYearsModel", name := "canDo", desc := "()Z" } : Jvm.MethodName)) ∈ lw_all := lw_g (lw_at lw_m12 168 rfl) rfl
theorem q2927 : (Jvm.Cond.privateMethod ({ cls := "OwlYearsModel", name := "canDo", desc := "()Z" } : Jvm.MethodName)) ∈ lw_tbl := lw_at lw_m12 169 rfl
theorem q2928 : (Jvm.Cond.instanceMethod ({ cls := "OwlYearsModel", name := "canDo", desc := "()Z" } : Jvm.MethodName)) ∈ lw_all := lw_g (lw_at lw_m12 170 rfl) rfl
theorem q2929 : (Jvm.Cond.code ({ cls := "OwlYearsModel", name := "canDo", desc := "()Z" } : Jvm.MethodName) prog_9_method_148_code (1 : Nat) (Option.some Jvm.ClassFile.FieldType.boolean)) ∈ lw_all := lw_g (lw_at lw_m12 171 rfl) rfl
theorem q2930 : (Jvm.Cond.methodLink "OwlYearsModel" (317 : Nat) ({ cls := "OwlYearsModel", name := "kindRead", desc := "()I" } : Jvm.MethodName)) ∈ lw_all := lw_g (lw_at lw_m12 172 rfl) rfl
theorem q2931 : (Jvm.Cond.privateMethod ({ cls := "OwlYearsModel", name := "kindRead", desc := "()I" } : Jvm.MethodName)) ∈ lw_tbl := lw_at lw_m12 173 rfl
theorem q2932 : (Jvm.Cond.instanceMethod ({ cls := "OwlYearsModel", name := "kindRead", desc := "()I" } : Jvm.MethodName)) ∈ lw_all := lw_g (lw_at lw_m12 174 rfl) rfl
theorem q2933 : (Jvm.Cond.code ({ cls := "OwlYearsModel", name := "kindRead", desc := "()I" } : Jvm.MethodName) prog_9_method_147_code (1 : Nat) (Option.some Jvm.ClassFile.FieldType.int)) ∈ lw_all := lw_g (lw_at lw_m12 175 rfl) rfl
theorem q2934 : (Jvm.Cond.methodLink "OwlYearsModel" (323 : Nat) ({ cls := "OwlYearsModel", name := "does", desc := "()V" } : Jvm.MethodName)) ∈ lw_all := lw_g (lw_at lw_m12 176 rfl) rfl
theorem q2935 : (Jvm.Cond.privateMethod ({ cls := "OwlYearsModel", name := "does", desc := "()V" } : Jvm.MethodName)) ∈ lw_tbl := lw_at lw_m12 177 rfl
theorem q2936 : (Jvm.Cond.instanceMethod ({ cls := "OwlYearsModel", name := "does", desc := "()V" } : Jvm.MethodName)) ∈ lw_all := lw_g (lw_at lw_m12 178 rfl) rfl
theorem q2937 : (Jvm.Cond.code ({ cls := "OwlYearsModel", name := "does", desc := "()V" } : Jvm.MethodName) prog_9_method_149_code (1 : Nat) (Option.none : Option Jvm.ClassFile.FieldType)) ∈ lw_all := lw_g (lw_at lw_m12 179 rfl) rfl
theorem q2939 : (Jvm.Cond.instanceMethod ({ cls := "OwlYearsModel", name := "undo", desc := "()I" } : Jvm.MethodName)) ∈ lw_all := lw_g (lw_at lw_m12 181 rfl) rfl
theorem q2940 : (Jvm.Cond.selects "OwlYearsModel" ({ cls := "OwlYearsModel", name := "undo", desc := "()I" } : Jvm.MethodName) ({ cls := "OwlYearsModel", name := "undo", desc := "()I" } : Jvm.MethodName)) ∈ lw_all := lw_g (lw_at lw_m12 182 rfl) rfl
theorem q2941 : (Jvm.Cond.code ({ cls := "OwlYearsModel", name := "undo", desc := "()I" } : Jvm.MethodName) prog_9_method_151_code (2 : Nat) (Option.some Jvm.ClassFile.FieldType.int)) ∈ lw_all := lw_g (lw_at lw_m12 183 rfl) rfl
theorem q2943 : (Jvm.Cond.instanceMethod ({ cls := "OwlYearsModel", name := "digest", desc := "()J" } : Jvm.MethodName)) ∈ lw_all := lw_g (lw_at lw_m12 185 rfl) rfl
theorem q2944 : (Jvm.Cond.selects "OwlYearsModel" ({ cls := "OwlYearsModel", name := "digest", desc := "()J" } : Jvm.MethodName) ({ cls := "OwlYearsModel", name := "digest", desc := "()J" } : Jvm.MethodName)) ∈ lw_all := lw_g (lw_at lw_m12 186 rfl) rfl
theorem q2945 : (Jvm.Cond.code ({ cls := "OwlYearsModel", name := "digest", desc := "()J" } : Jvm.MethodName) prog_9_method_152_code (5 : Nat) (Option.some Jvm.ClassFile.FieldType.long)) ∈ lw_all := lw_g (lw_at lw_m12 187 rfl) rfl
theorem q2946 : (Jvm.Cond.constantLong "OwlYearsModel" (326 : Nat) (876 : Int64)) ∈ lw_all := lw_g (lw_at lw_m12 188 rfl) rfl
theorem q2947 : (Jvm.Cond.constantLong "OwlYearsModel" (328 : Nat) (31 : Int64)) ∈ lw_all := lw_g (lw_at lw_m12 189 rfl) rfl
theorem q2971 : (Jvm.Cond.castable "OwlYearsModel" "java/lang/Object") ∈ lw_tbl := lw_at lw_m12 213 rfl
theorem in_X3 : ∀ w ∈ wsX30, w ∈ lw_all := lw_in wsX30 [2316, 2318, 2320, 2322, 2324, 2326, 2328, 2330, 2332, 2334, 2336, 2338, 2340, 2342, 2344, 2346] (by decide +kernel) (by decide +kernel)
