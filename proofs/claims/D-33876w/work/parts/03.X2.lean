/-! OwlYears$Land -/
set_option maxRecDepth 100000
def RX2 : String := "OwlYears$Land"
def TX2 : u_T := fun k => match k with
  | 0 => ("OwlYears$Land", "kinds", "[I", true)
  | 1 => ("OwlYears$Land", "voles", "[I", true)
  | 2 => ("OwlYears$Land", "crowds", "[I", true)
  | 3 => ("OwlYears$Land", "boxes", "Ljava/util/ArrayList;", true)
  | 4 => ("OwlYears$Land", "bySpot", "Ljava/util/HashMap;", true)
  | 5 => ("OwlYears$Land", "owls", "Ljava/util/ArrayList;", true)
  | 6 => ("OwlYears$Land", "log", "[I", true)
  | 7 => ("OwlYears$Land", "died", "[I", true)
  | 8 => ("OwlYears$Land", "logged", "I", false)
  | 9 => ("OwlYears$Land", "year", "I", false)
  | 10 => ("OwlYears$Land", "chances", "I", false)
  | 11 => ("OwlYears$Land", "rings", "I", false)
  | 12 => ("OwlYears$Land", "alive", "I", false)
  | 13 => ("OwlYears$Land", "letIn", "I", false)
  | 14 => ("OwlYears$Land", "born", "I", false)
  | 15 => ("OwlYears$Land", "takenOut", "I", false)
  | 16 => ("OwlYears$Land", "eaten", "I", false)
  | _ => ("OwlYears$Land", "most", "I", false)
def tyX2 : Nat → FieldType := fun k => match k with
  | 0 => .array .int
  | 1 => .array .int
  | 2 => .array .int
  | 3 => .object "java/util/ArrayList"
  | 4 => .object "java/util/HashMap"
  | 5 => .object "java/util/ArrayList"
  | 6 => .array .int
  | 7 => .array .int
  | 8 => .int
  | 9 => .int
  | 10 => .int
  | 11 => .int
  | 12 => .int
  | 13 => .int
  | 14 => .int
  | 15 => .int
  | 16 => .int
  | _ => .int
abbrev wsX20 : List Cond := u_ws RX2 TX2 18
set_option maxRecDepth 100000 in
theorem nmX2 : ∀ a, a < 18 → ∀ b, b < 18 → a ≠ b → (TX2 a).2.1 ≠ (TX2 b).2.1 := by decide +kernel
set_option maxRecDepth 100000 in
theorem tyX2_ok : ∀ k, k < 18 → parseFieldDescriptor (TX2 k).2.2.1 = some (tyX2 k) := by decide +kernel
abbrev cX2_init : ByteArray := prog_3_method_1_code
def yX2_init : MethodName := ⟨RX2, "<init>", "()V"⟩
def dkwX2_init_4 : List UInt8 := [16, 40, 79, 132, 1, 1, 167, 255, 239, 177]
abbrev dktX2_init_4 : List UInt8 := dkwX2_init_4 ++ []
def dkwX2_init_3 : List UInt8 := [188, 10, 181, 0, 41, 42, 4, 181, 0, 44, 3, 60, 27, 16, 64, 162, 0, 17, 42, 180, 0, 15, 27]
abbrev dktX2_init_3 : List UInt8 := dkwX2_init_3 ++ dktX2_init_4
def dkwX2_init_2 : List UInt8 := [181, 0, 31, 42, 187, 0, 21, 89, 183, 0, 23, 181, 0, 35, 42, 16, 60, 188, 10, 181, 0, 38, 42, 7]
abbrev dktX2_init_2 : List UInt8 := dkwX2_init_2 ++ dktX2_init_3
def dkwX2_init_1 : List UInt8 := [188, 10, 181, 0, 18, 42, 187, 0, 21, 89, 183, 0, 23, 181, 0, 24, 42, 187, 0, 28, 89, 183, 0, 30]
abbrev dktX2_init_1 : List UInt8 := dkwX2_init_1 ++ dktX2_init_2
def dkwX2_init_0 : List UInt8 := [42, 183, 0, 3, 42, 16, 64, 188, 10, 181, 0, 9, 42, 16, 64, 188, 10, 181, 0, 15, 42, 16, 64]
abbrev dktX2_init_0 : List UInt8 := dkwX2_init_0 ++ dktX2_init_1
theorem dksX2_init_0 : cX2_init.data.toList.drop 0 = dktX2_init_0 := by decide +kernel
theorem dksX2_init_1 : cX2_init.data.toList.drop 23 = dktX2_init_1 := dk_seg dksX2_init_0 23 rfl rfl
theorem dksX2_init_2 : cX2_init.data.toList.drop 47 = dktX2_init_2 := dk_seg dksX2_init_1 24 rfl rfl
theorem dksX2_init_3 : cX2_init.data.toList.drop 71 = dktX2_init_3 := dk_seg dksX2_init_2 24 rfl rfl
theorem dksX2_init_4 : cX2_init.data.toList.drop 94 = dktX2_init_4 := dk_seg dksX2_init_3 23 rfl rfl
theorem dX2_init_0 : decode cX2_init 0 = .ok (.aload_n 0, 1) := dk_42 (dk_at dksX2_init_0 0 rfl rfl)
theorem dX2_init_1 : decode cX2_init 1 = .ok (.invokespecial 3, 3) := dk_183 0 3 (dk_at dksX2_init_0 1 rfl rfl)
theorem dX2_init_4 : decode cX2_init 4 = .ok (.aload_n 0, 1) := dk_42 (dk_at dksX2_init_0 4 rfl rfl)
theorem dX2_init_5 : decode cX2_init 5 = .ok (.bipush 64, 2) := dk_16 64 (dk_at dksX2_init_0 5 rfl rfl)
theorem dX2_init_7 : decode cX2_init 7 = .ok (.newarray .int, 2) := dk_188_10 (dk_at dksX2_init_0 7 rfl rfl)
theorem dX2_init_9 : decode cX2_init 9 = .ok (.putfield 9, 3) := dk_181 0 9 (dk_at dksX2_init_0 9 rfl rfl)
theorem dX2_init_12 : decode cX2_init 12 = .ok (.aload_n 0, 1) := dk_42 (dk_at dksX2_init_0 12 rfl rfl)
theorem dX2_init_13 : decode cX2_init 13 = .ok (.bipush 64, 2) := dk_16 64 (dk_at dksX2_init_0 13 rfl rfl)
theorem dX2_init_15 : decode cX2_init 15 = .ok (.newarray .int, 2) := dk_188_10 (dk_at dksX2_init_0 15 rfl rfl)
theorem dX2_init_17 : decode cX2_init 17 = .ok (.putfield 15, 3) := dk_181 0 15 (dk_at dksX2_init_0 17 rfl rfl)
theorem dX2_init_20 : decode cX2_init 20 = .ok (.aload_n 0, 1) := dk_42 (dk_at dksX2_init_0 20 rfl rfl)
theorem dX2_init_21 : decode cX2_init 21 = .ok (.bipush 64, 2) := dk_16 64 (dk_at dksX2_init_0 21 rfl rfl)
theorem dX2_init_23 : decode cX2_init 23 = .ok (.newarray .int, 2) := dk_188_10 (dk_at dksX2_init_1 0 rfl rfl)
theorem dX2_init_25 : decode cX2_init 25 = .ok (.putfield 18, 3) := dk_181 0 18 (dk_at dksX2_init_1 2 rfl rfl)
theorem dX2_init_28 : decode cX2_init 28 = .ok (.aload_n 0, 1) := dk_42 (dk_at dksX2_init_1 5 rfl rfl)
theorem dX2_init_29 : decode cX2_init 29 = .ok (.new 21, 3) := dk_187 0 21 (dk_at dksX2_init_1 6 rfl rfl)
theorem dX2_init_32 : decode cX2_init 32 = .ok (.dup, 1) := dk_89 (dk_at dksX2_init_1 9 rfl rfl)
theorem dX2_init_33 : decode cX2_init 33 = .ok (.invokespecial 23, 3) := dk_183 0 23 (dk_at dksX2_init_1 10 rfl rfl)
theorem dX2_init_36 : decode cX2_init 36 = .ok (.putfield 24, 3) := dk_181 0 24 (dk_at dksX2_init_1 13 rfl rfl)
theorem dX2_init_39 : decode cX2_init 39 = .ok (.aload_n 0, 1) := dk_42 (dk_at dksX2_init_1 16 rfl rfl)
theorem dX2_init_40 : decode cX2_init 40 = .ok (.new 28, 3) := dk_187 0 28 (dk_at dksX2_init_1 17 rfl rfl)
theorem dX2_init_43 : decode cX2_init 43 = .ok (.dup, 1) := dk_89 (dk_at dksX2_init_1 20 rfl rfl)
theorem dX2_init_44 : decode cX2_init 44 = .ok (.invokespecial 30, 3) := dk_183 0 30 (dk_at dksX2_init_1 21 rfl rfl)
theorem dX2_init_47 : decode cX2_init 47 = .ok (.putfield 31, 3) := dk_181 0 31 (dk_at dksX2_init_2 0 rfl rfl)
theorem dX2_init_50 : decode cX2_init 50 = .ok (.aload_n 0, 1) := dk_42 (dk_at dksX2_init_2 3 rfl rfl)
theorem dX2_init_51 : decode cX2_init 51 = .ok (.new 21, 3) := dk_187 0 21 (dk_at dksX2_init_2 4 rfl rfl)
theorem dX2_init_54 : decode cX2_init 54 = .ok (.dup, 1) := dk_89 (dk_at dksX2_init_2 7 rfl rfl)
theorem dX2_init_55 : decode cX2_init 55 = .ok (.invokespecial 23, 3) := dk_183 0 23 (dk_at dksX2_init_2 8 rfl rfl)
theorem dX2_init_58 : decode cX2_init 58 = .ok (.putfield 35, 3) := dk_181 0 35 (dk_at dksX2_init_2 11 rfl rfl)
theorem dX2_init_61 : decode cX2_init 61 = .ok (.aload_n 0, 1) := dk_42 (dk_at dksX2_init_2 14 rfl rfl)
theorem dX2_init_62 : decode cX2_init 62 = .ok (.bipush 60, 2) := dk_16 60 (dk_at dksX2_init_2 15 rfl rfl)
theorem dX2_init_64 : decode cX2_init 64 = .ok (.newarray .int, 2) := dk_188_10 (dk_at dksX2_init_2 17 rfl rfl)
theorem dX2_init_66 : decode cX2_init 66 = .ok (.putfield 38, 3) := dk_181 0 38 (dk_at dksX2_init_2 19 rfl rfl)
theorem dX2_init_69 : decode cX2_init 69 = .ok (.aload_n 0, 1) := dk_42 (dk_at dksX2_init_2 22 rfl rfl)
theorem dX2_init_70 : decode cX2_init 70 = .ok (.iconst 4, 1) := dk_7 (dk_at dksX2_init_2 23 rfl rfl)
theorem dX2_init_71 : decode cX2_init 71 = .ok (.newarray .int, 2) := dk_188_10 (dk_at dksX2_init_3 0 rfl rfl)
theorem dX2_init_73 : decode cX2_init 73 = .ok (.putfield 41, 3) := dk_181 0 41 (dk_at dksX2_init_3 2 rfl rfl)
theorem dX2_init_76 : decode cX2_init 76 = .ok (.aload_n 0, 1) := dk_42 (dk_at dksX2_init_3 5 rfl rfl)
theorem dX2_init_77 : decode cX2_init 77 = .ok (.iconst 1, 1) := dk_4 (dk_at dksX2_init_3 6 rfl rfl)
theorem dX2_init_78 : decode cX2_init 78 = .ok (.putfield 44, 3) := dk_181 0 44 (dk_at dksX2_init_3 7 rfl rfl)
theorem dX2_init_81 : decode cX2_init 81 = .ok (.iconst 0, 1) := dk_3 (dk_at dksX2_init_3 10 rfl rfl)
theorem dX2_init_82 : decode cX2_init 82 = .ok (.istore_n 1, 1) := dk_60 (dk_at dksX2_init_3 11 rfl rfl)
theorem dX2_init_83 : decode cX2_init 83 = .ok (.iload_n 1, 1) := dk_27 (dk_at dksX2_init_3 12 rfl rfl)
theorem dX2_init_84 : decode cX2_init 84 = .ok (.bipush 64, 2) := dk_16 64 (dk_at dksX2_init_3 13 rfl rfl)
theorem dX2_init_86 : decode cX2_init 86 = .ok (.if_icmp .ge 17, 3) := dk_162 0 17 (dk_at dksX2_init_3 15 rfl rfl)
theorem dX2_init_89 : decode cX2_init 89 = .ok (.aload_n 0, 1) := dk_42 (dk_at dksX2_init_3 18 rfl rfl)
theorem dX2_init_90 : decode cX2_init 90 = .ok (.getfield 15, 3) := dk_180 0 15 (dk_at dksX2_init_3 19 rfl rfl)
theorem dX2_init_93 : decode cX2_init 93 = .ok (.iload_n 1, 1) := dk_27 (dk_at dksX2_init_3 22 rfl rfl)
theorem dX2_init_94 : decode cX2_init 94 = .ok (.bipush 40, 2) := dk_16 40 (dk_at dksX2_init_4 0 rfl rfl)
theorem dX2_init_96 : decode cX2_init 96 = .ok (.iastore, 1) := dk_79 (dk_at dksX2_init_4 2 rfl rfl)
theorem dX2_init_97 : decode cX2_init 97 = .ok (.iinc 1 1, 3) := dk_132 1 1 (dk_at dksX2_init_4 3 rfl rfl)
theorem dX2_init_100 : decode cX2_init 100 = .ok (.goto (-17), 3) := dk_167 255 239 (dk_at dksX2_init_4 6 rfl rfl)
theorem dX2_init_103 : decode cX2_init 103 = .ok (.return_, 1) := dk_177 (dk_at dksX2_init_4 9 rfl rfl)
abbrev cX2_copy : ByteArray := prog_3_method_2_code
def yX2_copy : MethodName := ⟨RX2, "copy", "()LOwlYears$Land;"⟩
def dkwX2_copy_11 : List UInt8 := [180, 0, 96, 181, 0, 96, 43, 42, 180, 0, 99, 181, 0, 99, 43, 176]
abbrev dktX2_copy_11 : List UInt8 := dkwX2_copy_11 ++ []
def dkwX2_copy_10 : List UInt8 := [180, 0, 87, 181, 0, 87, 43, 42, 180, 0, 90, 181, 0, 90, 43, 42, 180, 0, 93, 181, 0, 93, 43, 42]
abbrev dktX2_copy_10 : List UInt8 := dkwX2_copy_10 ++ dktX2_copy_11
def dkwX2_copy_9 : List UInt8 := [180, 0, 44, 181, 0, 44, 43, 42, 180, 0, 81, 181, 0, 81, 43, 42, 180, 0, 84, 181, 0, 84, 43, 42]
abbrev dktX2_copy_9 : List UInt8 := dkwX2_copy_9 ++ dktX2_copy_10
def dkwX2_copy_8 : List UInt8 := [132, 4, 1, 167, 255, 233, 43, 42, 180, 0, 75, 181, 0, 75, 43, 42, 180, 0, 78, 181, 0, 78, 43, 42]
abbrev dktX2_copy_8 : List UInt8 := dkwX2_copy_8 ++ dktX2_copy_9
def dkwX2_copy_7 : List UInt8 := [54, 4, 21, 4, 7, 162, 0, 23, 43, 180, 0, 41, 21, 4, 42, 180, 0, 41, 21, 4, 46, 79]
abbrev dktX2_copy_7 : List UInt8 := dkwX2_copy_7 ++ dktX2_copy_8
def dkwX2_copy_6 : List UInt8 := [162, 0, 23, 43, 180, 0, 38, 21, 4, 42, 180, 0, 38, 21, 4, 46, 79, 132, 4, 1, 167, 255, 228, 3]
abbrev dktX2_copy_6 : List UInt8 := dkwX2_copy_6 ++ dktX2_copy_7
def dkwX2_copy_5 : List UInt8 := [182, 0, 69, 182, 0, 72, 87, 132, 4, 1, 167, 255, 224, 3, 54, 4, 21, 4, 6, 42, 180, 0, 75, 104]
abbrev dktX2_copy_5 : List UInt8 := dkwX2_copy_5 ++ dktX2_copy_6
def dkwX2_copy_4 : List UInt8 := [54, 4, 21, 4, 29, 162, 0, 32, 43, 180, 0, 35, 42, 180, 0, 35, 21, 4, 182, 0, 53, 192, 0, 67]
abbrev dktX2_copy_4 : List UInt8 := dkwX2_copy_4 ++ dktX2_copy_5
def dkwX2_copy_3 : List UInt8 := [192, 0, 57, 182, 0, 59, 182, 0, 63, 132, 3, 1, 167, 255, 230, 42, 180, 0, 35, 182, 0, 49, 62, 3]
abbrev dktX2_copy_3 : List UInt8 := dkwX2_copy_3 ++ dktX2_copy_4
def dkwX2_copy_2 : List UInt8 := [42, 180, 0, 24, 182, 0, 49, 61, 3, 62, 29, 28, 162, 0, 27, 43, 42, 180, 0, 24, 29, 182, 0, 53]
abbrev dktX2_copy_2 : List UInt8 := dkwX2_copy_2 ++ dktX2_copy_3
def dkwX2_copy_1 : List UInt8 := [180, 0, 9, 28, 46, 79, 43, 180, 0, 15, 28, 42, 180, 0, 15, 28, 46, 79, 132, 2, 1, 167, 255, 223]
abbrev dktX2_copy_1 : List UInt8 := dkwX2_copy_1 ++ dktX2_copy_2
def dkwX2_copy_0 : List UInt8 := [187, 0, 10, 89, 183, 0, 48, 76, 3, 61, 28, 16, 64, 162, 0, 33, 43, 180, 0, 9, 28, 42]
abbrev dktX2_copy_0 : List UInt8 := dkwX2_copy_0 ++ dktX2_copy_1
theorem dksX2_copy_0 : cX2_copy.data.toList.drop 0 = dktX2_copy_0 := by decide +kernel
theorem dksX2_copy_1 : cX2_copy.data.toList.drop 22 = dktX2_copy_1 := dk_seg dksX2_copy_0 22 rfl rfl
theorem dksX2_copy_2 : cX2_copy.data.toList.drop 46 = dktX2_copy_2 := dk_seg dksX2_copy_1 24 rfl rfl
theorem dksX2_copy_3 : cX2_copy.data.toList.drop 70 = dktX2_copy_3 := dk_seg dksX2_copy_2 24 rfl rfl
theorem dksX2_copy_4 : cX2_copy.data.toList.drop 94 = dktX2_copy_4 := dk_seg dksX2_copy_3 24 rfl rfl
theorem dksX2_copy_5 : cX2_copy.data.toList.drop 118 = dktX2_copy_5 := dk_seg dksX2_copy_4 24 rfl rfl
theorem dksX2_copy_6 : cX2_copy.data.toList.drop 142 = dktX2_copy_6 := dk_seg dksX2_copy_5 24 rfl rfl
theorem dksX2_copy_7 : cX2_copy.data.toList.drop 166 = dktX2_copy_7 := dk_seg dksX2_copy_6 24 rfl rfl
theorem dksX2_copy_8 : cX2_copy.data.toList.drop 188 = dktX2_copy_8 := dk_seg dksX2_copy_7 22 rfl rfl
theorem dksX2_copy_9 : cX2_copy.data.toList.drop 212 = dktX2_copy_9 := dk_seg dksX2_copy_8 24 rfl rfl
theorem dksX2_copy_10 : cX2_copy.data.toList.drop 236 = dktX2_copy_10 := dk_seg dksX2_copy_9 24 rfl rfl
theorem dksX2_copy_11 : cX2_copy.data.toList.drop 260 = dktX2_copy_11 := dk_seg dksX2_copy_10 24 rfl rfl
theorem dX2_copy_0 : decode cX2_copy 0 = .ok (.new 10, 3) := dk_187 0 10 (dk_at dksX2_copy_0 0 rfl rfl)
theorem dX2_copy_3 : decode cX2_copy 3 = .ok (.dup, 1) := dk_89 (dk_at dksX2_copy_0 3 rfl rfl)
theorem dX2_copy_4 : decode cX2_copy 4 = .ok (.invokespecial 48, 3) := dk_183 0 48 (dk_at dksX2_copy_0 4 rfl rfl)
theorem dX2_copy_7 : decode cX2_copy 7 = .ok (.astore_n 1, 1) := dk_76 (dk_at dksX2_copy_0 7 rfl rfl)
theorem dX2_copy_8 : decode cX2_copy 8 = .ok (.iconst 0, 1) := dk_3 (dk_at dksX2_copy_0 8 rfl rfl)
theorem dX2_copy_9 : decode cX2_copy 9 = .ok (.istore_n 2, 1) := dk_61 (dk_at dksX2_copy_0 9 rfl rfl)
theorem dX2_copy_10 : decode cX2_copy 10 = .ok (.iload_n 2, 1) := dk_28 (dk_at dksX2_copy_0 10 rfl rfl)
theorem dX2_copy_11 : decode cX2_copy 11 = .ok (.bipush 64, 2) := dk_16 64 (dk_at dksX2_copy_0 11 rfl rfl)
theorem dX2_copy_13 : decode cX2_copy 13 = .ok (.if_icmp .ge 33, 3) := dk_162 0 33 (dk_at dksX2_copy_0 13 rfl rfl)
theorem dX2_copy_16 : decode cX2_copy 16 = .ok (.aload_n 1, 1) := dk_43 (dk_at dksX2_copy_0 16 rfl rfl)
theorem dX2_copy_17 : decode cX2_copy 17 = .ok (.getfield 9, 3) := dk_180 0 9 (dk_at dksX2_copy_0 17 rfl rfl)
theorem dX2_copy_20 : decode cX2_copy 20 = .ok (.iload_n 2, 1) := dk_28 (dk_at dksX2_copy_0 20 rfl rfl)
theorem dX2_copy_21 : decode cX2_copy 21 = .ok (.aload_n 0, 1) := dk_42 (dk_at dksX2_copy_0 21 rfl rfl)
theorem dX2_copy_22 : decode cX2_copy 22 = .ok (.getfield 9, 3) := dk_180 0 9 (dk_at dksX2_copy_1 0 rfl rfl)
theorem dX2_copy_25 : decode cX2_copy 25 = .ok (.iload_n 2, 1) := dk_28 (dk_at dksX2_copy_1 3 rfl rfl)
theorem dX2_copy_26 : decode cX2_copy 26 = .ok (.iaload, 1) := dk_46 (dk_at dksX2_copy_1 4 rfl rfl)
theorem dX2_copy_27 : decode cX2_copy 27 = .ok (.iastore, 1) := dk_79 (dk_at dksX2_copy_1 5 rfl rfl)
theorem dX2_copy_28 : decode cX2_copy 28 = .ok (.aload_n 1, 1) := dk_43 (dk_at dksX2_copy_1 6 rfl rfl)
theorem dX2_copy_29 : decode cX2_copy 29 = .ok (.getfield 15, 3) := dk_180 0 15 (dk_at dksX2_copy_1 7 rfl rfl)
theorem dX2_copy_32 : decode cX2_copy 32 = .ok (.iload_n 2, 1) := dk_28 (dk_at dksX2_copy_1 10 rfl rfl)
theorem dX2_copy_33 : decode cX2_copy 33 = .ok (.aload_n 0, 1) := dk_42 (dk_at dksX2_copy_1 11 rfl rfl)
theorem dX2_copy_34 : decode cX2_copy 34 = .ok (.getfield 15, 3) := dk_180 0 15 (dk_at dksX2_copy_1 12 rfl rfl)
theorem dX2_copy_37 : decode cX2_copy 37 = .ok (.iload_n 2, 1) := dk_28 (dk_at dksX2_copy_1 15 rfl rfl)
theorem dX2_copy_38 : decode cX2_copy 38 = .ok (.iaload, 1) := dk_46 (dk_at dksX2_copy_1 16 rfl rfl)
theorem dX2_copy_39 : decode cX2_copy 39 = .ok (.iastore, 1) := dk_79 (dk_at dksX2_copy_1 17 rfl rfl)
theorem dX2_copy_40 : decode cX2_copy 40 = .ok (.iinc 2 1, 3) := dk_132 2 1 (dk_at dksX2_copy_1 18 rfl rfl)
theorem dX2_copy_43 : decode cX2_copy 43 = .ok (.goto (-33), 3) := dk_167 255 223 (dk_at dksX2_copy_1 21 rfl rfl)
theorem dX2_copy_46 : decode cX2_copy 46 = .ok (.aload_n 0, 1) := dk_42 (dk_at dksX2_copy_2 0 rfl rfl)
theorem dX2_copy_47 : decode cX2_copy 47 = .ok (.getfield 24, 3) := dk_180 0 24 (dk_at dksX2_copy_2 1 rfl rfl)
theorem dX2_copy_50 : decode cX2_copy 50 = .ok (.invokevirtual 49, 3) := dk_182 0 49 (dk_at dksX2_copy_2 4 rfl rfl)
theorem dX2_copy_53 : decode cX2_copy 53 = .ok (.istore_n 2, 1) := dk_61 (dk_at dksX2_copy_2 7 rfl rfl)
theorem dX2_copy_54 : decode cX2_copy 54 = .ok (.iconst 0, 1) := dk_3 (dk_at dksX2_copy_2 8 rfl rfl)
theorem dX2_copy_55 : decode cX2_copy 55 = .ok (.istore_n 3, 1) := dk_62 (dk_at dksX2_copy_2 9 rfl rfl)
theorem dX2_copy_56 : decode cX2_copy 56 = .ok (.iload_n 3, 1) := dk_29 (dk_at dksX2_copy_2 10 rfl rfl)
theorem dX2_copy_57 : decode cX2_copy 57 = .ok (.iload_n 2, 1) := dk_28 (dk_at dksX2_copy_2 11 rfl rfl)
theorem dX2_copy_58 : decode cX2_copy 58 = .ok (.if_icmp .ge 27, 3) := dk_162 0 27 (dk_at dksX2_copy_2 12 rfl rfl)
theorem dX2_copy_61 : decode cX2_copy 61 = .ok (.aload_n 1, 1) := dk_43 (dk_at dksX2_copy_2 15 rfl rfl)
theorem dX2_copy_62 : decode cX2_copy 62 = .ok (.aload_n 0, 1) := dk_42 (dk_at dksX2_copy_2 16 rfl rfl)
theorem dX2_copy_63 : decode cX2_copy 63 = .ok (.getfield 24, 3) := dk_180 0 24 (dk_at dksX2_copy_2 17 rfl rfl)
theorem dX2_copy_66 : decode cX2_copy 66 = .ok (.iload_n 3, 1) := dk_29 (dk_at dksX2_copy_2 20 rfl rfl)
theorem dX2_copy_67 : decode cX2_copy 67 = .ok (.invokevirtual 53, 3) := dk_182 0 53 (dk_at dksX2_copy_2 21 rfl rfl)
theorem dX2_copy_70 : decode cX2_copy 70 = .ok (.checkcast 57, 3) := dk_192 0 57 (dk_at dksX2_copy_3 0 rfl rfl)
theorem dX2_copy_73 : decode cX2_copy 73 = .ok (.invokevirtual 59, 3) := dk_182 0 59 (dk_at dksX2_copy_3 3 rfl rfl)
theorem dX2_copy_76 : decode cX2_copy 76 = .ok (.invokevirtual 63, 3) := dk_182 0 63 (dk_at dksX2_copy_3 6 rfl rfl)
theorem dX2_copy_79 : decode cX2_copy 79 = .ok (.iinc 3 1, 3) := dk_132 3 1 (dk_at dksX2_copy_3 9 rfl rfl)
theorem dX2_copy_82 : decode cX2_copy 82 = .ok (.goto (-26), 3) := dk_167 255 230 (dk_at dksX2_copy_3 12 rfl rfl)
theorem dX2_copy_85 : decode cX2_copy 85 = .ok (.aload_n 0, 1) := dk_42 (dk_at dksX2_copy_3 15 rfl rfl)
theorem dX2_copy_86 : decode cX2_copy 86 = .ok (.getfield 35, 3) := dk_180 0 35 (dk_at dksX2_copy_3 16 rfl rfl)
theorem dX2_copy_89 : decode cX2_copy 89 = .ok (.invokevirtual 49, 3) := dk_182 0 49 (dk_at dksX2_copy_3 19 rfl rfl)
theorem dX2_copy_92 : decode cX2_copy 92 = .ok (.istore_n 3, 1) := dk_62 (dk_at dksX2_copy_3 22 rfl rfl)
theorem dX2_copy_93 : decode cX2_copy 93 = .ok (.iconst 0, 1) := dk_3 (dk_at dksX2_copy_3 23 rfl rfl)
theorem dX2_copy_94 : decode cX2_copy 94 = .ok (.istore 4, 2) := dk_54 4 (dk_at dksX2_copy_4 0 rfl rfl)
theorem dX2_copy_96 : decode cX2_copy 96 = .ok (.iload 4, 2) := dk_21 4 (dk_at dksX2_copy_4 2 rfl rfl)
theorem dX2_copy_98 : decode cX2_copy 98 = .ok (.iload_n 3, 1) := dk_29 (dk_at dksX2_copy_4 4 rfl rfl)
theorem dX2_copy_99 : decode cX2_copy 99 = .ok (.if_icmp .ge 32, 3) := dk_162 0 32 (dk_at dksX2_copy_4 5 rfl rfl)
theorem dX2_copy_102 : decode cX2_copy 102 = .ok (.aload_n 1, 1) := dk_43 (dk_at dksX2_copy_4 8 rfl rfl)
theorem dX2_copy_103 : decode cX2_copy 103 = .ok (.getfield 35, 3) := dk_180 0 35 (dk_at dksX2_copy_4 9 rfl rfl)
theorem dX2_copy_106 : decode cX2_copy 106 = .ok (.aload_n 0, 1) := dk_42 (dk_at dksX2_copy_4 12 rfl rfl)
theorem dX2_copy_107 : decode cX2_copy 107 = .ok (.getfield 35, 3) := dk_180 0 35 (dk_at dksX2_copy_4 13 rfl rfl)
theorem dX2_copy_110 : decode cX2_copy 110 = .ok (.iload 4, 2) := dk_21 4 (dk_at dksX2_copy_4 16 rfl rfl)
theorem dX2_copy_112 : decode cX2_copy 112 = .ok (.invokevirtual 53, 3) := dk_182 0 53 (dk_at dksX2_copy_4 18 rfl rfl)
theorem dX2_copy_115 : decode cX2_copy 115 = .ok (.checkcast 67, 3) := dk_192 0 67 (dk_at dksX2_copy_4 21 rfl rfl)
theorem dX2_copy_118 : decode cX2_copy 118 = .ok (.invokevirtual 69, 3) := dk_182 0 69 (dk_at dksX2_copy_5 0 rfl rfl)
theorem dX2_copy_121 : decode cX2_copy 121 = .ok (.invokevirtual 72, 3) := dk_182 0 72 (dk_at dksX2_copy_5 3 rfl rfl)
theorem dX2_copy_124 : decode cX2_copy 124 = .ok (.pop, 1) := dk_87 (dk_at dksX2_copy_5 6 rfl rfl)
theorem dX2_copy_125 : decode cX2_copy 125 = .ok (.iinc 4 1, 3) := dk_132 4 1 (dk_at dksX2_copy_5 7 rfl rfl)
theorem dX2_copy_128 : decode cX2_copy 128 = .ok (.goto (-32), 3) := dk_167 255 224 (dk_at dksX2_copy_5 10 rfl rfl)
theorem dX2_copy_131 : decode cX2_copy 131 = .ok (.iconst 0, 1) := dk_3 (dk_at dksX2_copy_5 13 rfl rfl)
theorem dX2_copy_132 : decode cX2_copy 132 = .ok (.istore 4, 2) := dk_54 4 (dk_at dksX2_copy_5 14 rfl rfl)
theorem dX2_copy_134 : decode cX2_copy 134 = .ok (.iload 4, 2) := dk_21 4 (dk_at dksX2_copy_5 16 rfl rfl)
theorem dX2_copy_136 : decode cX2_copy 136 = .ok (.iconst 3, 1) := dk_6 (dk_at dksX2_copy_5 18 rfl rfl)
theorem dX2_copy_137 : decode cX2_copy 137 = .ok (.aload_n 0, 1) := dk_42 (dk_at dksX2_copy_5 19 rfl rfl)
theorem dX2_copy_138 : decode cX2_copy 138 = .ok (.getfield 75, 3) := dk_180 0 75 (dk_at dksX2_copy_5 20 rfl rfl)
theorem dX2_copy_141 : decode cX2_copy 141 = .ok (.imul, 1) := dk_104 (dk_at dksX2_copy_5 23 rfl rfl)
theorem dX2_copy_142 : decode cX2_copy 142 = .ok (.if_icmp .ge 23, 3) := dk_162 0 23 (dk_at dksX2_copy_6 0 rfl rfl)
theorem dX2_copy_145 : decode cX2_copy 145 = .ok (.aload_n 1, 1) := dk_43 (dk_at dksX2_copy_6 3 rfl rfl)
theorem dX2_copy_146 : decode cX2_copy 146 = .ok (.getfield 38, 3) := dk_180 0 38 (dk_at dksX2_copy_6 4 rfl rfl)
theorem dX2_copy_149 : decode cX2_copy 149 = .ok (.iload 4, 2) := dk_21 4 (dk_at dksX2_copy_6 7 rfl rfl)
theorem dX2_copy_151 : decode cX2_copy 151 = .ok (.aload_n 0, 1) := dk_42 (dk_at dksX2_copy_6 9 rfl rfl)
theorem dX2_copy_152 : decode cX2_copy 152 = .ok (.getfield 38, 3) := dk_180 0 38 (dk_at dksX2_copy_6 10 rfl rfl)
theorem dX2_copy_155 : decode cX2_copy 155 = .ok (.iload 4, 2) := dk_21 4 (dk_at dksX2_copy_6 13 rfl rfl)
theorem dX2_copy_157 : decode cX2_copy 157 = .ok (.iaload, 1) := dk_46 (dk_at dksX2_copy_6 15 rfl rfl)
theorem dX2_copy_158 : decode cX2_copy 158 = .ok (.iastore, 1) := dk_79 (dk_at dksX2_copy_6 16 rfl rfl)
theorem dX2_copy_159 : decode cX2_copy 159 = .ok (.iinc 4 1, 3) := dk_132 4 1 (dk_at dksX2_copy_6 17 rfl rfl)
theorem dX2_copy_162 : decode cX2_copy 162 = .ok (.goto (-28), 3) := dk_167 255 228 (dk_at dksX2_copy_6 20 rfl rfl)
theorem dX2_copy_165 : decode cX2_copy 165 = .ok (.iconst 0, 1) := dk_3 (dk_at dksX2_copy_6 23 rfl rfl)
theorem dX2_copy_166 : decode cX2_copy 166 = .ok (.istore 4, 2) := dk_54 4 (dk_at dksX2_copy_7 0 rfl rfl)
theorem dX2_copy_168 : decode cX2_copy 168 = .ok (.iload 4, 2) := dk_21 4 (dk_at dksX2_copy_7 2 rfl rfl)
theorem dX2_copy_170 : decode cX2_copy 170 = .ok (.iconst 4, 1) := dk_7 (dk_at dksX2_copy_7 4 rfl rfl)
theorem dX2_copy_171 : decode cX2_copy 171 = .ok (.if_icmp .ge 23, 3) := dk_162 0 23 (dk_at dksX2_copy_7 5 rfl rfl)
theorem dX2_copy_174 : decode cX2_copy 174 = .ok (.aload_n 1, 1) := dk_43 (dk_at dksX2_copy_7 8 rfl rfl)
theorem dX2_copy_175 : decode cX2_copy 175 = .ok (.getfield 41, 3) := dk_180 0 41 (dk_at dksX2_copy_7 9 rfl rfl)
theorem dX2_copy_178 : decode cX2_copy 178 = .ok (.iload 4, 2) := dk_21 4 (dk_at dksX2_copy_7 12 rfl rfl)
theorem dX2_copy_180 : decode cX2_copy 180 = .ok (.aload_n 0, 1) := dk_42 (dk_at dksX2_copy_7 14 rfl rfl)
theorem dX2_copy_181 : decode cX2_copy 181 = .ok (.getfield 41, 3) := dk_180 0 41 (dk_at dksX2_copy_7 15 rfl rfl)
theorem dX2_copy_184 : decode cX2_copy 184 = .ok (.iload 4, 2) := dk_21 4 (dk_at dksX2_copy_7 18 rfl rfl)
theorem dX2_copy_186 : decode cX2_copy 186 = .ok (.iaload, 1) := dk_46 (dk_at dksX2_copy_7 20 rfl rfl)
theorem dX2_copy_187 : decode cX2_copy 187 = .ok (.iastore, 1) := dk_79 (dk_at dksX2_copy_7 21 rfl rfl)
theorem dX2_copy_188 : decode cX2_copy 188 = .ok (.iinc 4 1, 3) := dk_132 4 1 (dk_at dksX2_copy_8 0 rfl rfl)
theorem dX2_copy_191 : decode cX2_copy 191 = .ok (.goto (-23), 3) := dk_167 255 233 (dk_at dksX2_copy_8 3 rfl rfl)
theorem dX2_copy_194 : decode cX2_copy 194 = .ok (.aload_n 1, 1) := dk_43 (dk_at dksX2_copy_8 6 rfl rfl)
theorem dX2_copy_195 : decode cX2_copy 195 = .ok (.aload_n 0, 1) := dk_42 (dk_at dksX2_copy_8 7 rfl rfl)
theorem dX2_copy_196 : decode cX2_copy 196 = .ok (.getfield 75, 3) := dk_180 0 75 (dk_at dksX2_copy_8 8 rfl rfl)
theorem dX2_copy_199 : decode cX2_copy 199 = .ok (.putfield 75, 3) := dk_181 0 75 (dk_at dksX2_copy_8 11 rfl rfl)
theorem dX2_copy_202 : decode cX2_copy 202 = .ok (.aload_n 1, 1) := dk_43 (dk_at dksX2_copy_8 14 rfl rfl)
theorem dX2_copy_203 : decode cX2_copy 203 = .ok (.aload_n 0, 1) := dk_42 (dk_at dksX2_copy_8 15 rfl rfl)
theorem dX2_copy_204 : decode cX2_copy 204 = .ok (.getfield 78, 3) := dk_180 0 78 (dk_at dksX2_copy_8 16 rfl rfl)
theorem dX2_copy_207 : decode cX2_copy 207 = .ok (.putfield 78, 3) := dk_181 0 78 (dk_at dksX2_copy_8 19 rfl rfl)
theorem dX2_copy_210 : decode cX2_copy 210 = .ok (.aload_n 1, 1) := dk_43 (dk_at dksX2_copy_8 22 rfl rfl)
theorem dX2_copy_211 : decode cX2_copy 211 = .ok (.aload_n 0, 1) := dk_42 (dk_at dksX2_copy_8 23 rfl rfl)
theorem dX2_copy_212 : decode cX2_copy 212 = .ok (.getfield 44, 3) := dk_180 0 44 (dk_at dksX2_copy_9 0 rfl rfl)
theorem dX2_copy_215 : decode cX2_copy 215 = .ok (.putfield 44, 3) := dk_181 0 44 (dk_at dksX2_copy_9 3 rfl rfl)
theorem dX2_copy_218 : decode cX2_copy 218 = .ok (.aload_n 1, 1) := dk_43 (dk_at dksX2_copy_9 6 rfl rfl)
theorem dX2_copy_219 : decode cX2_copy 219 = .ok (.aload_n 0, 1) := dk_42 (dk_at dksX2_copy_9 7 rfl rfl)
theorem dX2_copy_220 : decode cX2_copy 220 = .ok (.getfield 81, 3) := dk_180 0 81 (dk_at dksX2_copy_9 8 rfl rfl)
theorem dX2_copy_223 : decode cX2_copy 223 = .ok (.putfield 81, 3) := dk_181 0 81 (dk_at dksX2_copy_9 11 rfl rfl)
theorem dX2_copy_226 : decode cX2_copy 226 = .ok (.aload_n 1, 1) := dk_43 (dk_at dksX2_copy_9 14 rfl rfl)
theorem dX2_copy_227 : decode cX2_copy 227 = .ok (.aload_n 0, 1) := dk_42 (dk_at dksX2_copy_9 15 rfl rfl)
theorem dX2_copy_228 : decode cX2_copy 228 = .ok (.getfield 84, 3) := dk_180 0 84 (dk_at dksX2_copy_9 16 rfl rfl)
theorem dX2_copy_231 : decode cX2_copy 231 = .ok (.putfield 84, 3) := dk_181 0 84 (dk_at dksX2_copy_9 19 rfl rfl)
theorem dX2_copy_234 : decode cX2_copy 234 = .ok (.aload_n 1, 1) := dk_43 (dk_at dksX2_copy_9 22 rfl rfl)
theorem dX2_copy_235 : decode cX2_copy 235 = .ok (.aload_n 0, 1) := dk_42 (dk_at dksX2_copy_9 23 rfl rfl)
theorem dX2_copy_236 : decode cX2_copy 236 = .ok (.getfield 87, 3) := dk_180 0 87 (dk_at dksX2_copy_10 0 rfl rfl)
theorem dX2_copy_239 : decode cX2_copy 239 = .ok (.putfield 87, 3) := dk_181 0 87 (dk_at dksX2_copy_10 3 rfl rfl)
theorem dX2_copy_242 : decode cX2_copy 242 = .ok (.aload_n 1, 1) := dk_43 (dk_at dksX2_copy_10 6 rfl rfl)
theorem dX2_copy_243 : decode cX2_copy 243 = .ok (.aload_n 0, 1) := dk_42 (dk_at dksX2_copy_10 7 rfl rfl)
theorem dX2_copy_244 : decode cX2_copy 244 = .ok (.getfield 90, 3) := dk_180 0 90 (dk_at dksX2_copy_10 8 rfl rfl)
theorem dX2_copy_247 : decode cX2_copy 247 = .ok (.putfield 90, 3) := dk_181 0 90 (dk_at dksX2_copy_10 11 rfl rfl)
theorem dX2_copy_250 : decode cX2_copy 250 = .ok (.aload_n 1, 1) := dk_43 (dk_at dksX2_copy_10 14 rfl rfl)
theorem dX2_copy_251 : decode cX2_copy 251 = .ok (.aload_n 0, 1) := dk_42 (dk_at dksX2_copy_10 15 rfl rfl)
theorem dX2_copy_252 : decode cX2_copy 252 = .ok (.getfield 93, 3) := dk_180 0 93 (dk_at dksX2_copy_10 16 rfl rfl)
theorem dX2_copy_255 : decode cX2_copy 255 = .ok (.putfield 93, 3) := dk_181 0 93 (dk_at dksX2_copy_10 19 rfl rfl)
theorem dX2_copy_258 : decode cX2_copy 258 = .ok (.aload_n 1, 1) := dk_43 (dk_at dksX2_copy_10 22 rfl rfl)
theorem dX2_copy_259 : decode cX2_copy 259 = .ok (.aload_n 0, 1) := dk_42 (dk_at dksX2_copy_10 23 rfl rfl)
theorem dX2_copy_260 : decode cX2_copy 260 = .ok (.getfield 96, 3) := dk_180 0 96 (dk_at dksX2_copy_11 0 rfl rfl)
theorem dX2_copy_263 : decode cX2_copy 263 = .ok (.putfield 96, 3) := dk_181 0 96 (dk_at dksX2_copy_11 3 rfl rfl)
theorem dX2_copy_266 : decode cX2_copy 266 = .ok (.aload_n 1, 1) := dk_43 (dk_at dksX2_copy_11 6 rfl rfl)
theorem dX2_copy_267 : decode cX2_copy 267 = .ok (.aload_n 0, 1) := dk_42 (dk_at dksX2_copy_11 7 rfl rfl)
theorem dX2_copy_268 : decode cX2_copy 268 = .ok (.getfield 99, 3) := dk_180 0 99 (dk_at dksX2_copy_11 8 rfl rfl)
theorem dX2_copy_271 : decode cX2_copy 271 = .ok (.putfield 99, 3) := dk_181 0 99 (dk_at dksX2_copy_11 11 rfl rfl)
theorem dX2_copy_274 : decode cX2_copy 274 = .ok (.aload_n 1, 1) := dk_43 (dk_at dksX2_copy_11 14 rfl rfl)
theorem dX2_copy_275 : decode cX2_copy 275 = .ok (.areturn, 1) := dk_176 (dk_at dksX2_copy_11 15 rfl rfl)
abbrev cX2_add : ByteArray := prog_3_method_3_code
def yX2_add : MethodName := ⟨RX2, "add", "(LOwlYears$Box;)V"⟩
def dkwX2_add_1 : List UInt8 := [43, 182, 0, 110, 87, 177]
abbrev dktX2_add_1 : List UInt8 := dkwX2_add_1 ++ []
def dkwX2_add_0 : List UInt8 := [42, 180, 0, 24, 43, 182, 0, 72, 87, 42, 180, 0, 31, 187, 0, 102, 89, 43, 180, 0, 104, 183, 0, 107]
abbrev dktX2_add_0 : List UInt8 := dkwX2_add_0 ++ dktX2_add_1
theorem dksX2_add_0 : cX2_add.data.toList.drop 0 = dktX2_add_0 := by decide +kernel
theorem dksX2_add_1 : cX2_add.data.toList.drop 24 = dktX2_add_1 := dk_seg dksX2_add_0 24 rfl rfl
theorem dX2_add_0 : decode cX2_add 0 = .ok (.aload_n 0, 1) := dk_42 (dk_at dksX2_add_0 0 rfl rfl)
theorem dX2_add_1 : decode cX2_add 1 = .ok (.getfield 24, 3) := dk_180 0 24 (dk_at dksX2_add_0 1 rfl rfl)
theorem dX2_add_4 : decode cX2_add 4 = .ok (.aload_n 1, 1) := dk_43 (dk_at dksX2_add_0 4 rfl rfl)
theorem dX2_add_5 : decode cX2_add 5 = .ok (.invokevirtual 72, 3) := dk_182 0 72 (dk_at dksX2_add_0 5 rfl rfl)
theorem dX2_add_8 : decode cX2_add 8 = .ok (.pop, 1) := dk_87 (dk_at dksX2_add_0 8 rfl rfl)
theorem dX2_add_9 : decode cX2_add 9 = .ok (.aload_n 0, 1) := dk_42 (dk_at dksX2_add_0 9 rfl rfl)
theorem dX2_add_10 : decode cX2_add 10 = .ok (.getfield 31, 3) := dk_180 0 31 (dk_at dksX2_add_0 10 rfl rfl)
theorem dX2_add_13 : decode cX2_add 13 = .ok (.new 102, 3) := dk_187 0 102 (dk_at dksX2_add_0 13 rfl rfl)
theorem dX2_add_16 : decode cX2_add 16 = .ok (.dup, 1) := dk_89 (dk_at dksX2_add_0 16 rfl rfl)
theorem dX2_add_17 : decode cX2_add 17 = .ok (.aload_n 1, 1) := dk_43 (dk_at dksX2_add_0 17 rfl rfl)
theorem dX2_add_18 : decode cX2_add 18 = .ok (.getfield 104, 3) := dk_180 0 104 (dk_at dksX2_add_0 18 rfl rfl)
theorem dX2_add_21 : decode cX2_add 21 = .ok (.invokespecial 107, 3) := dk_183 0 107 (dk_at dksX2_add_0 21 rfl rfl)
theorem dX2_add_24 : decode cX2_add 24 = .ok (.aload_n 1, 1) := dk_43 (dk_at dksX2_add_1 0 rfl rfl)
theorem dX2_add_25 : decode cX2_add 25 = .ok (.invokevirtual 110, 3) := dk_182 0 110 (dk_at dksX2_add_1 1 rfl rfl)
theorem dX2_add_28 : decode cX2_add 28 = .ok (.pop, 1) := dk_87 (dk_at dksX2_add_1 4 rfl rfl)
theorem dX2_add_29 : decode cX2_add 29 = .ok (.return_, 1) := dk_177 (dk_at dksX2_add_1 5 rfl rfl)
abbrev cX2_phase : ByteArray := prog_3_method_34_code
def yX2_phase : MethodName := ⟨RX2, "phase", "()I"⟩
def dkwX2_phase_0 : List UInt8 := [42, 180, 0, 78, 7, 112, 172]
abbrev dktX2_phase_0 : List UInt8 := dkwX2_phase_0 ++ []
theorem dksX2_phase_0 : cX2_phase.data.toList.drop 0 = dktX2_phase_0 := by decide +kernel
theorem dX2_phase_0 : decode cX2_phase 0 = .ok (.aload_n 0, 1) := dk_42 (dk_at dksX2_phase_0 0 rfl rfl)
theorem dX2_phase_1 : decode cX2_phase 1 = .ok (.getfield 78, 3) := dk_180 0 78 (dk_at dksX2_phase_0 1 rfl rfl)
theorem dX2_phase_4 : decode cX2_phase 4 = .ok (.iconst 4, 1) := dk_7 (dk_at dksX2_phase_0 4 rfl rfl)
theorem dX2_phase_5 : decode cX2_phase 5 = .ok (.irem, 1) := dk_112 (dk_at dksX2_phase_0 5 rfl rfl)
theorem dX2_phase_6 : decode cX2_phase 6 = .ok (.ireturn, 1) := dk_172 (dk_at dksX2_phase_0 6 rfl rfl)
abbrev cX2_allVoles : ByteArray := prog_3_method_57_code
def yX2_allVoles : MethodName := ⟨RX2, "allVoles", "()I"⟩
def dkwX2_allVoles_1 : List UInt8 := [167, 255, 238, 27, 172]
abbrev dktX2_allVoles_1 : List UInt8 := dkwX2_allVoles_1 ++ []
def dkwX2_allVoles_0 : List UInt8 := [3, 60, 3, 61, 28, 16, 64, 162, 0, 18, 27, 42, 180, 0, 15, 28, 46, 96, 60, 132, 2, 1]
abbrev dktX2_allVoles_0 : List UInt8 := dkwX2_allVoles_0 ++ dktX2_allVoles_1
theorem dksX2_allVoles_0 : cX2_allVoles.data.toList.drop 0 = dktX2_allVoles_0 := by decide +kernel
theorem dksX2_allVoles_1 : cX2_allVoles.data.toList.drop 22 = dktX2_allVoles_1 := dk_seg dksX2_allVoles_0 22 rfl rfl
theorem dX2_allVoles_0 : decode cX2_allVoles 0 = .ok (.iconst 0, 1) := dk_3 (dk_at dksX2_allVoles_0 0 rfl rfl)
theorem dX2_allVoles_1 : decode cX2_allVoles 1 = .ok (.istore_n 1, 1) := dk_60 (dk_at dksX2_allVoles_0 1 rfl rfl)
theorem dX2_allVoles_2 : decode cX2_allVoles 2 = .ok (.iconst 0, 1) := dk_3 (dk_at dksX2_allVoles_0 2 rfl rfl)
theorem dX2_allVoles_3 : decode cX2_allVoles 3 = .ok (.istore_n 2, 1) := dk_61 (dk_at dksX2_allVoles_0 3 rfl rfl)
theorem dX2_allVoles_4 : decode cX2_allVoles 4 = .ok (.iload_n 2, 1) := dk_28 (dk_at dksX2_allVoles_0 4 rfl rfl)
theorem dX2_allVoles_5 : decode cX2_allVoles 5 = .ok (.bipush 64, 2) := dk_16 64 (dk_at dksX2_allVoles_0 5 rfl rfl)
theorem dX2_allVoles_7 : decode cX2_allVoles 7 = .ok (.if_icmp .ge 18, 3) := dk_162 0 18 (dk_at dksX2_allVoles_0 7 rfl rfl)
theorem dX2_allVoles_10 : decode cX2_allVoles 10 = .ok (.iload_n 1, 1) := dk_27 (dk_at dksX2_allVoles_0 10 rfl rfl)
theorem dX2_allVoles_11 : decode cX2_allVoles 11 = .ok (.aload_n 0, 1) := dk_42 (dk_at dksX2_allVoles_0 11 rfl rfl)
theorem dX2_allVoles_12 : decode cX2_allVoles 12 = .ok (.getfield 15, 3) := dk_180 0 15 (dk_at dksX2_allVoles_0 12 rfl rfl)
theorem dX2_allVoles_15 : decode cX2_allVoles 15 = .ok (.iload_n 2, 1) := dk_28 (dk_at dksX2_allVoles_0 15 rfl rfl)
theorem dX2_allVoles_16 : decode cX2_allVoles 16 = .ok (.iaload, 1) := dk_46 (dk_at dksX2_allVoles_0 16 rfl rfl)
theorem dX2_allVoles_17 : decode cX2_allVoles 17 = .ok (.iadd, 1) := dk_96 (dk_at dksX2_allVoles_0 17 rfl rfl)
theorem dX2_allVoles_18 : decode cX2_allVoles 18 = .ok (.istore_n 1, 1) := dk_60 (dk_at dksX2_allVoles_0 18 rfl rfl)
theorem dX2_allVoles_19 : decode cX2_allVoles 19 = .ok (.iinc 2 1, 3) := dk_132 2 1 (dk_at dksX2_allVoles_0 19 rfl rfl)
theorem dX2_allVoles_22 : decode cX2_allVoles 22 = .ok (.goto (-18), 3) := dk_167 255 238 (dk_at dksX2_allVoles_1 0 rfl rfl)
theorem dX2_allVoles_25 : decode cX2_allVoles 25 = .ok (.iload_n 1, 1) := dk_27 (dk_at dksX2_allVoles_1 3 rfl rfl)
theorem dX2_allVoles_26 : decode cX2_allVoles 26 = .ok (.ireturn, 1) := dk_172 (dk_at dksX2_allVoles_1 4 rfl rfl)
abbrev cX2_byAccount : ByteArray := prog_3_method_61_code
def yX2_byAccount : MethodName := ⟨RX2, "byAccount", "()I"⟩
def dkwX2_byAccount_1 : List UInt8 := [180, 0, 41, 4, 46, 100, 42, 180, 0, 41, 5, 46, 100, 42, 180, 0, 41, 6, 46, 100, 172]
abbrev dktX2_byAccount_1 : List UInt8 := dkwX2_byAccount_1 ++ []
def dkwX2_byAccount_0 : List UInt8 := [42, 180, 0, 87, 42, 180, 0, 90, 96, 42, 180, 0, 93, 100, 42, 180, 0, 41, 3, 46, 100, 42]
abbrev dktX2_byAccount_0 : List UInt8 := dkwX2_byAccount_0 ++ dktX2_byAccount_1
theorem dksX2_byAccount_0 : cX2_byAccount.data.toList.drop 0 = dktX2_byAccount_0 := by decide +kernel
theorem dksX2_byAccount_1 : cX2_byAccount.data.toList.drop 22 = dktX2_byAccount_1 := dk_seg dksX2_byAccount_0 22 rfl rfl
theorem dX2_byAccount_0 : decode cX2_byAccount 0 = .ok (.aload_n 0, 1) := dk_42 (dk_at dksX2_byAccount_0 0 rfl rfl)
theorem dX2_byAccount_1 : decode cX2_byAccount 1 = .ok (.getfield 87, 3) := dk_180 0 87 (dk_at dksX2_byAccount_0 1 rfl rfl)
theorem dX2_byAccount_4 : decode cX2_byAccount 4 = .ok (.aload_n 0, 1) := dk_42 (dk_at dksX2_byAccount_0 4 rfl rfl)
theorem dX2_byAccount_5 : decode cX2_byAccount 5 = .ok (.getfield 90, 3) := dk_180 0 90 (dk_at dksX2_byAccount_0 5 rfl rfl)
theorem dX2_byAccount_8 : decode cX2_byAccount 8 = .ok (.iadd, 1) := dk_96 (dk_at dksX2_byAccount_0 8 rfl rfl)
theorem dX2_byAccount_9 : decode cX2_byAccount 9 = .ok (.aload_n 0, 1) := dk_42 (dk_at dksX2_byAccount_0 9 rfl rfl)
theorem dX2_byAccount_10 : decode cX2_byAccount 10 = .ok (.getfield 93, 3) := dk_180 0 93 (dk_at dksX2_byAccount_0 10 rfl rfl)
theorem dX2_byAccount_13 : decode cX2_byAccount 13 = .ok (.isub, 1) := dk_100 (dk_at dksX2_byAccount_0 13 rfl rfl)
theorem dX2_byAccount_14 : decode cX2_byAccount 14 = .ok (.aload_n 0, 1) := dk_42 (dk_at dksX2_byAccount_0 14 rfl rfl)
theorem dX2_byAccount_15 : decode cX2_byAccount 15 = .ok (.getfield 41, 3) := dk_180 0 41 (dk_at dksX2_byAccount_0 15 rfl rfl)
theorem dX2_byAccount_18 : decode cX2_byAccount 18 = .ok (.iconst 0, 1) := dk_3 (dk_at dksX2_byAccount_0 18 rfl rfl)
theorem dX2_byAccount_19 : decode cX2_byAccount 19 = .ok (.iaload, 1) := dk_46 (dk_at dksX2_byAccount_0 19 rfl rfl)
theorem dX2_byAccount_20 : decode cX2_byAccount 20 = .ok (.isub, 1) := dk_100 (dk_at dksX2_byAccount_0 20 rfl rfl)
theorem dX2_byAccount_21 : decode cX2_byAccount 21 = .ok (.aload_n 0, 1) := dk_42 (dk_at dksX2_byAccount_0 21 rfl rfl)
theorem dX2_byAccount_22 : decode cX2_byAccount 22 = .ok (.getfield 41, 3) := dk_180 0 41 (dk_at dksX2_byAccount_1 0 rfl rfl)
theorem dX2_byAccount_25 : decode cX2_byAccount 25 = .ok (.iconst 1, 1) := dk_4 (dk_at dksX2_byAccount_1 3 rfl rfl)
theorem dX2_byAccount_26 : decode cX2_byAccount 26 = .ok (.iaload, 1) := dk_46 (dk_at dksX2_byAccount_1 4 rfl rfl)
theorem dX2_byAccount_27 : decode cX2_byAccount 27 = .ok (.isub, 1) := dk_100 (dk_at dksX2_byAccount_1 5 rfl rfl)
theorem dX2_byAccount_28 : decode cX2_byAccount 28 = .ok (.aload_n 0, 1) := dk_42 (dk_at dksX2_byAccount_1 6 rfl rfl)
theorem dX2_byAccount_29 : decode cX2_byAccount 29 = .ok (.getfield 41, 3) := dk_180 0 41 (dk_at dksX2_byAccount_1 7 rfl rfl)
theorem dX2_byAccount_32 : decode cX2_byAccount 32 = .ok (.iconst 2, 1) := dk_5 (dk_at dksX2_byAccount_1 10 rfl rfl)
theorem dX2_byAccount_33 : decode cX2_byAccount 33 = .ok (.iaload, 1) := dk_46 (dk_at dksX2_byAccount_1 11 rfl rfl)
theorem dX2_byAccount_34 : decode cX2_byAccount 34 = .ok (.isub, 1) := dk_100 (dk_at dksX2_byAccount_1 12 rfl rfl)
theorem dX2_byAccount_35 : decode cX2_byAccount 35 = .ok (.aload_n 0, 1) := dk_42 (dk_at dksX2_byAccount_1 13 rfl rfl)
theorem dX2_byAccount_36 : decode cX2_byAccount 36 = .ok (.getfield 41, 3) := dk_180 0 41 (dk_at dksX2_byAccount_1 14 rfl rfl)
theorem dX2_byAccount_39 : decode cX2_byAccount 39 = .ok (.iconst 3, 1) := dk_6 (dk_at dksX2_byAccount_1 17 rfl rfl)
theorem dX2_byAccount_40 : decode cX2_byAccount 40 = .ok (.iaload, 1) := dk_46 (dk_at dksX2_byAccount_1 18 rfl rfl)
theorem dX2_byAccount_41 : decode cX2_byAccount 41 = .ok (.isub, 1) := dk_100 (dk_at dksX2_byAccount_1 19 rfl rfl)
theorem dX2_byAccount_42 : decode cX2_byAccount 42 = .ok (.ireturn, 1) := dk_172 (dk_at dksX2_byAccount_1 20 rfl rfl)
abbrev cX2_wanderers : ByteArray := prog_3_method_59_code
def yX2_wanderers : MethodName := ⟨RX2, "wanderers", "()I"⟩
def dkwX2_wanderers_2 : List UInt8 := [180, 0, 175, 2, 160, 0, 7, 4, 167, 0, 4, 3, 96, 60, 132, 3, 1, 167, 255, 205, 27, 172]
abbrev dktX2_wanderers_2 : List UInt8 := dkwX2_wanderers_2 ++ []
def dkwX2_wanderers_1 : List UInt8 := [182, 0, 53, 192, 0, 67, 180, 0, 207, 153, 0, 25, 42, 180, 0, 35, 29, 182, 0, 53, 192, 0, 67]
abbrev dktX2_wanderers_1 : List UInt8 := dkwX2_wanderers_1 ++ dktX2_wanderers_2
def dkwX2_wanderers_0 : List UInt8 := [3, 60, 42, 180, 0, 35, 182, 0, 49, 61, 3, 62, 29, 28, 162, 0, 52, 27, 42, 180, 0, 35, 29]
abbrev dktX2_wanderers_0 : List UInt8 := dkwX2_wanderers_0 ++ dktX2_wanderers_1
theorem dksX2_wanderers_0 : cX2_wanderers.data.toList.drop 0 = dktX2_wanderers_0 := by decide +kernel
theorem dksX2_wanderers_1 : cX2_wanderers.data.toList.drop 23 = dktX2_wanderers_1 := dk_seg dksX2_wanderers_0 23 rfl rfl
theorem dksX2_wanderers_2 : cX2_wanderers.data.toList.drop 46 = dktX2_wanderers_2 := dk_seg dksX2_wanderers_1 23 rfl rfl
theorem dX2_wanderers_0 : decode cX2_wanderers 0 = .ok (.iconst 0, 1) := dk_3 (dk_at dksX2_wanderers_0 0 rfl rfl)
theorem dX2_wanderers_1 : decode cX2_wanderers 1 = .ok (.istore_n 1, 1) := dk_60 (dk_at dksX2_wanderers_0 1 rfl rfl)
theorem dX2_wanderers_2 : decode cX2_wanderers 2 = .ok (.aload_n 0, 1) := dk_42 (dk_at dksX2_wanderers_0 2 rfl rfl)
theorem dX2_wanderers_3 : decode cX2_wanderers 3 = .ok (.getfield 35, 3) := dk_180 0 35 (dk_at dksX2_wanderers_0 3 rfl rfl)
theorem dX2_wanderers_6 : decode cX2_wanderers 6 = .ok (.invokevirtual 49, 3) := dk_182 0 49 (dk_at dksX2_wanderers_0 6 rfl rfl)
theorem dX2_wanderers_9 : decode cX2_wanderers 9 = .ok (.istore_n 2, 1) := dk_61 (dk_at dksX2_wanderers_0 9 rfl rfl)
theorem dX2_wanderers_10 : decode cX2_wanderers 10 = .ok (.iconst 0, 1) := dk_3 (dk_at dksX2_wanderers_0 10 rfl rfl)
theorem dX2_wanderers_11 : decode cX2_wanderers 11 = .ok (.istore_n 3, 1) := dk_62 (dk_at dksX2_wanderers_0 11 rfl rfl)
theorem dX2_wanderers_12 : decode cX2_wanderers 12 = .ok (.iload_n 3, 1) := dk_29 (dk_at dksX2_wanderers_0 12 rfl rfl)
theorem dX2_wanderers_13 : decode cX2_wanderers 13 = .ok (.iload_n 2, 1) := dk_28 (dk_at dksX2_wanderers_0 13 rfl rfl)
theorem dX2_wanderers_14 : decode cX2_wanderers 14 = .ok (.if_icmp .ge 52, 3) := dk_162 0 52 (dk_at dksX2_wanderers_0 14 rfl rfl)
theorem dX2_wanderers_17 : decode cX2_wanderers 17 = .ok (.iload_n 1, 1) := dk_27 (dk_at dksX2_wanderers_0 17 rfl rfl)
theorem dX2_wanderers_18 : decode cX2_wanderers 18 = .ok (.aload_n 0, 1) := dk_42 (dk_at dksX2_wanderers_0 18 rfl rfl)
theorem dX2_wanderers_19 : decode cX2_wanderers 19 = .ok (.getfield 35, 3) := dk_180 0 35 (dk_at dksX2_wanderers_0 19 rfl rfl)
theorem dX2_wanderers_22 : decode cX2_wanderers 22 = .ok (.iload_n 3, 1) := dk_29 (dk_at dksX2_wanderers_0 22 rfl rfl)
theorem dX2_wanderers_23 : decode cX2_wanderers 23 = .ok (.invokevirtual 53, 3) := dk_182 0 53 (dk_at dksX2_wanderers_1 0 rfl rfl)
theorem dX2_wanderers_26 : decode cX2_wanderers 26 = .ok (.checkcast 67, 3) := dk_192 0 67 (dk_at dksX2_wanderers_1 3 rfl rfl)
theorem dX2_wanderers_29 : decode cX2_wanderers 29 = .ok (.getfield 207, 3) := dk_180 0 207 (dk_at dksX2_wanderers_1 6 rfl rfl)
theorem dX2_wanderers_32 : decode cX2_wanderers 32 = .ok (.ifCond .eq 25, 3) := dk_153 0 25 (dk_at dksX2_wanderers_1 9 rfl rfl)
theorem dX2_wanderers_35 : decode cX2_wanderers 35 = .ok (.aload_n 0, 1) := dk_42 (dk_at dksX2_wanderers_1 12 rfl rfl)
theorem dX2_wanderers_36 : decode cX2_wanderers 36 = .ok (.getfield 35, 3) := dk_180 0 35 (dk_at dksX2_wanderers_1 13 rfl rfl)
theorem dX2_wanderers_39 : decode cX2_wanderers 39 = .ok (.iload_n 3, 1) := dk_29 (dk_at dksX2_wanderers_1 16 rfl rfl)
theorem dX2_wanderers_40 : decode cX2_wanderers 40 = .ok (.invokevirtual 53, 3) := dk_182 0 53 (dk_at dksX2_wanderers_1 17 rfl rfl)
theorem dX2_wanderers_43 : decode cX2_wanderers 43 = .ok (.checkcast 67, 3) := dk_192 0 67 (dk_at dksX2_wanderers_1 20 rfl rfl)
theorem dX2_wanderers_46 : decode cX2_wanderers 46 = .ok (.getfield 175, 3) := dk_180 0 175 (dk_at dksX2_wanderers_2 0 rfl rfl)
theorem dX2_wanderers_49 : decode cX2_wanderers 49 = .ok (.iconst (-1), 1) := dk_2 (dk_at dksX2_wanderers_2 3 rfl rfl)
theorem dX2_wanderers_50 : decode cX2_wanderers 50 = .ok (.if_icmp .ne 7, 3) := dk_160 0 7 (dk_at dksX2_wanderers_2 4 rfl rfl)
theorem dX2_wanderers_53 : decode cX2_wanderers 53 = .ok (.iconst 1, 1) := dk_4 (dk_at dksX2_wanderers_2 7 rfl rfl)
theorem dX2_wanderers_54 : decode cX2_wanderers 54 = .ok (.goto 4, 3) := dk_167 0 4 (dk_at dksX2_wanderers_2 8 rfl rfl)
theorem dX2_wanderers_57 : decode cX2_wanderers 57 = .ok (.iconst 0, 1) := dk_3 (dk_at dksX2_wanderers_2 11 rfl rfl)
theorem dX2_wanderers_58 : decode cX2_wanderers 58 = .ok (.iadd, 1) := dk_96 (dk_at dksX2_wanderers_2 12 rfl rfl)
theorem dX2_wanderers_59 : decode cX2_wanderers 59 = .ok (.istore_n 1, 1) := dk_60 (dk_at dksX2_wanderers_2 13 rfl rfl)
theorem dX2_wanderers_60 : decode cX2_wanderers 60 = .ok (.iinc 3 1, 3) := dk_132 3 1 (dk_at dksX2_wanderers_2 14 rfl rfl)
theorem dX2_wanderers_63 : decode cX2_wanderers 63 = .ok (.goto (-51), 3) := dk_167 255 205 (dk_at dksX2_wanderers_2 17 rfl rfl)
theorem dX2_wanderers_66 : decode cX2_wanderers 66 = .ok (.iload_n 1, 1) := dk_27 (dk_at dksX2_wanderers_2 20 rfl rfl)
theorem dX2_wanderers_67 : decode cX2_wanderers 67 = .ok (.ireturn, 1) := dk_172 (dk_at dksX2_wanderers_2 21 rfl rfl)
abbrev cX2_known : ByteArray := prog_3_method_30_code
def yX2_known : MethodName := ⟨RX2, "known", "(I)LOwlYears$Owl;"⟩
def dkwX2_known_2 : List UInt8 := [132, 3, 1, 167, 255, 218, 1, 176]
abbrev dktX2_known_2 : List UInt8 := dkwX2_known_2 ++ []
def dkwX2_known_1 : List UInt8 := [192, 0, 67, 180, 0, 190, 27, 160, 0, 15, 42, 180, 0, 35, 29, 182, 0, 53, 192, 0, 67, 176]
abbrev dktX2_known_1 : List UInt8 := dkwX2_known_1 ++ dktX2_known_2
def dkwX2_known_0 : List UInt8 := [42, 180, 0, 35, 182, 0, 49, 61, 3, 62, 29, 28, 162, 0, 39, 42, 180, 0, 35, 29, 182, 0, 53]
abbrev dktX2_known_0 : List UInt8 := dkwX2_known_0 ++ dktX2_known_1
theorem dksX2_known_0 : cX2_known.data.toList.drop 0 = dktX2_known_0 := by decide +kernel
theorem dksX2_known_1 : cX2_known.data.toList.drop 23 = dktX2_known_1 := dk_seg dksX2_known_0 23 rfl rfl
theorem dksX2_known_2 : cX2_known.data.toList.drop 45 = dktX2_known_2 := dk_seg dksX2_known_1 22 rfl rfl
theorem dX2_known_0 : decode cX2_known 0 = .ok (.aload_n 0, 1) := dk_42 (dk_at dksX2_known_0 0 rfl rfl)
theorem dX2_known_1 : decode cX2_known 1 = .ok (.getfield 35, 3) := dk_180 0 35 (dk_at dksX2_known_0 1 rfl rfl)
theorem dX2_known_4 : decode cX2_known 4 = .ok (.invokevirtual 49, 3) := dk_182 0 49 (dk_at dksX2_known_0 4 rfl rfl)
theorem dX2_known_7 : decode cX2_known 7 = .ok (.istore_n 2, 1) := dk_61 (dk_at dksX2_known_0 7 rfl rfl)
theorem dX2_known_8 : decode cX2_known 8 = .ok (.iconst 0, 1) := dk_3 (dk_at dksX2_known_0 8 rfl rfl)
theorem dX2_known_9 : decode cX2_known 9 = .ok (.istore_n 3, 1) := dk_62 (dk_at dksX2_known_0 9 rfl rfl)
theorem dX2_known_10 : decode cX2_known 10 = .ok (.iload_n 3, 1) := dk_29 (dk_at dksX2_known_0 10 rfl rfl)
theorem dX2_known_11 : decode cX2_known 11 = .ok (.iload_n 2, 1) := dk_28 (dk_at dksX2_known_0 11 rfl rfl)
theorem dX2_known_12 : decode cX2_known 12 = .ok (.if_icmp .ge 39, 3) := dk_162 0 39 (dk_at dksX2_known_0 12 rfl rfl)
theorem dX2_known_15 : decode cX2_known 15 = .ok (.aload_n 0, 1) := dk_42 (dk_at dksX2_known_0 15 rfl rfl)
theorem dX2_known_16 : decode cX2_known 16 = .ok (.getfield 35, 3) := dk_180 0 35 (dk_at dksX2_known_0 16 rfl rfl)
theorem dX2_known_19 : decode cX2_known 19 = .ok (.iload_n 3, 1) := dk_29 (dk_at dksX2_known_0 19 rfl rfl)
theorem dX2_known_20 : decode cX2_known 20 = .ok (.invokevirtual 53, 3) := dk_182 0 53 (dk_at dksX2_known_0 20 rfl rfl)
theorem dX2_known_23 : decode cX2_known 23 = .ok (.checkcast 67, 3) := dk_192 0 67 (dk_at dksX2_known_1 0 rfl rfl)
theorem dX2_known_26 : decode cX2_known 26 = .ok (.getfield 190, 3) := dk_180 0 190 (dk_at dksX2_known_1 3 rfl rfl)
theorem dX2_known_29 : decode cX2_known 29 = .ok (.iload_n 1, 1) := dk_27 (dk_at dksX2_known_1 6 rfl rfl)
theorem dX2_known_30 : decode cX2_known 30 = .ok (.if_icmp .ne 15, 3) := dk_160 0 15 (dk_at dksX2_known_1 7 rfl rfl)
theorem dX2_known_33 : decode cX2_known 33 = .ok (.aload_n 0, 1) := dk_42 (dk_at dksX2_known_1 10 rfl rfl)
theorem dX2_known_34 : decode cX2_known 34 = .ok (.getfield 35, 3) := dk_180 0 35 (dk_at dksX2_known_1 11 rfl rfl)
theorem dX2_known_37 : decode cX2_known 37 = .ok (.iload_n 3, 1) := dk_29 (dk_at dksX2_known_1 14 rfl rfl)
theorem dX2_known_38 : decode cX2_known 38 = .ok (.invokevirtual 53, 3) := dk_182 0 53 (dk_at dksX2_known_1 15 rfl rfl)
theorem dX2_known_41 : decode cX2_known 41 = .ok (.checkcast 67, 3) := dk_192 0 67 (dk_at dksX2_known_1 18 rfl rfl)
theorem dX2_known_44 : decode cX2_known 44 = .ok (.areturn, 1) := dk_176 (dk_at dksX2_known_1 21 rfl rfl)
theorem dX2_known_45 : decode cX2_known 45 = .ok (.iinc 3 1, 3) := dk_132 3 1 (dk_at dksX2_known_2 0 rfl rfl)
theorem dX2_known_48 : decode cX2_known 48 = .ok (.goto (-38), 3) := dk_167 255 218 (dk_at dksX2_known_2 3 rfl rfl)
theorem dX2_known_51 : decode cX2_known 51 = .ok (.aconst_null, 1) := dk_1 (dk_at dksX2_known_2 6 rfl rfl)
theorem dX2_known_52 : decode cX2_known 52 = .ok (.areturn, 1) := dk_176 (dk_at dksX2_known_2 7 rfl rfl)
abbrev cX2_oldest : ByteArray := prog_3_method_60_code
def yX2_oldest : MethodName := ⟨RX2, "oldest", "()LOwlYears$Owl;"⟩
def dkwX2_oldest_3 : List UInt8 := [176]
abbrev dktX2_oldest_3 : List UInt8 := dkwX2_oldest_3 ++ []
def dkwX2_oldest_2 : List UInt8 := [180, 0, 197, 43, 180, 0, 197, 164, 0, 8, 25, 4, 167, 0, 4, 43, 76, 132, 3, 1, 167, 255, 204, 43]
abbrev dktX2_oldest_2 : List UInt8 := dkwX2_oldest_2 ++ dktX2_oldest_3
def dkwX2_oldest_1 : List UInt8 := [182, 0, 53, 192, 0, 67, 58, 4, 25, 4, 180, 0, 207, 153, 0, 24, 43, 198, 0, 15, 25, 4]
abbrev dktX2_oldest_1 : List UInt8 := dkwX2_oldest_1 ++ dktX2_oldest_2
def dkwX2_oldest_0 : List UInt8 := [1, 76, 42, 180, 0, 35, 182, 0, 49, 61, 3, 62, 29, 28, 162, 0, 53, 42, 180, 0, 35, 29]
abbrev dktX2_oldest_0 : List UInt8 := dkwX2_oldest_0 ++ dktX2_oldest_1
theorem dksX2_oldest_0 : cX2_oldest.data.toList.drop 0 = dktX2_oldest_0 := by decide +kernel
theorem dksX2_oldest_1 : cX2_oldest.data.toList.drop 22 = dktX2_oldest_1 := dk_seg dksX2_oldest_0 22 rfl rfl
theorem dksX2_oldest_2 : cX2_oldest.data.toList.drop 44 = dktX2_oldest_2 := dk_seg dksX2_oldest_1 22 rfl rfl
theorem dksX2_oldest_3 : cX2_oldest.data.toList.drop 68 = dktX2_oldest_3 := dk_seg dksX2_oldest_2 24 rfl rfl
theorem dX2_oldest_0 : decode cX2_oldest 0 = .ok (.aconst_null, 1) := dk_1 (dk_at dksX2_oldest_0 0 rfl rfl)
theorem dX2_oldest_1 : decode cX2_oldest 1 = .ok (.astore_n 1, 1) := dk_76 (dk_at dksX2_oldest_0 1 rfl rfl)
theorem dX2_oldest_2 : decode cX2_oldest 2 = .ok (.aload_n 0, 1) := dk_42 (dk_at dksX2_oldest_0 2 rfl rfl)
theorem dX2_oldest_3 : decode cX2_oldest 3 = .ok (.getfield 35, 3) := dk_180 0 35 (dk_at dksX2_oldest_0 3 rfl rfl)
theorem dX2_oldest_6 : decode cX2_oldest 6 = .ok (.invokevirtual 49, 3) := dk_182 0 49 (dk_at dksX2_oldest_0 6 rfl rfl)
theorem dX2_oldest_9 : decode cX2_oldest 9 = .ok (.istore_n 2, 1) := dk_61 (dk_at dksX2_oldest_0 9 rfl rfl)
theorem dX2_oldest_10 : decode cX2_oldest 10 = .ok (.iconst 0, 1) := dk_3 (dk_at dksX2_oldest_0 10 rfl rfl)
theorem dX2_oldest_11 : decode cX2_oldest 11 = .ok (.istore_n 3, 1) := dk_62 (dk_at dksX2_oldest_0 11 rfl rfl)
theorem dX2_oldest_12 : decode cX2_oldest 12 = .ok (.iload_n 3, 1) := dk_29 (dk_at dksX2_oldest_0 12 rfl rfl)
theorem dX2_oldest_13 : decode cX2_oldest 13 = .ok (.iload_n 2, 1) := dk_28 (dk_at dksX2_oldest_0 13 rfl rfl)
theorem dX2_oldest_14 : decode cX2_oldest 14 = .ok (.if_icmp .ge 53, 3) := dk_162 0 53 (dk_at dksX2_oldest_0 14 rfl rfl)
theorem dX2_oldest_17 : decode cX2_oldest 17 = .ok (.aload_n 0, 1) := dk_42 (dk_at dksX2_oldest_0 17 rfl rfl)
theorem dX2_oldest_18 : decode cX2_oldest 18 = .ok (.getfield 35, 3) := dk_180 0 35 (dk_at dksX2_oldest_0 18 rfl rfl)
theorem dX2_oldest_21 : decode cX2_oldest 21 = .ok (.iload_n 3, 1) := dk_29 (dk_at dksX2_oldest_0 21 rfl rfl)
theorem dX2_oldest_22 : decode cX2_oldest 22 = .ok (.invokevirtual 53, 3) := dk_182 0 53 (dk_at dksX2_oldest_1 0 rfl rfl)
theorem dX2_oldest_25 : decode cX2_oldest 25 = .ok (.checkcast 67, 3) := dk_192 0 67 (dk_at dksX2_oldest_1 3 rfl rfl)
theorem dX2_oldest_28 : decode cX2_oldest 28 = .ok (.astore 4, 2) := dk_58 4 (dk_at dksX2_oldest_1 6 rfl rfl)
theorem dX2_oldest_30 : decode cX2_oldest 30 = .ok (.aload 4, 2) := dk_25 4 (dk_at dksX2_oldest_1 8 rfl rfl)
theorem dX2_oldest_32 : decode cX2_oldest 32 = .ok (.getfield 207, 3) := dk_180 0 207 (dk_at dksX2_oldest_1 10 rfl rfl)
theorem dX2_oldest_35 : decode cX2_oldest 35 = .ok (.ifCond .eq 24, 3) := dk_153 0 24 (dk_at dksX2_oldest_1 13 rfl rfl)
theorem dX2_oldest_38 : decode cX2_oldest 38 = .ok (.aload_n 1, 1) := dk_43 (dk_at dksX2_oldest_1 16 rfl rfl)
theorem dX2_oldest_39 : decode cX2_oldest 39 = .ok (.ifnull 15, 3) := dk_198 0 15 (dk_at dksX2_oldest_1 17 rfl rfl)
theorem dX2_oldest_42 : decode cX2_oldest 42 = .ok (.aload 4, 2) := dk_25 4 (dk_at dksX2_oldest_1 20 rfl rfl)
theorem dX2_oldest_44 : decode cX2_oldest 44 = .ok (.getfield 197, 3) := dk_180 0 197 (dk_at dksX2_oldest_2 0 rfl rfl)
theorem dX2_oldest_47 : decode cX2_oldest 47 = .ok (.aload_n 1, 1) := dk_43 (dk_at dksX2_oldest_2 3 rfl rfl)
theorem dX2_oldest_48 : decode cX2_oldest 48 = .ok (.getfield 197, 3) := dk_180 0 197 (dk_at dksX2_oldest_2 4 rfl rfl)
theorem dX2_oldest_51 : decode cX2_oldest 51 = .ok (.if_icmp .le 8, 3) := dk_164 0 8 (dk_at dksX2_oldest_2 7 rfl rfl)
theorem dX2_oldest_54 : decode cX2_oldest 54 = .ok (.aload 4, 2) := dk_25 4 (dk_at dksX2_oldest_2 10 rfl rfl)
theorem dX2_oldest_56 : decode cX2_oldest 56 = .ok (.goto 4, 3) := dk_167 0 4 (dk_at dksX2_oldest_2 12 rfl rfl)
theorem dX2_oldest_59 : decode cX2_oldest 59 = .ok (.aload_n 1, 1) := dk_43 (dk_at dksX2_oldest_2 15 rfl rfl)
theorem dX2_oldest_60 : decode cX2_oldest 60 = .ok (.astore_n 1, 1) := dk_76 (dk_at dksX2_oldest_2 16 rfl rfl)
theorem dX2_oldest_61 : decode cX2_oldest 61 = .ok (.iinc 3 1, 3) := dk_132 3 1 (dk_at dksX2_oldest_2 17 rfl rfl)
theorem dX2_oldest_64 : decode cX2_oldest 64 = .ok (.goto (-52), 3) := dk_167 255 204 (dk_at dksX2_oldest_2 20 rfl rfl)
theorem dX2_oldest_67 : decode cX2_oldest 67 = .ok (.aload_n 1, 1) := dk_43 (dk_at dksX2_oldest_2 23 rfl rfl)
theorem dX2_oldest_68 : decode cX2_oldest 68 = .ok (.areturn, 1) := dk_176 (dk_at dksX2_oldest_3 0 rfl rfl)
abbrev cX2_kinPairs : ByteArray := prog_3_method_56_code
def yX2_kinPairs : MethodName := ⟨RX2, "kinPairs", "()I"⟩
def dkwX2_kinPairs_3 : List UInt8 := [132, 3, 1, 167, 255, 197, 27, 172]
abbrev dktX2_kinPairs_3 : List UInt8 := dkwX2_kinPairs_3 ++ []
def dkwX2_kinPairs_2 : List UInt8 := [3, 46, 25, 4, 180, 0, 182, 4, 46, 182, 1, 47, 153, 0, 7, 4, 167, 0, 4, 3, 96, 60]
abbrev dktX2_kinPairs_2 : List UInt8 := dkwX2_kinPairs_2 ++ dktX2_kinPairs_3
def dkwX2_kinPairs_1 : List UInt8 := [182, 0, 53, 192, 0, 57, 58, 4, 27, 25, 4, 182, 0, 178, 5, 160, 0, 28, 42, 25, 4, 180, 0, 182]
abbrev dktX2_kinPairs_1 : List UInt8 := dkwX2_kinPairs_1 ++ dktX2_kinPairs_2
def dkwX2_kinPairs_0 : List UInt8 := [3, 60, 42, 180, 0, 24, 182, 0, 49, 61, 3, 62, 29, 28, 162, 0, 60, 42, 180, 0, 24, 29]
abbrev dktX2_kinPairs_0 : List UInt8 := dkwX2_kinPairs_0 ++ dktX2_kinPairs_1
theorem dksX2_kinPairs_0 : cX2_kinPairs.data.toList.drop 0 = dktX2_kinPairs_0 := by decide +kernel
theorem dksX2_kinPairs_1 : cX2_kinPairs.data.toList.drop 22 = dktX2_kinPairs_1 := dk_seg dksX2_kinPairs_0 22 rfl rfl
theorem dksX2_kinPairs_2 : cX2_kinPairs.data.toList.drop 46 = dktX2_kinPairs_2 := dk_seg dksX2_kinPairs_1 24 rfl rfl
theorem dksX2_kinPairs_3 : cX2_kinPairs.data.toList.drop 68 = dktX2_kinPairs_3 := dk_seg dksX2_kinPairs_2 22 rfl rfl
theorem dX2_kinPairs_0 : decode cX2_kinPairs 0 = .ok (.iconst 0, 1) := dk_3 (dk_at dksX2_kinPairs_0 0 rfl rfl)
theorem dX2_kinPairs_1 : decode cX2_kinPairs 1 = .ok (.istore_n 1, 1) := dk_60 (dk_at dksX2_kinPairs_0 1 rfl rfl)
theorem dX2_kinPairs_2 : decode cX2_kinPairs 2 = .ok (.aload_n 0, 1) := dk_42 (dk_at dksX2_kinPairs_0 2 rfl rfl)
theorem dX2_kinPairs_3 : decode cX2_kinPairs 3 = .ok (.getfield 24, 3) := dk_180 0 24 (dk_at dksX2_kinPairs_0 3 rfl rfl)
theorem dX2_kinPairs_6 : decode cX2_kinPairs 6 = .ok (.invokevirtual 49, 3) := dk_182 0 49 (dk_at dksX2_kinPairs_0 6 rfl rfl)
theorem dX2_kinPairs_9 : decode cX2_kinPairs 9 = .ok (.istore_n 2, 1) := dk_61 (dk_at dksX2_kinPairs_0 9 rfl rfl)
theorem dX2_kinPairs_10 : decode cX2_kinPairs 10 = .ok (.iconst 0, 1) := dk_3 (dk_at dksX2_kinPairs_0 10 rfl rfl)
theorem dX2_kinPairs_11 : decode cX2_kinPairs 11 = .ok (.istore_n 3, 1) := dk_62 (dk_at dksX2_kinPairs_0 11 rfl rfl)
theorem dX2_kinPairs_12 : decode cX2_kinPairs 12 = .ok (.iload_n 3, 1) := dk_29 (dk_at dksX2_kinPairs_0 12 rfl rfl)
theorem dX2_kinPairs_13 : decode cX2_kinPairs 13 = .ok (.iload_n 2, 1) := dk_28 (dk_at dksX2_kinPairs_0 13 rfl rfl)
theorem dX2_kinPairs_14 : decode cX2_kinPairs 14 = .ok (.if_icmp .ge 60, 3) := dk_162 0 60 (dk_at dksX2_kinPairs_0 14 rfl rfl)
theorem dX2_kinPairs_17 : decode cX2_kinPairs 17 = .ok (.aload_n 0, 1) := dk_42 (dk_at dksX2_kinPairs_0 17 rfl rfl)
theorem dX2_kinPairs_18 : decode cX2_kinPairs 18 = .ok (.getfield 24, 3) := dk_180 0 24 (dk_at dksX2_kinPairs_0 18 rfl rfl)
theorem dX2_kinPairs_21 : decode cX2_kinPairs 21 = .ok (.iload_n 3, 1) := dk_29 (dk_at dksX2_kinPairs_0 21 rfl rfl)
theorem dX2_kinPairs_22 : decode cX2_kinPairs 22 = .ok (.invokevirtual 53, 3) := dk_182 0 53 (dk_at dksX2_kinPairs_1 0 rfl rfl)
theorem dX2_kinPairs_25 : decode cX2_kinPairs 25 = .ok (.checkcast 57, 3) := dk_192 0 57 (dk_at dksX2_kinPairs_1 3 rfl rfl)
theorem dX2_kinPairs_28 : decode cX2_kinPairs 28 = .ok (.astore 4, 2) := dk_58 4 (dk_at dksX2_kinPairs_1 6 rfl rfl)
theorem dX2_kinPairs_30 : decode cX2_kinPairs 30 = .ok (.iload_n 1, 1) := dk_27 (dk_at dksX2_kinPairs_1 8 rfl rfl)
theorem dX2_kinPairs_31 : decode cX2_kinPairs 31 = .ok (.aload 4, 2) := dk_25 4 (dk_at dksX2_kinPairs_1 9 rfl rfl)
theorem dX2_kinPairs_33 : decode cX2_kinPairs 33 = .ok (.invokevirtual 178, 3) := dk_182 0 178 (dk_at dksX2_kinPairs_1 11 rfl rfl)
theorem dX2_kinPairs_36 : decode cX2_kinPairs 36 = .ok (.iconst 2, 1) := dk_5 (dk_at dksX2_kinPairs_1 14 rfl rfl)
theorem dX2_kinPairs_37 : decode cX2_kinPairs 37 = .ok (.if_icmp .ne 28, 3) := dk_160 0 28 (dk_at dksX2_kinPairs_1 15 rfl rfl)
theorem dX2_kinPairs_40 : decode cX2_kinPairs 40 = .ok (.aload_n 0, 1) := dk_42 (dk_at dksX2_kinPairs_1 18 rfl rfl)
theorem dX2_kinPairs_41 : decode cX2_kinPairs 41 = .ok (.aload 4, 2) := dk_25 4 (dk_at dksX2_kinPairs_1 19 rfl rfl)
theorem dX2_kinPairs_43 : decode cX2_kinPairs 43 = .ok (.getfield 182, 3) := dk_180 0 182 (dk_at dksX2_kinPairs_1 21 rfl rfl)
theorem dX2_kinPairs_46 : decode cX2_kinPairs 46 = .ok (.iconst 0, 1) := dk_3 (dk_at dksX2_kinPairs_2 0 rfl rfl)
theorem dX2_kinPairs_47 : decode cX2_kinPairs 47 = .ok (.iaload, 1) := dk_46 (dk_at dksX2_kinPairs_2 1 rfl rfl)
theorem dX2_kinPairs_48 : decode cX2_kinPairs 48 = .ok (.aload 4, 2) := dk_25 4 (dk_at dksX2_kinPairs_2 2 rfl rfl)
theorem dX2_kinPairs_50 : decode cX2_kinPairs 50 = .ok (.getfield 182, 3) := dk_180 0 182 (dk_at dksX2_kinPairs_2 4 rfl rfl)
theorem dX2_kinPairs_53 : decode cX2_kinPairs 53 = .ok (.iconst 1, 1) := dk_4 (dk_at dksX2_kinPairs_2 7 rfl rfl)
theorem dX2_kinPairs_54 : decode cX2_kinPairs 54 = .ok (.iaload, 1) := dk_46 (dk_at dksX2_kinPairs_2 8 rfl rfl)
theorem dX2_kinPairs_55 : decode cX2_kinPairs 55 = .ok (.invokevirtual 303, 3) := dk_182 1 47 (dk_at dksX2_kinPairs_2 9 rfl rfl)
theorem dX2_kinPairs_58 : decode cX2_kinPairs 58 = .ok (.ifCond .eq 7, 3) := dk_153 0 7 (dk_at dksX2_kinPairs_2 12 rfl rfl)
theorem dX2_kinPairs_61 : decode cX2_kinPairs 61 = .ok (.iconst 1, 1) := dk_4 (dk_at dksX2_kinPairs_2 15 rfl rfl)
theorem dX2_kinPairs_62 : decode cX2_kinPairs 62 = .ok (.goto 4, 3) := dk_167 0 4 (dk_at dksX2_kinPairs_2 16 rfl rfl)
theorem dX2_kinPairs_65 : decode cX2_kinPairs 65 = .ok (.iconst 0, 1) := dk_3 (dk_at dksX2_kinPairs_2 19 rfl rfl)
theorem dX2_kinPairs_66 : decode cX2_kinPairs 66 = .ok (.iadd, 1) := dk_96 (dk_at dksX2_kinPairs_2 20 rfl rfl)
theorem dX2_kinPairs_67 : decode cX2_kinPairs 67 = .ok (.istore_n 1, 1) := dk_60 (dk_at dksX2_kinPairs_2 21 rfl rfl)
theorem dX2_kinPairs_68 : decode cX2_kinPairs 68 = .ok (.iinc 3 1, 3) := dk_132 3 1 (dk_at dksX2_kinPairs_3 0 rfl rfl)
theorem dX2_kinPairs_71 : decode cX2_kinPairs 71 = .ok (.goto (-59), 3) := dk_167 255 197 (dk_at dksX2_kinPairs_3 3 rfl rfl)
theorem dX2_kinPairs_74 : decode cX2_kinPairs 74 = .ok (.iload_n 1, 1) := dk_27 (dk_at dksX2_kinPairs_3 6 rfl rfl)
theorem dX2_kinPairs_75 : decode cX2_kinPairs 75 = .ok (.ireturn, 1) := dk_172 (dk_at dksX2_kinPairs_3 7 rfl rfl)
abbrev cX2_areKin : ByteArray := prog_3_method_55_code
def yX2_areKin : MethodName := ⟨RX2, "areKin", "(II)Z"⟩
def dkwX2_areKin_2 : List UInt8 := [21, 6, 51, 153, 0, 7, 4, 167, 0, 4, 3, 54, 5, 132, 6, 1, 167, 255, 219, 21, 5, 172]
abbrev dktX2_areKin_2 : List UInt8 := dkwX2_areKin_2 ++ []
def dkwX2_areKin_1 : List UInt8 := [3, 54, 6, 21, 6, 45, 190, 162, 0, 36, 21, 5, 154, 0, 18, 45, 21, 6, 51, 153, 0, 15, 25, 4]
abbrev dktX2_areKin_1 : List UInt8 := dkwX2_areKin_1 ++ dktX2_areKin_2
def dkwX2_areKin_0 : List UInt8 := [42, 42, 27, 182, 1, 40, 182, 1, 43, 78, 42, 42, 28, 182, 1, 40, 182, 1, 43, 58, 4, 3, 54, 5]
abbrev dktX2_areKin_0 : List UInt8 := dkwX2_areKin_0 ++ dktX2_areKin_1
theorem dksX2_areKin_0 : cX2_areKin.data.toList.drop 0 = dktX2_areKin_0 := by decide +kernel
theorem dksX2_areKin_1 : cX2_areKin.data.toList.drop 24 = dktX2_areKin_1 := dk_seg dksX2_areKin_0 24 rfl rfl
theorem dksX2_areKin_2 : cX2_areKin.data.toList.drop 48 = dktX2_areKin_2 := dk_seg dksX2_areKin_1 24 rfl rfl
theorem dX2_areKin_0 : decode cX2_areKin 0 = .ok (.aload_n 0, 1) := dk_42 (dk_at dksX2_areKin_0 0 rfl rfl)
theorem dX2_areKin_1 : decode cX2_areKin 1 = .ok (.aload_n 0, 1) := dk_42 (dk_at dksX2_areKin_0 1 rfl rfl)
theorem dX2_areKin_2 : decode cX2_areKin 2 = .ok (.iload_n 1, 1) := dk_27 (dk_at dksX2_areKin_0 2 rfl rfl)
theorem dX2_areKin_3 : decode cX2_areKin 3 = .ok (.invokevirtual 296, 3) := dk_182 1 40 (dk_at dksX2_areKin_0 3 rfl rfl)
theorem dX2_areKin_6 : decode cX2_areKin 6 = .ok (.invokevirtual 299, 3) := dk_182 1 43 (dk_at dksX2_areKin_0 6 rfl rfl)
theorem dX2_areKin_9 : decode cX2_areKin 9 = .ok (.astore_n 3, 1) := dk_78 (dk_at dksX2_areKin_0 9 rfl rfl)
theorem dX2_areKin_10 : decode cX2_areKin 10 = .ok (.aload_n 0, 1) := dk_42 (dk_at dksX2_areKin_0 10 rfl rfl)
theorem dX2_areKin_11 : decode cX2_areKin 11 = .ok (.aload_n 0, 1) := dk_42 (dk_at dksX2_areKin_0 11 rfl rfl)
theorem dX2_areKin_12 : decode cX2_areKin 12 = .ok (.iload_n 2, 1) := dk_28 (dk_at dksX2_areKin_0 12 rfl rfl)
theorem dX2_areKin_13 : decode cX2_areKin 13 = .ok (.invokevirtual 296, 3) := dk_182 1 40 (dk_at dksX2_areKin_0 13 rfl rfl)
theorem dX2_areKin_16 : decode cX2_areKin 16 = .ok (.invokevirtual 299, 3) := dk_182 1 43 (dk_at dksX2_areKin_0 16 rfl rfl)
theorem dX2_areKin_19 : decode cX2_areKin 19 = .ok (.astore 4, 2) := dk_58 4 (dk_at dksX2_areKin_0 19 rfl rfl)
theorem dX2_areKin_21 : decode cX2_areKin 21 = .ok (.iconst 0, 1) := dk_3 (dk_at dksX2_areKin_0 21 rfl rfl)
theorem dX2_areKin_22 : decode cX2_areKin 22 = .ok (.istore 5, 2) := dk_54 5 (dk_at dksX2_areKin_0 22 rfl rfl)
theorem dX2_areKin_24 : decode cX2_areKin 24 = .ok (.iconst 0, 1) := dk_3 (dk_at dksX2_areKin_1 0 rfl rfl)
theorem dX2_areKin_25 : decode cX2_areKin 25 = .ok (.istore 6, 2) := dk_54 6 (dk_at dksX2_areKin_1 1 rfl rfl)
theorem dX2_areKin_27 : decode cX2_areKin 27 = .ok (.iload 6, 2) := dk_21 6 (dk_at dksX2_areKin_1 3 rfl rfl)
theorem dX2_areKin_29 : decode cX2_areKin 29 = .ok (.aload_n 3, 1) := dk_45 (dk_at dksX2_areKin_1 5 rfl rfl)
theorem dX2_areKin_30 : decode cX2_areKin 30 = .ok (.arraylength, 1) := dk_190 (dk_at dksX2_areKin_1 6 rfl rfl)
theorem dX2_areKin_31 : decode cX2_areKin 31 = .ok (.if_icmp .ge 36, 3) := dk_162 0 36 (dk_at dksX2_areKin_1 7 rfl rfl)
theorem dX2_areKin_34 : decode cX2_areKin 34 = .ok (.iload 5, 2) := dk_21 5 (dk_at dksX2_areKin_1 10 rfl rfl)
theorem dX2_areKin_36 : decode cX2_areKin 36 = .ok (.ifCond .ne 18, 3) := dk_154 0 18 (dk_at dksX2_areKin_1 12 rfl rfl)
theorem dX2_areKin_39 : decode cX2_areKin 39 = .ok (.aload_n 3, 1) := dk_45 (dk_at dksX2_areKin_1 15 rfl rfl)
theorem dX2_areKin_40 : decode cX2_areKin 40 = .ok (.iload 6, 2) := dk_21 6 (dk_at dksX2_areKin_1 16 rfl rfl)
theorem dX2_areKin_42 : decode cX2_areKin 42 = .ok (.baload, 1) := dk_51 (dk_at dksX2_areKin_1 18 rfl rfl)
theorem dX2_areKin_43 : decode cX2_areKin 43 = .ok (.ifCond .eq 15, 3) := dk_153 0 15 (dk_at dksX2_areKin_1 19 rfl rfl)
theorem dX2_areKin_46 : decode cX2_areKin 46 = .ok (.aload 4, 2) := dk_25 4 (dk_at dksX2_areKin_1 22 rfl rfl)
theorem dX2_areKin_48 : decode cX2_areKin 48 = .ok (.iload 6, 2) := dk_21 6 (dk_at dksX2_areKin_2 0 rfl rfl)
theorem dX2_areKin_50 : decode cX2_areKin 50 = .ok (.baload, 1) := dk_51 (dk_at dksX2_areKin_2 2 rfl rfl)
theorem dX2_areKin_51 : decode cX2_areKin 51 = .ok (.ifCond .eq 7, 3) := dk_153 0 7 (dk_at dksX2_areKin_2 3 rfl rfl)
theorem dX2_areKin_54 : decode cX2_areKin 54 = .ok (.iconst 1, 1) := dk_4 (dk_at dksX2_areKin_2 6 rfl rfl)
theorem dX2_areKin_55 : decode cX2_areKin 55 = .ok (.goto 4, 3) := dk_167 0 4 (dk_at dksX2_areKin_2 7 rfl rfl)
theorem dX2_areKin_58 : decode cX2_areKin 58 = .ok (.iconst 0, 1) := dk_3 (dk_at dksX2_areKin_2 10 rfl rfl)
theorem dX2_areKin_59 : decode cX2_areKin 59 = .ok (.istore 5, 2) := dk_54 5 (dk_at dksX2_areKin_2 11 rfl rfl)
theorem dX2_areKin_61 : decode cX2_areKin 61 = .ok (.iinc 6 1, 3) := dk_132 6 1 (dk_at dksX2_areKin_2 13 rfl rfl)
theorem dX2_areKin_64 : decode cX2_areKin 64 = .ok (.goto (-37), 3) := dk_167 255 219 (dk_at dksX2_areKin_2 16 rfl rfl)
theorem dX2_areKin_67 : decode cX2_areKin 67 = .ok (.iload 5, 2) := dk_21 5 (dk_at dksX2_areKin_2 19 rfl rfl)
theorem dX2_areKin_69 : decode cX2_areKin 69 = .ok (.ireturn, 1) := dk_172 (dk_at dksX2_areKin_2 21 rfl rfl)
abbrev cX2_placeOf : ByteArray := prog_3_method_51_code
def yX2_placeOf : MethodName := ⟨RX2, "placeOf", "(I)I"⟩
def dkwX2_placeOf_1 : List UInt8 := [167, 255, 235, 28, 172]
abbrev dktX2_placeOf_1 : List UInt8 := dkwX2_placeOf_1 ++ []
def dkwX2_placeOf_0 : List UInt8 := [3, 61, 42, 180, 0, 35, 28, 182, 0, 53, 192, 0, 67, 180, 0, 190, 27, 159, 0, 9, 132, 2, 1]
abbrev dktX2_placeOf_0 : List UInt8 := dkwX2_placeOf_0 ++ dktX2_placeOf_1
theorem dksX2_placeOf_0 : cX2_placeOf.data.toList.drop 0 = dktX2_placeOf_0 := by decide +kernel
theorem dksX2_placeOf_1 : cX2_placeOf.data.toList.drop 23 = dktX2_placeOf_1 := dk_seg dksX2_placeOf_0 23 rfl rfl
theorem dX2_placeOf_0 : decode cX2_placeOf 0 = .ok (.iconst 0, 1) := dk_3 (dk_at dksX2_placeOf_0 0 rfl rfl)
theorem dX2_placeOf_1 : decode cX2_placeOf 1 = .ok (.istore_n 2, 1) := dk_61 (dk_at dksX2_placeOf_0 1 rfl rfl)
theorem dX2_placeOf_2 : decode cX2_placeOf 2 = .ok (.aload_n 0, 1) := dk_42 (dk_at dksX2_placeOf_0 2 rfl rfl)
theorem dX2_placeOf_3 : decode cX2_placeOf 3 = .ok (.getfield 35, 3) := dk_180 0 35 (dk_at dksX2_placeOf_0 3 rfl rfl)
theorem dX2_placeOf_6 : decode cX2_placeOf 6 = .ok (.iload_n 2, 1) := dk_28 (dk_at dksX2_placeOf_0 6 rfl rfl)
theorem dX2_placeOf_7 : decode cX2_placeOf 7 = .ok (.invokevirtual 53, 3) := dk_182 0 53 (dk_at dksX2_placeOf_0 7 rfl rfl)
theorem dX2_placeOf_10 : decode cX2_placeOf 10 = .ok (.checkcast 67, 3) := dk_192 0 67 (dk_at dksX2_placeOf_0 10 rfl rfl)
theorem dX2_placeOf_13 : decode cX2_placeOf 13 = .ok (.getfield 190, 3) := dk_180 0 190 (dk_at dksX2_placeOf_0 13 rfl rfl)
theorem dX2_placeOf_16 : decode cX2_placeOf 16 = .ok (.iload_n 1, 1) := dk_27 (dk_at dksX2_placeOf_0 16 rfl rfl)
theorem dX2_placeOf_17 : decode cX2_placeOf 17 = .ok (.if_icmp .eq 9, 3) := dk_159 0 9 (dk_at dksX2_placeOf_0 17 rfl rfl)
theorem dX2_placeOf_20 : decode cX2_placeOf 20 = .ok (.iinc 2 1, 3) := dk_132 2 1 (dk_at dksX2_placeOf_0 20 rfl rfl)
theorem dX2_placeOf_23 : decode cX2_placeOf 23 = .ok (.goto (-21), 3) := dk_167 255 235 (dk_at dksX2_placeOf_1 0 rfl rfl)
theorem dX2_placeOf_26 : decode cX2_placeOf 26 = .ok (.iload_n 2, 1) := dk_28 (dk_at dksX2_placeOf_1 3 rfl rfl)
theorem dX2_placeOf_27 : decode cX2_placeOf 27 = .ok (.ireturn, 1) := dk_172 (dk_at dksX2_placeOf_1 4 rfl rfl)
abbrev cX2_upFrom : ByteArray := prog_3_method_53_code
def yX2_upFrom : MethodName := ⟨RX2, "upFrom", "(I)[Z"⟩
def dkwX2_upFrom_4 : List UInt8 := [167, 255, 176, 44, 176]
abbrev dktX2_upFrom_4 : List UInt8 := dkwX2_upFrom_4 ++ []
def dkwX2_upFrom_3 : List UInt8 := [180, 0, 190, 182, 1, 37, 153, 0, 7, 4, 167, 0, 4, 3, 84, 132, 5, 1, 167, 255, 202, 132, 3, 255]
abbrev dktX2_upFrom_3 : List UInt8 := dkwX2_upFrom_3 ++ dktX2_upFrom_4
def dkwX2_upFrom_2 : List UInt8 := [44, 21, 5, 44, 21, 5, 51, 154, 0, 26, 25, 4, 42, 180, 0, 35, 21, 5, 182, 0, 53, 192, 0, 67]
abbrev dktX2_upFrom_2 : List UInt8 := dkwX2_upFrom_2 ++ dktX2_upFrom_3
def dkwX2_upFrom_1 : List UInt8 := [29, 182, 0, 53, 192, 0, 67, 58, 4, 3, 54, 5, 21, 5, 29, 162, 0, 54, 44, 29, 51, 153, 0, 48]
abbrev dktX2_upFrom_1 : List UInt8 := dkwX2_upFrom_1 ++ dktX2_upFrom_2
def dkwX2_upFrom_0 : List UInt8 := [42, 180, 0, 35, 182, 0, 49, 188, 4, 77, 44, 27, 4, 84, 27, 62, 29, 155, 0, 82, 42, 180, 0, 35]
abbrev dktX2_upFrom_0 : List UInt8 := dkwX2_upFrom_0 ++ dktX2_upFrom_1
theorem dksX2_upFrom_0 : cX2_upFrom.data.toList.drop 0 = dktX2_upFrom_0 := by decide +kernel
theorem dksX2_upFrom_1 : cX2_upFrom.data.toList.drop 24 = dktX2_upFrom_1 := dk_seg dksX2_upFrom_0 24 rfl rfl
theorem dksX2_upFrom_2 : cX2_upFrom.data.toList.drop 48 = dktX2_upFrom_2 := dk_seg dksX2_upFrom_1 24 rfl rfl
theorem dksX2_upFrom_3 : cX2_upFrom.data.toList.drop 72 = dktX2_upFrom_3 := dk_seg dksX2_upFrom_2 24 rfl rfl
theorem dksX2_upFrom_4 : cX2_upFrom.data.toList.drop 96 = dktX2_upFrom_4 := dk_seg dksX2_upFrom_3 24 rfl rfl
theorem dX2_upFrom_0 : decode cX2_upFrom 0 = .ok (.aload_n 0, 1) := dk_42 (dk_at dksX2_upFrom_0 0 rfl rfl)
theorem dX2_upFrom_1 : decode cX2_upFrom 1 = .ok (.getfield 35, 3) := dk_180 0 35 (dk_at dksX2_upFrom_0 1 rfl rfl)
theorem dX2_upFrom_4 : decode cX2_upFrom 4 = .ok (.invokevirtual 49, 3) := dk_182 0 49 (dk_at dksX2_upFrom_0 4 rfl rfl)
theorem dX2_upFrom_7 : decode cX2_upFrom 7 = .ok (.newarray .boolean, 2) := dk_188_4 (dk_at dksX2_upFrom_0 7 rfl rfl)
theorem dX2_upFrom_9 : decode cX2_upFrom 9 = .ok (.astore_n 2, 1) := dk_77 (dk_at dksX2_upFrom_0 9 rfl rfl)
theorem dX2_upFrom_10 : decode cX2_upFrom 10 = .ok (.aload_n 2, 1) := dk_44 (dk_at dksX2_upFrom_0 10 rfl rfl)
theorem dX2_upFrom_11 : decode cX2_upFrom 11 = .ok (.iload_n 1, 1) := dk_27 (dk_at dksX2_upFrom_0 11 rfl rfl)
theorem dX2_upFrom_12 : decode cX2_upFrom 12 = .ok (.iconst 1, 1) := dk_4 (dk_at dksX2_upFrom_0 12 rfl rfl)
theorem dX2_upFrom_13 : decode cX2_upFrom 13 = .ok (.bastore, 1) := dk_84 (dk_at dksX2_upFrom_0 13 rfl rfl)
theorem dX2_upFrom_14 : decode cX2_upFrom 14 = .ok (.iload_n 1, 1) := dk_27 (dk_at dksX2_upFrom_0 14 rfl rfl)
theorem dX2_upFrom_15 : decode cX2_upFrom 15 = .ok (.istore_n 3, 1) := dk_62 (dk_at dksX2_upFrom_0 15 rfl rfl)
theorem dX2_upFrom_16 : decode cX2_upFrom 16 = .ok (.iload_n 3, 1) := dk_29 (dk_at dksX2_upFrom_0 16 rfl rfl)
theorem dX2_upFrom_17 : decode cX2_upFrom 17 = .ok (.ifCond .lt 82, 3) := dk_155 0 82 (dk_at dksX2_upFrom_0 17 rfl rfl)
theorem dX2_upFrom_20 : decode cX2_upFrom 20 = .ok (.aload_n 0, 1) := dk_42 (dk_at dksX2_upFrom_0 20 rfl rfl)
theorem dX2_upFrom_21 : decode cX2_upFrom 21 = .ok (.getfield 35, 3) := dk_180 0 35 (dk_at dksX2_upFrom_0 21 rfl rfl)
theorem dX2_upFrom_24 : decode cX2_upFrom 24 = .ok (.iload_n 3, 1) := dk_29 (dk_at dksX2_upFrom_1 0 rfl rfl)
theorem dX2_upFrom_25 : decode cX2_upFrom 25 = .ok (.invokevirtual 53, 3) := dk_182 0 53 (dk_at dksX2_upFrom_1 1 rfl rfl)
theorem dX2_upFrom_28 : decode cX2_upFrom 28 = .ok (.checkcast 67, 3) := dk_192 0 67 (dk_at dksX2_upFrom_1 4 rfl rfl)
theorem dX2_upFrom_31 : decode cX2_upFrom 31 = .ok (.astore 4, 2) := dk_58 4 (dk_at dksX2_upFrom_1 7 rfl rfl)
theorem dX2_upFrom_33 : decode cX2_upFrom 33 = .ok (.iconst 0, 1) := dk_3 (dk_at dksX2_upFrom_1 9 rfl rfl)
theorem dX2_upFrom_34 : decode cX2_upFrom 34 = .ok (.istore 5, 2) := dk_54 5 (dk_at dksX2_upFrom_1 10 rfl rfl)
theorem dX2_upFrom_36 : decode cX2_upFrom 36 = .ok (.iload 5, 2) := dk_21 5 (dk_at dksX2_upFrom_1 12 rfl rfl)
theorem dX2_upFrom_38 : decode cX2_upFrom 38 = .ok (.iload_n 3, 1) := dk_29 (dk_at dksX2_upFrom_1 14 rfl rfl)
theorem dX2_upFrom_39 : decode cX2_upFrom 39 = .ok (.if_icmp .ge 54, 3) := dk_162 0 54 (dk_at dksX2_upFrom_1 15 rfl rfl)
theorem dX2_upFrom_42 : decode cX2_upFrom 42 = .ok (.aload_n 2, 1) := dk_44 (dk_at dksX2_upFrom_1 18 rfl rfl)
theorem dX2_upFrom_43 : decode cX2_upFrom 43 = .ok (.iload_n 3, 1) := dk_29 (dk_at dksX2_upFrom_1 19 rfl rfl)
theorem dX2_upFrom_44 : decode cX2_upFrom 44 = .ok (.baload, 1) := dk_51 (dk_at dksX2_upFrom_1 20 rfl rfl)
theorem dX2_upFrom_45 : decode cX2_upFrom 45 = .ok (.ifCond .eq 48, 3) := dk_153 0 48 (dk_at dksX2_upFrom_1 21 rfl rfl)
theorem dX2_upFrom_48 : decode cX2_upFrom 48 = .ok (.aload_n 2, 1) := dk_44 (dk_at dksX2_upFrom_2 0 rfl rfl)
theorem dX2_upFrom_49 : decode cX2_upFrom 49 = .ok (.iload 5, 2) := dk_21 5 (dk_at dksX2_upFrom_2 1 rfl rfl)
theorem dX2_upFrom_51 : decode cX2_upFrom 51 = .ok (.aload_n 2, 1) := dk_44 (dk_at dksX2_upFrom_2 3 rfl rfl)
theorem dX2_upFrom_52 : decode cX2_upFrom 52 = .ok (.iload 5, 2) := dk_21 5 (dk_at dksX2_upFrom_2 4 rfl rfl)
theorem dX2_upFrom_54 : decode cX2_upFrom 54 = .ok (.baload, 1) := dk_51 (dk_at dksX2_upFrom_2 6 rfl rfl)
theorem dX2_upFrom_55 : decode cX2_upFrom 55 = .ok (.ifCond .ne 26, 3) := dk_154 0 26 (dk_at dksX2_upFrom_2 7 rfl rfl)
theorem dX2_upFrom_58 : decode cX2_upFrom 58 = .ok (.aload 4, 2) := dk_25 4 (dk_at dksX2_upFrom_2 10 rfl rfl)
theorem dX2_upFrom_60 : decode cX2_upFrom 60 = .ok (.aload_n 0, 1) := dk_42 (dk_at dksX2_upFrom_2 12 rfl rfl)
theorem dX2_upFrom_61 : decode cX2_upFrom 61 = .ok (.getfield 35, 3) := dk_180 0 35 (dk_at dksX2_upFrom_2 13 rfl rfl)
theorem dX2_upFrom_64 : decode cX2_upFrom 64 = .ok (.iload 5, 2) := dk_21 5 (dk_at dksX2_upFrom_2 16 rfl rfl)
theorem dX2_upFrom_66 : decode cX2_upFrom 66 = .ok (.invokevirtual 53, 3) := dk_182 0 53 (dk_at dksX2_upFrom_2 18 rfl rfl)
theorem dX2_upFrom_69 : decode cX2_upFrom 69 = .ok (.checkcast 67, 3) := dk_192 0 67 (dk_at dksX2_upFrom_2 21 rfl rfl)
theorem dX2_upFrom_72 : decode cX2_upFrom 72 = .ok (.getfield 190, 3) := dk_180 0 190 (dk_at dksX2_upFrom_3 0 rfl rfl)
theorem dX2_upFrom_75 : decode cX2_upFrom 75 = .ok (.invokevirtual 293, 3) := dk_182 1 37 (dk_at dksX2_upFrom_3 3 rfl rfl)
theorem dX2_upFrom_78 : decode cX2_upFrom 78 = .ok (.ifCond .eq 7, 3) := dk_153 0 7 (dk_at dksX2_upFrom_3 6 rfl rfl)
theorem dX2_upFrom_81 : decode cX2_upFrom 81 = .ok (.iconst 1, 1) := dk_4 (dk_at dksX2_upFrom_3 9 rfl rfl)
theorem dX2_upFrom_82 : decode cX2_upFrom 82 = .ok (.goto 4, 3) := dk_167 0 4 (dk_at dksX2_upFrom_3 10 rfl rfl)
theorem dX2_upFrom_85 : decode cX2_upFrom 85 = .ok (.iconst 0, 1) := dk_3 (dk_at dksX2_upFrom_3 13 rfl rfl)
theorem dX2_upFrom_86 : decode cX2_upFrom 86 = .ok (.bastore, 1) := dk_84 (dk_at dksX2_upFrom_3 14 rfl rfl)
theorem dX2_upFrom_87 : decode cX2_upFrom 87 = .ok (.iinc 5 1, 3) := dk_132 5 1 (dk_at dksX2_upFrom_3 15 rfl rfl)
theorem dX2_upFrom_90 : decode cX2_upFrom 90 = .ok (.goto (-54), 3) := dk_167 255 202 (dk_at dksX2_upFrom_3 18 rfl rfl)
theorem dX2_upFrom_93 : decode cX2_upFrom 93 = .ok (.iinc 3 (-1), 3) := dk_132 3 255 (dk_at dksX2_upFrom_3 21 rfl rfl)
theorem dX2_upFrom_96 : decode cX2_upFrom 96 = .ok (.goto (-80), 3) := dk_167 255 176 (dk_at dksX2_upFrom_4 0 rfl rfl)
theorem dX2_upFrom_99 : decode cX2_upFrom 99 = .ok (.aload_n 2, 1) := dk_44 (dk_at dksX2_upFrom_4 3 rfl rfl)
theorem dX2_upFrom_100 : decode cX2_upFrom 100 = .ok (.areturn, 1) := dk_176 (dk_at dksX2_upFrom_4 4 rfl rfl)
abbrev cX2_bestSquare : ByteArray := prog_3_method_62_code
def yX2_bestSquare : MethodName := ⟨RX2, "bestSquare", "()I"⟩
def dkwX2_bestSquare_3 : List UInt8 := [21, 5, 153, 0, 8, 21, 4, 167, 0, 4, 28, 61, 132, 3, 1, 167, 255, 178, 27, 172]
abbrev dktX2_bestSquare_3 : List UInt8 := dkwX2_bestSquare_3 ++ []
def dkwX2_bestSquare_2 : List UInt8 := [21, 4, 28, 164, 0, 7, 4, 167, 0, 4, 3, 54, 5, 21, 5, 153, 0, 7, 29, 167, 0, 4, 27, 60]
abbrev dktX2_bestSquare_2 : List UInt8 := dkwX2_bestSquare_2 ++ dktX2_bestSquare_3
def dkwX2_bestSquare_1 : List UInt8 := [182, 0, 165, 154, 0, 56, 42, 42, 29, 182, 0, 144, 4, 182, 0, 158, 54, 4, 27, 2, 159, 0, 9]
abbrev dktX2_bestSquare_1 : List UInt8 := dkwX2_bestSquare_1 ++ dktX2_bestSquare_2
def dkwX2_bestSquare_0 : List UInt8 := [2, 60, 3, 61, 3, 62, 29, 16, 64, 162, 0, 78, 42, 29, 182, 0, 121, 154, 0, 64, 42, 29]
abbrev dktX2_bestSquare_0 : List UInt8 := dkwX2_bestSquare_0 ++ dktX2_bestSquare_1
theorem dksX2_bestSquare_0 : cX2_bestSquare.data.toList.drop 0 = dktX2_bestSquare_0 := by decide +kernel
theorem dksX2_bestSquare_1 : cX2_bestSquare.data.toList.drop 22 = dktX2_bestSquare_1 := dk_seg dksX2_bestSquare_0 22 rfl rfl
theorem dksX2_bestSquare_2 : cX2_bestSquare.data.toList.drop 45 = dktX2_bestSquare_2 := dk_seg dksX2_bestSquare_1 23 rfl rfl
theorem dksX2_bestSquare_3 : cX2_bestSquare.data.toList.drop 69 = dktX2_bestSquare_3 := dk_seg dksX2_bestSquare_2 24 rfl rfl
theorem dX2_bestSquare_0 : decode cX2_bestSquare 0 = .ok (.iconst (-1), 1) := dk_2 (dk_at dksX2_bestSquare_0 0 rfl rfl)
theorem dX2_bestSquare_1 : decode cX2_bestSquare 1 = .ok (.istore_n 1, 1) := dk_60 (dk_at dksX2_bestSquare_0 1 rfl rfl)
theorem dX2_bestSquare_2 : decode cX2_bestSquare 2 = .ok (.iconst 0, 1) := dk_3 (dk_at dksX2_bestSquare_0 2 rfl rfl)
theorem dX2_bestSquare_3 : decode cX2_bestSquare 3 = .ok (.istore_n 2, 1) := dk_61 (dk_at dksX2_bestSquare_0 3 rfl rfl)
theorem dX2_bestSquare_4 : decode cX2_bestSquare 4 = .ok (.iconst 0, 1) := dk_3 (dk_at dksX2_bestSquare_0 4 rfl rfl)
theorem dX2_bestSquare_5 : decode cX2_bestSquare 5 = .ok (.istore_n 3, 1) := dk_62 (dk_at dksX2_bestSquare_0 5 rfl rfl)
theorem dX2_bestSquare_6 : decode cX2_bestSquare 6 = .ok (.iload_n 3, 1) := dk_29 (dk_at dksX2_bestSquare_0 6 rfl rfl)
theorem dX2_bestSquare_7 : decode cX2_bestSquare 7 = .ok (.bipush 64, 2) := dk_16 64 (dk_at dksX2_bestSquare_0 7 rfl rfl)
theorem dX2_bestSquare_9 : decode cX2_bestSquare 9 = .ok (.if_icmp .ge 78, 3) := dk_162 0 78 (dk_at dksX2_bestSquare_0 9 rfl rfl)
theorem dX2_bestSquare_12 : decode cX2_bestSquare 12 = .ok (.aload_n 0, 1) := dk_42 (dk_at dksX2_bestSquare_0 12 rfl rfl)
theorem dX2_bestSquare_13 : decode cX2_bestSquare 13 = .ok (.iload_n 3, 1) := dk_29 (dk_at dksX2_bestSquare_0 13 rfl rfl)
theorem dX2_bestSquare_14 : decode cX2_bestSquare 14 = .ok (.invokevirtual 121, 3) := dk_182 0 121 (dk_at dksX2_bestSquare_0 14 rfl rfl)
theorem dX2_bestSquare_17 : decode cX2_bestSquare 17 = .ok (.ifCond .ne 64, 3) := dk_154 0 64 (dk_at dksX2_bestSquare_0 17 rfl rfl)
theorem dX2_bestSquare_20 : decode cX2_bestSquare 20 = .ok (.aload_n 0, 1) := dk_42 (dk_at dksX2_bestSquare_0 20 rfl rfl)
theorem dX2_bestSquare_21 : decode cX2_bestSquare 21 = .ok (.iload_n 3, 1) := dk_29 (dk_at dksX2_bestSquare_0 21 rfl rfl)
theorem dX2_bestSquare_22 : decode cX2_bestSquare 22 = .ok (.invokevirtual 165, 3) := dk_182 0 165 (dk_at dksX2_bestSquare_1 0 rfl rfl)
theorem dX2_bestSquare_25 : decode cX2_bestSquare 25 = .ok (.ifCond .ne 56, 3) := dk_154 0 56 (dk_at dksX2_bestSquare_1 3 rfl rfl)
theorem dX2_bestSquare_28 : decode cX2_bestSquare 28 = .ok (.aload_n 0, 1) := dk_42 (dk_at dksX2_bestSquare_1 6 rfl rfl)
theorem dX2_bestSquare_29 : decode cX2_bestSquare 29 = .ok (.aload_n 0, 1) := dk_42 (dk_at dksX2_bestSquare_1 7 rfl rfl)
theorem dX2_bestSquare_30 : decode cX2_bestSquare 30 = .ok (.iload_n 3, 1) := dk_29 (dk_at dksX2_bestSquare_1 8 rfl rfl)
theorem dX2_bestSquare_31 : decode cX2_bestSquare 31 = .ok (.invokevirtual 144, 3) := dk_182 0 144 (dk_at dksX2_bestSquare_1 9 rfl rfl)
theorem dX2_bestSquare_34 : decode cX2_bestSquare 34 = .ok (.iconst 1, 1) := dk_4 (dk_at dksX2_bestSquare_1 12 rfl rfl)
theorem dX2_bestSquare_35 : decode cX2_bestSquare 35 = .ok (.invokevirtual 158, 3) := dk_182 0 158 (dk_at dksX2_bestSquare_1 13 rfl rfl)
theorem dX2_bestSquare_38 : decode cX2_bestSquare 38 = .ok (.istore 4, 2) := dk_54 4 (dk_at dksX2_bestSquare_1 16 rfl rfl)
theorem dX2_bestSquare_40 : decode cX2_bestSquare 40 = .ok (.iload_n 1, 1) := dk_27 (dk_at dksX2_bestSquare_1 18 rfl rfl)
theorem dX2_bestSquare_41 : decode cX2_bestSquare 41 = .ok (.iconst (-1), 1) := dk_2 (dk_at dksX2_bestSquare_1 19 rfl rfl)
theorem dX2_bestSquare_42 : decode cX2_bestSquare 42 = .ok (.if_icmp .eq 9, 3) := dk_159 0 9 (dk_at dksX2_bestSquare_1 20 rfl rfl)
theorem dX2_bestSquare_45 : decode cX2_bestSquare 45 = .ok (.iload 4, 2) := dk_21 4 (dk_at dksX2_bestSquare_2 0 rfl rfl)
theorem dX2_bestSquare_47 : decode cX2_bestSquare 47 = .ok (.iload_n 2, 1) := dk_28 (dk_at dksX2_bestSquare_2 2 rfl rfl)
theorem dX2_bestSquare_48 : decode cX2_bestSquare 48 = .ok (.if_icmp .le 7, 3) := dk_164 0 7 (dk_at dksX2_bestSquare_2 3 rfl rfl)
theorem dX2_bestSquare_51 : decode cX2_bestSquare 51 = .ok (.iconst 1, 1) := dk_4 (dk_at dksX2_bestSquare_2 6 rfl rfl)
theorem dX2_bestSquare_52 : decode cX2_bestSquare 52 = .ok (.goto 4, 3) := dk_167 0 4 (dk_at dksX2_bestSquare_2 7 rfl rfl)
theorem dX2_bestSquare_55 : decode cX2_bestSquare 55 = .ok (.iconst 0, 1) := dk_3 (dk_at dksX2_bestSquare_2 10 rfl rfl)
theorem dX2_bestSquare_56 : decode cX2_bestSquare 56 = .ok (.istore 5, 2) := dk_54 5 (dk_at dksX2_bestSquare_2 11 rfl rfl)
theorem dX2_bestSquare_58 : decode cX2_bestSquare 58 = .ok (.iload 5, 2) := dk_21 5 (dk_at dksX2_bestSquare_2 13 rfl rfl)
theorem dX2_bestSquare_60 : decode cX2_bestSquare 60 = .ok (.ifCond .eq 7, 3) := dk_153 0 7 (dk_at dksX2_bestSquare_2 15 rfl rfl)
theorem dX2_bestSquare_63 : decode cX2_bestSquare 63 = .ok (.iload_n 3, 1) := dk_29 (dk_at dksX2_bestSquare_2 18 rfl rfl)
theorem dX2_bestSquare_64 : decode cX2_bestSquare 64 = .ok (.goto 4, 3) := dk_167 0 4 (dk_at dksX2_bestSquare_2 19 rfl rfl)
theorem dX2_bestSquare_67 : decode cX2_bestSquare 67 = .ok (.iload_n 1, 1) := dk_27 (dk_at dksX2_bestSquare_2 22 rfl rfl)
theorem dX2_bestSquare_68 : decode cX2_bestSquare 68 = .ok (.istore_n 1, 1) := dk_60 (dk_at dksX2_bestSquare_2 23 rfl rfl)
theorem dX2_bestSquare_69 : decode cX2_bestSquare 69 = .ok (.iload 5, 2) := dk_21 5 (dk_at dksX2_bestSquare_3 0 rfl rfl)
theorem dX2_bestSquare_71 : decode cX2_bestSquare 71 = .ok (.ifCond .eq 8, 3) := dk_153 0 8 (dk_at dksX2_bestSquare_3 2 rfl rfl)
theorem dX2_bestSquare_74 : decode cX2_bestSquare 74 = .ok (.iload 4, 2) := dk_21 4 (dk_at dksX2_bestSquare_3 5 rfl rfl)
theorem dX2_bestSquare_76 : decode cX2_bestSquare 76 = .ok (.goto 4, 3) := dk_167 0 4 (dk_at dksX2_bestSquare_3 7 rfl rfl)
theorem dX2_bestSquare_79 : decode cX2_bestSquare 79 = .ok (.iload_n 2, 1) := dk_28 (dk_at dksX2_bestSquare_3 10 rfl rfl)
theorem dX2_bestSquare_80 : decode cX2_bestSquare 80 = .ok (.istore_n 2, 1) := dk_61 (dk_at dksX2_bestSquare_3 11 rfl rfl)
theorem dX2_bestSquare_81 : decode cX2_bestSquare 81 = .ok (.iinc 3 1, 3) := dk_132 3 1 (dk_at dksX2_bestSquare_3 12 rfl rfl)
theorem dX2_bestSquare_84 : decode cX2_bestSquare 84 = .ok (.goto (-78), 3) := dk_167 255 178 (dk_at dksX2_bestSquare_3 15 rfl rfl)
theorem dX2_bestSquare_87 : decode cX2_bestSquare 87 = .ok (.iload_n 1, 1) := dk_27 (dk_at dksX2_bestSquare_3 18 rfl rfl)
theorem dX2_bestSquare_88 : decode cX2_bestSquare 88 = .ok (.ireturn, 1) := dk_172 (dk_at dksX2_bestSquare_3 19 rfl rfl)
abbrev cX2_isRoad : ByteArray := prog_3_method_5_code
def yX2_isRoad : MethodName := ⟨RX2, "isRoad", "(I)Z"⟩
def dkwX2_isRoad_0 : List UInt8 := [42, 180, 0, 9, 27, 46, 6, 160, 0, 7, 4, 167, 0, 4, 3, 172]
abbrev dktX2_isRoad_0 : List UInt8 := dkwX2_isRoad_0 ++ []
theorem dksX2_isRoad_0 : cX2_isRoad.data.toList.drop 0 = dktX2_isRoad_0 := by decide +kernel
theorem dX2_isRoad_0 : decode cX2_isRoad 0 = .ok (.aload_n 0, 1) := dk_42 (dk_at dksX2_isRoad_0 0 rfl rfl)
theorem dX2_isRoad_1 : decode cX2_isRoad 1 = .ok (.getfield 9, 3) := dk_180 0 9 (dk_at dksX2_isRoad_0 1 rfl rfl)
theorem dX2_isRoad_4 : decode cX2_isRoad 4 = .ok (.iload_n 1, 1) := dk_27 (dk_at dksX2_isRoad_0 4 rfl rfl)
theorem dX2_isRoad_5 : decode cX2_isRoad 5 = .ok (.iaload, 1) := dk_46 (dk_at dksX2_isRoad_0 5 rfl rfl)
theorem dX2_isRoad_6 : decode cX2_isRoad 6 = .ok (.iconst 3, 1) := dk_6 (dk_at dksX2_isRoad_0 6 rfl rfl)
theorem dX2_isRoad_7 : decode cX2_isRoad 7 = .ok (.if_icmp .ne 7, 3) := dk_160 0 7 (dk_at dksX2_isRoad_0 7 rfl rfl)
theorem dX2_isRoad_10 : decode cX2_isRoad 10 = .ok (.iconst 1, 1) := dk_4 (dk_at dksX2_isRoad_0 10 rfl rfl)
theorem dX2_isRoad_11 : decode cX2_isRoad 11 = .ok (.goto 4, 3) := dk_167 0 4 (dk_at dksX2_isRoad_0 11 rfl rfl)
theorem dX2_isRoad_14 : decode cX2_isRoad 14 = .ok (.iconst 0, 1) := dk_3 (dk_at dksX2_isRoad_0 14 rfl rfl)
theorem dX2_isRoad_15 : decode cX2_isRoad 15 = .ok (.ireturn, 1) := dk_172 (dk_at dksX2_isRoad_0 15 rfl rfl)
abbrev cX2_hasBox : ByteArray := prog_3_method_4_code
def yX2_hasBox : MethodName := ⟨RX2, "hasBox", "(I)Z"⟩
def dkwX2_hasBox_0 : List UInt8 := [42, 180, 0, 31, 187, 0, 102, 89, 27, 183, 0, 107, 182, 0, 114, 172]
abbrev dktX2_hasBox_0 : List UInt8 := dkwX2_hasBox_0 ++ []
theorem dksX2_hasBox_0 : cX2_hasBox.data.toList.drop 0 = dktX2_hasBox_0 := by decide +kernel
theorem dX2_hasBox_0 : decode cX2_hasBox 0 = .ok (.aload_n 0, 1) := dk_42 (dk_at dksX2_hasBox_0 0 rfl rfl)
theorem dX2_hasBox_1 : decode cX2_hasBox 1 = .ok (.getfield 31, 3) := dk_180 0 31 (dk_at dksX2_hasBox_0 1 rfl rfl)
theorem dX2_hasBox_4 : decode cX2_hasBox 4 = .ok (.new 102, 3) := dk_187 0 102 (dk_at dksX2_hasBox_0 4 rfl rfl)
theorem dX2_hasBox_7 : decode cX2_hasBox 7 = .ok (.dup, 1) := dk_89 (dk_at dksX2_hasBox_0 7 rfl rfl)
theorem dX2_hasBox_8 : decode cX2_hasBox 8 = .ok (.iload_n 1, 1) := dk_27 (dk_at dksX2_hasBox_0 8 rfl rfl)
theorem dX2_hasBox_9 : decode cX2_hasBox 9 = .ok (.invokespecial 107, 3) := dk_183 0 107 (dk_at dksX2_hasBox_0 9 rfl rfl)
theorem dX2_hasBox_12 : decode cX2_hasBox 12 = .ok (.invokevirtual 114, 3) := dk_182 0 114 (dk_at dksX2_hasBox_0 12 rfl rfl)
theorem dX2_hasBox_15 : decode cX2_hasBox 15 = .ok (.ireturn, 1) := dk_172 (dk_at dksX2_hasBox_0 15 rfl rfl)
abbrev cX2_range : ByteArray := prog_3_method_8_code
def yX2_range : MethodName := ⟨RX2, "range", "(I)J"⟩
def dkwX2_range_3 : List UInt8 := [21, 8, 121, 167, 0, 4, 9, 129, 55, 4, 132, 8, 1, 167, 255, 202, 167, 255, 184, 22, 4, 173]
abbrev dktX2_range_3 : List UInt8 := dkwX2_range_3 ++ []
def dkwX2_range_2 : List UInt8 := [21, 8, 184, 0, 133, 153, 0, 7, 4, 167, 0, 4, 3, 54, 9, 22, 4, 21, 9, 153, 0, 10, 10]
abbrev dktX2_range_2 : List UInt8 := dkwX2_range_2 ++ dktX2_range_3
def dkwX2_range_1 : List UInt8 := [55, 6, 3, 54, 8, 21, 8, 16, 64, 162, 0, 53, 32, 21, 8, 184, 0, 129, 153, 0, 17, 22, 6]
abbrev dktX2_range_1 : List UInt8 := dkwX2_range_1 ++ dktX2_range_2
def dkwX2_range_0 : List UInt8 := [42, 27, 182, 0, 125, 65, 10, 27, 121, 55, 4, 9, 55, 6, 22, 4, 22, 6, 148, 153, 0, 70, 22, 4]
abbrev dktX2_range_0 : List UInt8 := dkwX2_range_0 ++ dktX2_range_1
theorem dksX2_range_0 : cX2_range.data.toList.drop 0 = dktX2_range_0 := by decide +kernel
theorem dksX2_range_1 : cX2_range.data.toList.drop 24 = dktX2_range_1 := dk_seg dksX2_range_0 24 rfl rfl
theorem dksX2_range_2 : cX2_range.data.toList.drop 47 = dktX2_range_2 := dk_seg dksX2_range_1 23 rfl rfl
theorem dksX2_range_3 : cX2_range.data.toList.drop 70 = dktX2_range_3 := dk_seg dksX2_range_2 23 rfl rfl
theorem dX2_range_0 : decode cX2_range 0 = .ok (.aload_n 0, 1) := dk_42 (dk_at dksX2_range_0 0 rfl rfl)
theorem dX2_range_1 : decode cX2_range 1 = .ok (.iload_n 1, 1) := dk_27 (dk_at dksX2_range_0 1 rfl rfl)
theorem dX2_range_2 : decode cX2_range 2 = .ok (.invokevirtual 125, 3) := dk_182 0 125 (dk_at dksX2_range_0 2 rfl rfl)
theorem dX2_range_5 : decode cX2_range 5 = .ok (.lstore_n 2, 1) := dk_65 (dk_at dksX2_range_0 5 rfl rfl)
theorem dX2_range_6 : decode cX2_range 6 = .ok (.lconst 1, 1) := dk_10 (dk_at dksX2_range_0 6 rfl rfl)
theorem dX2_range_7 : decode cX2_range 7 = .ok (.iload_n 1, 1) := dk_27 (dk_at dksX2_range_0 7 rfl rfl)
theorem dX2_range_8 : decode cX2_range 8 = .ok (.lshl, 1) := dk_121 (dk_at dksX2_range_0 8 rfl rfl)
theorem dX2_range_9 : decode cX2_range 9 = .ok (.lstore 4, 2) := dk_55 4 (dk_at dksX2_range_0 9 rfl rfl)
theorem dX2_range_11 : decode cX2_range 11 = .ok (.lconst 0, 1) := dk_9 (dk_at dksX2_range_0 11 rfl rfl)
theorem dX2_range_12 : decode cX2_range 12 = .ok (.lstore 6, 2) := dk_55 6 (dk_at dksX2_range_0 12 rfl rfl)
theorem dX2_range_14 : decode cX2_range 14 = .ok (.lload 4, 2) := dk_22 4 (dk_at dksX2_range_0 14 rfl rfl)
theorem dX2_range_16 : decode cX2_range 16 = .ok (.lload 6, 2) := dk_22 6 (dk_at dksX2_range_0 16 rfl rfl)
theorem dX2_range_18 : decode cX2_range 18 = .ok (.lcmp, 1) := dk_148 (dk_at dksX2_range_0 18 rfl rfl)
theorem dX2_range_19 : decode cX2_range 19 = .ok (.ifCond .eq 70, 3) := dk_153 0 70 (dk_at dksX2_range_0 19 rfl rfl)
theorem dX2_range_22 : decode cX2_range 22 = .ok (.lload 4, 2) := dk_22 4 (dk_at dksX2_range_0 22 rfl rfl)
theorem dX2_range_24 : decode cX2_range 24 = .ok (.lstore 6, 2) := dk_55 6 (dk_at dksX2_range_1 0 rfl rfl)
theorem dX2_range_26 : decode cX2_range 26 = .ok (.iconst 0, 1) := dk_3 (dk_at dksX2_range_1 2 rfl rfl)
theorem dX2_range_27 : decode cX2_range 27 = .ok (.istore 8, 2) := dk_54 8 (dk_at dksX2_range_1 3 rfl rfl)
theorem dX2_range_29 : decode cX2_range 29 = .ok (.iload 8, 2) := dk_21 8 (dk_at dksX2_range_1 5 rfl rfl)
theorem dX2_range_31 : decode cX2_range 31 = .ok (.bipush 64, 2) := dk_16 64 (dk_at dksX2_range_1 7 rfl rfl)
theorem dX2_range_33 : decode cX2_range 33 = .ok (.if_icmp .ge 53, 3) := dk_162 0 53 (dk_at dksX2_range_1 9 rfl rfl)
theorem dX2_range_36 : decode cX2_range 36 = .ok (.lload_n 2, 1) := dk_32 (dk_at dksX2_range_1 12 rfl rfl)
theorem dX2_range_37 : decode cX2_range 37 = .ok (.iload 8, 2) := dk_21 8 (dk_at dksX2_range_1 13 rfl rfl)
theorem dX2_range_39 : decode cX2_range 39 = .ok (.invokestatic 129, 3) := dk_184 0 129 (dk_at dksX2_range_1 15 rfl rfl)
theorem dX2_range_42 : decode cX2_range 42 = .ok (.ifCond .eq 17, 3) := dk_153 0 17 (dk_at dksX2_range_1 18 rfl rfl)
theorem dX2_range_45 : decode cX2_range 45 = .ok (.lload 6, 2) := dk_22 6 (dk_at dksX2_range_1 21 rfl rfl)
theorem dX2_range_47 : decode cX2_range 47 = .ok (.iload 8, 2) := dk_21 8 (dk_at dksX2_range_2 0 rfl rfl)
theorem dX2_range_49 : decode cX2_range 49 = .ok (.invokestatic 133, 3) := dk_184 0 133 (dk_at dksX2_range_2 2 rfl rfl)
theorem dX2_range_52 : decode cX2_range 52 = .ok (.ifCond .eq 7, 3) := dk_153 0 7 (dk_at dksX2_range_2 5 rfl rfl)
theorem dX2_range_55 : decode cX2_range 55 = .ok (.iconst 1, 1) := dk_4 (dk_at dksX2_range_2 8 rfl rfl)
theorem dX2_range_56 : decode cX2_range 56 = .ok (.goto 4, 3) := dk_167 0 4 (dk_at dksX2_range_2 9 rfl rfl)
theorem dX2_range_59 : decode cX2_range 59 = .ok (.iconst 0, 1) := dk_3 (dk_at dksX2_range_2 12 rfl rfl)
theorem dX2_range_60 : decode cX2_range 60 = .ok (.istore 9, 2) := dk_54 9 (dk_at dksX2_range_2 13 rfl rfl)
theorem dX2_range_62 : decode cX2_range 62 = .ok (.lload 4, 2) := dk_22 4 (dk_at dksX2_range_2 15 rfl rfl)
theorem dX2_range_64 : decode cX2_range 64 = .ok (.iload 9, 2) := dk_21 9 (dk_at dksX2_range_2 17 rfl rfl)
theorem dX2_range_66 : decode cX2_range 66 = .ok (.ifCond .eq 10, 3) := dk_153 0 10 (dk_at dksX2_range_2 19 rfl rfl)
theorem dX2_range_69 : decode cX2_range 69 = .ok (.lconst 1, 1) := dk_10 (dk_at dksX2_range_2 22 rfl rfl)
theorem dX2_range_70 : decode cX2_range 70 = .ok (.iload 8, 2) := dk_21 8 (dk_at dksX2_range_3 0 rfl rfl)
theorem dX2_range_72 : decode cX2_range 72 = .ok (.lshl, 1) := dk_121 (dk_at dksX2_range_3 2 rfl rfl)
theorem dX2_range_73 : decode cX2_range 73 = .ok (.goto 4, 3) := dk_167 0 4 (dk_at dksX2_range_3 3 rfl rfl)
theorem dX2_range_76 : decode cX2_range 76 = .ok (.lconst 0, 1) := dk_9 (dk_at dksX2_range_3 6 rfl rfl)
theorem dX2_range_77 : decode cX2_range 77 = .ok (.lor, 1) := dk_129 (dk_at dksX2_range_3 7 rfl rfl)
theorem dX2_range_78 : decode cX2_range 78 = .ok (.lstore 4, 2) := dk_55 4 (dk_at dksX2_range_3 8 rfl rfl)
theorem dX2_range_80 : decode cX2_range 80 = .ok (.iinc 8 1, 3) := dk_132 8 1 (dk_at dksX2_range_3 10 rfl rfl)
theorem dX2_range_83 : decode cX2_range 83 = .ok (.goto (-54), 3) := dk_167 255 202 (dk_at dksX2_range_3 13 rfl rfl)
theorem dX2_range_86 : decode cX2_range 86 = .ok (.goto (-72), 3) := dk_167 255 184 (dk_at dksX2_range_3 16 rfl rfl)
theorem dX2_range_89 : decode cX2_range 89 = .ok (.lload 4, 2) := dk_22 4 (dk_at dksX2_range_3 19 rfl rfl)
theorem dX2_range_91 : decode cX2_range 91 = .ok (.lreturn, 1) := dk_173 (dk_at dksX2_range_3 21 rfl rfl)
abbrev cX2_near : ByteArray := prog_3_method_7_code
def yX2_near : MethodName := ⟨RX2, "near", "(I)J"⟩
def dkwX2_near_2 : List UInt8 := [32, 173]
abbrev dktX2_near_2 : List UInt8 := dkwX2_near_2 ++ []
def dkwX2_near_1 : List UInt8 := [21, 4, 182, 0, 121, 154, 0, 10, 10, 21, 4, 121, 167, 0, 4, 9, 129, 65, 132, 4, 1, 167, 255, 216]
abbrev dktX2_near_1 : List UInt8 := dkwX2_near_1 ++ dktX2_near_2
def dkwX2_near_0 : List UInt8 := [9, 65, 3, 54, 4, 21, 4, 16, 64, 162, 0, 39, 32, 21, 4, 27, 184, 0, 117, 5, 163, 0, 19, 42]
abbrev dktX2_near_0 : List UInt8 := dkwX2_near_0 ++ dktX2_near_1
theorem dksX2_near_0 : cX2_near.data.toList.drop 0 = dktX2_near_0 := by decide +kernel
theorem dksX2_near_1 : cX2_near.data.toList.drop 24 = dktX2_near_1 := dk_seg dksX2_near_0 24 rfl rfl
theorem dksX2_near_2 : cX2_near.data.toList.drop 48 = dktX2_near_2 := dk_seg dksX2_near_1 24 rfl rfl
theorem dX2_near_0 : decode cX2_near 0 = .ok (.lconst 0, 1) := dk_9 (dk_at dksX2_near_0 0 rfl rfl)
theorem dX2_near_1 : decode cX2_near 1 = .ok (.lstore_n 2, 1) := dk_65 (dk_at dksX2_near_0 1 rfl rfl)
theorem dX2_near_2 : decode cX2_near 2 = .ok (.iconst 0, 1) := dk_3 (dk_at dksX2_near_0 2 rfl rfl)
theorem dX2_near_3 : decode cX2_near 3 = .ok (.istore 4, 2) := dk_54 4 (dk_at dksX2_near_0 3 rfl rfl)
theorem dX2_near_5 : decode cX2_near 5 = .ok (.iload 4, 2) := dk_21 4 (dk_at dksX2_near_0 5 rfl rfl)
theorem dX2_near_7 : decode cX2_near 7 = .ok (.bipush 64, 2) := dk_16 64 (dk_at dksX2_near_0 7 rfl rfl)
theorem dX2_near_9 : decode cX2_near 9 = .ok (.if_icmp .ge 39, 3) := dk_162 0 39 (dk_at dksX2_near_0 9 rfl rfl)
theorem dX2_near_12 : decode cX2_near 12 = .ok (.lload_n 2, 1) := dk_32 (dk_at dksX2_near_0 12 rfl rfl)
theorem dX2_near_13 : decode cX2_near 13 = .ok (.iload 4, 2) := dk_21 4 (dk_at dksX2_near_0 13 rfl rfl)
theorem dX2_near_15 : decode cX2_near 15 = .ok (.iload_n 1, 1) := dk_27 (dk_at dksX2_near_0 15 rfl rfl)
theorem dX2_near_16 : decode cX2_near 16 = .ok (.invokestatic 117, 3) := dk_184 0 117 (dk_at dksX2_near_0 16 rfl rfl)
theorem dX2_near_19 : decode cX2_near 19 = .ok (.iconst 2, 1) := dk_5 (dk_at dksX2_near_0 19 rfl rfl)
theorem dX2_near_20 : decode cX2_near 20 = .ok (.if_icmp .gt 19, 3) := dk_163 0 19 (dk_at dksX2_near_0 20 rfl rfl)
theorem dX2_near_23 : decode cX2_near 23 = .ok (.aload_n 0, 1) := dk_42 (dk_at dksX2_near_0 23 rfl rfl)
theorem dX2_near_24 : decode cX2_near 24 = .ok (.iload 4, 2) := dk_21 4 (dk_at dksX2_near_1 0 rfl rfl)
theorem dX2_near_26 : decode cX2_near 26 = .ok (.invokevirtual 121, 3) := dk_182 0 121 (dk_at dksX2_near_1 2 rfl rfl)
theorem dX2_near_29 : decode cX2_near 29 = .ok (.ifCond .ne 10, 3) := dk_154 0 10 (dk_at dksX2_near_1 5 rfl rfl)
theorem dX2_near_32 : decode cX2_near 32 = .ok (.lconst 1, 1) := dk_10 (dk_at dksX2_near_1 8 rfl rfl)
theorem dX2_near_33 : decode cX2_near 33 = .ok (.iload 4, 2) := dk_21 4 (dk_at dksX2_near_1 9 rfl rfl)
theorem dX2_near_35 : decode cX2_near 35 = .ok (.lshl, 1) := dk_121 (dk_at dksX2_near_1 11 rfl rfl)
theorem dX2_near_36 : decode cX2_near 36 = .ok (.goto 4, 3) := dk_167 0 4 (dk_at dksX2_near_1 12 rfl rfl)
theorem dX2_near_39 : decode cX2_near 39 = .ok (.lconst 0, 1) := dk_9 (dk_at dksX2_near_1 15 rfl rfl)
theorem dX2_near_40 : decode cX2_near 40 = .ok (.lor, 1) := dk_129 (dk_at dksX2_near_1 16 rfl rfl)
theorem dX2_near_41 : decode cX2_near 41 = .ok (.lstore_n 2, 1) := dk_65 (dk_at dksX2_near_1 17 rfl rfl)
theorem dX2_near_42 : decode cX2_near 42 = .ok (.iinc 4 1, 3) := dk_132 4 1 (dk_at dksX2_near_1 18 rfl rfl)
theorem dX2_near_45 : decode cX2_near 45 = .ok (.goto (-40), 3) := dk_167 255 216 (dk_at dksX2_near_1 21 rfl rfl)
theorem dX2_near_48 : decode cX2_near 48 = .ok (.lload_n 2, 1) := dk_32 (dk_at dksX2_near_2 0 rfl rfl)
theorem dX2_near_49 : decode cX2_near 49 = .ok (.lreturn, 1) := dk_173 (dk_at dksX2_near_2 1 rfl rfl)
abbrev cX2_touches : ByteArray := prog_3_method_9_code
def yX2_touches : MethodName := ⟨RX2, "touches", "(JI)Z"⟩
def dkwX2_touches_3 : List UInt8 := [4, 96, 184, 0, 129, 153, 0, 7, 4, 167, 0, 4, 3, 172]
abbrev dktX2_touches_3 : List UInt8 := dkwX2_touches_3 ++ []
def dkwX2_touches_2 : List UInt8 := [158, 0, 13, 30, 28, 4, 100, 184, 0, 129, 154, 0, 22, 28, 16, 8, 112, 16, 7, 162, 0, 17, 30, 28]
abbrev dktX2_touches_2 : List UInt8 := dkwX2_touches_2 ++ dktX2_touches_3
def dkwX2_touches_1 : List UInt8 := [28, 16, 8, 96, 184, 0, 129, 153, 0, 7, 4, 167, 0, 4, 3, 62, 29, 154, 0, 39, 28, 16, 8, 112]
abbrev dktX2_touches_1 : List UInt8 := dkwX2_touches_1 ++ dktX2_touches_2
def dkwX2_touches_0 : List UInt8 := [28, 16, 8, 161, 0, 14, 30, 28, 16, 8, 100, 184, 0, 129, 154, 0, 20, 28, 16, 56, 162, 0, 18, 30]
abbrev dktX2_touches_0 : List UInt8 := dkwX2_touches_0 ++ dktX2_touches_1
theorem dksX2_touches_0 : cX2_touches.data.toList.drop 0 = dktX2_touches_0 := by decide +kernel
theorem dksX2_touches_1 : cX2_touches.data.toList.drop 24 = dktX2_touches_1 := dk_seg dksX2_touches_0 24 rfl rfl
theorem dksX2_touches_2 : cX2_touches.data.toList.drop 48 = dktX2_touches_2 := dk_seg dksX2_touches_1 24 rfl rfl
theorem dksX2_touches_3 : cX2_touches.data.toList.drop 72 = dktX2_touches_3 := dk_seg dksX2_touches_2 24 rfl rfl
theorem dX2_touches_0 : decode cX2_touches 0 = .ok (.iload_n 2, 1) := dk_28 (dk_at dksX2_touches_0 0 rfl rfl)
theorem dX2_touches_1 : decode cX2_touches 1 = .ok (.bipush 8, 2) := dk_16 8 (dk_at dksX2_touches_0 1 rfl rfl)
theorem dX2_touches_3 : decode cX2_touches 3 = .ok (.if_icmp .lt 14, 3) := dk_161 0 14 (dk_at dksX2_touches_0 3 rfl rfl)
theorem dX2_touches_6 : decode cX2_touches 6 = .ok (.lload_n 0, 1) := dk_30 (dk_at dksX2_touches_0 6 rfl rfl)
theorem dX2_touches_7 : decode cX2_touches 7 = .ok (.iload_n 2, 1) := dk_28 (dk_at dksX2_touches_0 7 rfl rfl)
theorem dX2_touches_8 : decode cX2_touches 8 = .ok (.bipush 8, 2) := dk_16 8 (dk_at dksX2_touches_0 8 rfl rfl)
theorem dX2_touches_10 : decode cX2_touches 10 = .ok (.isub, 1) := dk_100 (dk_at dksX2_touches_0 10 rfl rfl)
theorem dX2_touches_11 : decode cX2_touches 11 = .ok (.invokestatic 129, 3) := dk_184 0 129 (dk_at dksX2_touches_0 11 rfl rfl)
theorem dX2_touches_14 : decode cX2_touches 14 = .ok (.ifCond .ne 20, 3) := dk_154 0 20 (dk_at dksX2_touches_0 14 rfl rfl)
theorem dX2_touches_17 : decode cX2_touches 17 = .ok (.iload_n 2, 1) := dk_28 (dk_at dksX2_touches_0 17 rfl rfl)
theorem dX2_touches_18 : decode cX2_touches 18 = .ok (.bipush 56, 2) := dk_16 56 (dk_at dksX2_touches_0 18 rfl rfl)
theorem dX2_touches_20 : decode cX2_touches 20 = .ok (.if_icmp .ge 18, 3) := dk_162 0 18 (dk_at dksX2_touches_0 20 rfl rfl)
theorem dX2_touches_23 : decode cX2_touches 23 = .ok (.lload_n 0, 1) := dk_30 (dk_at dksX2_touches_0 23 rfl rfl)
theorem dX2_touches_24 : decode cX2_touches 24 = .ok (.iload_n 2, 1) := dk_28 (dk_at dksX2_touches_1 0 rfl rfl)
theorem dX2_touches_25 : decode cX2_touches 25 = .ok (.bipush 8, 2) := dk_16 8 (dk_at dksX2_touches_1 1 rfl rfl)
theorem dX2_touches_27 : decode cX2_touches 27 = .ok (.iadd, 1) := dk_96 (dk_at dksX2_touches_1 3 rfl rfl)
theorem dX2_touches_28 : decode cX2_touches 28 = .ok (.invokestatic 129, 3) := dk_184 0 129 (dk_at dksX2_touches_1 4 rfl rfl)
theorem dX2_touches_31 : decode cX2_touches 31 = .ok (.ifCond .eq 7, 3) := dk_153 0 7 (dk_at dksX2_touches_1 7 rfl rfl)
theorem dX2_touches_34 : decode cX2_touches 34 = .ok (.iconst 1, 1) := dk_4 (dk_at dksX2_touches_1 10 rfl rfl)
theorem dX2_touches_35 : decode cX2_touches 35 = .ok (.goto 4, 3) := dk_167 0 4 (dk_at dksX2_touches_1 11 rfl rfl)
theorem dX2_touches_38 : decode cX2_touches 38 = .ok (.iconst 0, 1) := dk_3 (dk_at dksX2_touches_1 14 rfl rfl)
theorem dX2_touches_39 : decode cX2_touches 39 = .ok (.istore_n 3, 1) := dk_62 (dk_at dksX2_touches_1 15 rfl rfl)
theorem dX2_touches_40 : decode cX2_touches 40 = .ok (.iload_n 3, 1) := dk_29 (dk_at dksX2_touches_1 16 rfl rfl)
theorem dX2_touches_41 : decode cX2_touches 41 = .ok (.ifCond .ne 39, 3) := dk_154 0 39 (dk_at dksX2_touches_1 17 rfl rfl)
theorem dX2_touches_44 : decode cX2_touches 44 = .ok (.iload_n 2, 1) := dk_28 (dk_at dksX2_touches_1 20 rfl rfl)
theorem dX2_touches_45 : decode cX2_touches 45 = .ok (.bipush 8, 2) := dk_16 8 (dk_at dksX2_touches_1 21 rfl rfl)
theorem dX2_touches_47 : decode cX2_touches 47 = .ok (.irem, 1) := dk_112 (dk_at dksX2_touches_1 23 rfl rfl)
theorem dX2_touches_48 : decode cX2_touches 48 = .ok (.ifCond .le 13, 3) := dk_158 0 13 (dk_at dksX2_touches_2 0 rfl rfl)
theorem dX2_touches_51 : decode cX2_touches 51 = .ok (.lload_n 0, 1) := dk_30 (dk_at dksX2_touches_2 3 rfl rfl)
theorem dX2_touches_52 : decode cX2_touches 52 = .ok (.iload_n 2, 1) := dk_28 (dk_at dksX2_touches_2 4 rfl rfl)
theorem dX2_touches_53 : decode cX2_touches 53 = .ok (.iconst 1, 1) := dk_4 (dk_at dksX2_touches_2 5 rfl rfl)
theorem dX2_touches_54 : decode cX2_touches 54 = .ok (.isub, 1) := dk_100 (dk_at dksX2_touches_2 6 rfl rfl)
theorem dX2_touches_55 : decode cX2_touches 55 = .ok (.invokestatic 129, 3) := dk_184 0 129 (dk_at dksX2_touches_2 7 rfl rfl)
theorem dX2_touches_58 : decode cX2_touches 58 = .ok (.ifCond .ne 22, 3) := dk_154 0 22 (dk_at dksX2_touches_2 10 rfl rfl)
theorem dX2_touches_61 : decode cX2_touches 61 = .ok (.iload_n 2, 1) := dk_28 (dk_at dksX2_touches_2 13 rfl rfl)
theorem dX2_touches_62 : decode cX2_touches 62 = .ok (.bipush 8, 2) := dk_16 8 (dk_at dksX2_touches_2 14 rfl rfl)
theorem dX2_touches_64 : decode cX2_touches 64 = .ok (.irem, 1) := dk_112 (dk_at dksX2_touches_2 16 rfl rfl)
theorem dX2_touches_65 : decode cX2_touches 65 = .ok (.bipush 7, 2) := dk_16 7 (dk_at dksX2_touches_2 17 rfl rfl)
theorem dX2_touches_67 : decode cX2_touches 67 = .ok (.if_icmp .ge 17, 3) := dk_162 0 17 (dk_at dksX2_touches_2 19 rfl rfl)
theorem dX2_touches_70 : decode cX2_touches 70 = .ok (.lload_n 0, 1) := dk_30 (dk_at dksX2_touches_2 22 rfl rfl)
theorem dX2_touches_71 : decode cX2_touches 71 = .ok (.iload_n 2, 1) := dk_28 (dk_at dksX2_touches_2 23 rfl rfl)
theorem dX2_touches_72 : decode cX2_touches 72 = .ok (.iconst 1, 1) := dk_4 (dk_at dksX2_touches_3 0 rfl rfl)
theorem dX2_touches_73 : decode cX2_touches 73 = .ok (.iadd, 1) := dk_96 (dk_at dksX2_touches_3 1 rfl rfl)
theorem dX2_touches_74 : decode cX2_touches 74 = .ok (.invokestatic 129, 3) := dk_184 0 129 (dk_at dksX2_touches_3 2 rfl rfl)
theorem dX2_touches_77 : decode cX2_touches 77 = .ok (.ifCond .eq 7, 3) := dk_153 0 7 (dk_at dksX2_touches_3 5 rfl rfl)
theorem dX2_touches_80 : decode cX2_touches 80 = .ok (.iconst 1, 1) := dk_4 (dk_at dksX2_touches_3 8 rfl rfl)
theorem dX2_touches_81 : decode cX2_touches 81 = .ok (.goto 4, 3) := dk_167 0 4 (dk_at dksX2_touches_3 9 rfl rfl)
theorem dX2_touches_84 : decode cX2_touches 84 = .ok (.iconst 0, 1) := dk_3 (dk_at dksX2_touches_3 12 rfl rfl)
theorem dX2_touches_85 : decode cX2_touches 85 = .ok (.ireturn, 1) := dk_172 (dk_at dksX2_touches_3 13 rfl rfl)
abbrev cX2_shared : ByteArray := prog_3_method_14_code
def yX2_shared : MethodName := ⟨RX2, "shared", "(JI)I"⟩
def dkwX2_shared_2 : List UInt8 := [180, 0, 18, 21, 5, 46, 108, 96, 54, 4, 132, 5, 1, 167, 255, 202, 21, 4, 172]
abbrev dktX2_shared_2 : List UInt8 := dkwX2_shared_2 ++ []
def dkwX2_shared_1 : List UInt8 := [180, 0, 18, 21, 5, 42, 21, 5, 182, 0, 154, 29, 96, 79, 21, 4, 42, 180, 0, 15, 21, 5, 46, 42]
abbrev dktX2_shared_1 : List UInt8 := dkwX2_shared_1 ++ dktX2_shared_2
def dkwX2_shared_0 : List UInt8 := [3, 54, 4, 3, 54, 5, 21, 5, 16, 64, 162, 0, 53, 31, 21, 5, 184, 0, 129, 153, 0, 38, 42]
abbrev dktX2_shared_0 : List UInt8 := dkwX2_shared_0 ++ dktX2_shared_1
theorem dksX2_shared_0 : cX2_shared.data.toList.drop 0 = dktX2_shared_0 := by decide +kernel
theorem dksX2_shared_1 : cX2_shared.data.toList.drop 23 = dktX2_shared_1 := dk_seg dksX2_shared_0 23 rfl rfl
theorem dksX2_shared_2 : cX2_shared.data.toList.drop 47 = dktX2_shared_2 := dk_seg dksX2_shared_1 24 rfl rfl
theorem dX2_shared_0 : decode cX2_shared 0 = .ok (.iconst 0, 1) := dk_3 (dk_at dksX2_shared_0 0 rfl rfl)
theorem dX2_shared_1 : decode cX2_shared 1 = .ok (.istore 4, 2) := dk_54 4 (dk_at dksX2_shared_0 1 rfl rfl)
theorem dX2_shared_3 : decode cX2_shared 3 = .ok (.iconst 0, 1) := dk_3 (dk_at dksX2_shared_0 3 rfl rfl)
theorem dX2_shared_4 : decode cX2_shared 4 = .ok (.istore 5, 2) := dk_54 5 (dk_at dksX2_shared_0 4 rfl rfl)
theorem dX2_shared_6 : decode cX2_shared 6 = .ok (.iload 5, 2) := dk_21 5 (dk_at dksX2_shared_0 6 rfl rfl)
theorem dX2_shared_8 : decode cX2_shared 8 = .ok (.bipush 64, 2) := dk_16 64 (dk_at dksX2_shared_0 8 rfl rfl)
theorem dX2_shared_10 : decode cX2_shared 10 = .ok (.if_icmp .ge 53, 3) := dk_162 0 53 (dk_at dksX2_shared_0 10 rfl rfl)
theorem dX2_shared_13 : decode cX2_shared 13 = .ok (.lload_n 1, 1) := dk_31 (dk_at dksX2_shared_0 13 rfl rfl)
theorem dX2_shared_14 : decode cX2_shared 14 = .ok (.iload 5, 2) := dk_21 5 (dk_at dksX2_shared_0 14 rfl rfl)
theorem dX2_shared_16 : decode cX2_shared 16 = .ok (.invokestatic 129, 3) := dk_184 0 129 (dk_at dksX2_shared_0 16 rfl rfl)
theorem dX2_shared_19 : decode cX2_shared 19 = .ok (.ifCond .eq 38, 3) := dk_153 0 38 (dk_at dksX2_shared_0 19 rfl rfl)
theorem dX2_shared_22 : decode cX2_shared 22 = .ok (.aload_n 0, 1) := dk_42 (dk_at dksX2_shared_0 22 rfl rfl)
theorem dX2_shared_23 : decode cX2_shared 23 = .ok (.getfield 18, 3) := dk_180 0 18 (dk_at dksX2_shared_1 0 rfl rfl)
theorem dX2_shared_26 : decode cX2_shared 26 = .ok (.iload 5, 2) := dk_21 5 (dk_at dksX2_shared_1 3 rfl rfl)
theorem dX2_shared_28 : decode cX2_shared 28 = .ok (.aload_n 0, 1) := dk_42 (dk_at dksX2_shared_1 5 rfl rfl)
theorem dX2_shared_29 : decode cX2_shared 29 = .ok (.iload 5, 2) := dk_21 5 (dk_at dksX2_shared_1 6 rfl rfl)
theorem dX2_shared_31 : decode cX2_shared 31 = .ok (.invokevirtual 154, 3) := dk_182 0 154 (dk_at dksX2_shared_1 8 rfl rfl)
theorem dX2_shared_34 : decode cX2_shared 34 = .ok (.iload_n 3, 1) := dk_29 (dk_at dksX2_shared_1 11 rfl rfl)
theorem dX2_shared_35 : decode cX2_shared 35 = .ok (.iadd, 1) := dk_96 (dk_at dksX2_shared_1 12 rfl rfl)
theorem dX2_shared_36 : decode cX2_shared 36 = .ok (.iastore, 1) := dk_79 (dk_at dksX2_shared_1 13 rfl rfl)
theorem dX2_shared_37 : decode cX2_shared 37 = .ok (.iload 4, 2) := dk_21 4 (dk_at dksX2_shared_1 14 rfl rfl)
theorem dX2_shared_39 : decode cX2_shared 39 = .ok (.aload_n 0, 1) := dk_42 (dk_at dksX2_shared_1 16 rfl rfl)
theorem dX2_shared_40 : decode cX2_shared 40 = .ok (.getfield 15, 3) := dk_180 0 15 (dk_at dksX2_shared_1 17 rfl rfl)
theorem dX2_shared_43 : decode cX2_shared 43 = .ok (.iload 5, 2) := dk_21 5 (dk_at dksX2_shared_1 20 rfl rfl)
theorem dX2_shared_45 : decode cX2_shared 45 = .ok (.iaload, 1) := dk_46 (dk_at dksX2_shared_1 22 rfl rfl)
theorem dX2_shared_46 : decode cX2_shared 46 = .ok (.aload_n 0, 1) := dk_42 (dk_at dksX2_shared_1 23 rfl rfl)
theorem dX2_shared_47 : decode cX2_shared 47 = .ok (.getfield 18, 3) := dk_180 0 18 (dk_at dksX2_shared_2 0 rfl rfl)
theorem dX2_shared_50 : decode cX2_shared 50 = .ok (.iload 5, 2) := dk_21 5 (dk_at dksX2_shared_2 3 rfl rfl)
theorem dX2_shared_52 : decode cX2_shared 52 = .ok (.iaload, 1) := dk_46 (dk_at dksX2_shared_2 5 rfl rfl)
theorem dX2_shared_53 : decode cX2_shared 53 = .ok (.idiv, 1) := dk_108 (dk_at dksX2_shared_2 6 rfl rfl)
theorem dX2_shared_54 : decode cX2_shared 54 = .ok (.iadd, 1) := dk_96 (dk_at dksX2_shared_2 7 rfl rfl)
theorem dX2_shared_55 : decode cX2_shared 55 = .ok (.istore 4, 2) := dk_54 4 (dk_at dksX2_shared_2 8 rfl rfl)
theorem dX2_shared_57 : decode cX2_shared 57 = .ok (.iinc 5 1, 3) := dk_132 5 1 (dk_at dksX2_shared_2 10 rfl rfl)
theorem dX2_shared_60 : decode cX2_shared 60 = .ok (.goto (-54), 3) := dk_167 255 202 (dk_at dksX2_shared_2 13 rfl rfl)
theorem dX2_shared_63 : decode cX2_shared 63 = .ok (.iload 4, 2) := dk_21 4 (dk_at dksX2_shared_2 16 rfl rfl)
theorem dX2_shared_65 : decode cX2_shared 65 = .ok (.ireturn, 1) := dk_172 (dk_at dksX2_shared_2 18 rfl rfl)
abbrev cX2_crowd : ByteArray := prog_3_method_13_code
def yX2_crowd : MethodName := ⟨RX2, "crowd", "(I)I"⟩
def dkwX2_crowd_2 : List UInt8 := [27, 184, 0, 129, 153, 0, 7, 4, 167, 0, 4, 3, 96, 61, 132, 4, 1, 167, 255, 205, 28, 172]
abbrev dktX2_crowd_2 : List UInt8 := dkwX2_crowd_2 ++ []
def dkwX2_crowd_1 : List UInt8 := [21, 4, 182, 0, 53, 192, 0, 57, 58, 5, 28, 25, 5, 182, 0, 150, 153, 0, 19, 25, 5, 180, 0, 147]
abbrev dktX2_crowd_1 : List UInt8 := dkwX2_crowd_1 ++ dktX2_crowd_2
def dkwX2_crowd_0 : List UInt8 := [3, 61, 42, 180, 0, 24, 182, 0, 49, 62, 3, 54, 4, 21, 4, 29, 162, 0, 51, 42, 180, 0, 24]
abbrev dktX2_crowd_0 : List UInt8 := dkwX2_crowd_0 ++ dktX2_crowd_1
theorem dksX2_crowd_0 : cX2_crowd.data.toList.drop 0 = dktX2_crowd_0 := by decide +kernel
theorem dksX2_crowd_1 : cX2_crowd.data.toList.drop 23 = dktX2_crowd_1 := dk_seg dksX2_crowd_0 23 rfl rfl
theorem dksX2_crowd_2 : cX2_crowd.data.toList.drop 47 = dktX2_crowd_2 := dk_seg dksX2_crowd_1 24 rfl rfl
theorem dX2_crowd_0 : decode cX2_crowd 0 = .ok (.iconst 0, 1) := dk_3 (dk_at dksX2_crowd_0 0 rfl rfl)
theorem dX2_crowd_1 : decode cX2_crowd 1 = .ok (.istore_n 2, 1) := dk_61 (dk_at dksX2_crowd_0 1 rfl rfl)
theorem dX2_crowd_2 : decode cX2_crowd 2 = .ok (.aload_n 0, 1) := dk_42 (dk_at dksX2_crowd_0 2 rfl rfl)
theorem dX2_crowd_3 : decode cX2_crowd 3 = .ok (.getfield 24, 3) := dk_180 0 24 (dk_at dksX2_crowd_0 3 rfl rfl)
theorem dX2_crowd_6 : decode cX2_crowd 6 = .ok (.invokevirtual 49, 3) := dk_182 0 49 (dk_at dksX2_crowd_0 6 rfl rfl)
theorem dX2_crowd_9 : decode cX2_crowd 9 = .ok (.istore_n 3, 1) := dk_62 (dk_at dksX2_crowd_0 9 rfl rfl)
theorem dX2_crowd_10 : decode cX2_crowd 10 = .ok (.iconst 0, 1) := dk_3 (dk_at dksX2_crowd_0 10 rfl rfl)
theorem dX2_crowd_11 : decode cX2_crowd 11 = .ok (.istore 4, 2) := dk_54 4 (dk_at dksX2_crowd_0 11 rfl rfl)
theorem dX2_crowd_13 : decode cX2_crowd 13 = .ok (.iload 4, 2) := dk_21 4 (dk_at dksX2_crowd_0 13 rfl rfl)
theorem dX2_crowd_15 : decode cX2_crowd 15 = .ok (.iload_n 3, 1) := dk_29 (dk_at dksX2_crowd_0 15 rfl rfl)
theorem dX2_crowd_16 : decode cX2_crowd 16 = .ok (.if_icmp .ge 51, 3) := dk_162 0 51 (dk_at dksX2_crowd_0 16 rfl rfl)
theorem dX2_crowd_19 : decode cX2_crowd 19 = .ok (.aload_n 0, 1) := dk_42 (dk_at dksX2_crowd_0 19 rfl rfl)
theorem dX2_crowd_20 : decode cX2_crowd 20 = .ok (.getfield 24, 3) := dk_180 0 24 (dk_at dksX2_crowd_0 20 rfl rfl)
theorem dX2_crowd_23 : decode cX2_crowd 23 = .ok (.iload 4, 2) := dk_21 4 (dk_at dksX2_crowd_1 0 rfl rfl)
theorem dX2_crowd_25 : decode cX2_crowd 25 = .ok (.invokevirtual 53, 3) := dk_182 0 53 (dk_at dksX2_crowd_1 2 rfl rfl)
theorem dX2_crowd_28 : decode cX2_crowd 28 = .ok (.checkcast 57, 3) := dk_192 0 57 (dk_at dksX2_crowd_1 5 rfl rfl)
theorem dX2_crowd_31 : decode cX2_crowd 31 = .ok (.astore 5, 2) := dk_58 5 (dk_at dksX2_crowd_1 8 rfl rfl)
theorem dX2_crowd_33 : decode cX2_crowd 33 = .ok (.iload_n 2, 1) := dk_28 (dk_at dksX2_crowd_1 10 rfl rfl)
theorem dX2_crowd_34 : decode cX2_crowd 34 = .ok (.aload 5, 2) := dk_25 5 (dk_at dksX2_crowd_1 11 rfl rfl)
theorem dX2_crowd_36 : decode cX2_crowd 36 = .ok (.invokevirtual 150, 3) := dk_182 0 150 (dk_at dksX2_crowd_1 13 rfl rfl)
theorem dX2_crowd_39 : decode cX2_crowd 39 = .ok (.ifCond .eq 19, 3) := dk_153 0 19 (dk_at dksX2_crowd_1 16 rfl rfl)
theorem dX2_crowd_42 : decode cX2_crowd 42 = .ok (.aload 5, 2) := dk_25 5 (dk_at dksX2_crowd_1 19 rfl rfl)
theorem dX2_crowd_44 : decode cX2_crowd 44 = .ok (.getfield 147, 3) := dk_180 0 147 (dk_at dksX2_crowd_1 21 rfl rfl)
theorem dX2_crowd_47 : decode cX2_crowd 47 = .ok (.iload_n 1, 1) := dk_27 (dk_at dksX2_crowd_2 0 rfl rfl)
theorem dX2_crowd_48 : decode cX2_crowd 48 = .ok (.invokestatic 129, 3) := dk_184 0 129 (dk_at dksX2_crowd_2 1 rfl rfl)
theorem dX2_crowd_51 : decode cX2_crowd 51 = .ok (.ifCond .eq 7, 3) := dk_153 0 7 (dk_at dksX2_crowd_2 4 rfl rfl)
theorem dX2_crowd_54 : decode cX2_crowd 54 = .ok (.iconst 1, 1) := dk_4 (dk_at dksX2_crowd_2 7 rfl rfl)
theorem dX2_crowd_55 : decode cX2_crowd 55 = .ok (.goto 4, 3) := dk_167 0 4 (dk_at dksX2_crowd_2 8 rfl rfl)
theorem dX2_crowd_58 : decode cX2_crowd 58 = .ok (.iconst 0, 1) := dk_3 (dk_at dksX2_crowd_2 11 rfl rfl)
theorem dX2_crowd_59 : decode cX2_crowd 59 = .ok (.iadd, 1) := dk_96 (dk_at dksX2_crowd_2 12 rfl rfl)
theorem dX2_crowd_60 : decode cX2_crowd 60 = .ok (.istore_n 2, 1) := dk_61 (dk_at dksX2_crowd_2 13 rfl rfl)
theorem dX2_crowd_61 : decode cX2_crowd 61 = .ok (.iinc 4 1, 3) := dk_132 4 1 (dk_at dksX2_crowd_2 14 rfl rfl)
theorem dX2_crowd_64 : decode cX2_crowd 64 = .ok (.goto (-51), 3) := dk_167 255 205 (dk_at dksX2_crowd_2 17 rfl rfl)
theorem dX2_crowd_67 : decode cX2_crowd 67 = .ok (.iload_n 2, 1) := dk_28 (dk_at dksX2_crowd_2 20 rfl rfl)
theorem dX2_crowd_68 : decode cX2_crowd 68 = .ok (.ireturn, 1) := dk_172 (dk_at dksX2_crowd_2 21 rfl rfl)
abbrev cX2_untilGone : ByteArray := prog_3_method_65_code
def yX2_untilGone : MethodName := ⟨RX2, "untilGone", "()I"⟩
def dkwX2_untilGone_1 : List UInt8 := [182, 1, 34, 132, 2, 1, 167, 255, 234, 2, 172]
abbrev dktX2_untilGone_1 : List UInt8 := dkwX2_untilGone_1 ++ []
def dkwX2_untilGone_0 : List UInt8 := [42, 182, 1, 50, 76, 3, 61, 28, 16, 40, 163, 0, 22, 43, 180, 0, 84, 154, 0, 5, 28, 172, 43]
abbrev dktX2_untilGone_0 : List UInt8 := dkwX2_untilGone_0 ++ dktX2_untilGone_1
theorem dksX2_untilGone_0 : cX2_untilGone.data.toList.drop 0 = dktX2_untilGone_0 := by decide +kernel
theorem dksX2_untilGone_1 : cX2_untilGone.data.toList.drop 23 = dktX2_untilGone_1 := dk_seg dksX2_untilGone_0 23 rfl rfl
theorem dX2_untilGone_0 : decode cX2_untilGone 0 = .ok (.aload_n 0, 1) := dk_42 (dk_at dksX2_untilGone_0 0 rfl rfl)
theorem dX2_untilGone_1 : decode cX2_untilGone 1 = .ok (.invokevirtual 306, 3) := dk_182 1 50 (dk_at dksX2_untilGone_0 1 rfl rfl)
theorem dX2_untilGone_4 : decode cX2_untilGone 4 = .ok (.astore_n 1, 1) := dk_76 (dk_at dksX2_untilGone_0 4 rfl rfl)
theorem dX2_untilGone_5 : decode cX2_untilGone 5 = .ok (.iconst 0, 1) := dk_3 (dk_at dksX2_untilGone_0 5 rfl rfl)
theorem dX2_untilGone_6 : decode cX2_untilGone 6 = .ok (.istore_n 2, 1) := dk_61 (dk_at dksX2_untilGone_0 6 rfl rfl)
theorem dX2_untilGone_7 : decode cX2_untilGone 7 = .ok (.iload_n 2, 1) := dk_28 (dk_at dksX2_untilGone_0 7 rfl rfl)
theorem dX2_untilGone_8 : decode cX2_untilGone 8 = .ok (.bipush 40, 2) := dk_16 40 (dk_at dksX2_untilGone_0 8 rfl rfl)
theorem dX2_untilGone_10 : decode cX2_untilGone 10 = .ok (.if_icmp .gt 22, 3) := dk_163 0 22 (dk_at dksX2_untilGone_0 10 rfl rfl)
theorem dX2_untilGone_13 : decode cX2_untilGone 13 = .ok (.aload_n 1, 1) := dk_43 (dk_at dksX2_untilGone_0 13 rfl rfl)
theorem dX2_untilGone_14 : decode cX2_untilGone 14 = .ok (.getfield 84, 3) := dk_180 0 84 (dk_at dksX2_untilGone_0 14 rfl rfl)
theorem dX2_untilGone_17 : decode cX2_untilGone 17 = .ok (.ifCond .ne 5, 3) := dk_154 0 5 (dk_at dksX2_untilGone_0 17 rfl rfl)
theorem dX2_untilGone_20 : decode cX2_untilGone 20 = .ok (.iload_n 2, 1) := dk_28 (dk_at dksX2_untilGone_0 20 rfl rfl)
theorem dX2_untilGone_21 : decode cX2_untilGone 21 = .ok (.ireturn, 1) := dk_172 (dk_at dksX2_untilGone_0 21 rfl rfl)
theorem dX2_untilGone_22 : decode cX2_untilGone 22 = .ok (.aload_n 1, 1) := dk_43 (dk_at dksX2_untilGone_0 22 rfl rfl)
theorem dX2_untilGone_23 : decode cX2_untilGone 23 = .ok (.invokevirtual 290, 3) := dk_182 1 34 (dk_at dksX2_untilGone_1 0 rfl rfl)
theorem dX2_untilGone_26 : decode cX2_untilGone 26 = .ok (.iinc 2 1, 3) := dk_132 2 1 (dk_at dksX2_untilGone_1 3 rfl rfl)
theorem dX2_untilGone_29 : decode cX2_untilGone 29 = .ok (.goto (-22), 3) := dk_167 255 234 (dk_at dksX2_untilGone_1 6 rfl rfl)
theorem dX2_untilGone_32 : decode cX2_untilGone 32 = .ok (.iconst (-1), 1) := dk_2 (dk_at dksX2_untilGone_1 9 rfl rfl)
theorem dX2_untilGone_33 : decode cX2_untilGone 33 = .ok (.ireturn, 1) := dk_172 (dk_at dksX2_untilGone_1 10 rfl rfl)
abbrev cX2_passOne : ByteArray := prog_3_method_48_code
def yX2_passOne : MethodName := ⟨RX2, "passOne", "()V"⟩
def dkwX2_passOne_2 : List UInt8 := [181, 0, 99, 42, 182, 0, 204, 177]
abbrev dktX2_passOne_2 : List UInt8 := dkwX2_passOne_2 ++ []
def dkwX2_passOne_1 : List UInt8 := [42, 89, 180, 0, 78, 4, 96, 181, 0, 78, 42, 42, 180, 0, 99, 42, 180, 0, 84, 184, 1, 10]
abbrev dktX2_passOne_1 : List UInt8 := dkwX2_passOne_1 ++ dktX2_passOne_2
def dkwX2_passOne_0 : List UInt8 := [42, 182, 1, 16, 42, 182, 1, 19, 42, 182, 1, 22, 42, 182, 1, 25, 42, 182, 1, 28, 42, 182, 1, 31]
abbrev dktX2_passOne_0 : List UInt8 := dkwX2_passOne_0 ++ dktX2_passOne_1
theorem dksX2_passOne_0 : cX2_passOne.data.toList.drop 0 = dktX2_passOne_0 := by decide +kernel
theorem dksX2_passOne_1 : cX2_passOne.data.toList.drop 24 = dktX2_passOne_1 := dk_seg dksX2_passOne_0 24 rfl rfl
theorem dksX2_passOne_2 : cX2_passOne.data.toList.drop 46 = dktX2_passOne_2 := dk_seg dksX2_passOne_1 22 rfl rfl
theorem dX2_passOne_0 : decode cX2_passOne 0 = .ok (.aload_n 0, 1) := dk_42 (dk_at dksX2_passOne_0 0 rfl rfl)
theorem dX2_passOne_1 : decode cX2_passOne 1 = .ok (.invokevirtual 272, 3) := dk_182 1 16 (dk_at dksX2_passOne_0 1 rfl rfl)
theorem dX2_passOne_4 : decode cX2_passOne 4 = .ok (.aload_n 0, 1) := dk_42 (dk_at dksX2_passOne_0 4 rfl rfl)
theorem dX2_passOne_5 : decode cX2_passOne 5 = .ok (.invokevirtual 275, 3) := dk_182 1 19 (dk_at dksX2_passOne_0 5 rfl rfl)
theorem dX2_passOne_8 : decode cX2_passOne 8 = .ok (.aload_n 0, 1) := dk_42 (dk_at dksX2_passOne_0 8 rfl rfl)
theorem dX2_passOne_9 : decode cX2_passOne 9 = .ok (.invokevirtual 278, 3) := dk_182 1 22 (dk_at dksX2_passOne_0 9 rfl rfl)
theorem dX2_passOne_12 : decode cX2_passOne 12 = .ok (.aload_n 0, 1) := dk_42 (dk_at dksX2_passOne_0 12 rfl rfl)
theorem dX2_passOne_13 : decode cX2_passOne 13 = .ok (.invokevirtual 281, 3) := dk_182 1 25 (dk_at dksX2_passOne_0 13 rfl rfl)
theorem dX2_passOne_16 : decode cX2_passOne 16 = .ok (.aload_n 0, 1) := dk_42 (dk_at dksX2_passOne_0 16 rfl rfl)
theorem dX2_passOne_17 : decode cX2_passOne 17 = .ok (.invokevirtual 284, 3) := dk_182 1 28 (dk_at dksX2_passOne_0 17 rfl rfl)
theorem dX2_passOne_20 : decode cX2_passOne 20 = .ok (.aload_n 0, 1) := dk_42 (dk_at dksX2_passOne_0 20 rfl rfl)
theorem dX2_passOne_21 : decode cX2_passOne 21 = .ok (.invokevirtual 287, 3) := dk_182 1 31 (dk_at dksX2_passOne_0 21 rfl rfl)
theorem dX2_passOne_24 : decode cX2_passOne 24 = .ok (.aload_n 0, 1) := dk_42 (dk_at dksX2_passOne_1 0 rfl rfl)
theorem dX2_passOne_25 : decode cX2_passOne 25 = .ok (.dup, 1) := dk_89 (dk_at dksX2_passOne_1 1 rfl rfl)
theorem dX2_passOne_26 : decode cX2_passOne 26 = .ok (.getfield 78, 3) := dk_180 0 78 (dk_at dksX2_passOne_1 2 rfl rfl)
theorem dX2_passOne_29 : decode cX2_passOne 29 = .ok (.iconst 1, 1) := dk_4 (dk_at dksX2_passOne_1 5 rfl rfl)
theorem dX2_passOne_30 : decode cX2_passOne 30 = .ok (.iadd, 1) := dk_96 (dk_at dksX2_passOne_1 6 rfl rfl)
theorem dX2_passOne_31 : decode cX2_passOne 31 = .ok (.putfield 78, 3) := dk_181 0 78 (dk_at dksX2_passOne_1 7 rfl rfl)
theorem dX2_passOne_34 : decode cX2_passOne 34 = .ok (.aload_n 0, 1) := dk_42 (dk_at dksX2_passOne_1 10 rfl rfl)
theorem dX2_passOne_35 : decode cX2_passOne 35 = .ok (.aload_n 0, 1) := dk_42 (dk_at dksX2_passOne_1 11 rfl rfl)
theorem dX2_passOne_36 : decode cX2_passOne 36 = .ok (.getfield 99, 3) := dk_180 0 99 (dk_at dksX2_passOne_1 12 rfl rfl)
theorem dX2_passOne_39 : decode cX2_passOne 39 = .ok (.aload_n 0, 1) := dk_42 (dk_at dksX2_passOne_1 15 rfl rfl)
theorem dX2_passOne_40 : decode cX2_passOne 40 = .ok (.getfield 84, 3) := dk_180 0 84 (dk_at dksX2_passOne_1 16 rfl rfl)
theorem dX2_passOne_43 : decode cX2_passOne 43 = .ok (.invokestatic 266, 3) := dk_184 1 10 (dk_at dksX2_passOne_1 19 rfl rfl)
theorem dX2_passOne_46 : decode cX2_passOne 46 = .ok (.putfield 99, 3) := dk_181 0 99 (dk_at dksX2_passOne_2 0 rfl rfl)
theorem dX2_passOne_49 : decode cX2_passOne 49 = .ok (.aload_n 0, 1) := dk_42 (dk_at dksX2_passOne_2 3 rfl rfl)
theorem dX2_passOne_50 : decode cX2_passOne 50 = .ok (.invokevirtual 204, 3) := dk_182 0 204 (dk_at dksX2_passOne_2 4 rfl rfl)
theorem dX2_passOne_53 : decode cX2_passOne 53 = .ok (.return_, 1) := dk_177 (dk_at dksX2_passOne_2 7 rfl rfl)
abbrev cX2_growVoles : ByteArray := prog_3_method_36_code
def yX2_growVoles : MethodName := ⟨RX2, "growVoles", "()V"⟩
def dkwX2_growVoles_1 : List UInt8 := [167, 255, 236, 177]
abbrev dktX2_growVoles_1 : List UInt8 := dkwX2_growVoles_1 ++ []
def dkwX2_growVoles_0 : List UInt8 := [3, 60, 27, 16, 64, 162, 0, 20, 42, 180, 0, 15, 27, 42, 27, 182, 0, 235, 79, 132, 1, 1]
abbrev dktX2_growVoles_0 : List UInt8 := dkwX2_growVoles_0 ++ dktX2_growVoles_1
theorem dksX2_growVoles_0 : cX2_growVoles.data.toList.drop 0 = dktX2_growVoles_0 := by decide +kernel
theorem dksX2_growVoles_1 : cX2_growVoles.data.toList.drop 22 = dktX2_growVoles_1 := dk_seg dksX2_growVoles_0 22 rfl rfl
theorem dX2_growVoles_0 : decode cX2_growVoles 0 = .ok (.iconst 0, 1) := dk_3 (dk_at dksX2_growVoles_0 0 rfl rfl)
theorem dX2_growVoles_1 : decode cX2_growVoles 1 = .ok (.istore_n 1, 1) := dk_60 (dk_at dksX2_growVoles_0 1 rfl rfl)
theorem dX2_growVoles_2 : decode cX2_growVoles 2 = .ok (.iload_n 1, 1) := dk_27 (dk_at dksX2_growVoles_0 2 rfl rfl)
theorem dX2_growVoles_3 : decode cX2_growVoles 3 = .ok (.bipush 64, 2) := dk_16 64 (dk_at dksX2_growVoles_0 3 rfl rfl)
theorem dX2_growVoles_5 : decode cX2_growVoles 5 = .ok (.if_icmp .ge 20, 3) := dk_162 0 20 (dk_at dksX2_growVoles_0 5 rfl rfl)
theorem dX2_growVoles_8 : decode cX2_growVoles 8 = .ok (.aload_n 0, 1) := dk_42 (dk_at dksX2_growVoles_0 8 rfl rfl)
theorem dX2_growVoles_9 : decode cX2_growVoles 9 = .ok (.getfield 15, 3) := dk_180 0 15 (dk_at dksX2_growVoles_0 9 rfl rfl)
theorem dX2_growVoles_12 : decode cX2_growVoles 12 = .ok (.iload_n 1, 1) := dk_27 (dk_at dksX2_growVoles_0 12 rfl rfl)
theorem dX2_growVoles_13 : decode cX2_growVoles 13 = .ok (.aload_n 0, 1) := dk_42 (dk_at dksX2_growVoles_0 13 rfl rfl)
theorem dX2_growVoles_14 : decode cX2_growVoles 14 = .ok (.iload_n 1, 1) := dk_27 (dk_at dksX2_growVoles_0 14 rfl rfl)
theorem dX2_growVoles_15 : decode cX2_growVoles 15 = .ok (.invokevirtual 235, 3) := dk_182 0 235 (dk_at dksX2_growVoles_0 15 rfl rfl)
theorem dX2_growVoles_18 : decode cX2_growVoles 18 = .ok (.iastore, 1) := dk_79 (dk_at dksX2_growVoles_0 18 rfl rfl)
theorem dX2_growVoles_19 : decode cX2_growVoles 19 = .ok (.iinc 1 1, 3) := dk_132 1 1 (dk_at dksX2_growVoles_0 19 rfl rfl)
theorem dX2_growVoles_22 : decode cX2_growVoles 22 = .ok (.goto (-20), 3) := dk_167 255 236 (dk_at dksX2_growVoles_1 0 rfl rfl)
theorem dX2_growVoles_25 : decode cX2_growVoles 25 = .ok (.return_, 1) := dk_177 (dk_at dksX2_growVoles_1 3 rfl rfl)
abbrev cX2_volesNext : ByteArray := prog_3_method_35_code
def yX2_volesNext : MethodName := ⟨RX2, "volesNext", "(I)I"⟩
def dkwX2_volesNext_6 : List UInt8 := [96, 16, 90, 184, 0, 214, 172, 28, 16, 20, 96, 5, 108, 16, 40, 184, 0, 214, 172, 3, 172]
abbrev dktX2_volesNext_6 : List UInt8 := dkwX2_volesNext_6 ++ []
def dkwX2_volesNext_5 : List UInt8 := [167, 0, 19, 29, 5, 160, 0, 11, 28, 28, 7, 108, 96, 167, 0, 6, 28, 5, 108, 54, 5, 21, 5, 5]
abbrev dktX2_volesNext_5 : List UInt8 := dkwX2_volesNext_5 ++ dktX2_volesNext_6
def dkwX2_volesNext_4 : List UInt8 := [184, 0, 214, 172, 29, 154, 0, 7, 28, 167, 0, 32, 29, 4, 160, 0, 11, 28, 28, 5, 108, 96]
abbrev dktX2_volesNext_4 : List UInt8 := dkwX2_volesNext_4 ++ dktX2_volesNext_5
def dkwX2_volesNext_3 : List UInt8 := [5, 160, 0, 11, 28, 28, 5, 108, 96, 167, 0, 6, 28, 7, 108, 54, 4, 21, 4, 5, 96, 17, 0, 160]
abbrev dktX2_volesNext_3 : List UInt8 := dkwX2_volesNext_3 ++ dktX2_volesNext_4
def dkwX2_volesNext_2 : List UInt8 := [29, 154, 0, 11, 28, 28, 7, 108, 96, 167, 0, 30, 29, 4, 160, 0, 9, 5, 28, 104, 167, 0, 19, 29]
abbrev dktX2_volesNext_2 : List UInt8 := dkwX2_volesNext_2 ++ dktX2_volesNext_3
def dkwX2_volesNext_1 : List UInt8 := [170, 0, 0, 0, 0, 139, 0, 0, 0, 0, 0, 0, 0, 2, 0, 0, 0, 26, 0, 0, 0, 127, 0, 0, 0, 78]
abbrev dktX2_volesNext_1 : List UInt8 := dkwX2_volesNext_1 ++ dktX2_volesNext_2
def dkwX2_volesNext_0 : List UInt8 := [42, 180, 0, 15, 27, 46, 61, 42, 182, 0, 232, 62, 42, 180, 0, 9, 27, 46]
abbrev dktX2_volesNext_0 : List UInt8 := dkwX2_volesNext_0 ++ dktX2_volesNext_1
theorem dksX2_volesNext_0 : cX2_volesNext.data.toList.drop 0 = dktX2_volesNext_0 := by decide +kernel
theorem dksX2_volesNext_1 : cX2_volesNext.data.toList.drop 18 = dktX2_volesNext_1 := dk_seg dksX2_volesNext_0 18 rfl rfl
theorem dksX2_volesNext_2 : cX2_volesNext.data.toList.drop 44 = dktX2_volesNext_2 := dk_seg dksX2_volesNext_1 26 rfl rfl
theorem dksX2_volesNext_3 : cX2_volesNext.data.toList.drop 68 = dktX2_volesNext_3 := dk_seg dksX2_volesNext_2 24 rfl rfl
theorem dksX2_volesNext_4 : cX2_volesNext.data.toList.drop 92 = dktX2_volesNext_4 := dk_seg dksX2_volesNext_3 24 rfl rfl
theorem dksX2_volesNext_5 : cX2_volesNext.data.toList.drop 114 = dktX2_volesNext_5 := dk_seg dksX2_volesNext_4 22 rfl rfl
theorem dksX2_volesNext_6 : cX2_volesNext.data.toList.drop 138 = dktX2_volesNext_6 := dk_seg dksX2_volesNext_5 24 rfl rfl
theorem dX2_volesNext_0 : decode cX2_volesNext 0 = .ok (.aload_n 0, 1) := dk_42 (dk_at dksX2_volesNext_0 0 rfl rfl)
theorem dX2_volesNext_1 : decode cX2_volesNext 1 = .ok (.getfield 15, 3) := dk_180 0 15 (dk_at dksX2_volesNext_0 1 rfl rfl)
theorem dX2_volesNext_4 : decode cX2_volesNext 4 = .ok (.iload_n 1, 1) := dk_27 (dk_at dksX2_volesNext_0 4 rfl rfl)
theorem dX2_volesNext_5 : decode cX2_volesNext 5 = .ok (.iaload, 1) := dk_46 (dk_at dksX2_volesNext_0 5 rfl rfl)
theorem dX2_volesNext_6 : decode cX2_volesNext 6 = .ok (.istore_n 2, 1) := dk_61 (dk_at dksX2_volesNext_0 6 rfl rfl)
theorem dX2_volesNext_7 : decode cX2_volesNext 7 = .ok (.aload_n 0, 1) := dk_42 (dk_at dksX2_volesNext_0 7 rfl rfl)
theorem dX2_volesNext_8 : decode cX2_volesNext 8 = .ok (.invokevirtual 232, 3) := dk_182 0 232 (dk_at dksX2_volesNext_0 8 rfl rfl)
theorem dX2_volesNext_11 : decode cX2_volesNext 11 = .ok (.istore_n 3, 1) := dk_62 (dk_at dksX2_volesNext_0 11 rfl rfl)
theorem dX2_volesNext_12 : decode cX2_volesNext 12 = .ok (.aload_n 0, 1) := dk_42 (dk_at dksX2_volesNext_0 12 rfl rfl)
theorem dX2_volesNext_13 : decode cX2_volesNext 13 = .ok (.getfield 9, 3) := dk_180 0 9 (dk_at dksX2_volesNext_0 13 rfl rfl)
theorem dX2_volesNext_16 : decode cX2_volesNext 16 = .ok (.iload_n 1, 1) := dk_27 (dk_at dksX2_volesNext_0 16 rfl rfl)
theorem dX2_volesNext_17 : decode cX2_volesNext 17 = .ok (.iaload, 1) := dk_46 (dk_at dksX2_volesNext_0 17 rfl rfl)
theorem dX2_volesNext_18 : decode cX2_volesNext 18 = .ok (.tableswitch 139 0 2 #[26, 127, 78], 26) := by decide +kernel
theorem dX2_volesNext_44 : decode cX2_volesNext 44 = .ok (.iload_n 3, 1) := dk_29 (dk_at dksX2_volesNext_2 0 rfl rfl)
theorem dX2_volesNext_45 : decode cX2_volesNext 45 = .ok (.ifCond .ne 11, 3) := dk_154 0 11 (dk_at dksX2_volesNext_2 1 rfl rfl)
theorem dX2_volesNext_48 : decode cX2_volesNext 48 = .ok (.iload_n 2, 1) := dk_28 (dk_at dksX2_volesNext_2 4 rfl rfl)
theorem dX2_volesNext_49 : decode cX2_volesNext 49 = .ok (.iload_n 2, 1) := dk_28 (dk_at dksX2_volesNext_2 5 rfl rfl)
theorem dX2_volesNext_50 : decode cX2_volesNext 50 = .ok (.iconst 4, 1) := dk_7 (dk_at dksX2_volesNext_2 6 rfl rfl)
theorem dX2_volesNext_51 : decode cX2_volesNext 51 = .ok (.idiv, 1) := dk_108 (dk_at dksX2_volesNext_2 7 rfl rfl)
theorem dX2_volesNext_52 : decode cX2_volesNext 52 = .ok (.iadd, 1) := dk_96 (dk_at dksX2_volesNext_2 8 rfl rfl)
theorem dX2_volesNext_53 : decode cX2_volesNext 53 = .ok (.goto 30, 3) := dk_167 0 30 (dk_at dksX2_volesNext_2 9 rfl rfl)
theorem dX2_volesNext_56 : decode cX2_volesNext 56 = .ok (.iload_n 3, 1) := dk_29 (dk_at dksX2_volesNext_2 12 rfl rfl)
theorem dX2_volesNext_57 : decode cX2_volesNext 57 = .ok (.iconst 1, 1) := dk_4 (dk_at dksX2_volesNext_2 13 rfl rfl)
theorem dX2_volesNext_58 : decode cX2_volesNext 58 = .ok (.if_icmp .ne 9, 3) := dk_160 0 9 (dk_at dksX2_volesNext_2 14 rfl rfl)
theorem dX2_volesNext_61 : decode cX2_volesNext 61 = .ok (.iconst 2, 1) := dk_5 (dk_at dksX2_volesNext_2 17 rfl rfl)
theorem dX2_volesNext_62 : decode cX2_volesNext 62 = .ok (.iload_n 2, 1) := dk_28 (dk_at dksX2_volesNext_2 18 rfl rfl)
theorem dX2_volesNext_63 : decode cX2_volesNext 63 = .ok (.imul, 1) := dk_104 (dk_at dksX2_volesNext_2 19 rfl rfl)
theorem dX2_volesNext_64 : decode cX2_volesNext 64 = .ok (.goto 19, 3) := dk_167 0 19 (dk_at dksX2_volesNext_2 20 rfl rfl)
theorem dX2_volesNext_67 : decode cX2_volesNext 67 = .ok (.iload_n 3, 1) := dk_29 (dk_at dksX2_volesNext_2 23 rfl rfl)
theorem dX2_volesNext_68 : decode cX2_volesNext 68 = .ok (.iconst 2, 1) := dk_5 (dk_at dksX2_volesNext_3 0 rfl rfl)
theorem dX2_volesNext_69 : decode cX2_volesNext 69 = .ok (.if_icmp .ne 11, 3) := dk_160 0 11 (dk_at dksX2_volesNext_3 1 rfl rfl)
theorem dX2_volesNext_72 : decode cX2_volesNext 72 = .ok (.iload_n 2, 1) := dk_28 (dk_at dksX2_volesNext_3 4 rfl rfl)
theorem dX2_volesNext_73 : decode cX2_volesNext 73 = .ok (.iload_n 2, 1) := dk_28 (dk_at dksX2_volesNext_3 5 rfl rfl)
theorem dX2_volesNext_74 : decode cX2_volesNext 74 = .ok (.iconst 2, 1) := dk_5 (dk_at dksX2_volesNext_3 6 rfl rfl)
theorem dX2_volesNext_75 : decode cX2_volesNext 75 = .ok (.idiv, 1) := dk_108 (dk_at dksX2_volesNext_3 7 rfl rfl)
theorem dX2_volesNext_76 : decode cX2_volesNext 76 = .ok (.iadd, 1) := dk_96 (dk_at dksX2_volesNext_3 8 rfl rfl)
theorem dX2_volesNext_77 : decode cX2_volesNext 77 = .ok (.goto 6, 3) := dk_167 0 6 (dk_at dksX2_volesNext_3 9 rfl rfl)
theorem dX2_volesNext_80 : decode cX2_volesNext 80 = .ok (.iload_n 2, 1) := dk_28 (dk_at dksX2_volesNext_3 12 rfl rfl)
theorem dX2_volesNext_81 : decode cX2_volesNext 81 = .ok (.iconst 4, 1) := dk_7 (dk_at dksX2_volesNext_3 13 rfl rfl)
theorem dX2_volesNext_82 : decode cX2_volesNext 82 = .ok (.idiv, 1) := dk_108 (dk_at dksX2_volesNext_3 14 rfl rfl)
theorem dX2_volesNext_83 : decode cX2_volesNext 83 = .ok (.istore 4, 2) := dk_54 4 (dk_at dksX2_volesNext_3 15 rfl rfl)
theorem dX2_volesNext_85 : decode cX2_volesNext 85 = .ok (.iload 4, 2) := dk_21 4 (dk_at dksX2_volesNext_3 17 rfl rfl)
theorem dX2_volesNext_87 : decode cX2_volesNext 87 = .ok (.iconst 2, 1) := dk_5 (dk_at dksX2_volesNext_3 19 rfl rfl)
theorem dX2_volesNext_88 : decode cX2_volesNext 88 = .ok (.iadd, 1) := dk_96 (dk_at dksX2_volesNext_3 20 rfl rfl)
theorem dX2_volesNext_89 : decode cX2_volesNext 89 = .ok (.sipush 160, 3) := dk_17 0 160 (dk_at dksX2_volesNext_3 21 rfl rfl)
theorem dX2_volesNext_92 : decode cX2_volesNext 92 = .ok (.invokestatic 214, 3) := dk_184 0 214 (dk_at dksX2_volesNext_4 0 rfl rfl)
theorem dX2_volesNext_95 : decode cX2_volesNext 95 = .ok (.ireturn, 1) := dk_172 (dk_at dksX2_volesNext_4 3 rfl rfl)
theorem dX2_volesNext_96 : decode cX2_volesNext 96 = .ok (.iload_n 3, 1) := dk_29 (dk_at dksX2_volesNext_4 4 rfl rfl)
theorem dX2_volesNext_97 : decode cX2_volesNext 97 = .ok (.ifCond .ne 7, 3) := dk_154 0 7 (dk_at dksX2_volesNext_4 5 rfl rfl)
theorem dX2_volesNext_100 : decode cX2_volesNext 100 = .ok (.iload_n 2, 1) := dk_28 (dk_at dksX2_volesNext_4 8 rfl rfl)
theorem dX2_volesNext_101 : decode cX2_volesNext 101 = .ok (.goto 32, 3) := dk_167 0 32 (dk_at dksX2_volesNext_4 9 rfl rfl)
theorem dX2_volesNext_104 : decode cX2_volesNext 104 = .ok (.iload_n 3, 1) := dk_29 (dk_at dksX2_volesNext_4 12 rfl rfl)
theorem dX2_volesNext_105 : decode cX2_volesNext 105 = .ok (.iconst 1, 1) := dk_4 (dk_at dksX2_volesNext_4 13 rfl rfl)
theorem dX2_volesNext_106 : decode cX2_volesNext 106 = .ok (.if_icmp .ne 11, 3) := dk_160 0 11 (dk_at dksX2_volesNext_4 14 rfl rfl)
theorem dX2_volesNext_109 : decode cX2_volesNext 109 = .ok (.iload_n 2, 1) := dk_28 (dk_at dksX2_volesNext_4 17 rfl rfl)
theorem dX2_volesNext_110 : decode cX2_volesNext 110 = .ok (.iload_n 2, 1) := dk_28 (dk_at dksX2_volesNext_4 18 rfl rfl)
theorem dX2_volesNext_111 : decode cX2_volesNext 111 = .ok (.iconst 2, 1) := dk_5 (dk_at dksX2_volesNext_4 19 rfl rfl)
theorem dX2_volesNext_112 : decode cX2_volesNext 112 = .ok (.idiv, 1) := dk_108 (dk_at dksX2_volesNext_4 20 rfl rfl)
theorem dX2_volesNext_113 : decode cX2_volesNext 113 = .ok (.iadd, 1) := dk_96 (dk_at dksX2_volesNext_4 21 rfl rfl)
theorem dX2_volesNext_114 : decode cX2_volesNext 114 = .ok (.goto 19, 3) := dk_167 0 19 (dk_at dksX2_volesNext_5 0 rfl rfl)
theorem dX2_volesNext_117 : decode cX2_volesNext 117 = .ok (.iload_n 3, 1) := dk_29 (dk_at dksX2_volesNext_5 3 rfl rfl)
theorem dX2_volesNext_118 : decode cX2_volesNext 118 = .ok (.iconst 2, 1) := dk_5 (dk_at dksX2_volesNext_5 4 rfl rfl)
theorem dX2_volesNext_119 : decode cX2_volesNext 119 = .ok (.if_icmp .ne 11, 3) := dk_160 0 11 (dk_at dksX2_volesNext_5 5 rfl rfl)
theorem dX2_volesNext_122 : decode cX2_volesNext 122 = .ok (.iload_n 2, 1) := dk_28 (dk_at dksX2_volesNext_5 8 rfl rfl)
theorem dX2_volesNext_123 : decode cX2_volesNext 123 = .ok (.iload_n 2, 1) := dk_28 (dk_at dksX2_volesNext_5 9 rfl rfl)
theorem dX2_volesNext_124 : decode cX2_volesNext 124 = .ok (.iconst 4, 1) := dk_7 (dk_at dksX2_volesNext_5 10 rfl rfl)
theorem dX2_volesNext_125 : decode cX2_volesNext 125 = .ok (.idiv, 1) := dk_108 (dk_at dksX2_volesNext_5 11 rfl rfl)
theorem dX2_volesNext_126 : decode cX2_volesNext 126 = .ok (.iadd, 1) := dk_96 (dk_at dksX2_volesNext_5 12 rfl rfl)
theorem dX2_volesNext_127 : decode cX2_volesNext 127 = .ok (.goto 6, 3) := dk_167 0 6 (dk_at dksX2_volesNext_5 13 rfl rfl)
theorem dX2_volesNext_130 : decode cX2_volesNext 130 = .ok (.iload_n 2, 1) := dk_28 (dk_at dksX2_volesNext_5 16 rfl rfl)
theorem dX2_volesNext_131 : decode cX2_volesNext 131 = .ok (.iconst 2, 1) := dk_5 (dk_at dksX2_volesNext_5 17 rfl rfl)
theorem dX2_volesNext_132 : decode cX2_volesNext 132 = .ok (.idiv, 1) := dk_108 (dk_at dksX2_volesNext_5 18 rfl rfl)
theorem dX2_volesNext_133 : decode cX2_volesNext 133 = .ok (.istore 5, 2) := dk_54 5 (dk_at dksX2_volesNext_5 19 rfl rfl)
theorem dX2_volesNext_135 : decode cX2_volesNext 135 = .ok (.iload 5, 2) := dk_21 5 (dk_at dksX2_volesNext_5 21 rfl rfl)
theorem dX2_volesNext_137 : decode cX2_volesNext 137 = .ok (.iconst 2, 1) := dk_5 (dk_at dksX2_volesNext_5 23 rfl rfl)
theorem dX2_volesNext_138 : decode cX2_volesNext 138 = .ok (.iadd, 1) := dk_96 (dk_at dksX2_volesNext_6 0 rfl rfl)
theorem dX2_volesNext_139 : decode cX2_volesNext 139 = .ok (.bipush 90, 2) := dk_16 90 (dk_at dksX2_volesNext_6 1 rfl rfl)
theorem dX2_volesNext_141 : decode cX2_volesNext 141 = .ok (.invokestatic 214, 3) := dk_184 0 214 (dk_at dksX2_volesNext_6 3 rfl rfl)
theorem dX2_volesNext_144 : decode cX2_volesNext 144 = .ok (.ireturn, 1) := dk_172 (dk_at dksX2_volesNext_6 6 rfl rfl)
theorem dX2_volesNext_145 : decode cX2_volesNext 145 = .ok (.iload_n 2, 1) := dk_28 (dk_at dksX2_volesNext_6 7 rfl rfl)
theorem dX2_volesNext_146 : decode cX2_volesNext 146 = .ok (.bipush 20, 2) := dk_16 20 (dk_at dksX2_volesNext_6 8 rfl rfl)
theorem dX2_volesNext_148 : decode cX2_volesNext 148 = .ok (.iadd, 1) := dk_96 (dk_at dksX2_volesNext_6 10 rfl rfl)
theorem dX2_volesNext_149 : decode cX2_volesNext 149 = .ok (.iconst 2, 1) := dk_5 (dk_at dksX2_volesNext_6 11 rfl rfl)
theorem dX2_volesNext_150 : decode cX2_volesNext 150 = .ok (.idiv, 1) := dk_108 (dk_at dksX2_volesNext_6 12 rfl rfl)
theorem dX2_volesNext_151 : decode cX2_volesNext 151 = .ok (.bipush 40, 2) := dk_16 40 (dk_at dksX2_volesNext_6 13 rfl rfl)
theorem dX2_volesNext_153 : decode cX2_volesNext 153 = .ok (.invokestatic 214, 3) := dk_184 0 214 (dk_at dksX2_volesNext_6 15 rfl rfl)
theorem dX2_volesNext_156 : decode cX2_volesNext 156 = .ok (.ireturn, 1) := dk_172 (dk_at dksX2_volesNext_6 18 rfl rfl)
theorem dX2_volesNext_157 : decode cX2_volesNext 157 = .ok (.iconst 0, 1) := dk_3 (dk_at dksX2_volesNext_6 19 rfl rfl)
theorem dX2_volesNext_158 : decode cX2_volesNext 158 = .ok (.ireturn, 1) := dk_172 (dk_at dksX2_volesNext_6 20 rfl rfl)
abbrev cX2_hunger : ByteArray := prog_3_method_40_code
def yX2_hunger : MethodName := ⟨RX2, "hunger", "()V"⟩
def dkwX2_hunger_2 : List UInt8 := [182, 0, 253, 132, 2, 1, 167, 255, 214, 177]
abbrev dktX2_hunger_2 : List UInt8 := dkwX2_hunger_2 ++ []
def dkwX2_hunger_1 : List UInt8 := [192, 0, 57, 78, 45, 182, 0, 150, 153, 0, 18, 42, 45, 42, 45, 182, 0, 245, 182, 0, 249, 42, 45]
abbrev dktX2_hunger_1 : List UInt8 := dkwX2_hunger_1 ++ dktX2_hunger_2
def dkwX2_hunger_0 : List UInt8 := [42, 180, 0, 24, 182, 0, 49, 60, 3, 61, 28, 27, 162, 0, 43, 42, 180, 0, 24, 28, 182, 0, 53]
abbrev dktX2_hunger_0 : List UInt8 := dkwX2_hunger_0 ++ dktX2_hunger_1
theorem dksX2_hunger_0 : cX2_hunger.data.toList.drop 0 = dktX2_hunger_0 := by decide +kernel
theorem dksX2_hunger_1 : cX2_hunger.data.toList.drop 23 = dktX2_hunger_1 := dk_seg dksX2_hunger_0 23 rfl rfl
theorem dksX2_hunger_2 : cX2_hunger.data.toList.drop 46 = dktX2_hunger_2 := dk_seg dksX2_hunger_1 23 rfl rfl
theorem dX2_hunger_0 : decode cX2_hunger 0 = .ok (.aload_n 0, 1) := dk_42 (dk_at dksX2_hunger_0 0 rfl rfl)
theorem dX2_hunger_1 : decode cX2_hunger 1 = .ok (.getfield 24, 3) := dk_180 0 24 (dk_at dksX2_hunger_0 1 rfl rfl)
theorem dX2_hunger_4 : decode cX2_hunger 4 = .ok (.invokevirtual 49, 3) := dk_182 0 49 (dk_at dksX2_hunger_0 4 rfl rfl)
theorem dX2_hunger_7 : decode cX2_hunger 7 = .ok (.istore_n 1, 1) := dk_60 (dk_at dksX2_hunger_0 7 rfl rfl)
theorem dX2_hunger_8 : decode cX2_hunger 8 = .ok (.iconst 0, 1) := dk_3 (dk_at dksX2_hunger_0 8 rfl rfl)
theorem dX2_hunger_9 : decode cX2_hunger 9 = .ok (.istore_n 2, 1) := dk_61 (dk_at dksX2_hunger_0 9 rfl rfl)
theorem dX2_hunger_10 : decode cX2_hunger 10 = .ok (.iload_n 2, 1) := dk_28 (dk_at dksX2_hunger_0 10 rfl rfl)
theorem dX2_hunger_11 : decode cX2_hunger 11 = .ok (.iload_n 1, 1) := dk_27 (dk_at dksX2_hunger_0 11 rfl rfl)
theorem dX2_hunger_12 : decode cX2_hunger 12 = .ok (.if_icmp .ge 43, 3) := dk_162 0 43 (dk_at dksX2_hunger_0 12 rfl rfl)
theorem dX2_hunger_15 : decode cX2_hunger 15 = .ok (.aload_n 0, 1) := dk_42 (dk_at dksX2_hunger_0 15 rfl rfl)
theorem dX2_hunger_16 : decode cX2_hunger 16 = .ok (.getfield 24, 3) := dk_180 0 24 (dk_at dksX2_hunger_0 16 rfl rfl)
theorem dX2_hunger_19 : decode cX2_hunger 19 = .ok (.iload_n 2, 1) := dk_28 (dk_at dksX2_hunger_0 19 rfl rfl)
theorem dX2_hunger_20 : decode cX2_hunger 20 = .ok (.invokevirtual 53, 3) := dk_182 0 53 (dk_at dksX2_hunger_0 20 rfl rfl)
theorem dX2_hunger_23 : decode cX2_hunger 23 = .ok (.checkcast 57, 3) := dk_192 0 57 (dk_at dksX2_hunger_1 0 rfl rfl)
theorem dX2_hunger_26 : decode cX2_hunger 26 = .ok (.astore_n 3, 1) := dk_78 (dk_at dksX2_hunger_1 3 rfl rfl)
theorem dX2_hunger_27 : decode cX2_hunger 27 = .ok (.aload_n 3, 1) := dk_45 (dk_at dksX2_hunger_1 4 rfl rfl)
theorem dX2_hunger_28 : decode cX2_hunger 28 = .ok (.invokevirtual 150, 3) := dk_182 0 150 (dk_at dksX2_hunger_1 5 rfl rfl)
theorem dX2_hunger_31 : decode cX2_hunger 31 = .ok (.ifCond .eq 18, 3) := dk_153 0 18 (dk_at dksX2_hunger_1 8 rfl rfl)
theorem dX2_hunger_34 : decode cX2_hunger 34 = .ok (.aload_n 0, 1) := dk_42 (dk_at dksX2_hunger_1 11 rfl rfl)
theorem dX2_hunger_35 : decode cX2_hunger 35 = .ok (.aload_n 3, 1) := dk_45 (dk_at dksX2_hunger_1 12 rfl rfl)
theorem dX2_hunger_36 : decode cX2_hunger 36 = .ok (.aload_n 0, 1) := dk_42 (dk_at dksX2_hunger_1 13 rfl rfl)
theorem dX2_hunger_37 : decode cX2_hunger 37 = .ok (.aload_n 3, 1) := dk_45 (dk_at dksX2_hunger_1 14 rfl rfl)
theorem dX2_hunger_38 : decode cX2_hunger 38 = .ok (.invokevirtual 245, 3) := dk_182 0 245 (dk_at dksX2_hunger_1 15 rfl rfl)
theorem dX2_hunger_41 : decode cX2_hunger 41 = .ok (.invokevirtual 249, 3) := dk_182 0 249 (dk_at dksX2_hunger_1 18 rfl rfl)
theorem dX2_hunger_44 : decode cX2_hunger 44 = .ok (.aload_n 0, 1) := dk_42 (dk_at dksX2_hunger_1 21 rfl rfl)
theorem dX2_hunger_45 : decode cX2_hunger 45 = .ok (.aload_n 3, 1) := dk_45 (dk_at dksX2_hunger_1 22 rfl rfl)
theorem dX2_hunger_46 : decode cX2_hunger 46 = .ok (.invokevirtual 253, 3) := dk_182 0 253 (dk_at dksX2_hunger_2 0 rfl rfl)
theorem dX2_hunger_49 : decode cX2_hunger 49 = .ok (.iinc 2 1, 3) := dk_132 2 1 (dk_at dksX2_hunger_2 3 rfl rfl)
theorem dX2_hunger_52 : decode cX2_hunger 52 = .ok (.goto (-42), 3) := dk_167 255 214 (dk_at dksX2_hunger_2 6 rfl rfl)
theorem dX2_hunger_55 : decode cX2_hunger 55 = .ok (.return_, 1) := dk_177 (dk_at dksX2_hunger_2 9 rfl rfl)
abbrev cX2_share : ByteArray := prog_3_method_15_code
def yX2_share : MethodName := ⟨RX2, "share", "(LOwlYears$Box;)I"⟩
def dkwX2_share_0 : List UInt8 := [42, 43, 180, 0, 147, 43, 182, 0, 150, 153, 0, 7, 3, 167, 0, 4, 4, 182, 0, 158, 172]
abbrev dktX2_share_0 : List UInt8 := dkwX2_share_0 ++ []
theorem dksX2_share_0 : cX2_share.data.toList.drop 0 = dktX2_share_0 := by decide +kernel
theorem dX2_share_0 : decode cX2_share 0 = .ok (.aload_n 0, 1) := dk_42 (dk_at dksX2_share_0 0 rfl rfl)
theorem dX2_share_1 : decode cX2_share 1 = .ok (.aload_n 1, 1) := dk_43 (dk_at dksX2_share_0 1 rfl rfl)
theorem dX2_share_2 : decode cX2_share 2 = .ok (.getfield 147, 3) := dk_180 0 147 (dk_at dksX2_share_0 2 rfl rfl)
theorem dX2_share_5 : decode cX2_share 5 = .ok (.aload_n 1, 1) := dk_43 (dk_at dksX2_share_0 5 rfl rfl)
theorem dX2_share_6 : decode cX2_share 6 = .ok (.invokevirtual 150, 3) := dk_182 0 150 (dk_at dksX2_share_0 6 rfl rfl)
theorem dX2_share_9 : decode cX2_share 9 = .ok (.ifCond .eq 7, 3) := dk_153 0 7 (dk_at dksX2_share_0 9 rfl rfl)
theorem dX2_share_12 : decode cX2_share 12 = .ok (.iconst 0, 1) := dk_3 (dk_at dksX2_share_0 12 rfl rfl)
theorem dX2_share_13 : decode cX2_share 13 = .ok (.goto 4, 3) := dk_167 0 4 (dk_at dksX2_share_0 13 rfl rfl)
theorem dX2_share_16 : decode cX2_share 16 = .ok (.iconst 1, 1) := dk_4 (dk_at dksX2_share_0 16 rfl rfl)
theorem dX2_share_17 : decode cX2_share 17 = .ok (.invokevirtual 158, 3) := dk_182 0 158 (dk_at dksX2_share_0 17 rfl rfl)
theorem dX2_share_20 : decode cX2_share 20 = .ok (.ireturn, 1) := dk_172 (dk_at dksX2_share_0 20 rfl rfl)
abbrev cX2_starve : ByteArray := prog_3_method_38_code
def yX2_starve : MethodName := ⟨RX2, "starve", "(LOwlYears$Box;I)V"⟩
def dkwX2_starve_3 : List UInt8 := [42, 43, 182, 0, 241, 3, 182, 0, 238, 177]
abbrev dktX2_starve_3 : List UInt8 := dkwX2_starve_3 ++ []
def dkwX2_starve_2 : List UInt8 := [182, 0, 238, 132, 3, 1, 167, 255, 210, 167, 0, 24, 28, 16, 60, 43, 182, 0, 178, 104, 162, 0, 13, 42]
abbrev dktX2_starve_2 : List UInt8 := dkwX2_starve_2 ++ dktX2_starve_3
def dkwX2_starve_1 : List UInt8 := [167, 0, 13, 42, 43, 180, 0, 182, 29, 46, 182, 0, 219, 58, 4, 25, 4, 198, 0, 10, 42, 25, 4, 3]
abbrev dktX2_starve_1 : List UInt8 := dkwX2_starve_1 ++ dktX2_starve_2
def dkwX2_starve_0 : List UInt8 := [28, 16, 60, 162, 0, 57, 3, 62, 29, 4, 163, 0, 47, 43, 180, 0, 182, 29, 46, 2, 160, 0, 7, 1]
abbrev dktX2_starve_0 : List UInt8 := dkwX2_starve_0 ++ dktX2_starve_1
theorem dksX2_starve_0 : cX2_starve.data.toList.drop 0 = dktX2_starve_0 := by decide +kernel
theorem dksX2_starve_1 : cX2_starve.data.toList.drop 24 = dktX2_starve_1 := dk_seg dksX2_starve_0 24 rfl rfl
theorem dksX2_starve_2 : cX2_starve.data.toList.drop 48 = dktX2_starve_2 := dk_seg dksX2_starve_1 24 rfl rfl
theorem dksX2_starve_3 : cX2_starve.data.toList.drop 72 = dktX2_starve_3 := dk_seg dksX2_starve_2 24 rfl rfl
theorem dX2_starve_0 : decode cX2_starve 0 = .ok (.iload_n 2, 1) := dk_28 (dk_at dksX2_starve_0 0 rfl rfl)
theorem dX2_starve_1 : decode cX2_starve 1 = .ok (.bipush 60, 2) := dk_16 60 (dk_at dksX2_starve_0 1 rfl rfl)
theorem dX2_starve_3 : decode cX2_starve 3 = .ok (.if_icmp .ge 57, 3) := dk_162 0 57 (dk_at dksX2_starve_0 3 rfl rfl)
theorem dX2_starve_6 : decode cX2_starve 6 = .ok (.iconst 0, 1) := dk_3 (dk_at dksX2_starve_0 6 rfl rfl)
theorem dX2_starve_7 : decode cX2_starve 7 = .ok (.istore_n 3, 1) := dk_62 (dk_at dksX2_starve_0 7 rfl rfl)
theorem dX2_starve_8 : decode cX2_starve 8 = .ok (.iload_n 3, 1) := dk_29 (dk_at dksX2_starve_0 8 rfl rfl)
theorem dX2_starve_9 : decode cX2_starve 9 = .ok (.iconst 1, 1) := dk_4 (dk_at dksX2_starve_0 9 rfl rfl)
theorem dX2_starve_10 : decode cX2_starve 10 = .ok (.if_icmp .gt 47, 3) := dk_163 0 47 (dk_at dksX2_starve_0 10 rfl rfl)
theorem dX2_starve_13 : decode cX2_starve 13 = .ok (.aload_n 1, 1) := dk_43 (dk_at dksX2_starve_0 13 rfl rfl)
theorem dX2_starve_14 : decode cX2_starve 14 = .ok (.getfield 182, 3) := dk_180 0 182 (dk_at dksX2_starve_0 14 rfl rfl)
theorem dX2_starve_17 : decode cX2_starve 17 = .ok (.iload_n 3, 1) := dk_29 (dk_at dksX2_starve_0 17 rfl rfl)
theorem dX2_starve_18 : decode cX2_starve 18 = .ok (.iaload, 1) := dk_46 (dk_at dksX2_starve_0 18 rfl rfl)
theorem dX2_starve_19 : decode cX2_starve 19 = .ok (.iconst (-1), 1) := dk_2 (dk_at dksX2_starve_0 19 rfl rfl)
theorem dX2_starve_20 : decode cX2_starve 20 = .ok (.if_icmp .ne 7, 3) := dk_160 0 7 (dk_at dksX2_starve_0 20 rfl rfl)
theorem dX2_starve_23 : decode cX2_starve 23 = .ok (.aconst_null, 1) := dk_1 (dk_at dksX2_starve_0 23 rfl rfl)
theorem dX2_starve_24 : decode cX2_starve 24 = .ok (.goto 13, 3) := dk_167 0 13 (dk_at dksX2_starve_1 0 rfl rfl)
theorem dX2_starve_27 : decode cX2_starve 27 = .ok (.aload_n 0, 1) := dk_42 (dk_at dksX2_starve_1 3 rfl rfl)
theorem dX2_starve_28 : decode cX2_starve 28 = .ok (.aload_n 1, 1) := dk_43 (dk_at dksX2_starve_1 4 rfl rfl)
theorem dX2_starve_29 : decode cX2_starve 29 = .ok (.getfield 182, 3) := dk_180 0 182 (dk_at dksX2_starve_1 5 rfl rfl)
theorem dX2_starve_32 : decode cX2_starve 32 = .ok (.iload_n 3, 1) := dk_29 (dk_at dksX2_starve_1 8 rfl rfl)
theorem dX2_starve_33 : decode cX2_starve 33 = .ok (.iaload, 1) := dk_46 (dk_at dksX2_starve_1 9 rfl rfl)
theorem dX2_starve_34 : decode cX2_starve 34 = .ok (.invokevirtual 219, 3) := dk_182 0 219 (dk_at dksX2_starve_1 10 rfl rfl)
theorem dX2_starve_37 : decode cX2_starve 37 = .ok (.astore 4, 2) := dk_58 4 (dk_at dksX2_starve_1 13 rfl rfl)
theorem dX2_starve_39 : decode cX2_starve 39 = .ok (.aload 4, 2) := dk_25 4 (dk_at dksX2_starve_1 15 rfl rfl)
theorem dX2_starve_41 : decode cX2_starve 41 = .ok (.ifnull 10, 3) := dk_198 0 10 (dk_at dksX2_starve_1 17 rfl rfl)
theorem dX2_starve_44 : decode cX2_starve 44 = .ok (.aload_n 0, 1) := dk_42 (dk_at dksX2_starve_1 20 rfl rfl)
theorem dX2_starve_45 : decode cX2_starve 45 = .ok (.aload 4, 2) := dk_25 4 (dk_at dksX2_starve_1 21 rfl rfl)
theorem dX2_starve_47 : decode cX2_starve 47 = .ok (.iconst 0, 1) := dk_3 (dk_at dksX2_starve_1 23 rfl rfl)
theorem dX2_starve_48 : decode cX2_starve 48 = .ok (.invokevirtual 238, 3) := dk_182 0 238 (dk_at dksX2_starve_2 0 rfl rfl)
theorem dX2_starve_51 : decode cX2_starve 51 = .ok (.iinc 3 1, 3) := dk_132 3 1 (dk_at dksX2_starve_2 3 rfl rfl)
theorem dX2_starve_54 : decode cX2_starve 54 = .ok (.goto (-46), 3) := dk_167 255 210 (dk_at dksX2_starve_2 6 rfl rfl)
theorem dX2_starve_57 : decode cX2_starve 57 = .ok (.goto 24, 3) := dk_167 0 24 (dk_at dksX2_starve_2 9 rfl rfl)
theorem dX2_starve_60 : decode cX2_starve 60 = .ok (.iload_n 2, 1) := dk_28 (dk_at dksX2_starve_2 12 rfl rfl)
theorem dX2_starve_61 : decode cX2_starve 61 = .ok (.bipush 60, 2) := dk_16 60 (dk_at dksX2_starve_2 13 rfl rfl)
theorem dX2_starve_63 : decode cX2_starve 63 = .ok (.aload_n 1, 1) := dk_43 (dk_at dksX2_starve_2 15 rfl rfl)
theorem dX2_starve_64 : decode cX2_starve 64 = .ok (.invokevirtual 178, 3) := dk_182 0 178 (dk_at dksX2_starve_2 16 rfl rfl)
theorem dX2_starve_67 : decode cX2_starve 67 = .ok (.imul, 1) := dk_104 (dk_at dksX2_starve_2 19 rfl rfl)
theorem dX2_starve_68 : decode cX2_starve 68 = .ok (.if_icmp .ge 13, 3) := dk_162 0 13 (dk_at dksX2_starve_2 20 rfl rfl)
theorem dX2_starve_71 : decode cX2_starve 71 = .ok (.aload_n 0, 1) := dk_42 (dk_at dksX2_starve_2 23 rfl rfl)
theorem dX2_starve_72 : decode cX2_starve 72 = .ok (.aload_n 0, 1) := dk_42 (dk_at dksX2_starve_3 0 rfl rfl)
theorem dX2_starve_73 : decode cX2_starve 73 = .ok (.aload_n 1, 1) := dk_43 (dk_at dksX2_starve_3 1 rfl rfl)
theorem dX2_starve_74 : decode cX2_starve 74 = .ok (.invokevirtual 241, 3) := dk_182 0 241 (dk_at dksX2_starve_3 2 rfl rfl)
theorem dX2_starve_77 : decode cX2_starve 77 = .ok (.iconst 0, 1) := dk_3 (dk_at dksX2_starve_3 5 rfl rfl)
theorem dX2_starve_78 : decode cX2_starve 78 = .ok (.invokevirtual 238, 3) := dk_182 0 238 (dk_at dksX2_starve_3 6 rfl rfl)
theorem dX2_starve_81 : decode cX2_starve 81 = .ok (.return_, 1) := dk_177 (dk_at dksX2_starve_3 9 rfl rfl)
abbrev cX2_die : ByteArray := prog_3_method_28_code
def yX2_die : MethodName := ⟨RX2, "die", "(LOwlYears$Owl;I)V"⟩
def dkwX2_die_3 : List UInt8 := [180, 0, 75, 4, 96, 16, 20, 184, 0, 214, 181, 0, 75, 177]
abbrev dktX2_die_3 : List UInt8 := dkwX2_die_3 ++ []
def dkwX2_die_2 : List UInt8 := [43, 180, 0, 190, 79, 42, 180, 0, 38, 4, 28, 79, 42, 180, 0, 38, 5, 42, 180, 0, 78, 79, 42, 42]
abbrev dktX2_die_2 : List UInt8 := dkwX2_die_2 ++ dktX2_die_3
def dkwX2_die_1 : List UInt8 := [180, 0, 38, 29, 42, 180, 0, 38, 29, 6, 100, 46, 79, 132, 3, 255, 167, 255, 234, 42, 180, 0, 38, 3]
abbrev dktX2_die_1 : List UInt8 := dkwX2_die_1 ++ dktX2_die_2
def dkwX2_die_0 : List UInt8 := [42, 43, 182, 0, 210, 42, 180, 0, 41, 28, 92, 46, 4, 96, 79, 16, 59, 62, 29, 5, 164, 0, 23, 42]
abbrev dktX2_die_0 : List UInt8 := dkwX2_die_0 ++ dktX2_die_1
theorem dksX2_die_0 : cX2_die.data.toList.drop 0 = dktX2_die_0 := by decide +kernel
theorem dksX2_die_1 : cX2_die.data.toList.drop 24 = dktX2_die_1 := dk_seg dksX2_die_0 24 rfl rfl
theorem dksX2_die_2 : cX2_die.data.toList.drop 48 = dktX2_die_2 := dk_seg dksX2_die_1 24 rfl rfl
theorem dksX2_die_3 : cX2_die.data.toList.drop 72 = dktX2_die_3 := dk_seg dksX2_die_2 24 rfl rfl
theorem dX2_die_0 : decode cX2_die 0 = .ok (.aload_n 0, 1) := dk_42 (dk_at dksX2_die_0 0 rfl rfl)
theorem dX2_die_1 : decode cX2_die 1 = .ok (.aload_n 1, 1) := dk_43 (dk_at dksX2_die_0 1 rfl rfl)
theorem dX2_die_2 : decode cX2_die 2 = .ok (.invokevirtual 210, 3) := dk_182 0 210 (dk_at dksX2_die_0 2 rfl rfl)
theorem dX2_die_5 : decode cX2_die 5 = .ok (.aload_n 0, 1) := dk_42 (dk_at dksX2_die_0 5 rfl rfl)
theorem dX2_die_6 : decode cX2_die 6 = .ok (.getfield 41, 3) := dk_180 0 41 (dk_at dksX2_die_0 6 rfl rfl)
theorem dX2_die_9 : decode cX2_die 9 = .ok (.iload_n 2, 1) := dk_28 (dk_at dksX2_die_0 9 rfl rfl)
theorem dX2_die_10 : decode cX2_die 10 = .ok (.dup2, 1) := dk_92 (dk_at dksX2_die_0 10 rfl rfl)
theorem dX2_die_11 : decode cX2_die 11 = .ok (.iaload, 1) := dk_46 (dk_at dksX2_die_0 11 rfl rfl)
theorem dX2_die_12 : decode cX2_die 12 = .ok (.iconst 1, 1) := dk_4 (dk_at dksX2_die_0 12 rfl rfl)
theorem dX2_die_13 : decode cX2_die 13 = .ok (.iadd, 1) := dk_96 (dk_at dksX2_die_0 13 rfl rfl)
theorem dX2_die_14 : decode cX2_die 14 = .ok (.iastore, 1) := dk_79 (dk_at dksX2_die_0 14 rfl rfl)
theorem dX2_die_15 : decode cX2_die 15 = .ok (.bipush 59, 2) := dk_16 59 (dk_at dksX2_die_0 15 rfl rfl)
theorem dX2_die_17 : decode cX2_die 17 = .ok (.istore_n 3, 1) := dk_62 (dk_at dksX2_die_0 17 rfl rfl)
theorem dX2_die_18 : decode cX2_die 18 = .ok (.iload_n 3, 1) := dk_29 (dk_at dksX2_die_0 18 rfl rfl)
theorem dX2_die_19 : decode cX2_die 19 = .ok (.iconst 2, 1) := dk_5 (dk_at dksX2_die_0 19 rfl rfl)
theorem dX2_die_20 : decode cX2_die 20 = .ok (.if_icmp .le 23, 3) := dk_164 0 23 (dk_at dksX2_die_0 20 rfl rfl)
theorem dX2_die_23 : decode cX2_die 23 = .ok (.aload_n 0, 1) := dk_42 (dk_at dksX2_die_0 23 rfl rfl)
theorem dX2_die_24 : decode cX2_die 24 = .ok (.getfield 38, 3) := dk_180 0 38 (dk_at dksX2_die_1 0 rfl rfl)
theorem dX2_die_27 : decode cX2_die 27 = .ok (.iload_n 3, 1) := dk_29 (dk_at dksX2_die_1 3 rfl rfl)
theorem dX2_die_28 : decode cX2_die 28 = .ok (.aload_n 0, 1) := dk_42 (dk_at dksX2_die_1 4 rfl rfl)
theorem dX2_die_29 : decode cX2_die 29 = .ok (.getfield 38, 3) := dk_180 0 38 (dk_at dksX2_die_1 5 rfl rfl)
theorem dX2_die_32 : decode cX2_die 32 = .ok (.iload_n 3, 1) := dk_29 (dk_at dksX2_die_1 8 rfl rfl)
theorem dX2_die_33 : decode cX2_die 33 = .ok (.iconst 3, 1) := dk_6 (dk_at dksX2_die_1 9 rfl rfl)
theorem dX2_die_34 : decode cX2_die 34 = .ok (.isub, 1) := dk_100 (dk_at dksX2_die_1 10 rfl rfl)
theorem dX2_die_35 : decode cX2_die 35 = .ok (.iaload, 1) := dk_46 (dk_at dksX2_die_1 11 rfl rfl)
theorem dX2_die_36 : decode cX2_die 36 = .ok (.iastore, 1) := dk_79 (dk_at dksX2_die_1 12 rfl rfl)
theorem dX2_die_37 : decode cX2_die 37 = .ok (.iinc 3 (-1), 3) := dk_132 3 255 (dk_at dksX2_die_1 13 rfl rfl)
theorem dX2_die_40 : decode cX2_die 40 = .ok (.goto (-22), 3) := dk_167 255 234 (dk_at dksX2_die_1 16 rfl rfl)
theorem dX2_die_43 : decode cX2_die 43 = .ok (.aload_n 0, 1) := dk_42 (dk_at dksX2_die_1 19 rfl rfl)
theorem dX2_die_44 : decode cX2_die 44 = .ok (.getfield 38, 3) := dk_180 0 38 (dk_at dksX2_die_1 20 rfl rfl)
theorem dX2_die_47 : decode cX2_die 47 = .ok (.iconst 0, 1) := dk_3 (dk_at dksX2_die_1 23 rfl rfl)
theorem dX2_die_48 : decode cX2_die 48 = .ok (.aload_n 1, 1) := dk_43 (dk_at dksX2_die_2 0 rfl rfl)
theorem dX2_die_49 : decode cX2_die 49 = .ok (.getfield 190, 3) := dk_180 0 190 (dk_at dksX2_die_2 1 rfl rfl)
theorem dX2_die_52 : decode cX2_die 52 = .ok (.iastore, 1) := dk_79 (dk_at dksX2_die_2 4 rfl rfl)
theorem dX2_die_53 : decode cX2_die 53 = .ok (.aload_n 0, 1) := dk_42 (dk_at dksX2_die_2 5 rfl rfl)
theorem dX2_die_54 : decode cX2_die 54 = .ok (.getfield 38, 3) := dk_180 0 38 (dk_at dksX2_die_2 6 rfl rfl)
theorem dX2_die_57 : decode cX2_die 57 = .ok (.iconst 1, 1) := dk_4 (dk_at dksX2_die_2 9 rfl rfl)
theorem dX2_die_58 : decode cX2_die 58 = .ok (.iload_n 2, 1) := dk_28 (dk_at dksX2_die_2 10 rfl rfl)
theorem dX2_die_59 : decode cX2_die 59 = .ok (.iastore, 1) := dk_79 (dk_at dksX2_die_2 11 rfl rfl)
theorem dX2_die_60 : decode cX2_die 60 = .ok (.aload_n 0, 1) := dk_42 (dk_at dksX2_die_2 12 rfl rfl)
theorem dX2_die_61 : decode cX2_die 61 = .ok (.getfield 38, 3) := dk_180 0 38 (dk_at dksX2_die_2 13 rfl rfl)
theorem dX2_die_64 : decode cX2_die 64 = .ok (.iconst 2, 1) := dk_5 (dk_at dksX2_die_2 16 rfl rfl)
theorem dX2_die_65 : decode cX2_die 65 = .ok (.aload_n 0, 1) := dk_42 (dk_at dksX2_die_2 17 rfl rfl)
theorem dX2_die_66 : decode cX2_die 66 = .ok (.getfield 78, 3) := dk_180 0 78 (dk_at dksX2_die_2 18 rfl rfl)
theorem dX2_die_69 : decode cX2_die 69 = .ok (.iastore, 1) := dk_79 (dk_at dksX2_die_2 21 rfl rfl)
theorem dX2_die_70 : decode cX2_die 70 = .ok (.aload_n 0, 1) := dk_42 (dk_at dksX2_die_2 22 rfl rfl)
theorem dX2_die_71 : decode cX2_die 71 = .ok (.aload_n 0, 1) := dk_42 (dk_at dksX2_die_2 23 rfl rfl)
theorem dX2_die_72 : decode cX2_die 72 = .ok (.getfield 75, 3) := dk_180 0 75 (dk_at dksX2_die_3 0 rfl rfl)
theorem dX2_die_75 : decode cX2_die 75 = .ok (.iconst 1, 1) := dk_4 (dk_at dksX2_die_3 3 rfl rfl)
theorem dX2_die_76 : decode cX2_die 76 = .ok (.iadd, 1) := dk_96 (dk_at dksX2_die_3 4 rfl rfl)
theorem dX2_die_77 : decode cX2_die 77 = .ok (.bipush 20, 2) := dk_16 20 (dk_at dksX2_die_3 5 rfl rfl)
theorem dX2_die_79 : decode cX2_die 79 = .ok (.invokestatic 214, 3) := dk_184 0 214 (dk_at dksX2_die_3 7 rfl rfl)
theorem dX2_die_82 : decode cX2_die 82 = .ok (.putfield 75, 3) := dk_181 0 75 (dk_at dksX2_die_3 10 rfl rfl)
theorem dX2_die_85 : decode cX2_die 85 = .ok (.return_, 1) := dk_177 (dk_at dksX2_die_3 13 rfl rfl)
abbrev cX2_leave : ByteArray := prog_3_method_26_code
def yX2_leave : MethodName := ⟨RX2, "leave", "(LOwlYears$Owl;)V"⟩
def dkwX2_leave_1 : List UInt8 := [79, 43, 2, 181, 0, 175, 43, 3, 181, 0, 207, 42, 89, 180, 0, 84, 4, 100, 181, 0, 84, 177]
abbrev dktX2_leave_1 : List UInt8 := dkwX2_leave_1 ++ []
def dkwX2_leave_0 : List UInt8 := [43, 180, 0, 175, 2, 159, 0, 20, 42, 43, 180, 0, 175, 182, 0, 179, 180, 0, 182, 43, 180, 0, 187, 2]
abbrev dktX2_leave_0 : List UInt8 := dkwX2_leave_0 ++ dktX2_leave_1
theorem dksX2_leave_0 : cX2_leave.data.toList.drop 0 = dktX2_leave_0 := by decide +kernel
theorem dksX2_leave_1 : cX2_leave.data.toList.drop 24 = dktX2_leave_1 := dk_seg dksX2_leave_0 24 rfl rfl
theorem dX2_leave_0 : decode cX2_leave 0 = .ok (.aload_n 1, 1) := dk_43 (dk_at dksX2_leave_0 0 rfl rfl)
theorem dX2_leave_1 : decode cX2_leave 1 = .ok (.getfield 175, 3) := dk_180 0 175 (dk_at dksX2_leave_0 1 rfl rfl)
theorem dX2_leave_4 : decode cX2_leave 4 = .ok (.iconst (-1), 1) := dk_2 (dk_at dksX2_leave_0 4 rfl rfl)
theorem dX2_leave_5 : decode cX2_leave 5 = .ok (.if_icmp .eq 20, 3) := dk_159 0 20 (dk_at dksX2_leave_0 5 rfl rfl)
theorem dX2_leave_8 : decode cX2_leave 8 = .ok (.aload_n 0, 1) := dk_42 (dk_at dksX2_leave_0 8 rfl rfl)
theorem dX2_leave_9 : decode cX2_leave 9 = .ok (.aload_n 1, 1) := dk_43 (dk_at dksX2_leave_0 9 rfl rfl)
theorem dX2_leave_10 : decode cX2_leave 10 = .ok (.getfield 175, 3) := dk_180 0 175 (dk_at dksX2_leave_0 10 rfl rfl)
theorem dX2_leave_13 : decode cX2_leave 13 = .ok (.invokevirtual 179, 3) := dk_182 0 179 (dk_at dksX2_leave_0 13 rfl rfl)
theorem dX2_leave_16 : decode cX2_leave 16 = .ok (.getfield 182, 3) := dk_180 0 182 (dk_at dksX2_leave_0 16 rfl rfl)
theorem dX2_leave_19 : decode cX2_leave 19 = .ok (.aload_n 1, 1) := dk_43 (dk_at dksX2_leave_0 19 rfl rfl)
theorem dX2_leave_20 : decode cX2_leave 20 = .ok (.getfield 187, 3) := dk_180 0 187 (dk_at dksX2_leave_0 20 rfl rfl)
theorem dX2_leave_23 : decode cX2_leave 23 = .ok (.iconst (-1), 1) := dk_2 (dk_at dksX2_leave_0 23 rfl rfl)
theorem dX2_leave_24 : decode cX2_leave 24 = .ok (.iastore, 1) := dk_79 (dk_at dksX2_leave_1 0 rfl rfl)
theorem dX2_leave_25 : decode cX2_leave 25 = .ok (.aload_n 1, 1) := dk_43 (dk_at dksX2_leave_1 1 rfl rfl)
theorem dX2_leave_26 : decode cX2_leave 26 = .ok (.iconst (-1), 1) := dk_2 (dk_at dksX2_leave_1 2 rfl rfl)
theorem dX2_leave_27 : decode cX2_leave 27 = .ok (.putfield 175, 3) := dk_181 0 175 (dk_at dksX2_leave_1 3 rfl rfl)
theorem dX2_leave_30 : decode cX2_leave 30 = .ok (.aload_n 1, 1) := dk_43 (dk_at dksX2_leave_1 6 rfl rfl)
theorem dX2_leave_31 : decode cX2_leave 31 = .ok (.iconst 0, 1) := dk_3 (dk_at dksX2_leave_1 7 rfl rfl)
theorem dX2_leave_32 : decode cX2_leave 32 = .ok (.putfield 207, 3) := dk_181 0 207 (dk_at dksX2_leave_1 8 rfl rfl)
theorem dX2_leave_35 : decode cX2_leave 35 = .ok (.aload_n 0, 1) := dk_42 (dk_at dksX2_leave_1 11 rfl rfl)
theorem dX2_leave_36 : decode cX2_leave 36 = .ok (.dup, 1) := dk_89 (dk_at dksX2_leave_1 12 rfl rfl)
theorem dX2_leave_37 : decode cX2_leave 37 = .ok (.getfield 84, 3) := dk_180 0 84 (dk_at dksX2_leave_1 13 rfl rfl)
theorem dX2_leave_40 : decode cX2_leave 40 = .ok (.iconst 1, 1) := dk_4 (dk_at dksX2_leave_1 16 rfl rfl)
theorem dX2_leave_41 : decode cX2_leave 41 = .ok (.isub, 1) := dk_100 (dk_at dksX2_leave_1 17 rfl rfl)
theorem dX2_leave_42 : decode cX2_leave 42 = .ok (.putfield 84, 3) := dk_181 0 84 (dk_at dksX2_leave_1 18 rfl rfl)
theorem dX2_leave_45 : decode cX2_leave 45 = .ok (.return_, 1) := dk_177 (dk_at dksX2_leave_1 21 rfl rfl)
abbrev cX2_box : ByteArray := prog_3_method_6_code
def yX2_box : MethodName := ⟨RX2, "box", "(I)LOwlYears$Box;"⟩
def dkwX2_box_0 : List UInt8 := [42, 180, 0, 24, 27, 182, 0, 53, 192, 0, 57, 176]
abbrev dktX2_box_0 : List UInt8 := dkwX2_box_0 ++ []
theorem dksX2_box_0 : cX2_box.data.toList.drop 0 = dktX2_box_0 := by decide +kernel
theorem dX2_box_0 : decode cX2_box 0 = .ok (.aload_n 0, 1) := dk_42 (dk_at dksX2_box_0 0 rfl rfl)
theorem dX2_box_1 : decode cX2_box 1 = .ok (.getfield 24, 3) := dk_180 0 24 (dk_at dksX2_box_0 1 rfl rfl)
theorem dX2_box_4 : decode cX2_box 4 = .ok (.iload_n 1, 1) := dk_27 (dk_at dksX2_box_0 4 rfl rfl)
theorem dX2_box_5 : decode cX2_box 5 = .ok (.invokevirtual 53, 3) := dk_182 0 53 (dk_at dksX2_box_0 5 rfl rfl)
theorem dX2_box_8 : decode cX2_box 8 = .ok (.checkcast 57, 3) := dk_192 0 57 (dk_at dksX2_box_0 8 rfl rfl)
theorem dX2_box_11 : decode cX2_box 11 = .ok (.areturn, 1) := dk_176 (dk_at dksX2_box_0 11 rfl rfl)
abbrev cX2_younger : ByteArray := prog_3_method_37_code
def yX2_younger : MethodName := ⟨RX2, "younger", "(LOwlYears$Box;)LOwlYears$Owl;"⟩
def dkwX2_younger_3 : List UInt8 := [167, 0, 4, 45, 176]
abbrev dktX2_younger_3 : List UInt8 := dkwX2_younger_3 ++ []
def dkwX2_younger_2 : List UInt8 := [180, 0, 190, 45, 180, 0, 190, 164, 0, 7, 4, 167, 0, 4, 3, 54, 4, 21, 4, 153, 0, 7, 44]
abbrev dktX2_younger_2 : List UInt8 := dkwX2_younger_2 ++ dktX2_younger_3
def dkwX2_younger_1 : List UInt8 := [180, 0, 197, 45, 180, 0, 197, 161, 0, 25, 44, 180, 0, 197, 45, 180, 0, 197, 160, 0, 18, 44]
abbrev dktX2_younger_1 : List UInt8 := dkwX2_younger_1 ++ dktX2_younger_2
def dkwX2_younger_0 : List UInt8 := [42, 43, 180, 0, 182, 3, 46, 182, 0, 219, 77, 42, 43, 180, 0, 182, 4, 46, 182, 0, 219, 78, 44]
abbrev dktX2_younger_0 : List UInt8 := dkwX2_younger_0 ++ dktX2_younger_1
theorem dksX2_younger_0 : cX2_younger.data.toList.drop 0 = dktX2_younger_0 := by decide +kernel
theorem dksX2_younger_1 : cX2_younger.data.toList.drop 23 = dktX2_younger_1 := dk_seg dksX2_younger_0 23 rfl rfl
theorem dksX2_younger_2 : cX2_younger.data.toList.drop 45 = dktX2_younger_2 := dk_seg dksX2_younger_1 22 rfl rfl
theorem dksX2_younger_3 : cX2_younger.data.toList.drop 68 = dktX2_younger_3 := dk_seg dksX2_younger_2 23 rfl rfl
theorem dX2_younger_0 : decode cX2_younger 0 = .ok (.aload_n 0, 1) := dk_42 (dk_at dksX2_younger_0 0 rfl rfl)
theorem dX2_younger_1 : decode cX2_younger 1 = .ok (.aload_n 1, 1) := dk_43 (dk_at dksX2_younger_0 1 rfl rfl)
theorem dX2_younger_2 : decode cX2_younger 2 = .ok (.getfield 182, 3) := dk_180 0 182 (dk_at dksX2_younger_0 2 rfl rfl)
theorem dX2_younger_5 : decode cX2_younger 5 = .ok (.iconst 0, 1) := dk_3 (dk_at dksX2_younger_0 5 rfl rfl)
theorem dX2_younger_6 : decode cX2_younger 6 = .ok (.iaload, 1) := dk_46 (dk_at dksX2_younger_0 6 rfl rfl)
theorem dX2_younger_7 : decode cX2_younger 7 = .ok (.invokevirtual 219, 3) := dk_182 0 219 (dk_at dksX2_younger_0 7 rfl rfl)
theorem dX2_younger_10 : decode cX2_younger 10 = .ok (.astore_n 2, 1) := dk_77 (dk_at dksX2_younger_0 10 rfl rfl)
theorem dX2_younger_11 : decode cX2_younger 11 = .ok (.aload_n 0, 1) := dk_42 (dk_at dksX2_younger_0 11 rfl rfl)
theorem dX2_younger_12 : decode cX2_younger 12 = .ok (.aload_n 1, 1) := dk_43 (dk_at dksX2_younger_0 12 rfl rfl)
theorem dX2_younger_13 : decode cX2_younger 13 = .ok (.getfield 182, 3) := dk_180 0 182 (dk_at dksX2_younger_0 13 rfl rfl)
theorem dX2_younger_16 : decode cX2_younger 16 = .ok (.iconst 1, 1) := dk_4 (dk_at dksX2_younger_0 16 rfl rfl)
theorem dX2_younger_17 : decode cX2_younger 17 = .ok (.iaload, 1) := dk_46 (dk_at dksX2_younger_0 17 rfl rfl)
theorem dX2_younger_18 : decode cX2_younger 18 = .ok (.invokevirtual 219, 3) := dk_182 0 219 (dk_at dksX2_younger_0 18 rfl rfl)
theorem dX2_younger_21 : decode cX2_younger 21 = .ok (.astore_n 3, 1) := dk_78 (dk_at dksX2_younger_0 21 rfl rfl)
theorem dX2_younger_22 : decode cX2_younger 22 = .ok (.aload_n 2, 1) := dk_44 (dk_at dksX2_younger_0 22 rfl rfl)
theorem dX2_younger_23 : decode cX2_younger 23 = .ok (.getfield 197, 3) := dk_180 0 197 (dk_at dksX2_younger_1 0 rfl rfl)
theorem dX2_younger_26 : decode cX2_younger 26 = .ok (.aload_n 3, 1) := dk_45 (dk_at dksX2_younger_1 3 rfl rfl)
theorem dX2_younger_27 : decode cX2_younger 27 = .ok (.getfield 197, 3) := dk_180 0 197 (dk_at dksX2_younger_1 4 rfl rfl)
theorem dX2_younger_30 : decode cX2_younger 30 = .ok (.if_icmp .lt 25, 3) := dk_161 0 25 (dk_at dksX2_younger_1 7 rfl rfl)
theorem dX2_younger_33 : decode cX2_younger 33 = .ok (.aload_n 2, 1) := dk_44 (dk_at dksX2_younger_1 10 rfl rfl)
theorem dX2_younger_34 : decode cX2_younger 34 = .ok (.getfield 197, 3) := dk_180 0 197 (dk_at dksX2_younger_1 11 rfl rfl)
theorem dX2_younger_37 : decode cX2_younger 37 = .ok (.aload_n 3, 1) := dk_45 (dk_at dksX2_younger_1 14 rfl rfl)
theorem dX2_younger_38 : decode cX2_younger 38 = .ok (.getfield 197, 3) := dk_180 0 197 (dk_at dksX2_younger_1 15 rfl rfl)
theorem dX2_younger_41 : decode cX2_younger 41 = .ok (.if_icmp .ne 18, 3) := dk_160 0 18 (dk_at dksX2_younger_1 18 rfl rfl)
theorem dX2_younger_44 : decode cX2_younger 44 = .ok (.aload_n 2, 1) := dk_44 (dk_at dksX2_younger_1 21 rfl rfl)
theorem dX2_younger_45 : decode cX2_younger 45 = .ok (.getfield 190, 3) := dk_180 0 190 (dk_at dksX2_younger_2 0 rfl rfl)
theorem dX2_younger_48 : decode cX2_younger 48 = .ok (.aload_n 3, 1) := dk_45 (dk_at dksX2_younger_2 3 rfl rfl)
theorem dX2_younger_49 : decode cX2_younger 49 = .ok (.getfield 190, 3) := dk_180 0 190 (dk_at dksX2_younger_2 4 rfl rfl)
theorem dX2_younger_52 : decode cX2_younger 52 = .ok (.if_icmp .le 7, 3) := dk_164 0 7 (dk_at dksX2_younger_2 7 rfl rfl)
theorem dX2_younger_55 : decode cX2_younger 55 = .ok (.iconst 1, 1) := dk_4 (dk_at dksX2_younger_2 10 rfl rfl)
theorem dX2_younger_56 : decode cX2_younger 56 = .ok (.goto 4, 3) := dk_167 0 4 (dk_at dksX2_younger_2 11 rfl rfl)
theorem dX2_younger_59 : decode cX2_younger 59 = .ok (.iconst 0, 1) := dk_3 (dk_at dksX2_younger_2 14 rfl rfl)
theorem dX2_younger_60 : decode cX2_younger 60 = .ok (.istore 4, 2) := dk_54 4 (dk_at dksX2_younger_2 15 rfl rfl)
theorem dX2_younger_62 : decode cX2_younger 62 = .ok (.iload 4, 2) := dk_21 4 (dk_at dksX2_younger_2 17 rfl rfl)
theorem dX2_younger_64 : decode cX2_younger 64 = .ok (.ifCond .eq 7, 3) := dk_153 0 7 (dk_at dksX2_younger_2 19 rfl rfl)
theorem dX2_younger_67 : decode cX2_younger 67 = .ok (.aload_n 2, 1) := dk_44 (dk_at dksX2_younger_2 22 rfl rfl)
theorem dX2_younger_68 : decode cX2_younger 68 = .ok (.goto 4, 3) := dk_167 0 4 (dk_at dksX2_younger_3 0 rfl rfl)
theorem dX2_younger_71 : decode cX2_younger 71 = .ok (.aload_n 3, 1) := dk_45 (dk_at dksX2_younger_3 3 rfl rfl)
theorem dX2_younger_72 : decode cX2_younger 72 = .ok (.areturn, 1) := dk_176 (dk_at dksX2_younger_3 4 rfl rfl)
abbrev cX2_eat : ByteArray := prog_3_method_39_code
def yX2_eat : MethodName := ⟨RX2, "eat", "(LOwlYears$Box;)V"⟩
def dkwX2_eat_3 : List UInt8 := [21, 4, 96, 181, 0, 96, 132, 3, 1, 167, 255, 186, 177]
abbrev dktX2_eat_3 : List UInt8 := dkwX2_eat_3 ++ []
def dkwX2_eat_2 : List UInt8 := [54, 4, 42, 180, 0, 15, 29, 92, 46, 21, 4, 100, 79, 28, 21, 4, 100, 61, 42, 89, 180, 0, 96]
abbrev dktX2_eat_2 : List UInt8 := dkwX2_eat_2 ++ dktX2_eat_3
def dkwX2_eat_1 : List UInt8 := [29, 184, 0, 129, 153, 0, 49, 28, 42, 180, 0, 15, 29, 46, 42, 180, 0, 18, 29, 46, 108, 184, 0, 214]
abbrev dktX2_eat_1 : List UInt8 := dkwX2_eat_1 ++ dktX2_eat_2
def dkwX2_eat_0 : List UInt8 := [16, 60, 43, 182, 0, 178, 104, 61, 3, 62, 29, 16, 64, 162, 0, 70, 28, 158, 0, 66, 43, 180, 0, 147]
abbrev dktX2_eat_0 : List UInt8 := dkwX2_eat_0 ++ dktX2_eat_1
theorem dksX2_eat_0 : cX2_eat.data.toList.drop 0 = dktX2_eat_0 := by decide +kernel
theorem dksX2_eat_1 : cX2_eat.data.toList.drop 24 = dktX2_eat_1 := dk_seg dksX2_eat_0 24 rfl rfl
theorem dksX2_eat_2 : cX2_eat.data.toList.drop 48 = dktX2_eat_2 := dk_seg dksX2_eat_1 24 rfl rfl
theorem dksX2_eat_3 : cX2_eat.data.toList.drop 71 = dktX2_eat_3 := dk_seg dksX2_eat_2 23 rfl rfl
theorem dX2_eat_0 : decode cX2_eat 0 = .ok (.bipush 60, 2) := dk_16 60 (dk_at dksX2_eat_0 0 rfl rfl)
theorem dX2_eat_2 : decode cX2_eat 2 = .ok (.aload_n 1, 1) := dk_43 (dk_at dksX2_eat_0 2 rfl rfl)
theorem dX2_eat_3 : decode cX2_eat 3 = .ok (.invokevirtual 178, 3) := dk_182 0 178 (dk_at dksX2_eat_0 3 rfl rfl)
theorem dX2_eat_6 : decode cX2_eat 6 = .ok (.imul, 1) := dk_104 (dk_at dksX2_eat_0 6 rfl rfl)
theorem dX2_eat_7 : decode cX2_eat 7 = .ok (.istore_n 2, 1) := dk_61 (dk_at dksX2_eat_0 7 rfl rfl)
theorem dX2_eat_8 : decode cX2_eat 8 = .ok (.iconst 0, 1) := dk_3 (dk_at dksX2_eat_0 8 rfl rfl)
theorem dX2_eat_9 : decode cX2_eat 9 = .ok (.istore_n 3, 1) := dk_62 (dk_at dksX2_eat_0 9 rfl rfl)
theorem dX2_eat_10 : decode cX2_eat 10 = .ok (.iload_n 3, 1) := dk_29 (dk_at dksX2_eat_0 10 rfl rfl)
theorem dX2_eat_11 : decode cX2_eat 11 = .ok (.bipush 64, 2) := dk_16 64 (dk_at dksX2_eat_0 11 rfl rfl)
theorem dX2_eat_13 : decode cX2_eat 13 = .ok (.if_icmp .ge 70, 3) := dk_162 0 70 (dk_at dksX2_eat_0 13 rfl rfl)
theorem dX2_eat_16 : decode cX2_eat 16 = .ok (.iload_n 2, 1) := dk_28 (dk_at dksX2_eat_0 16 rfl rfl)
theorem dX2_eat_17 : decode cX2_eat 17 = .ok (.ifCond .le 66, 3) := dk_158 0 66 (dk_at dksX2_eat_0 17 rfl rfl)
theorem dX2_eat_20 : decode cX2_eat 20 = .ok (.aload_n 1, 1) := dk_43 (dk_at dksX2_eat_0 20 rfl rfl)
theorem dX2_eat_21 : decode cX2_eat 21 = .ok (.getfield 147, 3) := dk_180 0 147 (dk_at dksX2_eat_0 21 rfl rfl)
theorem dX2_eat_24 : decode cX2_eat 24 = .ok (.iload_n 3, 1) := dk_29 (dk_at dksX2_eat_1 0 rfl rfl)
theorem dX2_eat_25 : decode cX2_eat 25 = .ok (.invokestatic 129, 3) := dk_184 0 129 (dk_at dksX2_eat_1 1 rfl rfl)
theorem dX2_eat_28 : decode cX2_eat 28 = .ok (.ifCond .eq 49, 3) := dk_153 0 49 (dk_at dksX2_eat_1 4 rfl rfl)
theorem dX2_eat_31 : decode cX2_eat 31 = .ok (.iload_n 2, 1) := dk_28 (dk_at dksX2_eat_1 7 rfl rfl)
theorem dX2_eat_32 : decode cX2_eat 32 = .ok (.aload_n 0, 1) := dk_42 (dk_at dksX2_eat_1 8 rfl rfl)
theorem dX2_eat_33 : decode cX2_eat 33 = .ok (.getfield 15, 3) := dk_180 0 15 (dk_at dksX2_eat_1 9 rfl rfl)
theorem dX2_eat_36 : decode cX2_eat 36 = .ok (.iload_n 3, 1) := dk_29 (dk_at dksX2_eat_1 12 rfl rfl)
theorem dX2_eat_37 : decode cX2_eat 37 = .ok (.iaload, 1) := dk_46 (dk_at dksX2_eat_1 13 rfl rfl)
theorem dX2_eat_38 : decode cX2_eat 38 = .ok (.aload_n 0, 1) := dk_42 (dk_at dksX2_eat_1 14 rfl rfl)
theorem dX2_eat_39 : decode cX2_eat 39 = .ok (.getfield 18, 3) := dk_180 0 18 (dk_at dksX2_eat_1 15 rfl rfl)
theorem dX2_eat_42 : decode cX2_eat 42 = .ok (.iload_n 3, 1) := dk_29 (dk_at dksX2_eat_1 18 rfl rfl)
theorem dX2_eat_43 : decode cX2_eat 43 = .ok (.iaload, 1) := dk_46 (dk_at dksX2_eat_1 19 rfl rfl)
theorem dX2_eat_44 : decode cX2_eat 44 = .ok (.idiv, 1) := dk_108 (dk_at dksX2_eat_1 20 rfl rfl)
theorem dX2_eat_45 : decode cX2_eat 45 = .ok (.invokestatic 214, 3) := dk_184 0 214 (dk_at dksX2_eat_1 21 rfl rfl)
theorem dX2_eat_48 : decode cX2_eat 48 = .ok (.istore 4, 2) := dk_54 4 (dk_at dksX2_eat_2 0 rfl rfl)
theorem dX2_eat_50 : decode cX2_eat 50 = .ok (.aload_n 0, 1) := dk_42 (dk_at dksX2_eat_2 2 rfl rfl)
theorem dX2_eat_51 : decode cX2_eat 51 = .ok (.getfield 15, 3) := dk_180 0 15 (dk_at dksX2_eat_2 3 rfl rfl)
theorem dX2_eat_54 : decode cX2_eat 54 = .ok (.iload_n 3, 1) := dk_29 (dk_at dksX2_eat_2 6 rfl rfl)
theorem dX2_eat_55 : decode cX2_eat 55 = .ok (.dup2, 1) := dk_92 (dk_at dksX2_eat_2 7 rfl rfl)
theorem dX2_eat_56 : decode cX2_eat 56 = .ok (.iaload, 1) := dk_46 (dk_at dksX2_eat_2 8 rfl rfl)
theorem dX2_eat_57 : decode cX2_eat 57 = .ok (.iload 4, 2) := dk_21 4 (dk_at dksX2_eat_2 9 rfl rfl)
theorem dX2_eat_59 : decode cX2_eat 59 = .ok (.isub, 1) := dk_100 (dk_at dksX2_eat_2 11 rfl rfl)
theorem dX2_eat_60 : decode cX2_eat 60 = .ok (.iastore, 1) := dk_79 (dk_at dksX2_eat_2 12 rfl rfl)
theorem dX2_eat_61 : decode cX2_eat 61 = .ok (.iload_n 2, 1) := dk_28 (dk_at dksX2_eat_2 13 rfl rfl)
theorem dX2_eat_62 : decode cX2_eat 62 = .ok (.iload 4, 2) := dk_21 4 (dk_at dksX2_eat_2 14 rfl rfl)
theorem dX2_eat_64 : decode cX2_eat 64 = .ok (.isub, 1) := dk_100 (dk_at dksX2_eat_2 16 rfl rfl)
theorem dX2_eat_65 : decode cX2_eat 65 = .ok (.istore_n 2, 1) := dk_61 (dk_at dksX2_eat_2 17 rfl rfl)
theorem dX2_eat_66 : decode cX2_eat 66 = .ok (.aload_n 0, 1) := dk_42 (dk_at dksX2_eat_2 18 rfl rfl)
theorem dX2_eat_67 : decode cX2_eat 67 = .ok (.dup, 1) := dk_89 (dk_at dksX2_eat_2 19 rfl rfl)
theorem dX2_eat_68 : decode cX2_eat 68 = .ok (.getfield 96, 3) := dk_180 0 96 (dk_at dksX2_eat_2 20 rfl rfl)
theorem dX2_eat_71 : decode cX2_eat 71 = .ok (.iload 4, 2) := dk_21 4 (dk_at dksX2_eat_3 0 rfl rfl)
theorem dX2_eat_73 : decode cX2_eat 73 = .ok (.iadd, 1) := dk_96 (dk_at dksX2_eat_3 2 rfl rfl)
theorem dX2_eat_74 : decode cX2_eat 74 = .ok (.putfield 96, 3) := dk_181 0 96 (dk_at dksX2_eat_3 3 rfl rfl)
theorem dX2_eat_77 : decode cX2_eat 77 = .ok (.iinc 3 1, 3) := dk_132 3 1 (dk_at dksX2_eat_3 6 rfl rfl)
theorem dX2_eat_80 : decode cX2_eat 80 = .ok (.goto (-70), 3) := dk_167 255 186 (dk_at dksX2_eat_3 9 rfl rfl)
theorem dX2_eat_83 : decode cX2_eat 83 = .ok (.return_, 1) := dk_177 (dk_at dksX2_eat_3 12 rfl rfl)
abbrev cX2_roads : ByteArray := prog_3_method_41_code
def yX2_roads : MethodName := ⟨RX2, "roads", "()V"⟩
def dkwX2_roads_4 : List UInt8 := [182, 0, 238, 132, 2, 1, 167, 255, 169, 177]
abbrev dktX2_roads_4 : List UInt8 := dkwX2_roads_4 ++ []
def dkwX2_roads_3 : List UInt8 := [19, 1, 3, 112, 181, 0, 44, 42, 180, 0, 44, 16, 100, 112, 21, 4, 162, 0, 9, 42, 45, 4]
abbrev dktX2_roads_3 : List UInt8 := dkwX2_roads_3 ++ dktX2_roads_4
def dkwX2_roads_2 : List UInt8 := [182, 0, 179, 182, 1, 0, 54, 4, 21, 4, 158, 0, 39, 42, 16, 75, 42, 180, 0, 44, 104, 16, 74, 96]
abbrev dktX2_roads_2 : List UInt8 := dkwX2_roads_2 ++ dktX2_roads_3
def dkwX2_roads_1 : List UInt8 := [192, 0, 67, 78, 45, 180, 0, 175, 2, 160, 0, 7, 3, 167, 0, 15, 42, 42, 45, 180, 0, 175]
abbrev dktX2_roads_1 : List UInt8 := dkwX2_roads_1 ++ dktX2_roads_2
def dkwX2_roads_0 : List UInt8 := [42, 180, 0, 35, 182, 0, 49, 60, 3, 61, 28, 27, 162, 0, 88, 42, 180, 0, 35, 28, 182, 0, 53]
abbrev dktX2_roads_0 : List UInt8 := dkwX2_roads_0 ++ dktX2_roads_1
theorem dksX2_roads_0 : cX2_roads.data.toList.drop 0 = dktX2_roads_0 := by decide +kernel
theorem dksX2_roads_1 : cX2_roads.data.toList.drop 23 = dktX2_roads_1 := dk_seg dksX2_roads_0 23 rfl rfl
theorem dksX2_roads_2 : cX2_roads.data.toList.drop 45 = dktX2_roads_2 := dk_seg dksX2_roads_1 22 rfl rfl
theorem dksX2_roads_3 : cX2_roads.data.toList.drop 69 = dktX2_roads_3 := dk_seg dksX2_roads_2 24 rfl rfl
theorem dksX2_roads_4 : cX2_roads.data.toList.drop 91 = dktX2_roads_4 := dk_seg dksX2_roads_3 22 rfl rfl
theorem dX2_roads_0 : decode cX2_roads 0 = .ok (.aload_n 0, 1) := dk_42 (dk_at dksX2_roads_0 0 rfl rfl)
theorem dX2_roads_1 : decode cX2_roads 1 = .ok (.getfield 35, 3) := dk_180 0 35 (dk_at dksX2_roads_0 1 rfl rfl)
theorem dX2_roads_4 : decode cX2_roads 4 = .ok (.invokevirtual 49, 3) := dk_182 0 49 (dk_at dksX2_roads_0 4 rfl rfl)
theorem dX2_roads_7 : decode cX2_roads 7 = .ok (.istore_n 1, 1) := dk_60 (dk_at dksX2_roads_0 7 rfl rfl)
theorem dX2_roads_8 : decode cX2_roads 8 = .ok (.iconst 0, 1) := dk_3 (dk_at dksX2_roads_0 8 rfl rfl)
theorem dX2_roads_9 : decode cX2_roads 9 = .ok (.istore_n 2, 1) := dk_61 (dk_at dksX2_roads_0 9 rfl rfl)
theorem dX2_roads_10 : decode cX2_roads 10 = .ok (.iload_n 2, 1) := dk_28 (dk_at dksX2_roads_0 10 rfl rfl)
theorem dX2_roads_11 : decode cX2_roads 11 = .ok (.iload_n 1, 1) := dk_27 (dk_at dksX2_roads_0 11 rfl rfl)
theorem dX2_roads_12 : decode cX2_roads 12 = .ok (.if_icmp .ge 88, 3) := dk_162 0 88 (dk_at dksX2_roads_0 12 rfl rfl)
theorem dX2_roads_15 : decode cX2_roads 15 = .ok (.aload_n 0, 1) := dk_42 (dk_at dksX2_roads_0 15 rfl rfl)
theorem dX2_roads_16 : decode cX2_roads 16 = .ok (.getfield 35, 3) := dk_180 0 35 (dk_at dksX2_roads_0 16 rfl rfl)
theorem dX2_roads_19 : decode cX2_roads 19 = .ok (.iload_n 2, 1) := dk_28 (dk_at dksX2_roads_0 19 rfl rfl)
theorem dX2_roads_20 : decode cX2_roads 20 = .ok (.invokevirtual 53, 3) := dk_182 0 53 (dk_at dksX2_roads_0 20 rfl rfl)
theorem dX2_roads_23 : decode cX2_roads 23 = .ok (.checkcast 67, 3) := dk_192 0 67 (dk_at dksX2_roads_1 0 rfl rfl)
theorem dX2_roads_26 : decode cX2_roads 26 = .ok (.astore_n 3, 1) := dk_78 (dk_at dksX2_roads_1 3 rfl rfl)
theorem dX2_roads_27 : decode cX2_roads 27 = .ok (.aload_n 3, 1) := dk_45 (dk_at dksX2_roads_1 4 rfl rfl)
theorem dX2_roads_28 : decode cX2_roads 28 = .ok (.getfield 175, 3) := dk_180 0 175 (dk_at dksX2_roads_1 5 rfl rfl)
theorem dX2_roads_31 : decode cX2_roads 31 = .ok (.iconst (-1), 1) := dk_2 (dk_at dksX2_roads_1 8 rfl rfl)
theorem dX2_roads_32 : decode cX2_roads 32 = .ok (.if_icmp .ne 7, 3) := dk_160 0 7 (dk_at dksX2_roads_1 9 rfl rfl)
theorem dX2_roads_35 : decode cX2_roads 35 = .ok (.iconst 0, 1) := dk_3 (dk_at dksX2_roads_1 12 rfl rfl)
theorem dX2_roads_36 : decode cX2_roads 36 = .ok (.goto 15, 3) := dk_167 0 15 (dk_at dksX2_roads_1 13 rfl rfl)
theorem dX2_roads_39 : decode cX2_roads 39 = .ok (.aload_n 0, 1) := dk_42 (dk_at dksX2_roads_1 16 rfl rfl)
theorem dX2_roads_40 : decode cX2_roads 40 = .ok (.aload_n 0, 1) := dk_42 (dk_at dksX2_roads_1 17 rfl rfl)
theorem dX2_roads_41 : decode cX2_roads 41 = .ok (.aload_n 3, 1) := dk_45 (dk_at dksX2_roads_1 18 rfl rfl)
theorem dX2_roads_42 : decode cX2_roads 42 = .ok (.getfield 175, 3) := dk_180 0 175 (dk_at dksX2_roads_1 19 rfl rfl)
theorem dX2_roads_45 : decode cX2_roads 45 = .ok (.invokevirtual 179, 3) := dk_182 0 179 (dk_at dksX2_roads_2 0 rfl rfl)
theorem dX2_roads_48 : decode cX2_roads 48 = .ok (.invokevirtual 256, 3) := dk_182 1 0 (dk_at dksX2_roads_2 3 rfl rfl)
theorem dX2_roads_51 : decode cX2_roads 51 = .ok (.istore 4, 2) := dk_54 4 (dk_at dksX2_roads_2 6 rfl rfl)
theorem dX2_roads_53 : decode cX2_roads 53 = .ok (.iload 4, 2) := dk_21 4 (dk_at dksX2_roads_2 8 rfl rfl)
theorem dX2_roads_55 : decode cX2_roads 55 = .ok (.ifCond .le 39, 3) := dk_158 0 39 (dk_at dksX2_roads_2 10 rfl rfl)
theorem dX2_roads_58 : decode cX2_roads 58 = .ok (.aload_n 0, 1) := dk_42 (dk_at dksX2_roads_2 13 rfl rfl)
theorem dX2_roads_59 : decode cX2_roads 59 = .ok (.bipush 75, 2) := dk_16 75 (dk_at dksX2_roads_2 14 rfl rfl)
theorem dX2_roads_61 : decode cX2_roads 61 = .ok (.aload_n 0, 1) := dk_42 (dk_at dksX2_roads_2 16 rfl rfl)
theorem dX2_roads_62 : decode cX2_roads 62 = .ok (.getfield 44, 3) := dk_180 0 44 (dk_at dksX2_roads_2 17 rfl rfl)
theorem dX2_roads_65 : decode cX2_roads 65 = .ok (.imul, 1) := dk_104 (dk_at dksX2_roads_2 20 rfl rfl)
theorem dX2_roads_66 : decode cX2_roads 66 = .ok (.bipush 74, 2) := dk_16 74 (dk_at dksX2_roads_2 21 rfl rfl)
theorem dX2_roads_68 : decode cX2_roads 68 = .ok (.iadd, 1) := dk_96 (dk_at dksX2_roads_2 23 rfl rfl)
theorem dX2_roads_69 : decode cX2_roads 69 = .ok (.ldc_w 259, 3) := dk_19 1 3 (dk_at dksX2_roads_3 0 rfl rfl)
theorem dX2_roads_72 : decode cX2_roads 72 = .ok (.irem, 1) := dk_112 (dk_at dksX2_roads_3 3 rfl rfl)
theorem dX2_roads_73 : decode cX2_roads 73 = .ok (.putfield 44, 3) := dk_181 0 44 (dk_at dksX2_roads_3 4 rfl rfl)
theorem dX2_roads_76 : decode cX2_roads 76 = .ok (.aload_n 0, 1) := dk_42 (dk_at dksX2_roads_3 7 rfl rfl)
theorem dX2_roads_77 : decode cX2_roads 77 = .ok (.getfield 44, 3) := dk_180 0 44 (dk_at dksX2_roads_3 8 rfl rfl)
theorem dX2_roads_80 : decode cX2_roads 80 = .ok (.bipush 100, 2) := dk_16 100 (dk_at dksX2_roads_3 11 rfl rfl)
theorem dX2_roads_82 : decode cX2_roads 82 = .ok (.irem, 1) := dk_112 (dk_at dksX2_roads_3 13 rfl rfl)
theorem dX2_roads_83 : decode cX2_roads 83 = .ok (.iload 4, 2) := dk_21 4 (dk_at dksX2_roads_3 14 rfl rfl)
theorem dX2_roads_85 : decode cX2_roads 85 = .ok (.if_icmp .ge 9, 3) := dk_162 0 9 (dk_at dksX2_roads_3 16 rfl rfl)
theorem dX2_roads_88 : decode cX2_roads 88 = .ok (.aload_n 0, 1) := dk_42 (dk_at dksX2_roads_3 19 rfl rfl)
theorem dX2_roads_89 : decode cX2_roads 89 = .ok (.aload_n 3, 1) := dk_45 (dk_at dksX2_roads_3 20 rfl rfl)
theorem dX2_roads_90 : decode cX2_roads 90 = .ok (.iconst 1, 1) := dk_4 (dk_at dksX2_roads_3 21 rfl rfl)
theorem dX2_roads_91 : decode cX2_roads 91 = .ok (.invokevirtual 238, 3) := dk_182 0 238 (dk_at dksX2_roads_4 0 rfl rfl)
theorem dX2_roads_94 : decode cX2_roads 94 = .ok (.iinc 2 1, 3) := dk_132 2 1 (dk_at dksX2_roads_4 3 rfl rfl)
theorem dX2_roads_97 : decode cX2_roads 97 = .ok (.goto (-87), 3) := dk_167 255 169 (dk_at dksX2_roads_4 6 rfl rfl)
theorem dX2_roads_100 : decode cX2_roads 100 = .ok (.return_, 1) := dk_177 (dk_at dksX2_roads_4 9 rfl rfl)
abbrev cX2_risk : ByteArray := prog_3_method_16_code
def yX2_risk : MethodName := ⟨RX2, "risk", "(LOwlYears$Box;)I"⟩
def dkwX2_risk_1 : List UInt8 := [29, 182, 0, 121, 153, 0, 7, 7, 167, 0, 4, 3, 96, 61, 132, 3, 1, 167, 255, 219, 28, 172]
abbrev dktX2_risk_1 : List UInt8 := dkwX2_risk_1 ++ []
def dkwX2_risk_0 : List UInt8 := [3, 61, 3, 62, 29, 16, 64, 162, 0, 37, 28, 29, 43, 180, 0, 104, 184, 0, 117, 5, 163, 0, 15, 42]
abbrev dktX2_risk_0 : List UInt8 := dkwX2_risk_0 ++ dktX2_risk_1
theorem dksX2_risk_0 : cX2_risk.data.toList.drop 0 = dktX2_risk_0 := by decide +kernel
theorem dksX2_risk_1 : cX2_risk.data.toList.drop 24 = dktX2_risk_1 := dk_seg dksX2_risk_0 24 rfl rfl
theorem dX2_risk_0 : decode cX2_risk 0 = .ok (.iconst 0, 1) := dk_3 (dk_at dksX2_risk_0 0 rfl rfl)
theorem dX2_risk_1 : decode cX2_risk 1 = .ok (.istore_n 2, 1) := dk_61 (dk_at dksX2_risk_0 1 rfl rfl)
theorem dX2_risk_2 : decode cX2_risk 2 = .ok (.iconst 0, 1) := dk_3 (dk_at dksX2_risk_0 2 rfl rfl)
theorem dX2_risk_3 : decode cX2_risk 3 = .ok (.istore_n 3, 1) := dk_62 (dk_at dksX2_risk_0 3 rfl rfl)
theorem dX2_risk_4 : decode cX2_risk 4 = .ok (.iload_n 3, 1) := dk_29 (dk_at dksX2_risk_0 4 rfl rfl)
theorem dX2_risk_5 : decode cX2_risk 5 = .ok (.bipush 64, 2) := dk_16 64 (dk_at dksX2_risk_0 5 rfl rfl)
theorem dX2_risk_7 : decode cX2_risk 7 = .ok (.if_icmp .ge 37, 3) := dk_162 0 37 (dk_at dksX2_risk_0 7 rfl rfl)
theorem dX2_risk_10 : decode cX2_risk 10 = .ok (.iload_n 2, 1) := dk_28 (dk_at dksX2_risk_0 10 rfl rfl)
theorem dX2_risk_11 : decode cX2_risk 11 = .ok (.iload_n 3, 1) := dk_29 (dk_at dksX2_risk_0 11 rfl rfl)
theorem dX2_risk_12 : decode cX2_risk 12 = .ok (.aload_n 1, 1) := dk_43 (dk_at dksX2_risk_0 12 rfl rfl)
theorem dX2_risk_13 : decode cX2_risk 13 = .ok (.getfield 104, 3) := dk_180 0 104 (dk_at dksX2_risk_0 13 rfl rfl)
theorem dX2_risk_16 : decode cX2_risk 16 = .ok (.invokestatic 117, 3) := dk_184 0 117 (dk_at dksX2_risk_0 16 rfl rfl)
theorem dX2_risk_19 : decode cX2_risk 19 = .ok (.iconst 2, 1) := dk_5 (dk_at dksX2_risk_0 19 rfl rfl)
theorem dX2_risk_20 : decode cX2_risk 20 = .ok (.if_icmp .gt 15, 3) := dk_163 0 15 (dk_at dksX2_risk_0 20 rfl rfl)
theorem dX2_risk_23 : decode cX2_risk 23 = .ok (.aload_n 0, 1) := dk_42 (dk_at dksX2_risk_0 23 rfl rfl)
theorem dX2_risk_24 : decode cX2_risk 24 = .ok (.iload_n 3, 1) := dk_29 (dk_at dksX2_risk_1 0 rfl rfl)
theorem dX2_risk_25 : decode cX2_risk 25 = .ok (.invokevirtual 121, 3) := dk_182 0 121 (dk_at dksX2_risk_1 1 rfl rfl)
theorem dX2_risk_28 : decode cX2_risk 28 = .ok (.ifCond .eq 7, 3) := dk_153 0 7 (dk_at dksX2_risk_1 4 rfl rfl)
theorem dX2_risk_31 : decode cX2_risk 31 = .ok (.iconst 4, 1) := dk_7 (dk_at dksX2_risk_1 7 rfl rfl)
theorem dX2_risk_32 : decode cX2_risk 32 = .ok (.goto 4, 3) := dk_167 0 4 (dk_at dksX2_risk_1 8 rfl rfl)
theorem dX2_risk_35 : decode cX2_risk 35 = .ok (.iconst 0, 1) := dk_3 (dk_at dksX2_risk_1 11 rfl rfl)
theorem dX2_risk_36 : decode cX2_risk 36 = .ok (.iadd, 1) := dk_96 (dk_at dksX2_risk_1 12 rfl rfl)
theorem dX2_risk_37 : decode cX2_risk 37 = .ok (.istore_n 2, 1) := dk_61 (dk_at dksX2_risk_1 13 rfl rfl)
theorem dX2_risk_38 : decode cX2_risk 38 = .ok (.iinc 3 1, 3) := dk_132 3 1 (dk_at dksX2_risk_1 14 rfl rfl)
theorem dX2_risk_41 : decode cX2_risk 41 = .ok (.goto (-37), 3) := dk_167 255 219 (dk_at dksX2_risk_1 17 rfl rfl)
theorem dX2_risk_44 : decode cX2_risk 44 = .ok (.iload_n 2, 1) := dk_28 (dk_at dksX2_risk_1 20 rfl rfl)
theorem dX2_risk_45 : decode cX2_risk 45 = .ok (.ireturn, 1) := dk_172 (dk_at dksX2_risk_1 21 rfl rfl)
abbrev cX2_ages : ByteArray := prog_3_method_42_code
def yX2_ages : MethodName := ⟨RX2, "ages", "()V"⟩
def dkwX2_ages_3 : List UInt8 := [160, 0, 17, 45, 180, 0, 197, 5, 161, 0, 9, 42, 45, 6, 182, 0, 238, 132, 2, 1, 167, 255, 179, 177]
abbrev dktX2_ages_3 : List UInt8 := dkwX2_ages_3 ++ []
def dkwX2_ages_2 : List UInt8 := [180, 0, 197, 16, 10, 160, 0, 12, 42, 45, 5, 182, 0, 238, 167, 0, 25, 45, 180, 0, 175, 2]
abbrev dktX2_ages_2 : List UInt8 := dkwX2_ages_2 ++ dktX2_ages_3
def dkwX2_ages_1 : List UInt8 := [192, 0, 67, 78, 45, 180, 0, 207, 153, 0, 53, 45, 89, 180, 0, 197, 4, 96, 181, 0, 197, 45]
abbrev dktX2_ages_1 : List UInt8 := dkwX2_ages_1 ++ dktX2_ages_2
def dkwX2_ages_0 : List UInt8 := [42, 180, 0, 35, 182, 0, 49, 60, 3, 61, 28, 27, 162, 0, 78, 42, 180, 0, 35, 28, 182, 0, 53]
abbrev dktX2_ages_0 : List UInt8 := dkwX2_ages_0 ++ dktX2_ages_1
theorem dksX2_ages_0 : cX2_ages.data.toList.drop 0 = dktX2_ages_0 := by decide +kernel
theorem dksX2_ages_1 : cX2_ages.data.toList.drop 23 = dktX2_ages_1 := dk_seg dksX2_ages_0 23 rfl rfl
theorem dksX2_ages_2 : cX2_ages.data.toList.drop 45 = dktX2_ages_2 := dk_seg dksX2_ages_1 22 rfl rfl
theorem dksX2_ages_3 : cX2_ages.data.toList.drop 67 = dktX2_ages_3 := dk_seg dksX2_ages_2 22 rfl rfl
theorem dX2_ages_0 : decode cX2_ages 0 = .ok (.aload_n 0, 1) := dk_42 (dk_at dksX2_ages_0 0 rfl rfl)
theorem dX2_ages_1 : decode cX2_ages 1 = .ok (.getfield 35, 3) := dk_180 0 35 (dk_at dksX2_ages_0 1 rfl rfl)
theorem dX2_ages_4 : decode cX2_ages 4 = .ok (.invokevirtual 49, 3) := dk_182 0 49 (dk_at dksX2_ages_0 4 rfl rfl)
theorem dX2_ages_7 : decode cX2_ages 7 = .ok (.istore_n 1, 1) := dk_60 (dk_at dksX2_ages_0 7 rfl rfl)
theorem dX2_ages_8 : decode cX2_ages 8 = .ok (.iconst 0, 1) := dk_3 (dk_at dksX2_ages_0 8 rfl rfl)
theorem dX2_ages_9 : decode cX2_ages 9 = .ok (.istore_n 2, 1) := dk_61 (dk_at dksX2_ages_0 9 rfl rfl)
theorem dX2_ages_10 : decode cX2_ages 10 = .ok (.iload_n 2, 1) := dk_28 (dk_at dksX2_ages_0 10 rfl rfl)
theorem dX2_ages_11 : decode cX2_ages 11 = .ok (.iload_n 1, 1) := dk_27 (dk_at dksX2_ages_0 11 rfl rfl)
theorem dX2_ages_12 : decode cX2_ages 12 = .ok (.if_icmp .ge 78, 3) := dk_162 0 78 (dk_at dksX2_ages_0 12 rfl rfl)
theorem dX2_ages_15 : decode cX2_ages 15 = .ok (.aload_n 0, 1) := dk_42 (dk_at dksX2_ages_0 15 rfl rfl)
theorem dX2_ages_16 : decode cX2_ages 16 = .ok (.getfield 35, 3) := dk_180 0 35 (dk_at dksX2_ages_0 16 rfl rfl)
theorem dX2_ages_19 : decode cX2_ages 19 = .ok (.iload_n 2, 1) := dk_28 (dk_at dksX2_ages_0 19 rfl rfl)
theorem dX2_ages_20 : decode cX2_ages 20 = .ok (.invokevirtual 53, 3) := dk_182 0 53 (dk_at dksX2_ages_0 20 rfl rfl)
theorem dX2_ages_23 : decode cX2_ages 23 = .ok (.checkcast 67, 3) := dk_192 0 67 (dk_at dksX2_ages_1 0 rfl rfl)
theorem dX2_ages_26 : decode cX2_ages 26 = .ok (.astore_n 3, 1) := dk_78 (dk_at dksX2_ages_1 3 rfl rfl)
theorem dX2_ages_27 : decode cX2_ages 27 = .ok (.aload_n 3, 1) := dk_45 (dk_at dksX2_ages_1 4 rfl rfl)
theorem dX2_ages_28 : decode cX2_ages 28 = .ok (.getfield 207, 3) := dk_180 0 207 (dk_at dksX2_ages_1 5 rfl rfl)
theorem dX2_ages_31 : decode cX2_ages 31 = .ok (.ifCond .eq 53, 3) := dk_153 0 53 (dk_at dksX2_ages_1 8 rfl rfl)
theorem dX2_ages_34 : decode cX2_ages 34 = .ok (.aload_n 3, 1) := dk_45 (dk_at dksX2_ages_1 11 rfl rfl)
theorem dX2_ages_35 : decode cX2_ages 35 = .ok (.dup, 1) := dk_89 (dk_at dksX2_ages_1 12 rfl rfl)
theorem dX2_ages_36 : decode cX2_ages 36 = .ok (.getfield 197, 3) := dk_180 0 197 (dk_at dksX2_ages_1 13 rfl rfl)
theorem dX2_ages_39 : decode cX2_ages 39 = .ok (.iconst 1, 1) := dk_4 (dk_at dksX2_ages_1 16 rfl rfl)
theorem dX2_ages_40 : decode cX2_ages 40 = .ok (.iadd, 1) := dk_96 (dk_at dksX2_ages_1 17 rfl rfl)
theorem dX2_ages_41 : decode cX2_ages 41 = .ok (.putfield 197, 3) := dk_181 0 197 (dk_at dksX2_ages_1 18 rfl rfl)
theorem dX2_ages_44 : decode cX2_ages 44 = .ok (.aload_n 3, 1) := dk_45 (dk_at dksX2_ages_1 21 rfl rfl)
theorem dX2_ages_45 : decode cX2_ages 45 = .ok (.getfield 197, 3) := dk_180 0 197 (dk_at dksX2_ages_2 0 rfl rfl)
theorem dX2_ages_48 : decode cX2_ages 48 = .ok (.bipush 10, 2) := dk_16 10 (dk_at dksX2_ages_2 3 rfl rfl)
theorem dX2_ages_50 : decode cX2_ages 50 = .ok (.if_icmp .ne 12, 3) := dk_160 0 12 (dk_at dksX2_ages_2 5 rfl rfl)
theorem dX2_ages_53 : decode cX2_ages 53 = .ok (.aload_n 0, 1) := dk_42 (dk_at dksX2_ages_2 8 rfl rfl)
theorem dX2_ages_54 : decode cX2_ages 54 = .ok (.aload_n 3, 1) := dk_45 (dk_at dksX2_ages_2 9 rfl rfl)
theorem dX2_ages_55 : decode cX2_ages 55 = .ok (.iconst 2, 1) := dk_5 (dk_at dksX2_ages_2 10 rfl rfl)
theorem dX2_ages_56 : decode cX2_ages 56 = .ok (.invokevirtual 238, 3) := dk_182 0 238 (dk_at dksX2_ages_2 11 rfl rfl)
theorem dX2_ages_59 : decode cX2_ages 59 = .ok (.goto 25, 3) := dk_167 0 25 (dk_at dksX2_ages_2 14 rfl rfl)
theorem dX2_ages_62 : decode cX2_ages 62 = .ok (.aload_n 3, 1) := dk_45 (dk_at dksX2_ages_2 17 rfl rfl)
theorem dX2_ages_63 : decode cX2_ages 63 = .ok (.getfield 175, 3) := dk_180 0 175 (dk_at dksX2_ages_2 18 rfl rfl)
theorem dX2_ages_66 : decode cX2_ages 66 = .ok (.iconst (-1), 1) := dk_2 (dk_at dksX2_ages_2 21 rfl rfl)
theorem dX2_ages_67 : decode cX2_ages 67 = .ok (.if_icmp .ne 17, 3) := dk_160 0 17 (dk_at dksX2_ages_3 0 rfl rfl)
theorem dX2_ages_70 : decode cX2_ages 70 = .ok (.aload_n 3, 1) := dk_45 (dk_at dksX2_ages_3 3 rfl rfl)
theorem dX2_ages_71 : decode cX2_ages 71 = .ok (.getfield 197, 3) := dk_180 0 197 (dk_at dksX2_ages_3 4 rfl rfl)
theorem dX2_ages_74 : decode cX2_ages 74 = .ok (.iconst 2, 1) := dk_5 (dk_at dksX2_ages_3 7 rfl rfl)
theorem dX2_ages_75 : decode cX2_ages 75 = .ok (.if_icmp .lt 9, 3) := dk_161 0 9 (dk_at dksX2_ages_3 8 rfl rfl)
theorem dX2_ages_78 : decode cX2_ages 78 = .ok (.aload_n 0, 1) := dk_42 (dk_at dksX2_ages_3 11 rfl rfl)
theorem dX2_ages_79 : decode cX2_ages 79 = .ok (.aload_n 3, 1) := dk_45 (dk_at dksX2_ages_3 12 rfl rfl)
theorem dX2_ages_80 : decode cX2_ages 80 = .ok (.iconst 3, 1) := dk_6 (dk_at dksX2_ages_3 13 rfl rfl)
theorem dX2_ages_81 : decode cX2_ages 81 = .ok (.invokevirtual 238, 3) := dk_182 0 238 (dk_at dksX2_ages_3 14 rfl rfl)
theorem dX2_ages_84 : decode cX2_ages 84 = .ok (.iinc 2 1, 3) := dk_132 2 1 (dk_at dksX2_ages_3 17 rfl rfl)
theorem dX2_ages_87 : decode cX2_ages 87 = .ok (.goto (-77), 3) := dk_167 255 179 (dk_at dksX2_ages_3 20 rfl rfl)
theorem dX2_ages_90 : decode cX2_ages 90 = .ok (.return_, 1) := dk_177 (dk_at dksX2_ages_3 23 rfl rfl)
abbrev cX2_breed : ByteArray := prog_3_method_45_code
def yX2_breed : MethodName := ⟨RX2, "breed", "()V"⟩
def dkwX2_breed_4 : List UInt8 := [167, 255, 172, 177]
abbrev dktX2_breed_4 : List UInt8 := dkwX2_breed_4 ++ []
def dkwX2_breed_3 : List UInt8 := [46, 182, 0, 193, 87, 42, 89, 180, 0, 90, 4, 96, 181, 0, 90, 132, 5, 1, 167, 255, 205, 132, 2, 1]
abbrev dktX2_breed_3 : List UInt8 := dkwX2_breed_3 ++ dktX2_breed_4
def dkwX2_breed_2 : List UInt8 := [180, 0, 81, 5, 112, 154, 0, 7, 3, 167, 0, 4, 4, 45, 180, 0, 182, 3, 46, 45, 180, 0, 182, 4]
abbrev dktX2_breed_2 : List UInt8 := dkwX2_breed_2 ++ dktX2_breed_3
def dkwX2_breed_1 : List UInt8 := [192, 0, 57, 78, 42, 45, 182, 1, 7, 54, 4, 3, 54, 5, 21, 5, 21, 4, 162, 0, 50, 42, 42]
abbrev dktX2_breed_1 : List UInt8 := dkwX2_breed_1 ++ dktX2_breed_2
def dkwX2_breed_0 : List UInt8 := [42, 180, 0, 24, 182, 0, 49, 60, 3, 61, 28, 27, 162, 0, 85, 42, 180, 0, 24, 28, 182, 0, 53]
abbrev dktX2_breed_0 : List UInt8 := dkwX2_breed_0 ++ dktX2_breed_1
theorem dksX2_breed_0 : cX2_breed.data.toList.drop 0 = dktX2_breed_0 := by decide +kernel
theorem dksX2_breed_1 : cX2_breed.data.toList.drop 23 = dktX2_breed_1 := dk_seg dksX2_breed_0 23 rfl rfl
theorem dksX2_breed_2 : cX2_breed.data.toList.drop 46 = dktX2_breed_2 := dk_seg dksX2_breed_1 23 rfl rfl
theorem dksX2_breed_3 : cX2_breed.data.toList.drop 70 = dktX2_breed_3 := dk_seg dksX2_breed_2 24 rfl rfl
theorem dksX2_breed_4 : cX2_breed.data.toList.drop 94 = dktX2_breed_4 := dk_seg dksX2_breed_3 24 rfl rfl
theorem dX2_breed_0 : decode cX2_breed 0 = .ok (.aload_n 0, 1) := dk_42 (dk_at dksX2_breed_0 0 rfl rfl)
theorem dX2_breed_1 : decode cX2_breed 1 = .ok (.getfield 24, 3) := dk_180 0 24 (dk_at dksX2_breed_0 1 rfl rfl)
theorem dX2_breed_4 : decode cX2_breed 4 = .ok (.invokevirtual 49, 3) := dk_182 0 49 (dk_at dksX2_breed_0 4 rfl rfl)
theorem dX2_breed_7 : decode cX2_breed 7 = .ok (.istore_n 1, 1) := dk_60 (dk_at dksX2_breed_0 7 rfl rfl)
theorem dX2_breed_8 : decode cX2_breed 8 = .ok (.iconst 0, 1) := dk_3 (dk_at dksX2_breed_0 8 rfl rfl)
theorem dX2_breed_9 : decode cX2_breed 9 = .ok (.istore_n 2, 1) := dk_61 (dk_at dksX2_breed_0 9 rfl rfl)
theorem dX2_breed_10 : decode cX2_breed 10 = .ok (.iload_n 2, 1) := dk_28 (dk_at dksX2_breed_0 10 rfl rfl)
theorem dX2_breed_11 : decode cX2_breed 11 = .ok (.iload_n 1, 1) := dk_27 (dk_at dksX2_breed_0 11 rfl rfl)
theorem dX2_breed_12 : decode cX2_breed 12 = .ok (.if_icmp .ge 85, 3) := dk_162 0 85 (dk_at dksX2_breed_0 12 rfl rfl)
theorem dX2_breed_15 : decode cX2_breed 15 = .ok (.aload_n 0, 1) := dk_42 (dk_at dksX2_breed_0 15 rfl rfl)
theorem dX2_breed_16 : decode cX2_breed 16 = .ok (.getfield 24, 3) := dk_180 0 24 (dk_at dksX2_breed_0 16 rfl rfl)
theorem dX2_breed_19 : decode cX2_breed 19 = .ok (.iload_n 2, 1) := dk_28 (dk_at dksX2_breed_0 19 rfl rfl)
theorem dX2_breed_20 : decode cX2_breed 20 = .ok (.invokevirtual 53, 3) := dk_182 0 53 (dk_at dksX2_breed_0 20 rfl rfl)
theorem dX2_breed_23 : decode cX2_breed 23 = .ok (.checkcast 57, 3) := dk_192 0 57 (dk_at dksX2_breed_1 0 rfl rfl)
theorem dX2_breed_26 : decode cX2_breed 26 = .ok (.astore_n 3, 1) := dk_78 (dk_at dksX2_breed_1 3 rfl rfl)
theorem dX2_breed_27 : decode cX2_breed 27 = .ok (.aload_n 0, 1) := dk_42 (dk_at dksX2_breed_1 4 rfl rfl)
theorem dX2_breed_28 : decode cX2_breed 28 = .ok (.aload_n 3, 1) := dk_45 (dk_at dksX2_breed_1 5 rfl rfl)
theorem dX2_breed_29 : decode cX2_breed 29 = .ok (.invokevirtual 263, 3) := dk_182 1 7 (dk_at dksX2_breed_1 6 rfl rfl)
theorem dX2_breed_32 : decode cX2_breed 32 = .ok (.istore 4, 2) := dk_54 4 (dk_at dksX2_breed_1 9 rfl rfl)
theorem dX2_breed_34 : decode cX2_breed 34 = .ok (.iconst 0, 1) := dk_3 (dk_at dksX2_breed_1 11 rfl rfl)
theorem dX2_breed_35 : decode cX2_breed 35 = .ok (.istore 5, 2) := dk_54 5 (dk_at dksX2_breed_1 12 rfl rfl)
theorem dX2_breed_37 : decode cX2_breed 37 = .ok (.iload 5, 2) := dk_21 5 (dk_at dksX2_breed_1 14 rfl rfl)
theorem dX2_breed_39 : decode cX2_breed 39 = .ok (.iload 4, 2) := dk_21 4 (dk_at dksX2_breed_1 16 rfl rfl)
theorem dX2_breed_41 : decode cX2_breed 41 = .ok (.if_icmp .ge 50, 3) := dk_162 0 50 (dk_at dksX2_breed_1 18 rfl rfl)
theorem dX2_breed_44 : decode cX2_breed 44 = .ok (.aload_n 0, 1) := dk_42 (dk_at dksX2_breed_1 21 rfl rfl)
theorem dX2_breed_45 : decode cX2_breed 45 = .ok (.aload_n 0, 1) := dk_42 (dk_at dksX2_breed_1 22 rfl rfl)
theorem dX2_breed_46 : decode cX2_breed 46 = .ok (.getfield 81, 3) := dk_180 0 81 (dk_at dksX2_breed_2 0 rfl rfl)
theorem dX2_breed_49 : decode cX2_breed 49 = .ok (.iconst 2, 1) := dk_5 (dk_at dksX2_breed_2 3 rfl rfl)
theorem dX2_breed_50 : decode cX2_breed 50 = .ok (.irem, 1) := dk_112 (dk_at dksX2_breed_2 4 rfl rfl)
theorem dX2_breed_51 : decode cX2_breed 51 = .ok (.ifCond .ne 7, 3) := dk_154 0 7 (dk_at dksX2_breed_2 5 rfl rfl)
theorem dX2_breed_54 : decode cX2_breed 54 = .ok (.iconst 0, 1) := dk_3 (dk_at dksX2_breed_2 8 rfl rfl)
theorem dX2_breed_55 : decode cX2_breed 55 = .ok (.goto 4, 3) := dk_167 0 4 (dk_at dksX2_breed_2 9 rfl rfl)
theorem dX2_breed_58 : decode cX2_breed 58 = .ok (.iconst 1, 1) := dk_4 (dk_at dksX2_breed_2 12 rfl rfl)
theorem dX2_breed_59 : decode cX2_breed 59 = .ok (.aload_n 3, 1) := dk_45 (dk_at dksX2_breed_2 13 rfl rfl)
theorem dX2_breed_60 : decode cX2_breed 60 = .ok (.getfield 182, 3) := dk_180 0 182 (dk_at dksX2_breed_2 14 rfl rfl)
theorem dX2_breed_63 : decode cX2_breed 63 = .ok (.iconst 0, 1) := dk_3 (dk_at dksX2_breed_2 17 rfl rfl)
theorem dX2_breed_64 : decode cX2_breed 64 = .ok (.iaload, 1) := dk_46 (dk_at dksX2_breed_2 18 rfl rfl)
theorem dX2_breed_65 : decode cX2_breed 65 = .ok (.aload_n 3, 1) := dk_45 (dk_at dksX2_breed_2 19 rfl rfl)
theorem dX2_breed_66 : decode cX2_breed 66 = .ok (.getfield 182, 3) := dk_180 0 182 (dk_at dksX2_breed_2 20 rfl rfl)
theorem dX2_breed_69 : decode cX2_breed 69 = .ok (.iconst 1, 1) := dk_4 (dk_at dksX2_breed_2 23 rfl rfl)
theorem dX2_breed_70 : decode cX2_breed 70 = .ok (.iaload, 1) := dk_46 (dk_at dksX2_breed_3 0 rfl rfl)
theorem dX2_breed_71 : decode cX2_breed 71 = .ok (.invokevirtual 193, 3) := dk_182 0 193 (dk_at dksX2_breed_3 1 rfl rfl)
theorem dX2_breed_74 : decode cX2_breed 74 = .ok (.pop, 1) := dk_87 (dk_at dksX2_breed_3 4 rfl rfl)
theorem dX2_breed_75 : decode cX2_breed 75 = .ok (.aload_n 0, 1) := dk_42 (dk_at dksX2_breed_3 5 rfl rfl)
theorem dX2_breed_76 : decode cX2_breed 76 = .ok (.dup, 1) := dk_89 (dk_at dksX2_breed_3 6 rfl rfl)
theorem dX2_breed_77 : decode cX2_breed 77 = .ok (.getfield 90, 3) := dk_180 0 90 (dk_at dksX2_breed_3 7 rfl rfl)
theorem dX2_breed_80 : decode cX2_breed 80 = .ok (.iconst 1, 1) := dk_4 (dk_at dksX2_breed_3 10 rfl rfl)
theorem dX2_breed_81 : decode cX2_breed 81 = .ok (.iadd, 1) := dk_96 (dk_at dksX2_breed_3 11 rfl rfl)
theorem dX2_breed_82 : decode cX2_breed 82 = .ok (.putfield 90, 3) := dk_181 0 90 (dk_at dksX2_breed_3 12 rfl rfl)
theorem dX2_breed_85 : decode cX2_breed 85 = .ok (.iinc 5 1, 3) := dk_132 5 1 (dk_at dksX2_breed_3 15 rfl rfl)
theorem dX2_breed_88 : decode cX2_breed 88 = .ok (.goto (-51), 3) := dk_167 255 205 (dk_at dksX2_breed_3 18 rfl rfl)
theorem dX2_breed_91 : decode cX2_breed 91 = .ok (.iinc 2 1, 3) := dk_132 2 1 (dk_at dksX2_breed_3 21 rfl rfl)
theorem dX2_breed_94 : decode cX2_breed 94 = .ok (.goto (-84), 3) := dk_167 255 172 (dk_at dksX2_breed_4 0 rfl rfl)
theorem dX2_breed_97 : decode cX2_breed 97 = .ok (.return_, 1) := dk_177 (dk_at dksX2_breed_4 3 rfl rfl)
abbrev cX2_young : ByteArray := prog_3_method_44_code
def yX2_young : MethodName := ⟨RX2, "young", "(LOwlYears$Box;)I"⟩
def dkwX2_young_1 : List UInt8 := [167, 0, 17, 28, 42, 43, 182, 0, 245, 16, 80, 108, 4, 100, 184, 0, 214, 172]
abbrev dktX2_young_1 : List UInt8 := dkwX2_young_1 ++ []
def dkwX2_young_0 : List UInt8 := [16, 6, 16, 40, 42, 180, 0, 84, 100, 184, 0, 214, 61, 42, 43, 182, 1, 4, 158, 0, 7, 3]
abbrev dktX2_young_0 : List UInt8 := dkwX2_young_0 ++ dktX2_young_1
theorem dksX2_young_0 : cX2_young.data.toList.drop 0 = dktX2_young_0 := by decide +kernel
theorem dksX2_young_1 : cX2_young.data.toList.drop 22 = dktX2_young_1 := dk_seg dksX2_young_0 22 rfl rfl
theorem dX2_young_0 : decode cX2_young 0 = .ok (.bipush 6, 2) := dk_16 6 (dk_at dksX2_young_0 0 rfl rfl)
theorem dX2_young_2 : decode cX2_young 2 = .ok (.bipush 40, 2) := dk_16 40 (dk_at dksX2_young_0 2 rfl rfl)
theorem dX2_young_4 : decode cX2_young 4 = .ok (.aload_n 0, 1) := dk_42 (dk_at dksX2_young_0 4 rfl rfl)
theorem dX2_young_5 : decode cX2_young 5 = .ok (.getfield 84, 3) := dk_180 0 84 (dk_at dksX2_young_0 5 rfl rfl)
theorem dX2_young_8 : decode cX2_young 8 = .ok (.isub, 1) := dk_100 (dk_at dksX2_young_0 8 rfl rfl)
theorem dX2_young_9 : decode cX2_young 9 = .ok (.invokestatic 214, 3) := dk_184 0 214 (dk_at dksX2_young_0 9 rfl rfl)
theorem dX2_young_12 : decode cX2_young 12 = .ok (.istore_n 2, 1) := dk_61 (dk_at dksX2_young_0 12 rfl rfl)
theorem dX2_young_13 : decode cX2_young 13 = .ok (.aload_n 0, 1) := dk_42 (dk_at dksX2_young_0 13 rfl rfl)
theorem dX2_young_14 : decode cX2_young 14 = .ok (.aload_n 1, 1) := dk_43 (dk_at dksX2_young_0 14 rfl rfl)
theorem dX2_young_15 : decode cX2_young 15 = .ok (.invokevirtual 260, 3) := dk_182 1 4 (dk_at dksX2_young_0 15 rfl rfl)
theorem dX2_young_18 : decode cX2_young 18 = .ok (.ifCond .le 7, 3) := dk_158 0 7 (dk_at dksX2_young_0 18 rfl rfl)
theorem dX2_young_21 : decode cX2_young 21 = .ok (.iconst 0, 1) := dk_3 (dk_at dksX2_young_0 21 rfl rfl)
theorem dX2_young_22 : decode cX2_young 22 = .ok (.goto 17, 3) := dk_167 0 17 (dk_at dksX2_young_1 0 rfl rfl)
theorem dX2_young_25 : decode cX2_young 25 = .ok (.iload_n 2, 1) := dk_28 (dk_at dksX2_young_1 3 rfl rfl)
theorem dX2_young_26 : decode cX2_young 26 = .ok (.aload_n 0, 1) := dk_42 (dk_at dksX2_young_1 4 rfl rfl)
theorem dX2_young_27 : decode cX2_young 27 = .ok (.aload_n 1, 1) := dk_43 (dk_at dksX2_young_1 5 rfl rfl)
theorem dX2_young_28 : decode cX2_young 28 = .ok (.invokevirtual 245, 3) := dk_182 0 245 (dk_at dksX2_young_1 6 rfl rfl)
theorem dX2_young_31 : decode cX2_young 31 = .ok (.bipush 80, 2) := dk_16 80 (dk_at dksX2_young_1 9 rfl rfl)
theorem dX2_young_33 : decode cX2_young 33 = .ok (.idiv, 1) := dk_108 (dk_at dksX2_young_1 11 rfl rfl)
theorem dX2_young_34 : decode cX2_young 34 = .ok (.iconst 1, 1) := dk_4 (dk_at dksX2_young_1 12 rfl rfl)
theorem dX2_young_35 : decode cX2_young 35 = .ok (.isub, 1) := dk_100 (dk_at dksX2_young_1 13 rfl rfl)
theorem dX2_young_36 : decode cX2_young 36 = .ok (.invokestatic 214, 3) := dk_184 0 214 (dk_at dksX2_young_1 14 rfl rfl)
theorem dX2_young_39 : decode cX2_young 39 = .ok (.ireturn, 1) := dk_172 (dk_at dksX2_young_1 17 rfl rfl)
abbrev cX2_whyNoYoung : ByteArray := prog_3_method_43_code
def yX2_whyNoYoung : MethodName := ⟨RX2, "whyNoYoung", "(LOwlYears$Box;)I"⟩
def dkwX2_whyNoYoung_4 : List UInt8 := [167, 0, 4, 3, 172]
abbrev dktX2_whyNoYoung_4 : List UInt8 := dkwX2_whyNoYoung_4 ++ []
def dkwX2_whyNoYoung_3 : List UInt8 := [43, 182, 0, 245, 17, 0, 160, 162, 0, 7, 7, 167, 0, 17, 42, 180, 0, 84, 16, 40, 160, 0, 7, 8]
abbrev dktX2_whyNoYoung_3 : List UInt8 := dkwX2_whyNoYoung_3 ++ dktX2_whyNoYoung_4
def dkwX2_whyNoYoung_2 : List UInt8 := [4, 161, 0, 20, 42, 43, 180, 0, 182, 4, 46, 182, 0, 219, 180, 0, 197, 4, 162, 0, 5, 6, 172, 42]
abbrev dktX2_whyNoYoung_2 : List UInt8 := dkwX2_whyNoYoung_2 ++ dktX2_whyNoYoung_3
def dkwX2_whyNoYoung_1 : List UInt8 := [167, 0, 4, 5, 172, 132, 2, 1, 167, 255, 228, 42, 43, 180, 0, 182, 3, 46, 182, 0, 219, 180, 0, 197]
abbrev dktX2_whyNoYoung_1 : List UInt8 := dkwX2_whyNoYoung_1 ++ dktX2_whyNoYoung_2
def dkwX2_whyNoYoung_0 : List UInt8 := [3, 61, 28, 4, 163, 0, 29, 43, 180, 0, 182, 28, 46, 2, 160, 0, 13, 28, 154, 0, 7, 4]
abbrev dktX2_whyNoYoung_0 : List UInt8 := dkwX2_whyNoYoung_0 ++ dktX2_whyNoYoung_1
theorem dksX2_whyNoYoung_0 : cX2_whyNoYoung.data.toList.drop 0 = dktX2_whyNoYoung_0 := by decide +kernel
theorem dksX2_whyNoYoung_1 : cX2_whyNoYoung.data.toList.drop 22 = dktX2_whyNoYoung_1 := dk_seg dksX2_whyNoYoung_0 22 rfl rfl
theorem dksX2_whyNoYoung_2 : cX2_whyNoYoung.data.toList.drop 46 = dktX2_whyNoYoung_2 := dk_seg dksX2_whyNoYoung_1 24 rfl rfl
theorem dksX2_whyNoYoung_3 : cX2_whyNoYoung.data.toList.drop 70 = dktX2_whyNoYoung_3 := dk_seg dksX2_whyNoYoung_2 24 rfl rfl
theorem dksX2_whyNoYoung_4 : cX2_whyNoYoung.data.toList.drop 94 = dktX2_whyNoYoung_4 := dk_seg dksX2_whyNoYoung_3 24 rfl rfl
theorem dX2_whyNoYoung_0 : decode cX2_whyNoYoung 0 = .ok (.iconst 0, 1) := dk_3 (dk_at dksX2_whyNoYoung_0 0 rfl rfl)
theorem dX2_whyNoYoung_1 : decode cX2_whyNoYoung 1 = .ok (.istore_n 2, 1) := dk_61 (dk_at dksX2_whyNoYoung_0 1 rfl rfl)
theorem dX2_whyNoYoung_2 : decode cX2_whyNoYoung 2 = .ok (.iload_n 2, 1) := dk_28 (dk_at dksX2_whyNoYoung_0 2 rfl rfl)
theorem dX2_whyNoYoung_3 : decode cX2_whyNoYoung 3 = .ok (.iconst 1, 1) := dk_4 (dk_at dksX2_whyNoYoung_0 3 rfl rfl)
theorem dX2_whyNoYoung_4 : decode cX2_whyNoYoung 4 = .ok (.if_icmp .gt 29, 3) := dk_163 0 29 (dk_at dksX2_whyNoYoung_0 4 rfl rfl)
theorem dX2_whyNoYoung_7 : decode cX2_whyNoYoung 7 = .ok (.aload_n 1, 1) := dk_43 (dk_at dksX2_whyNoYoung_0 7 rfl rfl)
theorem dX2_whyNoYoung_8 : decode cX2_whyNoYoung 8 = .ok (.getfield 182, 3) := dk_180 0 182 (dk_at dksX2_whyNoYoung_0 8 rfl rfl)
theorem dX2_whyNoYoung_11 : decode cX2_whyNoYoung 11 = .ok (.iload_n 2, 1) := dk_28 (dk_at dksX2_whyNoYoung_0 11 rfl rfl)
theorem dX2_whyNoYoung_12 : decode cX2_whyNoYoung 12 = .ok (.iaload, 1) := dk_46 (dk_at dksX2_whyNoYoung_0 12 rfl rfl)
theorem dX2_whyNoYoung_13 : decode cX2_whyNoYoung 13 = .ok (.iconst (-1), 1) := dk_2 (dk_at dksX2_whyNoYoung_0 13 rfl rfl)
theorem dX2_whyNoYoung_14 : decode cX2_whyNoYoung 14 = .ok (.if_icmp .ne 13, 3) := dk_160 0 13 (dk_at dksX2_whyNoYoung_0 14 rfl rfl)
theorem dX2_whyNoYoung_17 : decode cX2_whyNoYoung 17 = .ok (.iload_n 2, 1) := dk_28 (dk_at dksX2_whyNoYoung_0 17 rfl rfl)
theorem dX2_whyNoYoung_18 : decode cX2_whyNoYoung 18 = .ok (.ifCond .ne 7, 3) := dk_154 0 7 (dk_at dksX2_whyNoYoung_0 18 rfl rfl)
theorem dX2_whyNoYoung_21 : decode cX2_whyNoYoung 21 = .ok (.iconst 1, 1) := dk_4 (dk_at dksX2_whyNoYoung_0 21 rfl rfl)
theorem dX2_whyNoYoung_22 : decode cX2_whyNoYoung 22 = .ok (.goto 4, 3) := dk_167 0 4 (dk_at dksX2_whyNoYoung_1 0 rfl rfl)
theorem dX2_whyNoYoung_25 : decode cX2_whyNoYoung 25 = .ok (.iconst 2, 1) := dk_5 (dk_at dksX2_whyNoYoung_1 3 rfl rfl)
theorem dX2_whyNoYoung_26 : decode cX2_whyNoYoung 26 = .ok (.ireturn, 1) := dk_172 (dk_at dksX2_whyNoYoung_1 4 rfl rfl)
theorem dX2_whyNoYoung_27 : decode cX2_whyNoYoung 27 = .ok (.iinc 2 1, 3) := dk_132 2 1 (dk_at dksX2_whyNoYoung_1 5 rfl rfl)
theorem dX2_whyNoYoung_30 : decode cX2_whyNoYoung 30 = .ok (.goto (-28), 3) := dk_167 255 228 (dk_at dksX2_whyNoYoung_1 8 rfl rfl)
theorem dX2_whyNoYoung_33 : decode cX2_whyNoYoung 33 = .ok (.aload_n 0, 1) := dk_42 (dk_at dksX2_whyNoYoung_1 11 rfl rfl)
theorem dX2_whyNoYoung_34 : decode cX2_whyNoYoung 34 = .ok (.aload_n 1, 1) := dk_43 (dk_at dksX2_whyNoYoung_1 12 rfl rfl)
theorem dX2_whyNoYoung_35 : decode cX2_whyNoYoung 35 = .ok (.getfield 182, 3) := dk_180 0 182 (dk_at dksX2_whyNoYoung_1 13 rfl rfl)
theorem dX2_whyNoYoung_38 : decode cX2_whyNoYoung 38 = .ok (.iconst 0, 1) := dk_3 (dk_at dksX2_whyNoYoung_1 16 rfl rfl)
theorem dX2_whyNoYoung_39 : decode cX2_whyNoYoung 39 = .ok (.iaload, 1) := dk_46 (dk_at dksX2_whyNoYoung_1 17 rfl rfl)
theorem dX2_whyNoYoung_40 : decode cX2_whyNoYoung 40 = .ok (.invokevirtual 219, 3) := dk_182 0 219 (dk_at dksX2_whyNoYoung_1 18 rfl rfl)
theorem dX2_whyNoYoung_43 : decode cX2_whyNoYoung 43 = .ok (.getfield 197, 3) := dk_180 0 197 (dk_at dksX2_whyNoYoung_1 21 rfl rfl)
theorem dX2_whyNoYoung_46 : decode cX2_whyNoYoung 46 = .ok (.iconst 1, 1) := dk_4 (dk_at dksX2_whyNoYoung_2 0 rfl rfl)
theorem dX2_whyNoYoung_47 : decode cX2_whyNoYoung 47 = .ok (.if_icmp .lt 20, 3) := dk_161 0 20 (dk_at dksX2_whyNoYoung_2 1 rfl rfl)
theorem dX2_whyNoYoung_50 : decode cX2_whyNoYoung 50 = .ok (.aload_n 0, 1) := dk_42 (dk_at dksX2_whyNoYoung_2 4 rfl rfl)
theorem dX2_whyNoYoung_51 : decode cX2_whyNoYoung 51 = .ok (.aload_n 1, 1) := dk_43 (dk_at dksX2_whyNoYoung_2 5 rfl rfl)
theorem dX2_whyNoYoung_52 : decode cX2_whyNoYoung 52 = .ok (.getfield 182, 3) := dk_180 0 182 (dk_at dksX2_whyNoYoung_2 6 rfl rfl)
theorem dX2_whyNoYoung_55 : decode cX2_whyNoYoung 55 = .ok (.iconst 1, 1) := dk_4 (dk_at dksX2_whyNoYoung_2 9 rfl rfl)
theorem dX2_whyNoYoung_56 : decode cX2_whyNoYoung 56 = .ok (.iaload, 1) := dk_46 (dk_at dksX2_whyNoYoung_2 10 rfl rfl)
theorem dX2_whyNoYoung_57 : decode cX2_whyNoYoung 57 = .ok (.invokevirtual 219, 3) := dk_182 0 219 (dk_at dksX2_whyNoYoung_2 11 rfl rfl)
theorem dX2_whyNoYoung_60 : decode cX2_whyNoYoung 60 = .ok (.getfield 197, 3) := dk_180 0 197 (dk_at dksX2_whyNoYoung_2 14 rfl rfl)
theorem dX2_whyNoYoung_63 : decode cX2_whyNoYoung 63 = .ok (.iconst 1, 1) := dk_4 (dk_at dksX2_whyNoYoung_2 17 rfl rfl)
theorem dX2_whyNoYoung_64 : decode cX2_whyNoYoung 64 = .ok (.if_icmp .ge 5, 3) := dk_162 0 5 (dk_at dksX2_whyNoYoung_2 18 rfl rfl)
theorem dX2_whyNoYoung_67 : decode cX2_whyNoYoung 67 = .ok (.iconst 3, 1) := dk_6 (dk_at dksX2_whyNoYoung_2 21 rfl rfl)
theorem dX2_whyNoYoung_68 : decode cX2_whyNoYoung 68 = .ok (.ireturn, 1) := dk_172 (dk_at dksX2_whyNoYoung_2 22 rfl rfl)
theorem dX2_whyNoYoung_69 : decode cX2_whyNoYoung 69 = .ok (.aload_n 0, 1) := dk_42 (dk_at dksX2_whyNoYoung_2 23 rfl rfl)
theorem dX2_whyNoYoung_70 : decode cX2_whyNoYoung 70 = .ok (.aload_n 1, 1) := dk_43 (dk_at dksX2_whyNoYoung_3 0 rfl rfl)
theorem dX2_whyNoYoung_71 : decode cX2_whyNoYoung 71 = .ok (.invokevirtual 245, 3) := dk_182 0 245 (dk_at dksX2_whyNoYoung_3 1 rfl rfl)
theorem dX2_whyNoYoung_74 : decode cX2_whyNoYoung 74 = .ok (.sipush 160, 3) := dk_17 0 160 (dk_at dksX2_whyNoYoung_3 4 rfl rfl)
theorem dX2_whyNoYoung_77 : decode cX2_whyNoYoung 77 = .ok (.if_icmp .ge 7, 3) := dk_162 0 7 (dk_at dksX2_whyNoYoung_3 7 rfl rfl)
theorem dX2_whyNoYoung_80 : decode cX2_whyNoYoung 80 = .ok (.iconst 4, 1) := dk_7 (dk_at dksX2_whyNoYoung_3 10 rfl rfl)
theorem dX2_whyNoYoung_81 : decode cX2_whyNoYoung 81 = .ok (.goto 17, 3) := dk_167 0 17 (dk_at dksX2_whyNoYoung_3 11 rfl rfl)
theorem dX2_whyNoYoung_84 : decode cX2_whyNoYoung 84 = .ok (.aload_n 0, 1) := dk_42 (dk_at dksX2_whyNoYoung_3 14 rfl rfl)
theorem dX2_whyNoYoung_85 : decode cX2_whyNoYoung 85 = .ok (.getfield 84, 3) := dk_180 0 84 (dk_at dksX2_whyNoYoung_3 15 rfl rfl)
theorem dX2_whyNoYoung_88 : decode cX2_whyNoYoung 88 = .ok (.bipush 40, 2) := dk_16 40 (dk_at dksX2_whyNoYoung_3 18 rfl rfl)
theorem dX2_whyNoYoung_90 : decode cX2_whyNoYoung 90 = .ok (.if_icmp .ne 7, 3) := dk_160 0 7 (dk_at dksX2_whyNoYoung_3 20 rfl rfl)
theorem dX2_whyNoYoung_93 : decode cX2_whyNoYoung 93 = .ok (.iconst 5, 1) := dk_8 (dk_at dksX2_whyNoYoung_3 23 rfl rfl)
theorem dX2_whyNoYoung_94 : decode cX2_whyNoYoung 94 = .ok (.goto 4, 3) := dk_167 0 4 (dk_at dksX2_whyNoYoung_4 0 rfl rfl)
theorem dX2_whyNoYoung_97 : decode cX2_whyNoYoung 97 = .ok (.iconst 0, 1) := dk_3 (dk_at dksX2_whyNoYoung_4 3 rfl rfl)
theorem dX2_whyNoYoung_98 : decode cX2_whyNoYoung 98 = .ok (.ireturn, 1) := dk_172 (dk_at dksX2_whyNoYoung_4 4 rfl rfl)
abbrev cX2_ringed : ByteArray := prog_3_method_23_code
def yX2_ringed : MethodName := ⟨RX2, "ringed", "(III)LOwlYears$Owl;"⟩
def dkwX2_ringed_2 : List UInt8 := [25, 4, 176]
abbrev dktX2_ringed_2 : List UInt8 := dkwX2_ringed_2 ++ []
def dkwX2_ringed_1 : List UInt8 := [182, 0, 72, 87, 42, 89, 180, 0, 81, 4, 96, 181, 0, 81, 42, 89, 180, 0, 84, 4, 96, 181, 0, 84]
abbrev dktX2_ringed_1 : List UInt8 := dkwX2_ringed_1 ++ dktX2_ringed_2
def dkwX2_ringed_0 : List UInt8 := [187, 0, 67, 89, 42, 180, 0, 81, 27, 28, 29, 183, 0, 184, 58, 4, 42, 180, 0, 35, 25, 4]
abbrev dktX2_ringed_0 : List UInt8 := dkwX2_ringed_0 ++ dktX2_ringed_1
theorem dksX2_ringed_0 : cX2_ringed.data.toList.drop 0 = dktX2_ringed_0 := by decide +kernel
theorem dksX2_ringed_1 : cX2_ringed.data.toList.drop 22 = dktX2_ringed_1 := dk_seg dksX2_ringed_0 22 rfl rfl
theorem dksX2_ringed_2 : cX2_ringed.data.toList.drop 46 = dktX2_ringed_2 := dk_seg dksX2_ringed_1 24 rfl rfl
theorem dX2_ringed_0 : decode cX2_ringed 0 = .ok (.new 67, 3) := dk_187 0 67 (dk_at dksX2_ringed_0 0 rfl rfl)
theorem dX2_ringed_3 : decode cX2_ringed 3 = .ok (.dup, 1) := dk_89 (dk_at dksX2_ringed_0 3 rfl rfl)
theorem dX2_ringed_4 : decode cX2_ringed 4 = .ok (.aload_n 0, 1) := dk_42 (dk_at dksX2_ringed_0 4 rfl rfl)
theorem dX2_ringed_5 : decode cX2_ringed 5 = .ok (.getfield 81, 3) := dk_180 0 81 (dk_at dksX2_ringed_0 5 rfl rfl)
theorem dX2_ringed_8 : decode cX2_ringed 8 = .ok (.iload_n 1, 1) := dk_27 (dk_at dksX2_ringed_0 8 rfl rfl)
theorem dX2_ringed_9 : decode cX2_ringed 9 = .ok (.iload_n 2, 1) := dk_28 (dk_at dksX2_ringed_0 9 rfl rfl)
theorem dX2_ringed_10 : decode cX2_ringed 10 = .ok (.iload_n 3, 1) := dk_29 (dk_at dksX2_ringed_0 10 rfl rfl)
theorem dX2_ringed_11 : decode cX2_ringed 11 = .ok (.invokespecial 184, 3) := dk_183 0 184 (dk_at dksX2_ringed_0 11 rfl rfl)
theorem dX2_ringed_14 : decode cX2_ringed 14 = .ok (.astore 4, 2) := dk_58 4 (dk_at dksX2_ringed_0 14 rfl rfl)
theorem dX2_ringed_16 : decode cX2_ringed 16 = .ok (.aload_n 0, 1) := dk_42 (dk_at dksX2_ringed_0 16 rfl rfl)
theorem dX2_ringed_17 : decode cX2_ringed 17 = .ok (.getfield 35, 3) := dk_180 0 35 (dk_at dksX2_ringed_0 17 rfl rfl)
theorem dX2_ringed_20 : decode cX2_ringed 20 = .ok (.aload 4, 2) := dk_25 4 (dk_at dksX2_ringed_0 20 rfl rfl)
theorem dX2_ringed_22 : decode cX2_ringed 22 = .ok (.invokevirtual 72, 3) := dk_182 0 72 (dk_at dksX2_ringed_1 0 rfl rfl)
theorem dX2_ringed_25 : decode cX2_ringed 25 = .ok (.pop, 1) := dk_87 (dk_at dksX2_ringed_1 3 rfl rfl)
theorem dX2_ringed_26 : decode cX2_ringed 26 = .ok (.aload_n 0, 1) := dk_42 (dk_at dksX2_ringed_1 4 rfl rfl)
theorem dX2_ringed_27 : decode cX2_ringed 27 = .ok (.dup, 1) := dk_89 (dk_at dksX2_ringed_1 5 rfl rfl)
theorem dX2_ringed_28 : decode cX2_ringed 28 = .ok (.getfield 81, 3) := dk_180 0 81 (dk_at dksX2_ringed_1 6 rfl rfl)
theorem dX2_ringed_31 : decode cX2_ringed 31 = .ok (.iconst 1, 1) := dk_4 (dk_at dksX2_ringed_1 9 rfl rfl)
theorem dX2_ringed_32 : decode cX2_ringed 32 = .ok (.iadd, 1) := dk_96 (dk_at dksX2_ringed_1 10 rfl rfl)
theorem dX2_ringed_33 : decode cX2_ringed 33 = .ok (.putfield 81, 3) := dk_181 0 81 (dk_at dksX2_ringed_1 11 rfl rfl)
theorem dX2_ringed_36 : decode cX2_ringed 36 = .ok (.aload_n 0, 1) := dk_42 (dk_at dksX2_ringed_1 14 rfl rfl)
theorem dX2_ringed_37 : decode cX2_ringed 37 = .ok (.dup, 1) := dk_89 (dk_at dksX2_ringed_1 15 rfl rfl)
theorem dX2_ringed_38 : decode cX2_ringed 38 = .ok (.getfield 84, 3) := dk_180 0 84 (dk_at dksX2_ringed_1 16 rfl rfl)
theorem dX2_ringed_41 : decode cX2_ringed 41 = .ok (.iconst 1, 1) := dk_4 (dk_at dksX2_ringed_1 19 rfl rfl)
theorem dX2_ringed_42 : decode cX2_ringed 42 = .ok (.iadd, 1) := dk_96 (dk_at dksX2_ringed_1 20 rfl rfl)
theorem dX2_ringed_43 : decode cX2_ringed 43 = .ok (.putfield 84, 3) := dk_181 0 84 (dk_at dksX2_ringed_1 21 rfl rfl)
theorem dX2_ringed_46 : decode cX2_ringed 46 = .ok (.aload 4, 2) := dk_25 4 (dk_at dksX2_ringed_2 0 rfl rfl)
theorem dX2_ringed_48 : decode cX2_ringed 48 = .ok (.areturn, 1) := dk_176 (dk_at dksX2_ringed_2 2 rfl rfl)
abbrev cX2_settle : ByteArray := prog_3_method_47_code
def yX2_settle : MethodName := ⟨RX2, "settle", "()V"⟩
def dkwX2_settle_3 : List UInt8 := [182, 0, 200, 132, 2, 1, 167, 255, 190, 177]
abbrev dktX2_settle_3 : List UInt8 := dkwX2_settle_3 ++ []
def dkwX2_settle_2 : List UInt8 := [161, 0, 26, 42, 45, 180, 0, 187, 182, 1, 13, 54, 4, 21, 4, 2, 159, 0, 10, 42, 45, 21, 4]
abbrev dktX2_settle_2 : List UInt8 := dkwX2_settle_2 ++ dktX2_settle_3
def dkwX2_settle_1 : List UInt8 := [192, 0, 67, 78, 45, 180, 0, 207, 153, 0, 42, 45, 180, 0, 175, 2, 160, 0, 34, 45, 180, 0, 197, 4]
abbrev dktX2_settle_1 : List UInt8 := dkwX2_settle_1 ++ dktX2_settle_2
def dkwX2_settle_0 : List UInt8 := [42, 180, 0, 35, 182, 0, 49, 60, 3, 61, 28, 27, 162, 0, 67, 42, 180, 0, 35, 28, 182, 0, 53]
abbrev dktX2_settle_0 : List UInt8 := dkwX2_settle_0 ++ dktX2_settle_1
theorem dksX2_settle_0 : cX2_settle.data.toList.drop 0 = dktX2_settle_0 := by decide +kernel
theorem dksX2_settle_1 : cX2_settle.data.toList.drop 23 = dktX2_settle_1 := dk_seg dksX2_settle_0 23 rfl rfl
theorem dksX2_settle_2 : cX2_settle.data.toList.drop 47 = dktX2_settle_2 := dk_seg dksX2_settle_1 24 rfl rfl
theorem dksX2_settle_3 : cX2_settle.data.toList.drop 70 = dktX2_settle_3 := dk_seg dksX2_settle_2 23 rfl rfl
theorem dX2_settle_0 : decode cX2_settle 0 = .ok (.aload_n 0, 1) := dk_42 (dk_at dksX2_settle_0 0 rfl rfl)
theorem dX2_settle_1 : decode cX2_settle 1 = .ok (.getfield 35, 3) := dk_180 0 35 (dk_at dksX2_settle_0 1 rfl rfl)
theorem dX2_settle_4 : decode cX2_settle 4 = .ok (.invokevirtual 49, 3) := dk_182 0 49 (dk_at dksX2_settle_0 4 rfl rfl)
theorem dX2_settle_7 : decode cX2_settle 7 = .ok (.istore_n 1, 1) := dk_60 (dk_at dksX2_settle_0 7 rfl rfl)
theorem dX2_settle_8 : decode cX2_settle 8 = .ok (.iconst 0, 1) := dk_3 (dk_at dksX2_settle_0 8 rfl rfl)
theorem dX2_settle_9 : decode cX2_settle 9 = .ok (.istore_n 2, 1) := dk_61 (dk_at dksX2_settle_0 9 rfl rfl)
theorem dX2_settle_10 : decode cX2_settle 10 = .ok (.iload_n 2, 1) := dk_28 (dk_at dksX2_settle_0 10 rfl rfl)
theorem dX2_settle_11 : decode cX2_settle 11 = .ok (.iload_n 1, 1) := dk_27 (dk_at dksX2_settle_0 11 rfl rfl)
theorem dX2_settle_12 : decode cX2_settle 12 = .ok (.if_icmp .ge 67, 3) := dk_162 0 67 (dk_at dksX2_settle_0 12 rfl rfl)
theorem dX2_settle_15 : decode cX2_settle 15 = .ok (.aload_n 0, 1) := dk_42 (dk_at dksX2_settle_0 15 rfl rfl)
theorem dX2_settle_16 : decode cX2_settle 16 = .ok (.getfield 35, 3) := dk_180 0 35 (dk_at dksX2_settle_0 16 rfl rfl)
theorem dX2_settle_19 : decode cX2_settle 19 = .ok (.iload_n 2, 1) := dk_28 (dk_at dksX2_settle_0 19 rfl rfl)
theorem dX2_settle_20 : decode cX2_settle 20 = .ok (.invokevirtual 53, 3) := dk_182 0 53 (dk_at dksX2_settle_0 20 rfl rfl)
theorem dX2_settle_23 : decode cX2_settle 23 = .ok (.checkcast 67, 3) := dk_192 0 67 (dk_at dksX2_settle_1 0 rfl rfl)
theorem dX2_settle_26 : decode cX2_settle 26 = .ok (.astore_n 3, 1) := dk_78 (dk_at dksX2_settle_1 3 rfl rfl)
theorem dX2_settle_27 : decode cX2_settle 27 = .ok (.aload_n 3, 1) := dk_45 (dk_at dksX2_settle_1 4 rfl rfl)
theorem dX2_settle_28 : decode cX2_settle 28 = .ok (.getfield 207, 3) := dk_180 0 207 (dk_at dksX2_settle_1 5 rfl rfl)
theorem dX2_settle_31 : decode cX2_settle 31 = .ok (.ifCond .eq 42, 3) := dk_153 0 42 (dk_at dksX2_settle_1 8 rfl rfl)
theorem dX2_settle_34 : decode cX2_settle 34 = .ok (.aload_n 3, 1) := dk_45 (dk_at dksX2_settle_1 11 rfl rfl)
theorem dX2_settle_35 : decode cX2_settle 35 = .ok (.getfield 175, 3) := dk_180 0 175 (dk_at dksX2_settle_1 12 rfl rfl)
theorem dX2_settle_38 : decode cX2_settle 38 = .ok (.iconst (-1), 1) := dk_2 (dk_at dksX2_settle_1 15 rfl rfl)
theorem dX2_settle_39 : decode cX2_settle 39 = .ok (.if_icmp .ne 34, 3) := dk_160 0 34 (dk_at dksX2_settle_1 16 rfl rfl)
theorem dX2_settle_42 : decode cX2_settle 42 = .ok (.aload_n 3, 1) := dk_45 (dk_at dksX2_settle_1 19 rfl rfl)
theorem dX2_settle_43 : decode cX2_settle 43 = .ok (.getfield 197, 3) := dk_180 0 197 (dk_at dksX2_settle_1 20 rfl rfl)
theorem dX2_settle_46 : decode cX2_settle 46 = .ok (.iconst 1, 1) := dk_4 (dk_at dksX2_settle_1 23 rfl rfl)
theorem dX2_settle_47 : decode cX2_settle 47 = .ok (.if_icmp .lt 26, 3) := dk_161 0 26 (dk_at dksX2_settle_2 0 rfl rfl)
theorem dX2_settle_50 : decode cX2_settle 50 = .ok (.aload_n 0, 1) := dk_42 (dk_at dksX2_settle_2 3 rfl rfl)
theorem dX2_settle_51 : decode cX2_settle 51 = .ok (.aload_n 3, 1) := dk_45 (dk_at dksX2_settle_2 4 rfl rfl)
theorem dX2_settle_52 : decode cX2_settle 52 = .ok (.getfield 187, 3) := dk_180 0 187 (dk_at dksX2_settle_2 5 rfl rfl)
theorem dX2_settle_55 : decode cX2_settle 55 = .ok (.invokevirtual 269, 3) := dk_182 1 13 (dk_at dksX2_settle_2 8 rfl rfl)
theorem dX2_settle_58 : decode cX2_settle 58 = .ok (.istore 4, 2) := dk_54 4 (dk_at dksX2_settle_2 11 rfl rfl)
theorem dX2_settle_60 : decode cX2_settle 60 = .ok (.iload 4, 2) := dk_21 4 (dk_at dksX2_settle_2 13 rfl rfl)
theorem dX2_settle_62 : decode cX2_settle 62 = .ok (.iconst (-1), 1) := dk_2 (dk_at dksX2_settle_2 15 rfl rfl)
theorem dX2_settle_63 : decode cX2_settle 63 = .ok (.if_icmp .eq 10, 3) := dk_159 0 10 (dk_at dksX2_settle_2 16 rfl rfl)
theorem dX2_settle_66 : decode cX2_settle 66 = .ok (.aload_n 0, 1) := dk_42 (dk_at dksX2_settle_2 19 rfl rfl)
theorem dX2_settle_67 : decode cX2_settle 67 = .ok (.aload_n 3, 1) := dk_45 (dk_at dksX2_settle_2 20 rfl rfl)
theorem dX2_settle_68 : decode cX2_settle 68 = .ok (.iload 4, 2) := dk_21 4 (dk_at dksX2_settle_2 21 rfl rfl)
theorem dX2_settle_70 : decode cX2_settle 70 = .ok (.invokevirtual 200, 3) := dk_182 0 200 (dk_at dksX2_settle_3 0 rfl rfl)
theorem dX2_settle_73 : decode cX2_settle 73 = .ok (.iinc 2 1, 3) := dk_132 2 1 (dk_at dksX2_settle_3 3 rfl rfl)
theorem dX2_settle_76 : decode cX2_settle 76 = .ok (.goto (-66), 3) := dk_167 255 190 (dk_at dksX2_settle_3 6 rfl rfl)
theorem dX2_settle_79 : decode cX2_settle 79 = .ok (.return_, 1) := dk_177 (dk_at dksX2_settle_3 9 rfl rfl)
abbrev cX2_boxFor : ByteArray := prog_3_method_46_code
def yX2_boxFor : MethodName := ⟨RX2, "boxFor", "(I)I"⟩
def dkwX2_boxFor_3 : List UInt8 := [167, 0, 4, 28, 61, 29, 21, 7, 184, 1, 10, 62, 132, 5, 1, 167, 255, 189, 28, 172]
abbrev dktX2_boxFor_3 : List UInt8 := dkwX2_boxFor_3 ++ []
def dkwX2_boxFor_2 : List UInt8 := [160, 0, 12, 42, 25, 6, 182, 0, 245, 167, 0, 4, 3, 54, 7, 21, 7, 29, 164, 0, 8, 21, 5]
abbrev dktX2_boxFor_2 : List UInt8 := dkwX2_boxFor_2 ++ dktX2_boxFor_3
def dkwX2_boxFor_1 : List UInt8 := [42, 180, 0, 24, 21, 5, 182, 0, 53, 192, 0, 57, 58, 6, 25, 6, 180, 0, 182, 27, 46, 2]
abbrev dktX2_boxFor_1 : List UInt8 := dkwX2_boxFor_1 ++ dktX2_boxFor_2
def dkwX2_boxFor_0 : List UInt8 := [2, 61, 16, 59, 62, 42, 180, 0, 24, 182, 0, 49, 54, 4, 3, 54, 5, 21, 5, 21, 4, 162, 0, 66]
abbrev dktX2_boxFor_0 : List UInt8 := dkwX2_boxFor_0 ++ dktX2_boxFor_1
theorem dksX2_boxFor_0 : cX2_boxFor.data.toList.drop 0 = dktX2_boxFor_0 := by decide +kernel
theorem dksX2_boxFor_1 : cX2_boxFor.data.toList.drop 24 = dktX2_boxFor_1 := dk_seg dksX2_boxFor_0 24 rfl rfl
theorem dksX2_boxFor_2 : cX2_boxFor.data.toList.drop 46 = dktX2_boxFor_2 := dk_seg dksX2_boxFor_1 22 rfl rfl
theorem dksX2_boxFor_3 : cX2_boxFor.data.toList.drop 69 = dktX2_boxFor_3 := dk_seg dksX2_boxFor_2 23 rfl rfl
theorem dX2_boxFor_0 : decode cX2_boxFor 0 = .ok (.iconst (-1), 1) := dk_2 (dk_at dksX2_boxFor_0 0 rfl rfl)
theorem dX2_boxFor_1 : decode cX2_boxFor 1 = .ok (.istore_n 2, 1) := dk_61 (dk_at dksX2_boxFor_0 1 rfl rfl)
theorem dX2_boxFor_2 : decode cX2_boxFor 2 = .ok (.bipush 59, 2) := dk_16 59 (dk_at dksX2_boxFor_0 2 rfl rfl)
theorem dX2_boxFor_4 : decode cX2_boxFor 4 = .ok (.istore_n 3, 1) := dk_62 (dk_at dksX2_boxFor_0 4 rfl rfl)
theorem dX2_boxFor_5 : decode cX2_boxFor 5 = .ok (.aload_n 0, 1) := dk_42 (dk_at dksX2_boxFor_0 5 rfl rfl)
theorem dX2_boxFor_6 : decode cX2_boxFor 6 = .ok (.getfield 24, 3) := dk_180 0 24 (dk_at dksX2_boxFor_0 6 rfl rfl)
theorem dX2_boxFor_9 : decode cX2_boxFor 9 = .ok (.invokevirtual 49, 3) := dk_182 0 49 (dk_at dksX2_boxFor_0 9 rfl rfl)
theorem dX2_boxFor_12 : decode cX2_boxFor 12 = .ok (.istore 4, 2) := dk_54 4 (dk_at dksX2_boxFor_0 12 rfl rfl)
theorem dX2_boxFor_14 : decode cX2_boxFor 14 = .ok (.iconst 0, 1) := dk_3 (dk_at dksX2_boxFor_0 14 rfl rfl)
theorem dX2_boxFor_15 : decode cX2_boxFor 15 = .ok (.istore 5, 2) := dk_54 5 (dk_at dksX2_boxFor_0 15 rfl rfl)
theorem dX2_boxFor_17 : decode cX2_boxFor 17 = .ok (.iload 5, 2) := dk_21 5 (dk_at dksX2_boxFor_0 17 rfl rfl)
theorem dX2_boxFor_19 : decode cX2_boxFor 19 = .ok (.iload 4, 2) := dk_21 4 (dk_at dksX2_boxFor_0 19 rfl rfl)
theorem dX2_boxFor_21 : decode cX2_boxFor 21 = .ok (.if_icmp .ge 66, 3) := dk_162 0 66 (dk_at dksX2_boxFor_0 21 rfl rfl)
theorem dX2_boxFor_24 : decode cX2_boxFor 24 = .ok (.aload_n 0, 1) := dk_42 (dk_at dksX2_boxFor_1 0 rfl rfl)
theorem dX2_boxFor_25 : decode cX2_boxFor 25 = .ok (.getfield 24, 3) := dk_180 0 24 (dk_at dksX2_boxFor_1 1 rfl rfl)
theorem dX2_boxFor_28 : decode cX2_boxFor 28 = .ok (.iload 5, 2) := dk_21 5 (dk_at dksX2_boxFor_1 4 rfl rfl)
theorem dX2_boxFor_30 : decode cX2_boxFor 30 = .ok (.invokevirtual 53, 3) := dk_182 0 53 (dk_at dksX2_boxFor_1 6 rfl rfl)
theorem dX2_boxFor_33 : decode cX2_boxFor 33 = .ok (.checkcast 57, 3) := dk_192 0 57 (dk_at dksX2_boxFor_1 9 rfl rfl)
theorem dX2_boxFor_36 : decode cX2_boxFor 36 = .ok (.astore 6, 2) := dk_58 6 (dk_at dksX2_boxFor_1 12 rfl rfl)
theorem dX2_boxFor_38 : decode cX2_boxFor 38 = .ok (.aload 6, 2) := dk_25 6 (dk_at dksX2_boxFor_1 14 rfl rfl)
theorem dX2_boxFor_40 : decode cX2_boxFor 40 = .ok (.getfield 182, 3) := dk_180 0 182 (dk_at dksX2_boxFor_1 16 rfl rfl)
theorem dX2_boxFor_43 : decode cX2_boxFor 43 = .ok (.iload_n 1, 1) := dk_27 (dk_at dksX2_boxFor_1 19 rfl rfl)
theorem dX2_boxFor_44 : decode cX2_boxFor 44 = .ok (.iaload, 1) := dk_46 (dk_at dksX2_boxFor_1 20 rfl rfl)
theorem dX2_boxFor_45 : decode cX2_boxFor 45 = .ok (.iconst (-1), 1) := dk_2 (dk_at dksX2_boxFor_1 21 rfl rfl)
theorem dX2_boxFor_46 : decode cX2_boxFor 46 = .ok (.if_icmp .ne 12, 3) := dk_160 0 12 (dk_at dksX2_boxFor_2 0 rfl rfl)
theorem dX2_boxFor_49 : decode cX2_boxFor 49 = .ok (.aload_n 0, 1) := dk_42 (dk_at dksX2_boxFor_2 3 rfl rfl)
theorem dX2_boxFor_50 : decode cX2_boxFor 50 = .ok (.aload 6, 2) := dk_25 6 (dk_at dksX2_boxFor_2 4 rfl rfl)
theorem dX2_boxFor_52 : decode cX2_boxFor 52 = .ok (.invokevirtual 245, 3) := dk_182 0 245 (dk_at dksX2_boxFor_2 6 rfl rfl)
theorem dX2_boxFor_55 : decode cX2_boxFor 55 = .ok (.goto 4, 3) := dk_167 0 4 (dk_at dksX2_boxFor_2 9 rfl rfl)
theorem dX2_boxFor_58 : decode cX2_boxFor 58 = .ok (.iconst 0, 1) := dk_3 (dk_at dksX2_boxFor_2 12 rfl rfl)
theorem dX2_boxFor_59 : decode cX2_boxFor 59 = .ok (.istore 7, 2) := dk_54 7 (dk_at dksX2_boxFor_2 13 rfl rfl)
theorem dX2_boxFor_61 : decode cX2_boxFor 61 = .ok (.iload 7, 2) := dk_21 7 (dk_at dksX2_boxFor_2 15 rfl rfl)
theorem dX2_boxFor_63 : decode cX2_boxFor 63 = .ok (.iload_n 3, 1) := dk_29 (dk_at dksX2_boxFor_2 17 rfl rfl)
theorem dX2_boxFor_64 : decode cX2_boxFor 64 = .ok (.if_icmp .le 8, 3) := dk_164 0 8 (dk_at dksX2_boxFor_2 18 rfl rfl)
theorem dX2_boxFor_67 : decode cX2_boxFor 67 = .ok (.iload 5, 2) := dk_21 5 (dk_at dksX2_boxFor_2 21 rfl rfl)
theorem dX2_boxFor_69 : decode cX2_boxFor 69 = .ok (.goto 4, 3) := dk_167 0 4 (dk_at dksX2_boxFor_3 0 rfl rfl)
theorem dX2_boxFor_72 : decode cX2_boxFor 72 = .ok (.iload_n 2, 1) := dk_28 (dk_at dksX2_boxFor_3 3 rfl rfl)
theorem dX2_boxFor_73 : decode cX2_boxFor 73 = .ok (.istore_n 2, 1) := dk_61 (dk_at dksX2_boxFor_3 4 rfl rfl)
theorem dX2_boxFor_74 : decode cX2_boxFor 74 = .ok (.iload_n 3, 1) := dk_29 (dk_at dksX2_boxFor_3 5 rfl rfl)
theorem dX2_boxFor_75 : decode cX2_boxFor 75 = .ok (.iload 7, 2) := dk_21 7 (dk_at dksX2_boxFor_3 6 rfl rfl)
theorem dX2_boxFor_77 : decode cX2_boxFor 77 = .ok (.invokestatic 266, 3) := dk_184 1 10 (dk_at dksX2_boxFor_3 8 rfl rfl)
theorem dX2_boxFor_80 : decode cX2_boxFor 80 = .ok (.istore_n 3, 1) := dk_62 (dk_at dksX2_boxFor_3 11 rfl rfl)
theorem dX2_boxFor_81 : decode cX2_boxFor 81 = .ok (.iinc 5 1, 3) := dk_132 5 1 (dk_at dksX2_boxFor_3 12 rfl rfl)
theorem dX2_boxFor_84 : decode cX2_boxFor 84 = .ok (.goto (-67), 3) := dk_167 255 189 (dk_at dksX2_boxFor_3 15 rfl rfl)
theorem dX2_boxFor_87 : decode cX2_boxFor 87 = .ok (.iload_n 2, 1) := dk_28 (dk_at dksX2_boxFor_3 18 rfl rfl)
theorem dX2_boxFor_88 : decode cX2_boxFor 88 = .ok (.ireturn, 1) := dk_172 (dk_at dksX2_boxFor_3 19 rfl rfl)
abbrev cX2_moveIn : ByteArray := prog_3_method_24_code
def yX2_moveIn : MethodName := ⟨RX2, "moveIn", "(LOwlYears$Owl;I)V"⟩
def dkwX2_moveIn_0 : List UInt8 := [43, 28, 181, 0, 175, 42, 28, 182, 0, 179, 180, 0, 182, 43, 180, 0, 187, 43, 180, 0, 190, 79, 177]
abbrev dktX2_moveIn_0 : List UInt8 := dkwX2_moveIn_0 ++ []
theorem dksX2_moveIn_0 : cX2_moveIn.data.toList.drop 0 = dktX2_moveIn_0 := by decide +kernel
theorem dX2_moveIn_0 : decode cX2_moveIn 0 = .ok (.aload_n 1, 1) := dk_43 (dk_at dksX2_moveIn_0 0 rfl rfl)
theorem dX2_moveIn_1 : decode cX2_moveIn 1 = .ok (.iload_n 2, 1) := dk_28 (dk_at dksX2_moveIn_0 1 rfl rfl)
theorem dX2_moveIn_2 : decode cX2_moveIn 2 = .ok (.putfield 175, 3) := dk_181 0 175 (dk_at dksX2_moveIn_0 2 rfl rfl)
theorem dX2_moveIn_5 : decode cX2_moveIn 5 = .ok (.aload_n 0, 1) := dk_42 (dk_at dksX2_moveIn_0 5 rfl rfl)
theorem dX2_moveIn_6 : decode cX2_moveIn 6 = .ok (.iload_n 2, 1) := dk_28 (dk_at dksX2_moveIn_0 6 rfl rfl)
theorem dX2_moveIn_7 : decode cX2_moveIn 7 = .ok (.invokevirtual 179, 3) := dk_182 0 179 (dk_at dksX2_moveIn_0 7 rfl rfl)
theorem dX2_moveIn_10 : decode cX2_moveIn 10 = .ok (.getfield 182, 3) := dk_180 0 182 (dk_at dksX2_moveIn_0 10 rfl rfl)
theorem dX2_moveIn_13 : decode cX2_moveIn 13 = .ok (.aload_n 1, 1) := dk_43 (dk_at dksX2_moveIn_0 13 rfl rfl)
theorem dX2_moveIn_14 : decode cX2_moveIn 14 = .ok (.getfield 187, 3) := dk_180 0 187 (dk_at dksX2_moveIn_0 14 rfl rfl)
theorem dX2_moveIn_17 : decode cX2_moveIn 17 = .ok (.aload_n 1, 1) := dk_43 (dk_at dksX2_moveIn_0 17 rfl rfl)
theorem dX2_moveIn_18 : decode cX2_moveIn 18 = .ok (.getfield 190, 3) := dk_180 0 190 (dk_at dksX2_moveIn_0 18 rfl rfl)
theorem dX2_moveIn_21 : decode cX2_moveIn 21 = .ok (.iastore, 1) := dk_79 (dk_at dksX2_moveIn_0 21 rfl rfl)
theorem dX2_moveIn_22 : decode cX2_moveIn 22 = .ok (.return_, 1) := dk_177 (dk_at dksX2_moveIn_0 22 rfl rfl)
abbrev cX2_forget : ByteArray := prog_3_method_29_code
def yX2_forget : MethodName := ⟨RX2, "forget", "()V"⟩
def dkwX2_forget_3 : List UInt8 := [177]
abbrev dktX2_forget_3 : List UInt8 := dkwX2_forget_3 ++ []
def dkwX2_forget_2 : List UInt8 := [180, 0, 81, 16, 60, 100, 162, 0, 12, 42, 180, 0, 35, 27, 182, 0, 169, 87, 132, 1, 255, 167, 255, 199]
abbrev dktX2_forget_2 : List UInt8 := dkwX2_forget_2 ++ dktX2_forget_3
def dkwX2_forget_1 : List UInt8 := [192, 0, 67, 180, 0, 207, 154, 0, 36, 42, 180, 0, 35, 27, 182, 0, 53, 192, 0, 67, 180, 0, 190, 42]
abbrev dktX2_forget_1 : List UInt8 := dkwX2_forget_1 ++ dktX2_forget_2
def dkwX2_forget_0 : List UInt8 := [42, 180, 0, 35, 182, 0, 49, 4, 100, 60, 27, 155, 0, 59, 42, 180, 0, 35, 27, 182, 0, 53]
abbrev dktX2_forget_0 : List UInt8 := dkwX2_forget_0 ++ dktX2_forget_1
theorem dksX2_forget_0 : cX2_forget.data.toList.drop 0 = dktX2_forget_0 := by decide +kernel
theorem dksX2_forget_1 : cX2_forget.data.toList.drop 22 = dktX2_forget_1 := dk_seg dksX2_forget_0 22 rfl rfl
theorem dksX2_forget_2 : cX2_forget.data.toList.drop 46 = dktX2_forget_2 := dk_seg dksX2_forget_1 24 rfl rfl
theorem dksX2_forget_3 : cX2_forget.data.toList.drop 70 = dktX2_forget_3 := dk_seg dksX2_forget_2 24 rfl rfl
theorem dX2_forget_0 : decode cX2_forget 0 = .ok (.aload_n 0, 1) := dk_42 (dk_at dksX2_forget_0 0 rfl rfl)
theorem dX2_forget_1 : decode cX2_forget 1 = .ok (.getfield 35, 3) := dk_180 0 35 (dk_at dksX2_forget_0 1 rfl rfl)
theorem dX2_forget_4 : decode cX2_forget 4 = .ok (.invokevirtual 49, 3) := dk_182 0 49 (dk_at dksX2_forget_0 4 rfl rfl)
theorem dX2_forget_7 : decode cX2_forget 7 = .ok (.iconst 1, 1) := dk_4 (dk_at dksX2_forget_0 7 rfl rfl)
theorem dX2_forget_8 : decode cX2_forget 8 = .ok (.isub, 1) := dk_100 (dk_at dksX2_forget_0 8 rfl rfl)
theorem dX2_forget_9 : decode cX2_forget 9 = .ok (.istore_n 1, 1) := dk_60 (dk_at dksX2_forget_0 9 rfl rfl)
theorem dX2_forget_10 : decode cX2_forget 10 = .ok (.iload_n 1, 1) := dk_27 (dk_at dksX2_forget_0 10 rfl rfl)
theorem dX2_forget_11 : decode cX2_forget 11 = .ok (.ifCond .lt 59, 3) := dk_155 0 59 (dk_at dksX2_forget_0 11 rfl rfl)
theorem dX2_forget_14 : decode cX2_forget 14 = .ok (.aload_n 0, 1) := dk_42 (dk_at dksX2_forget_0 14 rfl rfl)
theorem dX2_forget_15 : decode cX2_forget 15 = .ok (.getfield 35, 3) := dk_180 0 35 (dk_at dksX2_forget_0 15 rfl rfl)
theorem dX2_forget_18 : decode cX2_forget 18 = .ok (.iload_n 1, 1) := dk_27 (dk_at dksX2_forget_0 18 rfl rfl)
theorem dX2_forget_19 : decode cX2_forget 19 = .ok (.invokevirtual 53, 3) := dk_182 0 53 (dk_at dksX2_forget_0 19 rfl rfl)
theorem dX2_forget_22 : decode cX2_forget 22 = .ok (.checkcast 67, 3) := dk_192 0 67 (dk_at dksX2_forget_1 0 rfl rfl)
theorem dX2_forget_25 : decode cX2_forget 25 = .ok (.getfield 207, 3) := dk_180 0 207 (dk_at dksX2_forget_1 3 rfl rfl)
theorem dX2_forget_28 : decode cX2_forget 28 = .ok (.ifCond .ne 36, 3) := dk_154 0 36 (dk_at dksX2_forget_1 6 rfl rfl)
theorem dX2_forget_31 : decode cX2_forget 31 = .ok (.aload_n 0, 1) := dk_42 (dk_at dksX2_forget_1 9 rfl rfl)
theorem dX2_forget_32 : decode cX2_forget 32 = .ok (.getfield 35, 3) := dk_180 0 35 (dk_at dksX2_forget_1 10 rfl rfl)
theorem dX2_forget_35 : decode cX2_forget 35 = .ok (.iload_n 1, 1) := dk_27 (dk_at dksX2_forget_1 13 rfl rfl)
theorem dX2_forget_36 : decode cX2_forget 36 = .ok (.invokevirtual 53, 3) := dk_182 0 53 (dk_at dksX2_forget_1 14 rfl rfl)
theorem dX2_forget_39 : decode cX2_forget 39 = .ok (.checkcast 67, 3) := dk_192 0 67 (dk_at dksX2_forget_1 17 rfl rfl)
theorem dX2_forget_42 : decode cX2_forget 42 = .ok (.getfield 190, 3) := dk_180 0 190 (dk_at dksX2_forget_1 20 rfl rfl)
theorem dX2_forget_45 : decode cX2_forget 45 = .ok (.aload_n 0, 1) := dk_42 (dk_at dksX2_forget_1 23 rfl rfl)
theorem dX2_forget_46 : decode cX2_forget 46 = .ok (.getfield 81, 3) := dk_180 0 81 (dk_at dksX2_forget_2 0 rfl rfl)
theorem dX2_forget_49 : decode cX2_forget 49 = .ok (.bipush 60, 2) := dk_16 60 (dk_at dksX2_forget_2 3 rfl rfl)
theorem dX2_forget_51 : decode cX2_forget 51 = .ok (.isub, 1) := dk_100 (dk_at dksX2_forget_2 5 rfl rfl)
theorem dX2_forget_52 : decode cX2_forget 52 = .ok (.if_icmp .ge 12, 3) := dk_162 0 12 (dk_at dksX2_forget_2 6 rfl rfl)
theorem dX2_forget_55 : decode cX2_forget 55 = .ok (.aload_n 0, 1) := dk_42 (dk_at dksX2_forget_2 9 rfl rfl)
theorem dX2_forget_56 : decode cX2_forget 56 = .ok (.getfield 35, 3) := dk_180 0 35 (dk_at dksX2_forget_2 10 rfl rfl)
theorem dX2_forget_59 : decode cX2_forget 59 = .ok (.iload_n 1, 1) := dk_27 (dk_at dksX2_forget_2 13 rfl rfl)
theorem dX2_forget_60 : decode cX2_forget 60 = .ok (.invokevirtual 169, 3) := dk_182 0 169 (dk_at dksX2_forget_2 14 rfl rfl)
theorem dX2_forget_63 : decode cX2_forget 63 = .ok (.pop, 1) := dk_87 (dk_at dksX2_forget_2 17 rfl rfl)
theorem dX2_forget_64 : decode cX2_forget 64 = .ok (.iinc 1 (-1), 3) := dk_132 1 255 (dk_at dksX2_forget_2 18 rfl rfl)
theorem dX2_forget_67 : decode cX2_forget 67 = .ok (.goto (-57), 3) := dk_167 255 199 (dk_at dksX2_forget_2 21 rfl rfl)
theorem dX2_forget_70 : decode cX2_forget 70 = .ok (.return_, 1) := dk_177 (dk_at dksX2_forget_3 0 rfl rfl)
abbrev cX2_bestRow : ByteArray := prog_3_method_66_code
def yX2_bestRow : MethodName := ⟨RX2, "bestRow", "()I"⟩
def dkwX2_bestRow_1 : List UInt8 := [164, 0, 7, 29, 167, 0, 4, 27, 60, 28, 21, 4, 184, 1, 10, 61, 132, 3, 1, 167, 255, 219, 27, 172]
abbrev dktX2_bestRow_1 : List UInt8 := dkwX2_bestRow_1 ++ []
def dkwX2_bestRow_0 : List UInt8 := [3, 60, 2, 61, 3, 62, 29, 16, 8, 162, 0, 37, 42, 29, 4, 7, 182, 1, 60, 54, 4, 21, 4, 28]
abbrev dktX2_bestRow_0 : List UInt8 := dkwX2_bestRow_0 ++ dktX2_bestRow_1
theorem dksX2_bestRow_0 : cX2_bestRow.data.toList.drop 0 = dktX2_bestRow_0 := by decide +kernel
theorem dksX2_bestRow_1 : cX2_bestRow.data.toList.drop 24 = dktX2_bestRow_1 := dk_seg dksX2_bestRow_0 24 rfl rfl
theorem dX2_bestRow_0 : decode cX2_bestRow 0 = .ok (.iconst 0, 1) := dk_3 (dk_at dksX2_bestRow_0 0 rfl rfl)
theorem dX2_bestRow_1 : decode cX2_bestRow 1 = .ok (.istore_n 1, 1) := dk_60 (dk_at dksX2_bestRow_0 1 rfl rfl)
theorem dX2_bestRow_2 : decode cX2_bestRow 2 = .ok (.iconst (-1), 1) := dk_2 (dk_at dksX2_bestRow_0 2 rfl rfl)
theorem dX2_bestRow_3 : decode cX2_bestRow 3 = .ok (.istore_n 2, 1) := dk_61 (dk_at dksX2_bestRow_0 3 rfl rfl)
theorem dX2_bestRow_4 : decode cX2_bestRow 4 = .ok (.iconst 0, 1) := dk_3 (dk_at dksX2_bestRow_0 4 rfl rfl)
theorem dX2_bestRow_5 : decode cX2_bestRow 5 = .ok (.istore_n 3, 1) := dk_62 (dk_at dksX2_bestRow_0 5 rfl rfl)
theorem dX2_bestRow_6 : decode cX2_bestRow 6 = .ok (.iload_n 3, 1) := dk_29 (dk_at dksX2_bestRow_0 6 rfl rfl)
theorem dX2_bestRow_7 : decode cX2_bestRow 7 = .ok (.bipush 8, 2) := dk_16 8 (dk_at dksX2_bestRow_0 7 rfl rfl)
theorem dX2_bestRow_9 : decode cX2_bestRow 9 = .ok (.if_icmp .ge 37, 3) := dk_162 0 37 (dk_at dksX2_bestRow_0 9 rfl rfl)
theorem dX2_bestRow_12 : decode cX2_bestRow 12 = .ok (.aload_n 0, 1) := dk_42 (dk_at dksX2_bestRow_0 12 rfl rfl)
theorem dX2_bestRow_13 : decode cX2_bestRow 13 = .ok (.iload_n 3, 1) := dk_29 (dk_at dksX2_bestRow_0 13 rfl rfl)
theorem dX2_bestRow_14 : decode cX2_bestRow 14 = .ok (.iconst 1, 1) := dk_4 (dk_at dksX2_bestRow_0 14 rfl rfl)
theorem dX2_bestRow_15 : decode cX2_bestRow 15 = .ok (.iconst 4, 1) := dk_7 (dk_at dksX2_bestRow_0 15 rfl rfl)
theorem dX2_bestRow_16 : decode cX2_bestRow 16 = .ok (.invokevirtual 316, 3) := dk_182 1 60 (dk_at dksX2_bestRow_0 16 rfl rfl)
theorem dX2_bestRow_19 : decode cX2_bestRow 19 = .ok (.istore 4, 2) := dk_54 4 (dk_at dksX2_bestRow_0 19 rfl rfl)
theorem dX2_bestRow_21 : decode cX2_bestRow 21 = .ok (.iload 4, 2) := dk_21 4 (dk_at dksX2_bestRow_0 21 rfl rfl)
theorem dX2_bestRow_23 : decode cX2_bestRow 23 = .ok (.iload_n 2, 1) := dk_28 (dk_at dksX2_bestRow_0 23 rfl rfl)
theorem dX2_bestRow_24 : decode cX2_bestRow 24 = .ok (.if_icmp .le 7, 3) := dk_164 0 7 (dk_at dksX2_bestRow_1 0 rfl rfl)
theorem dX2_bestRow_27 : decode cX2_bestRow 27 = .ok (.iload_n 3, 1) := dk_29 (dk_at dksX2_bestRow_1 3 rfl rfl)
theorem dX2_bestRow_28 : decode cX2_bestRow 28 = .ok (.goto 4, 3) := dk_167 0 4 (dk_at dksX2_bestRow_1 4 rfl rfl)
theorem dX2_bestRow_31 : decode cX2_bestRow 31 = .ok (.iload_n 1, 1) := dk_27 (dk_at dksX2_bestRow_1 7 rfl rfl)
theorem dX2_bestRow_32 : decode cX2_bestRow 32 = .ok (.istore_n 1, 1) := dk_60 (dk_at dksX2_bestRow_1 8 rfl rfl)
theorem dX2_bestRow_33 : decode cX2_bestRow 33 = .ok (.iload_n 2, 1) := dk_28 (dk_at dksX2_bestRow_1 9 rfl rfl)
theorem dX2_bestRow_34 : decode cX2_bestRow 34 = .ok (.iload 4, 2) := dk_21 4 (dk_at dksX2_bestRow_1 10 rfl rfl)
theorem dX2_bestRow_36 : decode cX2_bestRow 36 = .ok (.invokestatic 266, 3) := dk_184 1 10 (dk_at dksX2_bestRow_1 12 rfl rfl)
theorem dX2_bestRow_39 : decode cX2_bestRow 39 = .ok (.istore_n 2, 1) := dk_61 (dk_at dksX2_bestRow_1 15 rfl rfl)
theorem dX2_bestRow_40 : decode cX2_bestRow 40 = .ok (.iinc 3 1, 3) := dk_132 3 1 (dk_at dksX2_bestRow_1 16 rfl rfl)
theorem dX2_bestRow_43 : decode cX2_bestRow 43 = .ok (.goto (-37), 3) := dk_167 255 219 (dk_at dksX2_bestRow_1 19 rfl rfl)
theorem dX2_bestRow_46 : decode cX2_bestRow 46 = .ok (.iload_n 1, 1) := dk_27 (dk_at dksX2_bestRow_1 22 rfl rfl)
theorem dX2_bestRow_47 : decode cX2_bestRow 47 = .ok (.ireturn, 1) := dk_172 (dk_at dksX2_bestRow_1 23 rfl rfl)
abbrev cX2_owlsWithRoad : ByteArray := prog_3_method_64_code
def yX2_owlsWithRoad : MethodName := ⟨RX2, "owlsWithRoad", "(IZI)I"⟩
def dkwX2_owlsWithRoad_1 : List UInt8 := [180, 0, 84, 172]
abbrev dktX2_owlsWithRoad_1 : List UInt8 := dkwX2_owlsWithRoad_1 ++ []
def dkwX2_owlsWithRoad_0 : List UInt8 := [42, 182, 1, 50, 58, 4, 25, 4, 27, 28, 182, 1, 56, 87, 25, 4, 29, 182, 1, 53, 25, 4]
abbrev dktX2_owlsWithRoad_0 : List UInt8 := dkwX2_owlsWithRoad_0 ++ dktX2_owlsWithRoad_1
theorem dksX2_owlsWithRoad_0 : cX2_owlsWithRoad.data.toList.drop 0 = dktX2_owlsWithRoad_0 := by decide +kernel
theorem dksX2_owlsWithRoad_1 : cX2_owlsWithRoad.data.toList.drop 22 = dktX2_owlsWithRoad_1 := dk_seg dksX2_owlsWithRoad_0 22 rfl rfl
theorem dX2_owlsWithRoad_0 : decode cX2_owlsWithRoad 0 = .ok (.aload_n 0, 1) := dk_42 (dk_at dksX2_owlsWithRoad_0 0 rfl rfl)
theorem dX2_owlsWithRoad_1 : decode cX2_owlsWithRoad 1 = .ok (.invokevirtual 306, 3) := dk_182 1 50 (dk_at dksX2_owlsWithRoad_0 1 rfl rfl)
theorem dX2_owlsWithRoad_4 : decode cX2_owlsWithRoad 4 = .ok (.astore 4, 2) := dk_58 4 (dk_at dksX2_owlsWithRoad_0 4 rfl rfl)
theorem dX2_owlsWithRoad_6 : decode cX2_owlsWithRoad 6 = .ok (.aload 4, 2) := dk_25 4 (dk_at dksX2_owlsWithRoad_0 6 rfl rfl)
theorem dX2_owlsWithRoad_8 : decode cX2_owlsWithRoad 8 = .ok (.iload_n 1, 1) := dk_27 (dk_at dksX2_owlsWithRoad_0 8 rfl rfl)
theorem dX2_owlsWithRoad_9 : decode cX2_owlsWithRoad 9 = .ok (.iload_n 2, 1) := dk_28 (dk_at dksX2_owlsWithRoad_0 9 rfl rfl)
theorem dX2_owlsWithRoad_10 : decode cX2_owlsWithRoad 10 = .ok (.invokevirtual 312, 3) := dk_182 1 56 (dk_at dksX2_owlsWithRoad_0 10 rfl rfl)
theorem dX2_owlsWithRoad_13 : decode cX2_owlsWithRoad 13 = .ok (.pop, 1) := dk_87 (dk_at dksX2_owlsWithRoad_0 13 rfl rfl)
theorem dX2_owlsWithRoad_14 : decode cX2_owlsWithRoad 14 = .ok (.aload 4, 2) := dk_25 4 (dk_at dksX2_owlsWithRoad_0 14 rfl rfl)
theorem dX2_owlsWithRoad_16 : decode cX2_owlsWithRoad 16 = .ok (.iload_n 3, 1) := dk_29 (dk_at dksX2_owlsWithRoad_0 16 rfl rfl)
theorem dX2_owlsWithRoad_17 : decode cX2_owlsWithRoad 17 = .ok (.invokevirtual 309, 3) := dk_182 1 53 (dk_at dksX2_owlsWithRoad_0 17 rfl rfl)
theorem dX2_owlsWithRoad_20 : decode cX2_owlsWithRoad 20 = .ok (.aload 4, 2) := dk_25 4 (dk_at dksX2_owlsWithRoad_0 20 rfl rfl)
theorem dX2_owlsWithRoad_22 : decode cX2_owlsWithRoad 22 = .ok (.getfield 84, 3) := dk_180 0 84 (dk_at dksX2_owlsWithRoad_1 0 rfl rfl)
theorem dX2_owlsWithRoad_25 : decode cX2_owlsWithRoad 25 = .ok (.ireturn, 1) := dk_172 (dk_at dksX2_owlsWithRoad_1 3 rfl rfl)
abbrev cX2_buildRoad : ByteArray := prog_3_method_18_code
def yX2_buildRoad : MethodName := ⟨RX2, "buildRoad", "(IZ)I"⟩
def dkwX2_buildRoad_3 : List UInt8 := [132, 3, 1, 132, 4, 1, 167, 255, 186, 42, 182, 0, 162, 29, 172]
abbrev dktX2_buildRoad_3 : List UInt8 := dkwX2_buildRoad_3 ++ []
def dkwX2_buildRoad_2 : List UInt8 := [182, 0, 121, 154, 0, 22, 42, 180, 0, 9, 21, 5, 6, 79, 42, 180, 0, 15, 21, 5, 3, 79]
abbrev dktX2_buildRoad_2 : List UInt8 := dkwX2_buildRoad_2 ++ dktX2_buildRoad_3
def dkwX2_buildRoad_1 : List UInt8 := [167, 0, 10, 16, 8, 21, 4, 104, 27, 96, 54, 5, 42, 21, 5, 182, 0, 165, 154, 0, 31, 42, 21, 5]
abbrev dktX2_buildRoad_1 : List UInt8 := dkwX2_buildRoad_1 ++ dktX2_buildRoad_2
def dkwX2_buildRoad_0 : List UInt8 := [3, 62, 3, 54, 4, 21, 4, 16, 8, 162, 0, 69, 28, 153, 0, 13, 16, 8, 27, 104, 21, 4, 96]
abbrev dktX2_buildRoad_0 : List UInt8 := dkwX2_buildRoad_0 ++ dktX2_buildRoad_1
theorem dksX2_buildRoad_0 : cX2_buildRoad.data.toList.drop 0 = dktX2_buildRoad_0 := by decide +kernel
theorem dksX2_buildRoad_1 : cX2_buildRoad.data.toList.drop 23 = dktX2_buildRoad_1 := dk_seg dksX2_buildRoad_0 23 rfl rfl
theorem dksX2_buildRoad_2 : cX2_buildRoad.data.toList.drop 47 = dktX2_buildRoad_2 := dk_seg dksX2_buildRoad_1 24 rfl rfl
theorem dksX2_buildRoad_3 : cX2_buildRoad.data.toList.drop 69 = dktX2_buildRoad_3 := dk_seg dksX2_buildRoad_2 22 rfl rfl
theorem dX2_buildRoad_0 : decode cX2_buildRoad 0 = .ok (.iconst 0, 1) := dk_3 (dk_at dksX2_buildRoad_0 0 rfl rfl)
theorem dX2_buildRoad_1 : decode cX2_buildRoad 1 = .ok (.istore_n 3, 1) := dk_62 (dk_at dksX2_buildRoad_0 1 rfl rfl)
theorem dX2_buildRoad_2 : decode cX2_buildRoad 2 = .ok (.iconst 0, 1) := dk_3 (dk_at dksX2_buildRoad_0 2 rfl rfl)
theorem dX2_buildRoad_3 : decode cX2_buildRoad 3 = .ok (.istore 4, 2) := dk_54 4 (dk_at dksX2_buildRoad_0 3 rfl rfl)
theorem dX2_buildRoad_5 : decode cX2_buildRoad 5 = .ok (.iload 4, 2) := dk_21 4 (dk_at dksX2_buildRoad_0 5 rfl rfl)
theorem dX2_buildRoad_7 : decode cX2_buildRoad 7 = .ok (.bipush 8, 2) := dk_16 8 (dk_at dksX2_buildRoad_0 7 rfl rfl)
theorem dX2_buildRoad_9 : decode cX2_buildRoad 9 = .ok (.if_icmp .ge 69, 3) := dk_162 0 69 (dk_at dksX2_buildRoad_0 9 rfl rfl)
theorem dX2_buildRoad_12 : decode cX2_buildRoad 12 = .ok (.iload_n 2, 1) := dk_28 (dk_at dksX2_buildRoad_0 12 rfl rfl)
theorem dX2_buildRoad_13 : decode cX2_buildRoad 13 = .ok (.ifCond .eq 13, 3) := dk_153 0 13 (dk_at dksX2_buildRoad_0 13 rfl rfl)
theorem dX2_buildRoad_16 : decode cX2_buildRoad 16 = .ok (.bipush 8, 2) := dk_16 8 (dk_at dksX2_buildRoad_0 16 rfl rfl)
theorem dX2_buildRoad_18 : decode cX2_buildRoad 18 = .ok (.iload_n 1, 1) := dk_27 (dk_at dksX2_buildRoad_0 18 rfl rfl)
theorem dX2_buildRoad_19 : decode cX2_buildRoad 19 = .ok (.imul, 1) := dk_104 (dk_at dksX2_buildRoad_0 19 rfl rfl)
theorem dX2_buildRoad_20 : decode cX2_buildRoad 20 = .ok (.iload 4, 2) := dk_21 4 (dk_at dksX2_buildRoad_0 20 rfl rfl)
theorem dX2_buildRoad_22 : decode cX2_buildRoad 22 = .ok (.iadd, 1) := dk_96 (dk_at dksX2_buildRoad_0 22 rfl rfl)
theorem dX2_buildRoad_23 : decode cX2_buildRoad 23 = .ok (.goto 10, 3) := dk_167 0 10 (dk_at dksX2_buildRoad_1 0 rfl rfl)
theorem dX2_buildRoad_26 : decode cX2_buildRoad 26 = .ok (.bipush 8, 2) := dk_16 8 (dk_at dksX2_buildRoad_1 3 rfl rfl)
theorem dX2_buildRoad_28 : decode cX2_buildRoad 28 = .ok (.iload 4, 2) := dk_21 4 (dk_at dksX2_buildRoad_1 5 rfl rfl)
theorem dX2_buildRoad_30 : decode cX2_buildRoad 30 = .ok (.imul, 1) := dk_104 (dk_at dksX2_buildRoad_1 7 rfl rfl)
theorem dX2_buildRoad_31 : decode cX2_buildRoad 31 = .ok (.iload_n 1, 1) := dk_27 (dk_at dksX2_buildRoad_1 8 rfl rfl)
theorem dX2_buildRoad_32 : decode cX2_buildRoad 32 = .ok (.iadd, 1) := dk_96 (dk_at dksX2_buildRoad_1 9 rfl rfl)
theorem dX2_buildRoad_33 : decode cX2_buildRoad 33 = .ok (.istore 5, 2) := dk_54 5 (dk_at dksX2_buildRoad_1 10 rfl rfl)
theorem dX2_buildRoad_35 : decode cX2_buildRoad 35 = .ok (.aload_n 0, 1) := dk_42 (dk_at dksX2_buildRoad_1 12 rfl rfl)
theorem dX2_buildRoad_36 : decode cX2_buildRoad 36 = .ok (.iload 5, 2) := dk_21 5 (dk_at dksX2_buildRoad_1 13 rfl rfl)
theorem dX2_buildRoad_38 : decode cX2_buildRoad 38 = .ok (.invokevirtual 165, 3) := dk_182 0 165 (dk_at dksX2_buildRoad_1 15 rfl rfl)
theorem dX2_buildRoad_41 : decode cX2_buildRoad 41 = .ok (.ifCond .ne 31, 3) := dk_154 0 31 (dk_at dksX2_buildRoad_1 18 rfl rfl)
theorem dX2_buildRoad_44 : decode cX2_buildRoad 44 = .ok (.aload_n 0, 1) := dk_42 (dk_at dksX2_buildRoad_1 21 rfl rfl)
theorem dX2_buildRoad_45 : decode cX2_buildRoad 45 = .ok (.iload 5, 2) := dk_21 5 (dk_at dksX2_buildRoad_1 22 rfl rfl)
theorem dX2_buildRoad_47 : decode cX2_buildRoad 47 = .ok (.invokevirtual 121, 3) := dk_182 0 121 (dk_at dksX2_buildRoad_2 0 rfl rfl)
theorem dX2_buildRoad_50 : decode cX2_buildRoad 50 = .ok (.ifCond .ne 22, 3) := dk_154 0 22 (dk_at dksX2_buildRoad_2 3 rfl rfl)
theorem dX2_buildRoad_53 : decode cX2_buildRoad 53 = .ok (.aload_n 0, 1) := dk_42 (dk_at dksX2_buildRoad_2 6 rfl rfl)
theorem dX2_buildRoad_54 : decode cX2_buildRoad 54 = .ok (.getfield 9, 3) := dk_180 0 9 (dk_at dksX2_buildRoad_2 7 rfl rfl)
theorem dX2_buildRoad_57 : decode cX2_buildRoad 57 = .ok (.iload 5, 2) := dk_21 5 (dk_at dksX2_buildRoad_2 10 rfl rfl)
theorem dX2_buildRoad_59 : decode cX2_buildRoad 59 = .ok (.iconst 3, 1) := dk_6 (dk_at dksX2_buildRoad_2 12 rfl rfl)
theorem dX2_buildRoad_60 : decode cX2_buildRoad 60 = .ok (.iastore, 1) := dk_79 (dk_at dksX2_buildRoad_2 13 rfl rfl)
theorem dX2_buildRoad_61 : decode cX2_buildRoad 61 = .ok (.aload_n 0, 1) := dk_42 (dk_at dksX2_buildRoad_2 14 rfl rfl)
theorem dX2_buildRoad_62 : decode cX2_buildRoad 62 = .ok (.getfield 15, 3) := dk_180 0 15 (dk_at dksX2_buildRoad_2 15 rfl rfl)
theorem dX2_buildRoad_65 : decode cX2_buildRoad 65 = .ok (.iload 5, 2) := dk_21 5 (dk_at dksX2_buildRoad_2 18 rfl rfl)
theorem dX2_buildRoad_67 : decode cX2_buildRoad 67 = .ok (.iconst 0, 1) := dk_3 (dk_at dksX2_buildRoad_2 20 rfl rfl)
theorem dX2_buildRoad_68 : decode cX2_buildRoad 68 = .ok (.iastore, 1) := dk_79 (dk_at dksX2_buildRoad_2 21 rfl rfl)
theorem dX2_buildRoad_69 : decode cX2_buildRoad 69 = .ok (.iinc 3 1, 3) := dk_132 3 1 (dk_at dksX2_buildRoad_3 0 rfl rfl)
theorem dX2_buildRoad_72 : decode cX2_buildRoad 72 = .ok (.iinc 4 1, 3) := dk_132 4 1 (dk_at dksX2_buildRoad_3 3 rfl rfl)
theorem dX2_buildRoad_75 : decode cX2_buildRoad 75 = .ok (.goto (-70), 3) := dk_167 255 186 (dk_at dksX2_buildRoad_3 6 rfl rfl)
theorem dX2_buildRoad_78 : decode cX2_buildRoad 78 = .ok (.aload_n 0, 1) := dk_42 (dk_at dksX2_buildRoad_3 9 rfl rfl)
theorem dX2_buildRoad_79 : decode cX2_buildRoad 79 = .ok (.invokevirtual 162, 3) := dk_182 0 162 (dk_at dksX2_buildRoad_3 10 rfl rfl)
theorem dX2_buildRoad_82 : decode cX2_buildRoad 82 = .ok (.iload_n 3, 1) := dk_29 (dk_at dksX2_buildRoad_3 13 rfl rfl)
theorem dX2_buildRoad_83 : decode cX2_buildRoad 83 = .ok (.ireturn, 1) := dk_172 (dk_at dksX2_buildRoad_3 14 rfl rfl)
abbrev cX2_tellRanges : ByteArray := prog_3_method_12_code
def yX2_tellRanges : MethodName := ⟨RX2, "tellRanges", "()V"⟩
def dkwX2_tellRanges_1 : List UInt8 := [192, 0, 57, 78, 45, 42, 45, 180, 0, 104, 182, 0, 144, 181, 0, 147, 132, 2, 1, 167, 255, 224, 177]
abbrev dktX2_tellRanges_1 : List UInt8 := dkwX2_tellRanges_1 ++ []
def dkwX2_tellRanges_0 : List UInt8 := [42, 180, 0, 24, 182, 0, 49, 60, 3, 61, 28, 27, 162, 0, 33, 42, 180, 0, 24, 28, 182, 0, 53]
abbrev dktX2_tellRanges_0 : List UInt8 := dkwX2_tellRanges_0 ++ dktX2_tellRanges_1
theorem dksX2_tellRanges_0 : cX2_tellRanges.data.toList.drop 0 = dktX2_tellRanges_0 := by decide +kernel
theorem dksX2_tellRanges_1 : cX2_tellRanges.data.toList.drop 23 = dktX2_tellRanges_1 := dk_seg dksX2_tellRanges_0 23 rfl rfl
theorem dX2_tellRanges_0 : decode cX2_tellRanges 0 = .ok (.aload_n 0, 1) := dk_42 (dk_at dksX2_tellRanges_0 0 rfl rfl)
theorem dX2_tellRanges_1 : decode cX2_tellRanges 1 = .ok (.getfield 24, 3) := dk_180 0 24 (dk_at dksX2_tellRanges_0 1 rfl rfl)
theorem dX2_tellRanges_4 : decode cX2_tellRanges 4 = .ok (.invokevirtual 49, 3) := dk_182 0 49 (dk_at dksX2_tellRanges_0 4 rfl rfl)
theorem dX2_tellRanges_7 : decode cX2_tellRanges 7 = .ok (.istore_n 1, 1) := dk_60 (dk_at dksX2_tellRanges_0 7 rfl rfl)
theorem dX2_tellRanges_8 : decode cX2_tellRanges 8 = .ok (.iconst 0, 1) := dk_3 (dk_at dksX2_tellRanges_0 8 rfl rfl)
theorem dX2_tellRanges_9 : decode cX2_tellRanges 9 = .ok (.istore_n 2, 1) := dk_61 (dk_at dksX2_tellRanges_0 9 rfl rfl)
theorem dX2_tellRanges_10 : decode cX2_tellRanges 10 = .ok (.iload_n 2, 1) := dk_28 (dk_at dksX2_tellRanges_0 10 rfl rfl)
theorem dX2_tellRanges_11 : decode cX2_tellRanges 11 = .ok (.iload_n 1, 1) := dk_27 (dk_at dksX2_tellRanges_0 11 rfl rfl)
theorem dX2_tellRanges_12 : decode cX2_tellRanges 12 = .ok (.if_icmp .ge 33, 3) := dk_162 0 33 (dk_at dksX2_tellRanges_0 12 rfl rfl)
theorem dX2_tellRanges_15 : decode cX2_tellRanges 15 = .ok (.aload_n 0, 1) := dk_42 (dk_at dksX2_tellRanges_0 15 rfl rfl)
theorem dX2_tellRanges_16 : decode cX2_tellRanges 16 = .ok (.getfield 24, 3) := dk_180 0 24 (dk_at dksX2_tellRanges_0 16 rfl rfl)
theorem dX2_tellRanges_19 : decode cX2_tellRanges 19 = .ok (.iload_n 2, 1) := dk_28 (dk_at dksX2_tellRanges_0 19 rfl rfl)
theorem dX2_tellRanges_20 : decode cX2_tellRanges 20 = .ok (.invokevirtual 53, 3) := dk_182 0 53 (dk_at dksX2_tellRanges_0 20 rfl rfl)
theorem dX2_tellRanges_23 : decode cX2_tellRanges 23 = .ok (.checkcast 57, 3) := dk_192 0 57 (dk_at dksX2_tellRanges_1 0 rfl rfl)
theorem dX2_tellRanges_26 : decode cX2_tellRanges 26 = .ok (.astore_n 3, 1) := dk_78 (dk_at dksX2_tellRanges_1 3 rfl rfl)
theorem dX2_tellRanges_27 : decode cX2_tellRanges 27 = .ok (.aload_n 3, 1) := dk_45 (dk_at dksX2_tellRanges_1 4 rfl rfl)
theorem dX2_tellRanges_28 : decode cX2_tellRanges 28 = .ok (.aload_n 0, 1) := dk_42 (dk_at dksX2_tellRanges_1 5 rfl rfl)
theorem dX2_tellRanges_29 : decode cX2_tellRanges 29 = .ok (.aload_n 3, 1) := dk_45 (dk_at dksX2_tellRanges_1 6 rfl rfl)
theorem dX2_tellRanges_30 : decode cX2_tellRanges 30 = .ok (.getfield 104, 3) := dk_180 0 104 (dk_at dksX2_tellRanges_1 7 rfl rfl)
theorem dX2_tellRanges_33 : decode cX2_tellRanges 33 = .ok (.invokevirtual 144, 3) := dk_182 0 144 (dk_at dksX2_tellRanges_1 10 rfl rfl)
theorem dX2_tellRanges_36 : decode cX2_tellRanges 36 = .ok (.putfield 147, 3) := dk_181 0 147 (dk_at dksX2_tellRanges_1 13 rfl rfl)
theorem dX2_tellRanges_39 : decode cX2_tellRanges 39 = .ok (.iinc 2 1, 3) := dk_132 2 1 (dk_at dksX2_tellRanges_1 16 rfl rfl)
theorem dX2_tellRanges_42 : decode cX2_tellRanges 42 = .ok (.goto (-32), 3) := dk_167 255 224 (dk_at dksX2_tellRanges_1 19 rfl rfl)
theorem dX2_tellRanges_45 : decode cX2_tellRanges 45 = .ok (.return_, 1) := dk_177 (dk_at dksX2_tellRanges_1 22 rfl rfl)
abbrev cX2_pass : ByteArray := prog_3_method_49_code
def yX2_pass : MethodName := ⟨RX2, "pass", "(I)V"⟩
def dkwX2_pass_0 : List UInt8 := [3, 61, 28, 27, 162, 0, 13, 42, 182, 1, 34, 132, 2, 1, 167, 255, 244, 177]
abbrev dktX2_pass_0 : List UInt8 := dkwX2_pass_0 ++ []
theorem dksX2_pass_0 : cX2_pass.data.toList.drop 0 = dktX2_pass_0 := by decide +kernel
theorem dX2_pass_0 : decode cX2_pass 0 = .ok (.iconst 0, 1) := dk_3 (dk_at dksX2_pass_0 0 rfl rfl)
theorem dX2_pass_1 : decode cX2_pass 1 = .ok (.istore_n 2, 1) := dk_61 (dk_at dksX2_pass_0 1 rfl rfl)
theorem dX2_pass_2 : decode cX2_pass 2 = .ok (.iload_n 2, 1) := dk_28 (dk_at dksX2_pass_0 2 rfl rfl)
theorem dX2_pass_3 : decode cX2_pass 3 = .ok (.iload_n 1, 1) := dk_27 (dk_at dksX2_pass_0 3 rfl rfl)
theorem dX2_pass_4 : decode cX2_pass 4 = .ok (.if_icmp .ge 13, 3) := dk_162 0 13 (dk_at dksX2_pass_0 4 rfl rfl)
theorem dX2_pass_7 : decode cX2_pass 7 = .ok (.aload_n 0, 1) := dk_42 (dk_at dksX2_pass_0 7 rfl rfl)
theorem dX2_pass_8 : decode cX2_pass 8 = .ok (.invokevirtual 290, 3) := dk_182 1 34 (dk_at dksX2_pass_0 8 rfl rfl)
theorem dX2_pass_11 : decode cX2_pass 11 = .ok (.iinc 2 1, 3) := dk_132 2 1 (dk_at dksX2_pass_0 11 rfl rfl)
theorem dX2_pass_14 : decode cX2_pass 14 = .ok (.goto (-12), 3) := dk_167 255 244 (dk_at dksX2_pass_0 14 rfl rfl)
theorem dX2_pass_17 : decode cX2_pass 17 = .ok (.return_, 1) := dk_177 (dk_at dksX2_pass_0 17 rfl rfl)
abbrev cX2_squares : ByteArray := prog_3_method_58_code
def yX2_squares : MethodName := ⟨RX2, "squares", "(I)J"⟩
def dkwX2_squares_1 : List UInt8 := [10, 21, 4, 121, 167, 0, 4, 9, 129, 65, 132, 4, 1, 167, 255, 224, 32, 173]
abbrev dktX2_squares_1 : List UInt8 := dkwX2_squares_1 ++ []
def dkwX2_squares_0 : List UInt8 := [9, 65, 3, 54, 4, 21, 4, 16, 64, 162, 0, 31, 32, 42, 180, 0, 9, 21, 4, 46, 27, 160, 0, 10]
abbrev dktX2_squares_0 : List UInt8 := dkwX2_squares_0 ++ dktX2_squares_1
theorem dksX2_squares_0 : cX2_squares.data.toList.drop 0 = dktX2_squares_0 := by decide +kernel
theorem dksX2_squares_1 : cX2_squares.data.toList.drop 24 = dktX2_squares_1 := dk_seg dksX2_squares_0 24 rfl rfl
theorem dX2_squares_0 : decode cX2_squares 0 = .ok (.lconst 0, 1) := dk_9 (dk_at dksX2_squares_0 0 rfl rfl)
theorem dX2_squares_1 : decode cX2_squares 1 = .ok (.lstore_n 2, 1) := dk_65 (dk_at dksX2_squares_0 1 rfl rfl)
theorem dX2_squares_2 : decode cX2_squares 2 = .ok (.iconst 0, 1) := dk_3 (dk_at dksX2_squares_0 2 rfl rfl)
theorem dX2_squares_3 : decode cX2_squares 3 = .ok (.istore 4, 2) := dk_54 4 (dk_at dksX2_squares_0 3 rfl rfl)
theorem dX2_squares_5 : decode cX2_squares 5 = .ok (.iload 4, 2) := dk_21 4 (dk_at dksX2_squares_0 5 rfl rfl)
theorem dX2_squares_7 : decode cX2_squares 7 = .ok (.bipush 64, 2) := dk_16 64 (dk_at dksX2_squares_0 7 rfl rfl)
theorem dX2_squares_9 : decode cX2_squares 9 = .ok (.if_icmp .ge 31, 3) := dk_162 0 31 (dk_at dksX2_squares_0 9 rfl rfl)
theorem dX2_squares_12 : decode cX2_squares 12 = .ok (.lload_n 2, 1) := dk_32 (dk_at dksX2_squares_0 12 rfl rfl)
theorem dX2_squares_13 : decode cX2_squares 13 = .ok (.aload_n 0, 1) := dk_42 (dk_at dksX2_squares_0 13 rfl rfl)
theorem dX2_squares_14 : decode cX2_squares 14 = .ok (.getfield 9, 3) := dk_180 0 9 (dk_at dksX2_squares_0 14 rfl rfl)
theorem dX2_squares_17 : decode cX2_squares 17 = .ok (.iload 4, 2) := dk_21 4 (dk_at dksX2_squares_0 17 rfl rfl)
theorem dX2_squares_19 : decode cX2_squares 19 = .ok (.iaload, 1) := dk_46 (dk_at dksX2_squares_0 19 rfl rfl)
theorem dX2_squares_20 : decode cX2_squares 20 = .ok (.iload_n 1, 1) := dk_27 (dk_at dksX2_squares_0 20 rfl rfl)
theorem dX2_squares_21 : decode cX2_squares 21 = .ok (.if_icmp .ne 10, 3) := dk_160 0 10 (dk_at dksX2_squares_0 21 rfl rfl)
theorem dX2_squares_24 : decode cX2_squares 24 = .ok (.lconst 1, 1) := dk_10 (dk_at dksX2_squares_1 0 rfl rfl)
theorem dX2_squares_25 : decode cX2_squares 25 = .ok (.iload 4, 2) := dk_21 4 (dk_at dksX2_squares_1 1 rfl rfl)
theorem dX2_squares_27 : decode cX2_squares 27 = .ok (.lshl, 1) := dk_121 (dk_at dksX2_squares_1 3 rfl rfl)
theorem dX2_squares_28 : decode cX2_squares 28 = .ok (.goto 4, 3) := dk_167 0 4 (dk_at dksX2_squares_1 4 rfl rfl)
theorem dX2_squares_31 : decode cX2_squares 31 = .ok (.lconst 0, 1) := dk_9 (dk_at dksX2_squares_1 7 rfl rfl)
theorem dX2_squares_32 : decode cX2_squares 32 = .ok (.lor, 1) := dk_129 (dk_at dksX2_squares_1 8 rfl rfl)
theorem dX2_squares_33 : decode cX2_squares 33 = .ok (.lstore_n 2, 1) := dk_65 (dk_at dksX2_squares_1 9 rfl rfl)
theorem dX2_squares_34 : decode cX2_squares 34 = .ok (.iinc 4 1, 3) := dk_132 4 1 (dk_at dksX2_squares_1 10 rfl rfl)
theorem dX2_squares_37 : decode cX2_squares 37 = .ok (.goto (-32), 3) := dk_167 255 224 (dk_at dksX2_squares_1 13 rfl rfl)
theorem dX2_squares_40 : decode cX2_squares 40 = .ok (.lload_n 2, 1) := dk_32 (dk_at dksX2_squares_1 16 rfl rfl)
theorem dX2_squares_41 : decode cX2_squares 41 = .ok (.lreturn, 1) := dk_173 (dk_at dksX2_squares_1 17 rfl rfl)
abbrev cX2_mother : ByteArray := prog_3_method_32_code
def yX2_mother : MethodName := ⟨RX2, "mother", "(LOwlYears$Owl;)I"⟩
def dkwX2_mother_0 : List UInt8 := [42, 43, 180, 0, 223, 182, 0, 226, 172]
abbrev dktX2_mother_0 : List UInt8 := dkwX2_mother_0 ++ []
theorem dksX2_mother_0 : cX2_mother.data.toList.drop 0 = dktX2_mother_0 := by decide +kernel
theorem dX2_mother_0 : decode cX2_mother 0 = .ok (.aload_n 0, 1) := dk_42 (dk_at dksX2_mother_0 0 rfl rfl)
theorem dX2_mother_1 : decode cX2_mother 1 = .ok (.aload_n 1, 1) := dk_43 (dk_at dksX2_mother_0 1 rfl rfl)
theorem dX2_mother_2 : decode cX2_mother 2 = .ok (.getfield 223, 3) := dk_180 0 223 (dk_at dksX2_mother_0 2 rfl rfl)
theorem dX2_mother_5 : decode cX2_mother 5 = .ok (.invokevirtual 226, 3) := dk_182 0 226 (dk_at dksX2_mother_0 5 rfl rfl)
theorem dX2_mother_8 : decode cX2_mother 8 = .ok (.ireturn, 1) := dk_172 (dk_at dksX2_mother_0 8 rfl rfl)
abbrev cX2_knownRing : ByteArray := prog_3_method_31_code
def yX2_knownRing : MethodName := ⟨RX2, "knownRing", "(I)I"⟩
def dkwX2_knownRing_0 : List UInt8 := [27, 2, 159, 0, 11, 42, 27, 182, 0, 219, 199, 0, 7, 2, 167, 0, 4, 27, 172]
abbrev dktX2_knownRing_0 : List UInt8 := dkwX2_knownRing_0 ++ []
theorem dksX2_knownRing_0 : cX2_knownRing.data.toList.drop 0 = dktX2_knownRing_0 := by decide +kernel
theorem dX2_knownRing_0 : decode cX2_knownRing 0 = .ok (.iload_n 1, 1) := dk_27 (dk_at dksX2_knownRing_0 0 rfl rfl)
theorem dX2_knownRing_1 : decode cX2_knownRing 1 = .ok (.iconst (-1), 1) := dk_2 (dk_at dksX2_knownRing_0 1 rfl rfl)
theorem dX2_knownRing_2 : decode cX2_knownRing 2 = .ok (.if_icmp .eq 11, 3) := dk_159 0 11 (dk_at dksX2_knownRing_0 2 rfl rfl)
theorem dX2_knownRing_5 : decode cX2_knownRing 5 = .ok (.aload_n 0, 1) := dk_42 (dk_at dksX2_knownRing_0 5 rfl rfl)
theorem dX2_knownRing_6 : decode cX2_knownRing 6 = .ok (.iload_n 1, 1) := dk_27 (dk_at dksX2_knownRing_0 6 rfl rfl)
theorem dX2_knownRing_7 : decode cX2_knownRing 7 = .ok (.invokevirtual 219, 3) := dk_182 0 219 (dk_at dksX2_knownRing_0 7 rfl rfl)
theorem dX2_knownRing_10 : decode cX2_knownRing 10 = .ok (.ifnonnull 7, 3) := dk_199 0 7 (dk_at dksX2_knownRing_0 10 rfl rfl)
theorem dX2_knownRing_13 : decode cX2_knownRing 13 = .ok (.iconst (-1), 1) := dk_2 (dk_at dksX2_knownRing_0 13 rfl rfl)
theorem dX2_knownRing_14 : decode cX2_knownRing 14 = .ok (.goto 4, 3) := dk_167 0 4 (dk_at dksX2_knownRing_0 14 rfl rfl)
theorem dX2_knownRing_17 : decode cX2_knownRing 17 = .ok (.iload_n 1, 1) := dk_27 (dk_at dksX2_knownRing_0 17 rfl rfl)
theorem dX2_knownRing_18 : decode cX2_knownRing 18 = .ok (.ireturn, 1) := dk_172 (dk_at dksX2_knownRing_0 18 rfl rfl)
abbrev cX2_father : ByteArray := prog_3_method_33_code
def yX2_father : MethodName := ⟨RX2, "father", "(LOwlYears$Owl;)I"⟩
def dkwX2_father_0 : List UInt8 := [42, 43, 180, 0, 229, 182, 0, 226, 172]
abbrev dktX2_father_0 : List UInt8 := dkwX2_father_0 ++ []
theorem dksX2_father_0 : cX2_father.data.toList.drop 0 = dktX2_father_0 := by decide +kernel
theorem dX2_father_0 : decode cX2_father 0 = .ok (.aload_n 0, 1) := dk_42 (dk_at dksX2_father_0 0 rfl rfl)
theorem dX2_father_1 : decode cX2_father 1 = .ok (.aload_n 1, 1) := dk_43 (dk_at dksX2_father_0 1 rfl rfl)
theorem dX2_father_2 : decode cX2_father 2 = .ok (.getfield 229, 3) := dk_180 0 229 (dk_at dksX2_father_0 2 rfl rfl)
theorem dX2_father_5 : decode cX2_father 5 = .ok (.invokevirtual 226, 3) := dk_182 0 226 (dk_at dksX2_father_0 5 rfl rfl)
theorem dX2_father_8 : decode cX2_father 8 = .ok (.ireturn, 1) := dk_172 (dk_at dksX2_father_0 8 rfl rfl)
abbrev cX2_children : ByteArray := prog_3_method_50_code
def yX2_children : MethodName := ⟨RX2, "children", "(I)I"⟩
def dkwX2_children_2 : List UInt8 := [132, 4, 1, 167, 255, 220, 28, 172]
abbrev dktX2_children_2 : List UInt8 := dkwX2_children_2 ++ []
def dkwX2_children_1 : List UInt8 := [21, 4, 182, 0, 53, 192, 0, 67, 27, 182, 1, 37, 153, 0, 7, 4, 167, 0, 4, 3, 96, 61]
abbrev dktX2_children_1 : List UInt8 := dkwX2_children_1 ++ dktX2_children_2
def dkwX2_children_0 : List UInt8 := [3, 61, 42, 180, 0, 35, 182, 0, 49, 62, 3, 54, 4, 21, 4, 29, 162, 0, 36, 28, 42, 180, 0, 35]
abbrev dktX2_children_0 : List UInt8 := dkwX2_children_0 ++ dktX2_children_1
theorem dksX2_children_0 : cX2_children.data.toList.drop 0 = dktX2_children_0 := by decide +kernel
theorem dksX2_children_1 : cX2_children.data.toList.drop 24 = dktX2_children_1 := dk_seg dksX2_children_0 24 rfl rfl
theorem dksX2_children_2 : cX2_children.data.toList.drop 46 = dktX2_children_2 := dk_seg dksX2_children_1 22 rfl rfl
theorem dX2_children_0 : decode cX2_children 0 = .ok (.iconst 0, 1) := dk_3 (dk_at dksX2_children_0 0 rfl rfl)
theorem dX2_children_1 : decode cX2_children 1 = .ok (.istore_n 2, 1) := dk_61 (dk_at dksX2_children_0 1 rfl rfl)
theorem dX2_children_2 : decode cX2_children 2 = .ok (.aload_n 0, 1) := dk_42 (dk_at dksX2_children_0 2 rfl rfl)
theorem dX2_children_3 : decode cX2_children 3 = .ok (.getfield 35, 3) := dk_180 0 35 (dk_at dksX2_children_0 3 rfl rfl)
theorem dX2_children_6 : decode cX2_children 6 = .ok (.invokevirtual 49, 3) := dk_182 0 49 (dk_at dksX2_children_0 6 rfl rfl)
theorem dX2_children_9 : decode cX2_children 9 = .ok (.istore_n 3, 1) := dk_62 (dk_at dksX2_children_0 9 rfl rfl)
theorem dX2_children_10 : decode cX2_children 10 = .ok (.iconst 0, 1) := dk_3 (dk_at dksX2_children_0 10 rfl rfl)
theorem dX2_children_11 : decode cX2_children 11 = .ok (.istore 4, 2) := dk_54 4 (dk_at dksX2_children_0 11 rfl rfl)
theorem dX2_children_13 : decode cX2_children 13 = .ok (.iload 4, 2) := dk_21 4 (dk_at dksX2_children_0 13 rfl rfl)
theorem dX2_children_15 : decode cX2_children 15 = .ok (.iload_n 3, 1) := dk_29 (dk_at dksX2_children_0 15 rfl rfl)
theorem dX2_children_16 : decode cX2_children 16 = .ok (.if_icmp .ge 36, 3) := dk_162 0 36 (dk_at dksX2_children_0 16 rfl rfl)
theorem dX2_children_19 : decode cX2_children 19 = .ok (.iload_n 2, 1) := dk_28 (dk_at dksX2_children_0 19 rfl rfl)
theorem dX2_children_20 : decode cX2_children 20 = .ok (.aload_n 0, 1) := dk_42 (dk_at dksX2_children_0 20 rfl rfl)
theorem dX2_children_21 : decode cX2_children 21 = .ok (.getfield 35, 3) := dk_180 0 35 (dk_at dksX2_children_0 21 rfl rfl)
theorem dX2_children_24 : decode cX2_children 24 = .ok (.iload 4, 2) := dk_21 4 (dk_at dksX2_children_1 0 rfl rfl)
theorem dX2_children_26 : decode cX2_children 26 = .ok (.invokevirtual 53, 3) := dk_182 0 53 (dk_at dksX2_children_1 2 rfl rfl)
theorem dX2_children_29 : decode cX2_children 29 = .ok (.checkcast 67, 3) := dk_192 0 67 (dk_at dksX2_children_1 5 rfl rfl)
theorem dX2_children_32 : decode cX2_children 32 = .ok (.iload_n 1, 1) := dk_27 (dk_at dksX2_children_1 8 rfl rfl)
theorem dX2_children_33 : decode cX2_children 33 = .ok (.invokevirtual 293, 3) := dk_182 1 37 (dk_at dksX2_children_1 9 rfl rfl)
theorem dX2_children_36 : decode cX2_children 36 = .ok (.ifCond .eq 7, 3) := dk_153 0 7 (dk_at dksX2_children_1 12 rfl rfl)
theorem dX2_children_39 : decode cX2_children 39 = .ok (.iconst 1, 1) := dk_4 (dk_at dksX2_children_1 15 rfl rfl)
theorem dX2_children_40 : decode cX2_children 40 = .ok (.goto 4, 3) := dk_167 0 4 (dk_at dksX2_children_1 16 rfl rfl)
theorem dX2_children_43 : decode cX2_children 43 = .ok (.iconst 0, 1) := dk_3 (dk_at dksX2_children_1 19 rfl rfl)
theorem dX2_children_44 : decode cX2_children 44 = .ok (.iadd, 1) := dk_96 (dk_at dksX2_children_1 20 rfl rfl)
theorem dX2_children_45 : decode cX2_children 45 = .ok (.istore_n 2, 1) := dk_61 (dk_at dksX2_children_1 21 rfl rfl)
theorem dX2_children_46 : decode cX2_children 46 = .ok (.iinc 4 1, 3) := dk_132 4 1 (dk_at dksX2_children_2 0 rfl rfl)
theorem dX2_children_49 : decode cX2_children 49 = .ok (.goto (-36), 3) := dk_167 255 220 (dk_at dksX2_children_2 3 rfl rfl)
theorem dX2_children_52 : decode cX2_children 52 = .ok (.iload_n 2, 1) := dk_28 (dk_at dksX2_children_2 6 rfl rfl)
theorem dX2_children_53 : decode cX2_children 53 = .ok (.ireturn, 1) := dk_172 (dk_at dksX2_children_2 7 rfl rfl)
abbrev cX2_offspring : ByteArray := prog_3_method_52_code
def yX2_offspring : MethodName := ⟨RX2, "offspring", "(I)I"⟩
def dkwX2_offspring_6 : List UInt8 := [167, 0, 4, 3, 96, 54, 5, 132, 8, 1, 167, 255, 166, 132, 6, 1, 167, 255, 131, 21, 5, 172]
abbrev dktX2_offspring_6 : List UInt8 := dkwX2_offspring_6 ++ []
def dkwX2_offspring_5 : List UInt8 := [154, 0, 8, 21, 9, 153, 0, 7, 4, 167, 0, 4, 3, 84, 21, 5, 21, 9, 153, 0, 7, 4]
abbrev dktX2_offspring_5 : List UInt8 := dkwX2_offspring_5 ++ dktX2_offspring_6
def dkwX2_offspring_4 : List UInt8 := [21, 7, 182, 1, 37, 153, 0, 7, 4, 167, 0, 4, 3, 54, 9, 25, 4, 21, 8, 25, 4, 21, 8, 51]
abbrev dktX2_offspring_4 : List UInt8 := dkwX2_offspring_4 ++ dktX2_offspring_5
def dkwX2_offspring_3 : List UInt8 := [153, 0, 82, 25, 4, 21, 8, 51, 154, 0, 27, 42, 180, 0, 35, 21, 8, 182, 0, 53, 192, 0, 67]
abbrev dktX2_offspring_3 : List UInt8 := dkwX2_offspring_3 ++ dktX2_offspring_4
def dkwX2_offspring_2 : List UInt8 := [180, 0, 190, 54, 7, 21, 6, 4, 96, 54, 8, 21, 8, 28, 162, 0, 90, 25, 4, 21, 6, 51]
abbrev dktX2_offspring_2 : List UInt8 := dkwX2_offspring_2 ++ dktX2_offspring_3
def dkwX2_offspring_1 : List UInt8 := [3, 54, 5, 29, 54, 6, 21, 6, 28, 162, 0, 125, 42, 180, 0, 35, 21, 6, 182, 0, 53, 192, 0, 67]
abbrev dktX2_offspring_1 : List UInt8 := dkwX2_offspring_1 ++ dktX2_offspring_2
def dkwX2_offspring_0 : List UInt8 := [42, 180, 0, 35, 182, 0, 49, 61, 42, 27, 182, 1, 40, 62, 28, 188, 4, 58, 4, 25, 4, 29, 4, 84]
abbrev dktX2_offspring_0 : List UInt8 := dkwX2_offspring_0 ++ dktX2_offspring_1
theorem dksX2_offspring_0 : cX2_offspring.data.toList.drop 0 = dktX2_offspring_0 := by decide +kernel
theorem dksX2_offspring_1 : cX2_offspring.data.toList.drop 24 = dktX2_offspring_1 := dk_seg dksX2_offspring_0 24 rfl rfl
theorem dksX2_offspring_2 : cX2_offspring.data.toList.drop 48 = dktX2_offspring_2 := dk_seg dksX2_offspring_1 24 rfl rfl
theorem dksX2_offspring_3 : cX2_offspring.data.toList.drop 70 = dktX2_offspring_3 := dk_seg dksX2_offspring_2 22 rfl rfl
theorem dksX2_offspring_4 : cX2_offspring.data.toList.drop 93 = dktX2_offspring_4 := dk_seg dksX2_offspring_3 23 rfl rfl
theorem dksX2_offspring_5 : cX2_offspring.data.toList.drop 117 = dktX2_offspring_5 := dk_seg dksX2_offspring_4 24 rfl rfl
theorem dksX2_offspring_6 : cX2_offspring.data.toList.drop 139 = dktX2_offspring_6 := dk_seg dksX2_offspring_5 22 rfl rfl
theorem dX2_offspring_0 : decode cX2_offspring 0 = .ok (.aload_n 0, 1) := dk_42 (dk_at dksX2_offspring_0 0 rfl rfl)
theorem dX2_offspring_1 : decode cX2_offspring 1 = .ok (.getfield 35, 3) := dk_180 0 35 (dk_at dksX2_offspring_0 1 rfl rfl)
theorem dX2_offspring_4 : decode cX2_offspring 4 = .ok (.invokevirtual 49, 3) := dk_182 0 49 (dk_at dksX2_offspring_0 4 rfl rfl)
theorem dX2_offspring_7 : decode cX2_offspring 7 = .ok (.istore_n 2, 1) := dk_61 (dk_at dksX2_offspring_0 7 rfl rfl)
theorem dX2_offspring_8 : decode cX2_offspring 8 = .ok (.aload_n 0, 1) := dk_42 (dk_at dksX2_offspring_0 8 rfl rfl)
theorem dX2_offspring_9 : decode cX2_offspring 9 = .ok (.iload_n 1, 1) := dk_27 (dk_at dksX2_offspring_0 9 rfl rfl)
theorem dX2_offspring_10 : decode cX2_offspring 10 = .ok (.invokevirtual 296, 3) := dk_182 1 40 (dk_at dksX2_offspring_0 10 rfl rfl)
theorem dX2_offspring_13 : decode cX2_offspring 13 = .ok (.istore_n 3, 1) := dk_62 (dk_at dksX2_offspring_0 13 rfl rfl)
theorem dX2_offspring_14 : decode cX2_offspring 14 = .ok (.iload_n 2, 1) := dk_28 (dk_at dksX2_offspring_0 14 rfl rfl)
theorem dX2_offspring_15 : decode cX2_offspring 15 = .ok (.newarray .boolean, 2) := dk_188_4 (dk_at dksX2_offspring_0 15 rfl rfl)
theorem dX2_offspring_17 : decode cX2_offspring 17 = .ok (.astore 4, 2) := dk_58 4 (dk_at dksX2_offspring_0 17 rfl rfl)
theorem dX2_offspring_19 : decode cX2_offspring 19 = .ok (.aload 4, 2) := dk_25 4 (dk_at dksX2_offspring_0 19 rfl rfl)
theorem dX2_offspring_21 : decode cX2_offspring 21 = .ok (.iload_n 3, 1) := dk_29 (dk_at dksX2_offspring_0 21 rfl rfl)
theorem dX2_offspring_22 : decode cX2_offspring 22 = .ok (.iconst 1, 1) := dk_4 (dk_at dksX2_offspring_0 22 rfl rfl)
theorem dX2_offspring_23 : decode cX2_offspring 23 = .ok (.bastore, 1) := dk_84 (dk_at dksX2_offspring_0 23 rfl rfl)
theorem dX2_offspring_24 : decode cX2_offspring 24 = .ok (.iconst 0, 1) := dk_3 (dk_at dksX2_offspring_1 0 rfl rfl)
theorem dX2_offspring_25 : decode cX2_offspring 25 = .ok (.istore 5, 2) := dk_54 5 (dk_at dksX2_offspring_1 1 rfl rfl)
theorem dX2_offspring_27 : decode cX2_offspring 27 = .ok (.iload_n 3, 1) := dk_29 (dk_at dksX2_offspring_1 3 rfl rfl)
theorem dX2_offspring_28 : decode cX2_offspring 28 = .ok (.istore 6, 2) := dk_54 6 (dk_at dksX2_offspring_1 4 rfl rfl)
theorem dX2_offspring_30 : decode cX2_offspring 30 = .ok (.iload 6, 2) := dk_21 6 (dk_at dksX2_offspring_1 6 rfl rfl)
theorem dX2_offspring_32 : decode cX2_offspring 32 = .ok (.iload_n 2, 1) := dk_28 (dk_at dksX2_offspring_1 8 rfl rfl)
theorem dX2_offspring_33 : decode cX2_offspring 33 = .ok (.if_icmp .ge 125, 3) := dk_162 0 125 (dk_at dksX2_offspring_1 9 rfl rfl)
theorem dX2_offspring_36 : decode cX2_offspring 36 = .ok (.aload_n 0, 1) := dk_42 (dk_at dksX2_offspring_1 12 rfl rfl)
theorem dX2_offspring_37 : decode cX2_offspring 37 = .ok (.getfield 35, 3) := dk_180 0 35 (dk_at dksX2_offspring_1 13 rfl rfl)
theorem dX2_offspring_40 : decode cX2_offspring 40 = .ok (.iload 6, 2) := dk_21 6 (dk_at dksX2_offspring_1 16 rfl rfl)
theorem dX2_offspring_42 : decode cX2_offspring 42 = .ok (.invokevirtual 53, 3) := dk_182 0 53 (dk_at dksX2_offspring_1 18 rfl rfl)
theorem dX2_offspring_45 : decode cX2_offspring 45 = .ok (.checkcast 67, 3) := dk_192 0 67 (dk_at dksX2_offspring_1 21 rfl rfl)
theorem dX2_offspring_48 : decode cX2_offspring 48 = .ok (.getfield 190, 3) := dk_180 0 190 (dk_at dksX2_offspring_2 0 rfl rfl)
theorem dX2_offspring_51 : decode cX2_offspring 51 = .ok (.istore 7, 2) := dk_54 7 (dk_at dksX2_offspring_2 3 rfl rfl)
theorem dX2_offspring_53 : decode cX2_offspring 53 = .ok (.iload 6, 2) := dk_21 6 (dk_at dksX2_offspring_2 5 rfl rfl)
theorem dX2_offspring_55 : decode cX2_offspring 55 = .ok (.iconst 1, 1) := dk_4 (dk_at dksX2_offspring_2 7 rfl rfl)
theorem dX2_offspring_56 : decode cX2_offspring 56 = .ok (.iadd, 1) := dk_96 (dk_at dksX2_offspring_2 8 rfl rfl)
theorem dX2_offspring_57 : decode cX2_offspring 57 = .ok (.istore 8, 2) := dk_54 8 (dk_at dksX2_offspring_2 9 rfl rfl)
theorem dX2_offspring_59 : decode cX2_offspring 59 = .ok (.iload 8, 2) := dk_21 8 (dk_at dksX2_offspring_2 11 rfl rfl)
theorem dX2_offspring_61 : decode cX2_offspring 61 = .ok (.iload_n 2, 1) := dk_28 (dk_at dksX2_offspring_2 13 rfl rfl)
theorem dX2_offspring_62 : decode cX2_offspring 62 = .ok (.if_icmp .ge 90, 3) := dk_162 0 90 (dk_at dksX2_offspring_2 14 rfl rfl)
theorem dX2_offspring_65 : decode cX2_offspring 65 = .ok (.aload 4, 2) := dk_25 4 (dk_at dksX2_offspring_2 17 rfl rfl)
theorem dX2_offspring_67 : decode cX2_offspring 67 = .ok (.iload 6, 2) := dk_21 6 (dk_at dksX2_offspring_2 19 rfl rfl)
theorem dX2_offspring_69 : decode cX2_offspring 69 = .ok (.baload, 1) := dk_51 (dk_at dksX2_offspring_2 21 rfl rfl)
theorem dX2_offspring_70 : decode cX2_offspring 70 = .ok (.ifCond .eq 82, 3) := dk_153 0 82 (dk_at dksX2_offspring_3 0 rfl rfl)
theorem dX2_offspring_73 : decode cX2_offspring 73 = .ok (.aload 4, 2) := dk_25 4 (dk_at dksX2_offspring_3 3 rfl rfl)
theorem dX2_offspring_75 : decode cX2_offspring 75 = .ok (.iload 8, 2) := dk_21 8 (dk_at dksX2_offspring_3 5 rfl rfl)
theorem dX2_offspring_77 : decode cX2_offspring 77 = .ok (.baload, 1) := dk_51 (dk_at dksX2_offspring_3 7 rfl rfl)
theorem dX2_offspring_78 : decode cX2_offspring 78 = .ok (.ifCond .ne 27, 3) := dk_154 0 27 (dk_at dksX2_offspring_3 8 rfl rfl)
theorem dX2_offspring_81 : decode cX2_offspring 81 = .ok (.aload_n 0, 1) := dk_42 (dk_at dksX2_offspring_3 11 rfl rfl)
theorem dX2_offspring_82 : decode cX2_offspring 82 = .ok (.getfield 35, 3) := dk_180 0 35 (dk_at dksX2_offspring_3 12 rfl rfl)
theorem dX2_offspring_85 : decode cX2_offspring 85 = .ok (.iload 8, 2) := dk_21 8 (dk_at dksX2_offspring_3 15 rfl rfl)
theorem dX2_offspring_87 : decode cX2_offspring 87 = .ok (.invokevirtual 53, 3) := dk_182 0 53 (dk_at dksX2_offspring_3 17 rfl rfl)
theorem dX2_offspring_90 : decode cX2_offspring 90 = .ok (.checkcast 67, 3) := dk_192 0 67 (dk_at dksX2_offspring_3 20 rfl rfl)
theorem dX2_offspring_93 : decode cX2_offspring 93 = .ok (.iload 7, 2) := dk_21 7 (dk_at dksX2_offspring_4 0 rfl rfl)
theorem dX2_offspring_95 : decode cX2_offspring 95 = .ok (.invokevirtual 293, 3) := dk_182 1 37 (dk_at dksX2_offspring_4 2 rfl rfl)
theorem dX2_offspring_98 : decode cX2_offspring 98 = .ok (.ifCond .eq 7, 3) := dk_153 0 7 (dk_at dksX2_offspring_4 5 rfl rfl)
theorem dX2_offspring_101 : decode cX2_offspring 101 = .ok (.iconst 1, 1) := dk_4 (dk_at dksX2_offspring_4 8 rfl rfl)
theorem dX2_offspring_102 : decode cX2_offspring 102 = .ok (.goto 4, 3) := dk_167 0 4 (dk_at dksX2_offspring_4 9 rfl rfl)
theorem dX2_offspring_105 : decode cX2_offspring 105 = .ok (.iconst 0, 1) := dk_3 (dk_at dksX2_offspring_4 12 rfl rfl)
theorem dX2_offspring_106 : decode cX2_offspring 106 = .ok (.istore 9, 2) := dk_54 9 (dk_at dksX2_offspring_4 13 rfl rfl)
theorem dX2_offspring_108 : decode cX2_offspring 108 = .ok (.aload 4, 2) := dk_25 4 (dk_at dksX2_offspring_4 15 rfl rfl)
theorem dX2_offspring_110 : decode cX2_offspring 110 = .ok (.iload 8, 2) := dk_21 8 (dk_at dksX2_offspring_4 17 rfl rfl)
theorem dX2_offspring_112 : decode cX2_offspring 112 = .ok (.aload 4, 2) := dk_25 4 (dk_at dksX2_offspring_4 19 rfl rfl)
theorem dX2_offspring_114 : decode cX2_offspring 114 = .ok (.iload 8, 2) := dk_21 8 (dk_at dksX2_offspring_4 21 rfl rfl)
theorem dX2_offspring_116 : decode cX2_offspring 116 = .ok (.baload, 1) := dk_51 (dk_at dksX2_offspring_4 23 rfl rfl)
theorem dX2_offspring_117 : decode cX2_offspring 117 = .ok (.ifCond .ne 8, 3) := dk_154 0 8 (dk_at dksX2_offspring_5 0 rfl rfl)
theorem dX2_offspring_120 : decode cX2_offspring 120 = .ok (.iload 9, 2) := dk_21 9 (dk_at dksX2_offspring_5 3 rfl rfl)
theorem dX2_offspring_122 : decode cX2_offspring 122 = .ok (.ifCond .eq 7, 3) := dk_153 0 7 (dk_at dksX2_offspring_5 5 rfl rfl)
theorem dX2_offspring_125 : decode cX2_offspring 125 = .ok (.iconst 1, 1) := dk_4 (dk_at dksX2_offspring_5 8 rfl rfl)
theorem dX2_offspring_126 : decode cX2_offspring 126 = .ok (.goto 4, 3) := dk_167 0 4 (dk_at dksX2_offspring_5 9 rfl rfl)
theorem dX2_offspring_129 : decode cX2_offspring 129 = .ok (.iconst 0, 1) := dk_3 (dk_at dksX2_offspring_5 12 rfl rfl)
theorem dX2_offspring_130 : decode cX2_offspring 130 = .ok (.bastore, 1) := dk_84 (dk_at dksX2_offspring_5 13 rfl rfl)
theorem dX2_offspring_131 : decode cX2_offspring 131 = .ok (.iload 5, 2) := dk_21 5 (dk_at dksX2_offspring_5 14 rfl rfl)
theorem dX2_offspring_133 : decode cX2_offspring 133 = .ok (.iload 9, 2) := dk_21 9 (dk_at dksX2_offspring_5 16 rfl rfl)
theorem dX2_offspring_135 : decode cX2_offspring 135 = .ok (.ifCond .eq 7, 3) := dk_153 0 7 (dk_at dksX2_offspring_5 18 rfl rfl)
theorem dX2_offspring_138 : decode cX2_offspring 138 = .ok (.iconst 1, 1) := dk_4 (dk_at dksX2_offspring_5 21 rfl rfl)
theorem dX2_offspring_139 : decode cX2_offspring 139 = .ok (.goto 4, 3) := dk_167 0 4 (dk_at dksX2_offspring_6 0 rfl rfl)
theorem dX2_offspring_142 : decode cX2_offspring 142 = .ok (.iconst 0, 1) := dk_3 (dk_at dksX2_offspring_6 3 rfl rfl)
theorem dX2_offspring_143 : decode cX2_offspring 143 = .ok (.iadd, 1) := dk_96 (dk_at dksX2_offspring_6 4 rfl rfl)
theorem dX2_offspring_144 : decode cX2_offspring 144 = .ok (.istore 5, 2) := dk_54 5 (dk_at dksX2_offspring_6 5 rfl rfl)
theorem dX2_offspring_146 : decode cX2_offspring 146 = .ok (.iinc 8 1, 3) := dk_132 8 1 (dk_at dksX2_offspring_6 7 rfl rfl)
theorem dX2_offspring_149 : decode cX2_offspring 149 = .ok (.goto (-90), 3) := dk_167 255 166 (dk_at dksX2_offspring_6 10 rfl rfl)
theorem dX2_offspring_152 : decode cX2_offspring 152 = .ok (.iinc 6 1, 3) := dk_132 6 1 (dk_at dksX2_offspring_6 13 rfl rfl)
theorem dX2_offspring_155 : decode cX2_offspring 155 = .ok (.goto (-125), 3) := dk_167 255 131 (dk_at dksX2_offspring_6 16 rfl rfl)
theorem dX2_offspring_158 : decode cX2_offspring 158 = .ok (.iload 5, 2) := dk_21 5 (dk_at dksX2_offspring_6 19 rfl rfl)
theorem dX2_offspring_160 : decode cX2_offspring 160 = .ok (.ireturn, 1) := dk_172 (dk_at dksX2_offspring_6 21 rfl rfl)
abbrev cX2_owlsIn : ByteArray := prog_3_method_63_code
def yX2_owlsIn : MethodName := ⟨RX2, "owlsIn", "(I)I"⟩
def dkwX2_owlsIn_0 : List UInt8 := [42, 182, 1, 50, 77, 44, 27, 182, 1, 53, 44, 180, 0, 84, 172]
abbrev dktX2_owlsIn_0 : List UInt8 := dkwX2_owlsIn_0 ++ []
theorem dksX2_owlsIn_0 : cX2_owlsIn.data.toList.drop 0 = dktX2_owlsIn_0 := by decide +kernel
theorem dX2_owlsIn_0 : decode cX2_owlsIn 0 = .ok (.aload_n 0, 1) := dk_42 (dk_at dksX2_owlsIn_0 0 rfl rfl)
theorem dX2_owlsIn_1 : decode cX2_owlsIn 1 = .ok (.invokevirtual 306, 3) := dk_182 1 50 (dk_at dksX2_owlsIn_0 1 rfl rfl)
theorem dX2_owlsIn_4 : decode cX2_owlsIn 4 = .ok (.astore_n 2, 1) := dk_77 (dk_at dksX2_owlsIn_0 4 rfl rfl)
theorem dX2_owlsIn_5 : decode cX2_owlsIn 5 = .ok (.aload_n 2, 1) := dk_44 (dk_at dksX2_owlsIn_0 5 rfl rfl)
theorem dX2_owlsIn_6 : decode cX2_owlsIn 6 = .ok (.iload_n 1, 1) := dk_27 (dk_at dksX2_owlsIn_0 6 rfl rfl)
theorem dX2_owlsIn_7 : decode cX2_owlsIn 7 = .ok (.invokevirtual 309, 3) := dk_182 1 53 (dk_at dksX2_owlsIn_0 7 rfl rfl)
theorem dX2_owlsIn_10 : decode cX2_owlsIn 10 = .ok (.aload_n 2, 1) := dk_44 (dk_at dksX2_owlsIn_0 10 rfl rfl)
theorem dX2_owlsIn_11 : decode cX2_owlsIn 11 = .ok (.getfield 84, 3) := dk_180 0 84 (dk_at dksX2_owlsIn_0 11 rfl rfl)
theorem dX2_owlsIn_14 : decode cX2_owlsIn 14 = .ok (.ireturn, 1) := dk_172 (dk_at dksX2_owlsIn_0 14 rfl rfl)
abbrev cX2_setLand : ByteArray := prog_3_method_17_code
def yX2_setLand : MethodName := ⟨RX2, "setLand", "(II)V"⟩
def dkwX2_setLand_1 : List UInt8 := [180, 0, 15, 27, 46, 79, 42, 182, 0, 162, 177]
abbrev dktX2_setLand_1 : List UInt8 := dkwX2_setLand_1 ++ []
def dkwX2_setLand_0 : List UInt8 := [42, 180, 0, 9, 27, 28, 79, 42, 180, 0, 15, 27, 28, 6, 160, 0, 7, 3, 167, 0, 9, 42]
abbrev dktX2_setLand_0 : List UInt8 := dkwX2_setLand_0 ++ dktX2_setLand_1
theorem dksX2_setLand_0 : cX2_setLand.data.toList.drop 0 = dktX2_setLand_0 := by decide +kernel
theorem dksX2_setLand_1 : cX2_setLand.data.toList.drop 22 = dktX2_setLand_1 := dk_seg dksX2_setLand_0 22 rfl rfl
theorem dX2_setLand_0 : decode cX2_setLand 0 = .ok (.aload_n 0, 1) := dk_42 (dk_at dksX2_setLand_0 0 rfl rfl)
theorem dX2_setLand_1 : decode cX2_setLand 1 = .ok (.getfield 9, 3) := dk_180 0 9 (dk_at dksX2_setLand_0 1 rfl rfl)
theorem dX2_setLand_4 : decode cX2_setLand 4 = .ok (.iload_n 1, 1) := dk_27 (dk_at dksX2_setLand_0 4 rfl rfl)
theorem dX2_setLand_5 : decode cX2_setLand 5 = .ok (.iload_n 2, 1) := dk_28 (dk_at dksX2_setLand_0 5 rfl rfl)
theorem dX2_setLand_6 : decode cX2_setLand 6 = .ok (.iastore, 1) := dk_79 (dk_at dksX2_setLand_0 6 rfl rfl)
theorem dX2_setLand_7 : decode cX2_setLand 7 = .ok (.aload_n 0, 1) := dk_42 (dk_at dksX2_setLand_0 7 rfl rfl)
theorem dX2_setLand_8 : decode cX2_setLand 8 = .ok (.getfield 15, 3) := dk_180 0 15 (dk_at dksX2_setLand_0 8 rfl rfl)
theorem dX2_setLand_11 : decode cX2_setLand 11 = .ok (.iload_n 1, 1) := dk_27 (dk_at dksX2_setLand_0 11 rfl rfl)
theorem dX2_setLand_12 : decode cX2_setLand 12 = .ok (.iload_n 2, 1) := dk_28 (dk_at dksX2_setLand_0 12 rfl rfl)
theorem dX2_setLand_13 : decode cX2_setLand 13 = .ok (.iconst 3, 1) := dk_6 (dk_at dksX2_setLand_0 13 rfl rfl)
theorem dX2_setLand_14 : decode cX2_setLand 14 = .ok (.if_icmp .ne 7, 3) := dk_160 0 7 (dk_at dksX2_setLand_0 14 rfl rfl)
theorem dX2_setLand_17 : decode cX2_setLand 17 = .ok (.iconst 0, 1) := dk_3 (dk_at dksX2_setLand_0 17 rfl rfl)
theorem dX2_setLand_18 : decode cX2_setLand 18 = .ok (.goto 9, 3) := dk_167 0 9 (dk_at dksX2_setLand_0 18 rfl rfl)
theorem dX2_setLand_21 : decode cX2_setLand 21 = .ok (.aload_n 0, 1) := dk_42 (dk_at dksX2_setLand_0 21 rfl rfl)
theorem dX2_setLand_22 : decode cX2_setLand 22 = .ok (.getfield 15, 3) := dk_180 0 15 (dk_at dksX2_setLand_1 0 rfl rfl)
theorem dX2_setLand_25 : decode cX2_setLand 25 = .ok (.iload_n 1, 1) := dk_27 (dk_at dksX2_setLand_1 3 rfl rfl)
theorem dX2_setLand_26 : decode cX2_setLand 26 = .ok (.iaload, 1) := dk_46 (dk_at dksX2_setLand_1 4 rfl rfl)
theorem dX2_setLand_27 : decode cX2_setLand 27 = .ok (.iastore, 1) := dk_79 (dk_at dksX2_setLand_1 5 rfl rfl)
theorem dX2_setLand_28 : decode cX2_setLand 28 = .ok (.aload_n 0, 1) := dk_42 (dk_at dksX2_setLand_1 6 rfl rfl)
theorem dX2_setLand_29 : decode cX2_setLand 29 = .ok (.invokevirtual 162, 3) := dk_182 0 162 (dk_at dksX2_setLand_1 7 rfl rfl)
theorem dX2_setLand_32 : decode cX2_setLand 32 = .ok (.return_, 1) := dk_177 (dk_at dksX2_setLand_1 10 rfl rfl)
abbrev cX2_canPut : ByteArray := prog_3_method_19_code
def yX2_canPut : MethodName := ⟨RX2, "canPut", "(I)Z"⟩
def dkwX2_canPut_1 : List UInt8 := [182, 0, 165, 154, 0, 7, 4, 167, 0, 4, 3, 172]
abbrev dktX2_canPut_1 : List UInt8 := dkwX2_canPut_1 ++ []
def dkwX2_canPut_0 : List UInt8 := [42, 180, 0, 24, 182, 0, 49, 16, 10, 162, 0, 23, 42, 27, 182, 0, 121, 154, 0, 15, 42, 27]
abbrev dktX2_canPut_0 : List UInt8 := dkwX2_canPut_0 ++ dktX2_canPut_1
theorem dksX2_canPut_0 : cX2_canPut.data.toList.drop 0 = dktX2_canPut_0 := by decide +kernel
theorem dksX2_canPut_1 : cX2_canPut.data.toList.drop 22 = dktX2_canPut_1 := dk_seg dksX2_canPut_0 22 rfl rfl
theorem dX2_canPut_0 : decode cX2_canPut 0 = .ok (.aload_n 0, 1) := dk_42 (dk_at dksX2_canPut_0 0 rfl rfl)
theorem dX2_canPut_1 : decode cX2_canPut 1 = .ok (.getfield 24, 3) := dk_180 0 24 (dk_at dksX2_canPut_0 1 rfl rfl)
theorem dX2_canPut_4 : decode cX2_canPut 4 = .ok (.invokevirtual 49, 3) := dk_182 0 49 (dk_at dksX2_canPut_0 4 rfl rfl)
theorem dX2_canPut_7 : decode cX2_canPut 7 = .ok (.bipush 10, 2) := dk_16 10 (dk_at dksX2_canPut_0 7 rfl rfl)
theorem dX2_canPut_9 : decode cX2_canPut 9 = .ok (.if_icmp .ge 23, 3) := dk_162 0 23 (dk_at dksX2_canPut_0 9 rfl rfl)
theorem dX2_canPut_12 : decode cX2_canPut 12 = .ok (.aload_n 0, 1) := dk_42 (dk_at dksX2_canPut_0 12 rfl rfl)
theorem dX2_canPut_13 : decode cX2_canPut 13 = .ok (.iload_n 1, 1) := dk_27 (dk_at dksX2_canPut_0 13 rfl rfl)
theorem dX2_canPut_14 : decode cX2_canPut 14 = .ok (.invokevirtual 121, 3) := dk_182 0 121 (dk_at dksX2_canPut_0 14 rfl rfl)
theorem dX2_canPut_17 : decode cX2_canPut 17 = .ok (.ifCond .ne 15, 3) := dk_154 0 15 (dk_at dksX2_canPut_0 17 rfl rfl)
theorem dX2_canPut_20 : decode cX2_canPut 20 = .ok (.aload_n 0, 1) := dk_42 (dk_at dksX2_canPut_0 20 rfl rfl)
theorem dX2_canPut_21 : decode cX2_canPut 21 = .ok (.iload_n 1, 1) := dk_27 (dk_at dksX2_canPut_0 21 rfl rfl)
theorem dX2_canPut_22 : decode cX2_canPut 22 = .ok (.invokevirtual 165, 3) := dk_182 0 165 (dk_at dksX2_canPut_1 0 rfl rfl)
theorem dX2_canPut_25 : decode cX2_canPut 25 = .ok (.ifCond .ne 7, 3) := dk_154 0 7 (dk_at dksX2_canPut_1 3 rfl rfl)
theorem dX2_canPut_28 : decode cX2_canPut 28 = .ok (.iconst 1, 1) := dk_4 (dk_at dksX2_canPut_1 6 rfl rfl)
theorem dX2_canPut_29 : decode cX2_canPut 29 = .ok (.goto 4, 3) := dk_167 0 4 (dk_at dksX2_canPut_1 7 rfl rfl)
theorem dX2_canPut_32 : decode cX2_canPut 32 = .ok (.iconst 0, 1) := dk_3 (dk_at dksX2_canPut_1 10 rfl rfl)
theorem dX2_canPut_33 : decode cX2_canPut 33 = .ok (.ireturn, 1) := dk_172 (dk_at dksX2_canPut_1 11 rfl rfl)
abbrev cX2_putBox : ByteArray := prog_3_method_20_code
def yX2_putBox : MethodName := ⟨RX2, "putBox", "(I)I"⟩
def dkwX2_putBox_1 : List UInt8 := [180, 0, 24, 182, 0, 49, 4, 100, 172]
abbrev dktX2_putBox_1 : List UInt8 := dkwX2_putBox_1 ++ []
def dkwX2_putBox_0 : List UInt8 := [187, 0, 57, 89, 27, 183, 0, 168, 77, 44, 42, 27, 182, 0, 144, 181, 0, 147, 42, 44, 182, 0, 63, 42]
abbrev dktX2_putBox_0 : List UInt8 := dkwX2_putBox_0 ++ dktX2_putBox_1
theorem dksX2_putBox_0 : cX2_putBox.data.toList.drop 0 = dktX2_putBox_0 := by decide +kernel
theorem dksX2_putBox_1 : cX2_putBox.data.toList.drop 24 = dktX2_putBox_1 := dk_seg dksX2_putBox_0 24 rfl rfl
theorem dX2_putBox_0 : decode cX2_putBox 0 = .ok (.new 57, 3) := dk_187 0 57 (dk_at dksX2_putBox_0 0 rfl rfl)
theorem dX2_putBox_3 : decode cX2_putBox 3 = .ok (.dup, 1) := dk_89 (dk_at dksX2_putBox_0 3 rfl rfl)
theorem dX2_putBox_4 : decode cX2_putBox 4 = .ok (.iload_n 1, 1) := dk_27 (dk_at dksX2_putBox_0 4 rfl rfl)
theorem dX2_putBox_5 : decode cX2_putBox 5 = .ok (.invokespecial 168, 3) := dk_183 0 168 (dk_at dksX2_putBox_0 5 rfl rfl)
theorem dX2_putBox_8 : decode cX2_putBox 8 = .ok (.astore_n 2, 1) := dk_77 (dk_at dksX2_putBox_0 8 rfl rfl)
theorem dX2_putBox_9 : decode cX2_putBox 9 = .ok (.aload_n 2, 1) := dk_44 (dk_at dksX2_putBox_0 9 rfl rfl)
theorem dX2_putBox_10 : decode cX2_putBox 10 = .ok (.aload_n 0, 1) := dk_42 (dk_at dksX2_putBox_0 10 rfl rfl)
theorem dX2_putBox_11 : decode cX2_putBox 11 = .ok (.iload_n 1, 1) := dk_27 (dk_at dksX2_putBox_0 11 rfl rfl)
theorem dX2_putBox_12 : decode cX2_putBox 12 = .ok (.invokevirtual 144, 3) := dk_182 0 144 (dk_at dksX2_putBox_0 12 rfl rfl)
theorem dX2_putBox_15 : decode cX2_putBox 15 = .ok (.putfield 147, 3) := dk_181 0 147 (dk_at dksX2_putBox_0 15 rfl rfl)
theorem dX2_putBox_18 : decode cX2_putBox 18 = .ok (.aload_n 0, 1) := dk_42 (dk_at dksX2_putBox_0 18 rfl rfl)
theorem dX2_putBox_19 : decode cX2_putBox 19 = .ok (.aload_n 2, 1) := dk_44 (dk_at dksX2_putBox_0 19 rfl rfl)
theorem dX2_putBox_20 : decode cX2_putBox 20 = .ok (.invokevirtual 63, 3) := dk_182 0 63 (dk_at dksX2_putBox_0 20 rfl rfl)
theorem dX2_putBox_23 : decode cX2_putBox 23 = .ok (.aload_n 0, 1) := dk_42 (dk_at dksX2_putBox_0 23 rfl rfl)
theorem dX2_putBox_24 : decode cX2_putBox 24 = .ok (.getfield 24, 3) := dk_180 0 24 (dk_at dksX2_putBox_1 0 rfl rfl)
theorem dX2_putBox_27 : decode cX2_putBox 27 = .ok (.invokevirtual 49, 3) := dk_182 0 49 (dk_at dksX2_putBox_1 3 rfl rfl)
theorem dX2_putBox_30 : decode cX2_putBox 30 = .ok (.iconst 1, 1) := dk_4 (dk_at dksX2_putBox_1 6 rfl rfl)
theorem dX2_putBox_31 : decode cX2_putBox 31 = .ok (.isub, 1) := dk_100 (dk_at dksX2_putBox_1 7 rfl rfl)
theorem dX2_putBox_32 : decode cX2_putBox 32 = .ok (.ireturn, 1) := dk_172 (dk_at dksX2_putBox_1 8 rfl rfl)
abbrev cX2_takeBox : ByteArray := prog_3_method_21_code
def yX2_takeBox : MethodName := ⟨RX2, "takeBox", "(I)I"⟩
def dkwX2_takeBox_4 : List UInt8 := [167, 0, 8, 25, 5, 180, 0, 175, 181, 0, 175, 132, 4, 1, 167, 255, 191, 44, 182, 0, 178, 172]
abbrev dktX2_takeBox_4 : List UInt8 := dkwX2_takeBox_4 ++ []
def dkwX2_takeBox_3 : List UInt8 := [160, 0, 7, 2, 167, 0, 27, 25, 5, 180, 0, 175, 27, 164, 0, 13, 25, 5, 180, 0, 175, 4, 100]
abbrev dktX2_takeBox_3 : List UInt8 := dkwX2_takeBox_3 ++ dktX2_takeBox_4
def dkwX2_takeBox_2 : List UInt8 := [42, 180, 0, 35, 21, 4, 182, 0, 53, 192, 0, 67, 58, 5, 25, 5, 25, 5, 180, 0, 175, 27]
abbrev dktX2_takeBox_2 : List UInt8 := dkwX2_takeBox_2 ++ dktX2_takeBox_3
def dkwX2_takeBox_1 : List UInt8 := [183, 0, 107, 182, 0, 172, 87, 42, 180, 0, 35, 182, 0, 49, 62, 3, 54, 4, 21, 4, 29, 162, 0, 65]
abbrev dktX2_takeBox_1 : List UInt8 := dkwX2_takeBox_1 ++ dktX2_takeBox_2
def dkwX2_takeBox_0 : List UInt8 := [42, 180, 0, 24, 27, 182, 0, 169, 192, 0, 57, 77, 42, 180, 0, 31, 187, 0, 102, 89, 44, 180, 0, 104]
abbrev dktX2_takeBox_0 : List UInt8 := dkwX2_takeBox_0 ++ dktX2_takeBox_1
theorem dksX2_takeBox_0 : cX2_takeBox.data.toList.drop 0 = dktX2_takeBox_0 := by decide +kernel
theorem dksX2_takeBox_1 : cX2_takeBox.data.toList.drop 24 = dktX2_takeBox_1 := dk_seg dksX2_takeBox_0 24 rfl rfl
theorem dksX2_takeBox_2 : cX2_takeBox.data.toList.drop 48 = dktX2_takeBox_2 := dk_seg dksX2_takeBox_1 24 rfl rfl
theorem dksX2_takeBox_3 : cX2_takeBox.data.toList.drop 70 = dktX2_takeBox_3 := dk_seg dksX2_takeBox_2 22 rfl rfl
theorem dksX2_takeBox_4 : cX2_takeBox.data.toList.drop 93 = dktX2_takeBox_4 := dk_seg dksX2_takeBox_3 23 rfl rfl
theorem dX2_takeBox_0 : decode cX2_takeBox 0 = .ok (.aload_n 0, 1) := dk_42 (dk_at dksX2_takeBox_0 0 rfl rfl)
theorem dX2_takeBox_1 : decode cX2_takeBox 1 = .ok (.getfield 24, 3) := dk_180 0 24 (dk_at dksX2_takeBox_0 1 rfl rfl)
theorem dX2_takeBox_4 : decode cX2_takeBox 4 = .ok (.iload_n 1, 1) := dk_27 (dk_at dksX2_takeBox_0 4 rfl rfl)
theorem dX2_takeBox_5 : decode cX2_takeBox 5 = .ok (.invokevirtual 169, 3) := dk_182 0 169 (dk_at dksX2_takeBox_0 5 rfl rfl)
theorem dX2_takeBox_8 : decode cX2_takeBox 8 = .ok (.checkcast 57, 3) := dk_192 0 57 (dk_at dksX2_takeBox_0 8 rfl rfl)
theorem dX2_takeBox_11 : decode cX2_takeBox 11 = .ok (.astore_n 2, 1) := dk_77 (dk_at dksX2_takeBox_0 11 rfl rfl)
theorem dX2_takeBox_12 : decode cX2_takeBox 12 = .ok (.aload_n 0, 1) := dk_42 (dk_at dksX2_takeBox_0 12 rfl rfl)
theorem dX2_takeBox_13 : decode cX2_takeBox 13 = .ok (.getfield 31, 3) := dk_180 0 31 (dk_at dksX2_takeBox_0 13 rfl rfl)
theorem dX2_takeBox_16 : decode cX2_takeBox 16 = .ok (.new 102, 3) := dk_187 0 102 (dk_at dksX2_takeBox_0 16 rfl rfl)
theorem dX2_takeBox_19 : decode cX2_takeBox 19 = .ok (.dup, 1) := dk_89 (dk_at dksX2_takeBox_0 19 rfl rfl)
theorem dX2_takeBox_20 : decode cX2_takeBox 20 = .ok (.aload_n 2, 1) := dk_44 (dk_at dksX2_takeBox_0 20 rfl rfl)
theorem dX2_takeBox_21 : decode cX2_takeBox 21 = .ok (.getfield 104, 3) := dk_180 0 104 (dk_at dksX2_takeBox_0 21 rfl rfl)
theorem dX2_takeBox_24 : decode cX2_takeBox 24 = .ok (.invokespecial 107, 3) := dk_183 0 107 (dk_at dksX2_takeBox_1 0 rfl rfl)
theorem dX2_takeBox_27 : decode cX2_takeBox 27 = .ok (.invokevirtual 172, 3) := dk_182 0 172 (dk_at dksX2_takeBox_1 3 rfl rfl)
theorem dX2_takeBox_30 : decode cX2_takeBox 30 = .ok (.pop, 1) := dk_87 (dk_at dksX2_takeBox_1 6 rfl rfl)
theorem dX2_takeBox_31 : decode cX2_takeBox 31 = .ok (.aload_n 0, 1) := dk_42 (dk_at dksX2_takeBox_1 7 rfl rfl)
theorem dX2_takeBox_32 : decode cX2_takeBox 32 = .ok (.getfield 35, 3) := dk_180 0 35 (dk_at dksX2_takeBox_1 8 rfl rfl)
theorem dX2_takeBox_35 : decode cX2_takeBox 35 = .ok (.invokevirtual 49, 3) := dk_182 0 49 (dk_at dksX2_takeBox_1 11 rfl rfl)
theorem dX2_takeBox_38 : decode cX2_takeBox 38 = .ok (.istore_n 3, 1) := dk_62 (dk_at dksX2_takeBox_1 14 rfl rfl)
theorem dX2_takeBox_39 : decode cX2_takeBox 39 = .ok (.iconst 0, 1) := dk_3 (dk_at dksX2_takeBox_1 15 rfl rfl)
theorem dX2_takeBox_40 : decode cX2_takeBox 40 = .ok (.istore 4, 2) := dk_54 4 (dk_at dksX2_takeBox_1 16 rfl rfl)
theorem dX2_takeBox_42 : decode cX2_takeBox 42 = .ok (.iload 4, 2) := dk_21 4 (dk_at dksX2_takeBox_1 18 rfl rfl)
theorem dX2_takeBox_44 : decode cX2_takeBox 44 = .ok (.iload_n 3, 1) := dk_29 (dk_at dksX2_takeBox_1 20 rfl rfl)
theorem dX2_takeBox_45 : decode cX2_takeBox 45 = .ok (.if_icmp .ge 65, 3) := dk_162 0 65 (dk_at dksX2_takeBox_1 21 rfl rfl)
theorem dX2_takeBox_48 : decode cX2_takeBox 48 = .ok (.aload_n 0, 1) := dk_42 (dk_at dksX2_takeBox_2 0 rfl rfl)
theorem dX2_takeBox_49 : decode cX2_takeBox 49 = .ok (.getfield 35, 3) := dk_180 0 35 (dk_at dksX2_takeBox_2 1 rfl rfl)
theorem dX2_takeBox_52 : decode cX2_takeBox 52 = .ok (.iload 4, 2) := dk_21 4 (dk_at dksX2_takeBox_2 4 rfl rfl)
theorem dX2_takeBox_54 : decode cX2_takeBox 54 = .ok (.invokevirtual 53, 3) := dk_182 0 53 (dk_at dksX2_takeBox_2 6 rfl rfl)
theorem dX2_takeBox_57 : decode cX2_takeBox 57 = .ok (.checkcast 67, 3) := dk_192 0 67 (dk_at dksX2_takeBox_2 9 rfl rfl)
theorem dX2_takeBox_60 : decode cX2_takeBox 60 = .ok (.astore 5, 2) := dk_58 5 (dk_at dksX2_takeBox_2 12 rfl rfl)
theorem dX2_takeBox_62 : decode cX2_takeBox 62 = .ok (.aload 5, 2) := dk_25 5 (dk_at dksX2_takeBox_2 14 rfl rfl)
theorem dX2_takeBox_64 : decode cX2_takeBox 64 = .ok (.aload 5, 2) := dk_25 5 (dk_at dksX2_takeBox_2 16 rfl rfl)
theorem dX2_takeBox_66 : decode cX2_takeBox 66 = .ok (.getfield 175, 3) := dk_180 0 175 (dk_at dksX2_takeBox_2 18 rfl rfl)
theorem dX2_takeBox_69 : decode cX2_takeBox 69 = .ok (.iload_n 1, 1) := dk_27 (dk_at dksX2_takeBox_2 21 rfl rfl)
theorem dX2_takeBox_70 : decode cX2_takeBox 70 = .ok (.if_icmp .ne 7, 3) := dk_160 0 7 (dk_at dksX2_takeBox_3 0 rfl rfl)
theorem dX2_takeBox_73 : decode cX2_takeBox 73 = .ok (.iconst (-1), 1) := dk_2 (dk_at dksX2_takeBox_3 3 rfl rfl)
theorem dX2_takeBox_74 : decode cX2_takeBox 74 = .ok (.goto 27, 3) := dk_167 0 27 (dk_at dksX2_takeBox_3 4 rfl rfl)
theorem dX2_takeBox_77 : decode cX2_takeBox 77 = .ok (.aload 5, 2) := dk_25 5 (dk_at dksX2_takeBox_3 7 rfl rfl)
theorem dX2_takeBox_79 : decode cX2_takeBox 79 = .ok (.getfield 175, 3) := dk_180 0 175 (dk_at dksX2_takeBox_3 9 rfl rfl)
theorem dX2_takeBox_82 : decode cX2_takeBox 82 = .ok (.iload_n 1, 1) := dk_27 (dk_at dksX2_takeBox_3 12 rfl rfl)
theorem dX2_takeBox_83 : decode cX2_takeBox 83 = .ok (.if_icmp .le 13, 3) := dk_164 0 13 (dk_at dksX2_takeBox_3 13 rfl rfl)
theorem dX2_takeBox_86 : decode cX2_takeBox 86 = .ok (.aload 5, 2) := dk_25 5 (dk_at dksX2_takeBox_3 16 rfl rfl)
theorem dX2_takeBox_88 : decode cX2_takeBox 88 = .ok (.getfield 175, 3) := dk_180 0 175 (dk_at dksX2_takeBox_3 18 rfl rfl)
theorem dX2_takeBox_91 : decode cX2_takeBox 91 = .ok (.iconst 1, 1) := dk_4 (dk_at dksX2_takeBox_3 21 rfl rfl)
theorem dX2_takeBox_92 : decode cX2_takeBox 92 = .ok (.isub, 1) := dk_100 (dk_at dksX2_takeBox_3 22 rfl rfl)
theorem dX2_takeBox_93 : decode cX2_takeBox 93 = .ok (.goto 8, 3) := dk_167 0 8 (dk_at dksX2_takeBox_4 0 rfl rfl)
theorem dX2_takeBox_96 : decode cX2_takeBox 96 = .ok (.aload 5, 2) := dk_25 5 (dk_at dksX2_takeBox_4 3 rfl rfl)
theorem dX2_takeBox_98 : decode cX2_takeBox 98 = .ok (.getfield 175, 3) := dk_180 0 175 (dk_at dksX2_takeBox_4 5 rfl rfl)
theorem dX2_takeBox_101 : decode cX2_takeBox 101 = .ok (.putfield 175, 3) := dk_181 0 175 (dk_at dksX2_takeBox_4 8 rfl rfl)
theorem dX2_takeBox_104 : decode cX2_takeBox 104 = .ok (.iinc 4 1, 3) := dk_132 4 1 (dk_at dksX2_takeBox_4 11 rfl rfl)
theorem dX2_takeBox_107 : decode cX2_takeBox 107 = .ok (.goto (-65), 3) := dk_167 255 191 (dk_at dksX2_takeBox_4 14 rfl rfl)
theorem dX2_takeBox_110 : decode cX2_takeBox 110 = .ok (.aload_n 2, 1) := dk_44 (dk_at dksX2_takeBox_4 17 rfl rfl)
theorem dX2_takeBox_111 : decode cX2_takeBox 111 = .ok (.invokevirtual 178, 3) := dk_182 0 178 (dk_at dksX2_takeBox_4 18 rfl rfl)
theorem dX2_takeBox_114 : decode cX2_takeBox 114 = .ok (.ireturn, 1) := dk_172 (dk_at dksX2_takeBox_4 21 rfl rfl)
abbrev cX2_canLetIn : ByteArray := prog_3_method_22_code
def yX2_canLetIn : MethodName := ⟨RX2, "canLetIn", "(II)Z"⟩
def dkwX2_canLetIn_1 : List UInt8 := [167, 0, 4, 3, 172]
abbrev dktX2_canLetIn_1 : List UInt8 := dkwX2_canLetIn_1 ++ []
def dkwX2_canLetIn_0 : List UInt8 := [42, 180, 0, 84, 16, 40, 162, 0, 21, 42, 27, 182, 0, 179, 180, 0, 182, 28, 46, 2, 160, 0, 7, 4]
abbrev dktX2_canLetIn_0 : List UInt8 := dkwX2_canLetIn_0 ++ dktX2_canLetIn_1
theorem dksX2_canLetIn_0 : cX2_canLetIn.data.toList.drop 0 = dktX2_canLetIn_0 := by decide +kernel
theorem dksX2_canLetIn_1 : cX2_canLetIn.data.toList.drop 24 = dktX2_canLetIn_1 := dk_seg dksX2_canLetIn_0 24 rfl rfl
theorem dX2_canLetIn_0 : decode cX2_canLetIn 0 = .ok (.aload_n 0, 1) := dk_42 (dk_at dksX2_canLetIn_0 0 rfl rfl)
theorem dX2_canLetIn_1 : decode cX2_canLetIn 1 = .ok (.getfield 84, 3) := dk_180 0 84 (dk_at dksX2_canLetIn_0 1 rfl rfl)
theorem dX2_canLetIn_4 : decode cX2_canLetIn 4 = .ok (.bipush 40, 2) := dk_16 40 (dk_at dksX2_canLetIn_0 4 rfl rfl)
theorem dX2_canLetIn_6 : decode cX2_canLetIn 6 = .ok (.if_icmp .ge 21, 3) := dk_162 0 21 (dk_at dksX2_canLetIn_0 6 rfl rfl)
theorem dX2_canLetIn_9 : decode cX2_canLetIn 9 = .ok (.aload_n 0, 1) := dk_42 (dk_at dksX2_canLetIn_0 9 rfl rfl)
theorem dX2_canLetIn_10 : decode cX2_canLetIn 10 = .ok (.iload_n 1, 1) := dk_27 (dk_at dksX2_canLetIn_0 10 rfl rfl)
theorem dX2_canLetIn_11 : decode cX2_canLetIn 11 = .ok (.invokevirtual 179, 3) := dk_182 0 179 (dk_at dksX2_canLetIn_0 11 rfl rfl)
theorem dX2_canLetIn_14 : decode cX2_canLetIn 14 = .ok (.getfield 182, 3) := dk_180 0 182 (dk_at dksX2_canLetIn_0 14 rfl rfl)
theorem dX2_canLetIn_17 : decode cX2_canLetIn 17 = .ok (.iload_n 2, 1) := dk_28 (dk_at dksX2_canLetIn_0 17 rfl rfl)
theorem dX2_canLetIn_18 : decode cX2_canLetIn 18 = .ok (.iaload, 1) := dk_46 (dk_at dksX2_canLetIn_0 18 rfl rfl)
theorem dX2_canLetIn_19 : decode cX2_canLetIn 19 = .ok (.iconst (-1), 1) := dk_2 (dk_at dksX2_canLetIn_0 19 rfl rfl)
theorem dX2_canLetIn_20 : decode cX2_canLetIn 20 = .ok (.if_icmp .ne 7, 3) := dk_160 0 7 (dk_at dksX2_canLetIn_0 20 rfl rfl)
theorem dX2_canLetIn_23 : decode cX2_canLetIn 23 = .ok (.iconst 1, 1) := dk_4 (dk_at dksX2_canLetIn_0 23 rfl rfl)
theorem dX2_canLetIn_24 : decode cX2_canLetIn 24 = .ok (.goto 4, 3) := dk_167 0 4 (dk_at dksX2_canLetIn_1 0 rfl rfl)
theorem dX2_canLetIn_27 : decode cX2_canLetIn 27 = .ok (.iconst 0, 1) := dk_3 (dk_at dksX2_canLetIn_1 3 rfl rfl)
theorem dX2_canLetIn_28 : decode cX2_canLetIn 28 = .ok (.ireturn, 1) := dk_172 (dk_at dksX2_canLetIn_1 4 rfl rfl)
abbrev cX2_letIn : ByteArray := prog_3_method_25_code
def yX2_letIn : MethodName := ⟨RX2, "letIn", "(III)I"⟩
def dkwX2_letIn_1 : List UInt8 := [180, 0, 87, 4, 96, 181, 0, 87, 42, 182, 0, 204, 25, 4, 180, 0, 190, 172]
abbrev dktX2_letIn_1 : List UInt8 := dkwX2_letIn_1 ++ []
def dkwX2_letIn_0 : List UInt8 := [42, 28, 2, 2, 182, 0, 193, 58, 4, 25, 4, 29, 181, 0, 197, 42, 25, 4, 27, 182, 0, 200, 42, 89]
abbrev dktX2_letIn_0 : List UInt8 := dkwX2_letIn_0 ++ dktX2_letIn_1
theorem dksX2_letIn_0 : cX2_letIn.data.toList.drop 0 = dktX2_letIn_0 := by decide +kernel
theorem dksX2_letIn_1 : cX2_letIn.data.toList.drop 24 = dktX2_letIn_1 := dk_seg dksX2_letIn_0 24 rfl rfl
theorem dX2_letIn_0 : decode cX2_letIn 0 = .ok (.aload_n 0, 1) := dk_42 (dk_at dksX2_letIn_0 0 rfl rfl)
theorem dX2_letIn_1 : decode cX2_letIn 1 = .ok (.iload_n 2, 1) := dk_28 (dk_at dksX2_letIn_0 1 rfl rfl)
theorem dX2_letIn_2 : decode cX2_letIn 2 = .ok (.iconst (-1), 1) := dk_2 (dk_at dksX2_letIn_0 2 rfl rfl)
theorem dX2_letIn_3 : decode cX2_letIn 3 = .ok (.iconst (-1), 1) := dk_2 (dk_at dksX2_letIn_0 3 rfl rfl)
theorem dX2_letIn_4 : decode cX2_letIn 4 = .ok (.invokevirtual 193, 3) := dk_182 0 193 (dk_at dksX2_letIn_0 4 rfl rfl)
theorem dX2_letIn_7 : decode cX2_letIn 7 = .ok (.astore 4, 2) := dk_58 4 (dk_at dksX2_letIn_0 7 rfl rfl)
theorem dX2_letIn_9 : decode cX2_letIn 9 = .ok (.aload 4, 2) := dk_25 4 (dk_at dksX2_letIn_0 9 rfl rfl)
theorem dX2_letIn_11 : decode cX2_letIn 11 = .ok (.iload_n 3, 1) := dk_29 (dk_at dksX2_letIn_0 11 rfl rfl)
theorem dX2_letIn_12 : decode cX2_letIn 12 = .ok (.putfield 197, 3) := dk_181 0 197 (dk_at dksX2_letIn_0 12 rfl rfl)
theorem dX2_letIn_15 : decode cX2_letIn 15 = .ok (.aload_n 0, 1) := dk_42 (dk_at dksX2_letIn_0 15 rfl rfl)
theorem dX2_letIn_16 : decode cX2_letIn 16 = .ok (.aload 4, 2) := dk_25 4 (dk_at dksX2_letIn_0 16 rfl rfl)
theorem dX2_letIn_18 : decode cX2_letIn 18 = .ok (.iload_n 1, 1) := dk_27 (dk_at dksX2_letIn_0 18 rfl rfl)
theorem dX2_letIn_19 : decode cX2_letIn 19 = .ok (.invokevirtual 200, 3) := dk_182 0 200 (dk_at dksX2_letIn_0 19 rfl rfl)
theorem dX2_letIn_22 : decode cX2_letIn 22 = .ok (.aload_n 0, 1) := dk_42 (dk_at dksX2_letIn_0 22 rfl rfl)
theorem dX2_letIn_23 : decode cX2_letIn 23 = .ok (.dup, 1) := dk_89 (dk_at dksX2_letIn_0 23 rfl rfl)
theorem dX2_letIn_24 : decode cX2_letIn 24 = .ok (.getfield 87, 3) := dk_180 0 87 (dk_at dksX2_letIn_1 0 rfl rfl)
theorem dX2_letIn_27 : decode cX2_letIn 27 = .ok (.iconst 1, 1) := dk_4 (dk_at dksX2_letIn_1 3 rfl rfl)
theorem dX2_letIn_28 : decode cX2_letIn 28 = .ok (.iadd, 1) := dk_96 (dk_at dksX2_letIn_1 4 rfl rfl)
theorem dX2_letIn_29 : decode cX2_letIn 29 = .ok (.putfield 87, 3) := dk_181 0 87 (dk_at dksX2_letIn_1 5 rfl rfl)
theorem dX2_letIn_32 : decode cX2_letIn 32 = .ok (.aload_n 0, 1) := dk_42 (dk_at dksX2_letIn_1 8 rfl rfl)
theorem dX2_letIn_33 : decode cX2_letIn 33 = .ok (.invokevirtual 204, 3) := dk_182 0 204 (dk_at dksX2_letIn_1 9 rfl rfl)
theorem dX2_letIn_36 : decode cX2_letIn 36 = .ok (.aload 4, 2) := dk_25 4 (dk_at dksX2_letIn_1 12 rfl rfl)
theorem dX2_letIn_38 : decode cX2_letIn 38 = .ok (.getfield 190, 3) := dk_180 0 190 (dk_at dksX2_letIn_1 14 rfl rfl)
theorem dX2_letIn_41 : decode cX2_letIn 41 = .ok (.ireturn, 1) := dk_172 (dk_at dksX2_letIn_1 17 rfl rfl)
abbrev cX2_takeOut : ByteArray := prog_3_method_27_code
def yX2_takeOut : MethodName := ⟨RX2, "takeOut", "(LOwlYears$Owl;)V"⟩
def dkwX2_takeOut_0 : List UInt8 := [42, 43, 182, 0, 210, 42, 89, 180, 0, 93, 4, 96, 181, 0, 93, 42, 182, 0, 204, 177]
abbrev dktX2_takeOut_0 : List UInt8 := dkwX2_takeOut_0 ++ []
theorem dksX2_takeOut_0 : cX2_takeOut.data.toList.drop 0 = dktX2_takeOut_0 := by decide +kernel
theorem dX2_takeOut_0 : decode cX2_takeOut 0 = .ok (.aload_n 0, 1) := dk_42 (dk_at dksX2_takeOut_0 0 rfl rfl)
theorem dX2_takeOut_1 : decode cX2_takeOut 1 = .ok (.aload_n 1, 1) := dk_43 (dk_at dksX2_takeOut_0 1 rfl rfl)
theorem dX2_takeOut_2 : decode cX2_takeOut 2 = .ok (.invokevirtual 210, 3) := dk_182 0 210 (dk_at dksX2_takeOut_0 2 rfl rfl)
theorem dX2_takeOut_5 : decode cX2_takeOut 5 = .ok (.aload_n 0, 1) := dk_42 (dk_at dksX2_takeOut_0 5 rfl rfl)
theorem dX2_takeOut_6 : decode cX2_takeOut 6 = .ok (.dup, 1) := dk_89 (dk_at dksX2_takeOut_0 6 rfl rfl)
theorem dX2_takeOut_7 : decode cX2_takeOut 7 = .ok (.getfield 93, 3) := dk_180 0 93 (dk_at dksX2_takeOut_0 7 rfl rfl)
theorem dX2_takeOut_10 : decode cX2_takeOut 10 = .ok (.iconst 1, 1) := dk_4 (dk_at dksX2_takeOut_0 10 rfl rfl)
theorem dX2_takeOut_11 : decode cX2_takeOut 11 = .ok (.iadd, 1) := dk_96 (dk_at dksX2_takeOut_0 11 rfl rfl)
theorem dX2_takeOut_12 : decode cX2_takeOut 12 = .ok (.putfield 93, 3) := dk_181 0 93 (dk_at dksX2_takeOut_0 12 rfl rfl)
theorem dX2_takeOut_15 : decode cX2_takeOut 15 = .ok (.aload_n 0, 1) := dk_42 (dk_at dksX2_takeOut_0 15 rfl rfl)
theorem dX2_takeOut_16 : decode cX2_takeOut 16 = .ok (.invokevirtual 204, 3) := dk_182 0 204 (dk_at dksX2_takeOut_0 16 rfl rfl)
theorem dX2_takeOut_19 : decode cX2_takeOut 19 = .ok (.return_, 1) := dk_177 (dk_at dksX2_takeOut_0 19 rfl rfl)
abbrev cX2_rangeByJoining : ByteArray := prog_3_method_10_code
def yX2_rangeByJoining : MethodName := ⟨RX2, "rangeByJoining", "(I)J"⟩
def dkwX2_rangeByJoining_6 : List UInt8 := [167, 0, 4, 9, 129, 55, 5, 132, 7, 1, 167, 255, 221, 22, 5, 173]
abbrev dktX2_rangeByJoining_6 : List UInt8 := dkwX2_rangeByJoining_6 ++ []
def dkwX2_rangeByJoining_5 : List UInt8 := [16, 64, 162, 0, 34, 22, 5, 25, 4, 21, 7, 46, 25, 4, 27, 46, 160, 0, 10, 10, 21, 7, 121]
abbrev dktX2_rangeByJoining_5 : List UInt8 := dkwX2_rangeByJoining_5 ++ dktX2_rangeByJoining_6
def dkwX2_rangeByJoining_4 : List UInt8 := [46, 184, 0, 140, 132, 6, 1, 167, 255, 203, 132, 5, 1, 167, 255, 187, 9, 55, 5, 3, 54, 7, 21, 7]
abbrev dktX2_rangeByJoining_4 : List UInt8 := dkwX2_rangeByJoining_4 ++ dktX2_rangeByJoining_5
def dkwX2_rangeByJoining_3 : List UInt8 := [153, 0, 28, 21, 5, 21, 6, 184, 0, 136, 153, 0, 18, 25, 4, 25, 4, 21, 5, 46, 25, 4, 21, 6]
abbrev dktX2_rangeByJoining_3 : List UInt8 := dkwX2_rangeByJoining_3 ++ dktX2_rangeByJoining_4
def dkwX2_rangeByJoining_2 : List UInt8 := [21, 6, 21, 5, 162, 0, 52, 32, 21, 5, 184, 0, 129, 153, 0, 37, 32, 21, 6, 184, 0, 129]
abbrev dktX2_rangeByJoining_2 : List UInt8 := dkwX2_rangeByJoining_2 ++ dktX2_rangeByJoining_3
def dkwX2_rangeByJoining_1 : List UInt8 := [21, 5, 21, 5, 79, 132, 5, 1, 167, 255, 239, 3, 54, 5, 21, 5, 16, 64, 162, 0, 68, 3, 54, 6]
abbrev dktX2_rangeByJoining_1 : List UInt8 := dkwX2_rangeByJoining_1 ++ dktX2_rangeByJoining_2
def dkwX2_rangeByJoining_0 : List UInt8 := [42, 27, 182, 0, 125, 65, 16, 64, 188, 10, 58, 4, 3, 54, 5, 21, 5, 16, 64, 162, 0, 16, 25, 4]
abbrev dktX2_rangeByJoining_0 : List UInt8 := dkwX2_rangeByJoining_0 ++ dktX2_rangeByJoining_1
theorem dksX2_rangeByJoining_0 : cX2_rangeByJoining.data.toList.drop 0 = dktX2_rangeByJoining_0 := by decide +kernel
theorem dksX2_rangeByJoining_1 : cX2_rangeByJoining.data.toList.drop 24 = dktX2_rangeByJoining_1 := dk_seg dksX2_rangeByJoining_0 24 rfl rfl
theorem dksX2_rangeByJoining_2 : cX2_rangeByJoining.data.toList.drop 48 = dktX2_rangeByJoining_2 := dk_seg dksX2_rangeByJoining_1 24 rfl rfl
theorem dksX2_rangeByJoining_3 : cX2_rangeByJoining.data.toList.drop 70 = dktX2_rangeByJoining_3 := dk_seg dksX2_rangeByJoining_2 22 rfl rfl
theorem dksX2_rangeByJoining_4 : cX2_rangeByJoining.data.toList.drop 94 = dktX2_rangeByJoining_4 := dk_seg dksX2_rangeByJoining_3 24 rfl rfl
theorem dksX2_rangeByJoining_5 : cX2_rangeByJoining.data.toList.drop 118 = dktX2_rangeByJoining_5 := dk_seg dksX2_rangeByJoining_4 24 rfl rfl
theorem dksX2_rangeByJoining_6 : cX2_rangeByJoining.data.toList.drop 141 = dktX2_rangeByJoining_6 := dk_seg dksX2_rangeByJoining_5 23 rfl rfl
theorem dX2_rangeByJoining_0 : decode cX2_rangeByJoining 0 = .ok (.aload_n 0, 1) := dk_42 (dk_at dksX2_rangeByJoining_0 0 rfl rfl)
theorem dX2_rangeByJoining_1 : decode cX2_rangeByJoining 1 = .ok (.iload_n 1, 1) := dk_27 (dk_at dksX2_rangeByJoining_0 1 rfl rfl)
theorem dX2_rangeByJoining_2 : decode cX2_rangeByJoining 2 = .ok (.invokevirtual 125, 3) := dk_182 0 125 (dk_at dksX2_rangeByJoining_0 2 rfl rfl)
theorem dX2_rangeByJoining_5 : decode cX2_rangeByJoining 5 = .ok (.lstore_n 2, 1) := dk_65 (dk_at dksX2_rangeByJoining_0 5 rfl rfl)
theorem dX2_rangeByJoining_6 : decode cX2_rangeByJoining 6 = .ok (.bipush 64, 2) := dk_16 64 (dk_at dksX2_rangeByJoining_0 6 rfl rfl)
theorem dX2_rangeByJoining_8 : decode cX2_rangeByJoining 8 = .ok (.newarray .int, 2) := dk_188_10 (dk_at dksX2_rangeByJoining_0 8 rfl rfl)
theorem dX2_rangeByJoining_10 : decode cX2_rangeByJoining 10 = .ok (.astore 4, 2) := dk_58 4 (dk_at dksX2_rangeByJoining_0 10 rfl rfl)
theorem dX2_rangeByJoining_12 : decode cX2_rangeByJoining 12 = .ok (.iconst 0, 1) := dk_3 (dk_at dksX2_rangeByJoining_0 12 rfl rfl)
theorem dX2_rangeByJoining_13 : decode cX2_rangeByJoining 13 = .ok (.istore 5, 2) := dk_54 5 (dk_at dksX2_rangeByJoining_0 13 rfl rfl)
theorem dX2_rangeByJoining_15 : decode cX2_rangeByJoining 15 = .ok (.iload 5, 2) := dk_21 5 (dk_at dksX2_rangeByJoining_0 15 rfl rfl)
theorem dX2_rangeByJoining_17 : decode cX2_rangeByJoining 17 = .ok (.bipush 64, 2) := dk_16 64 (dk_at dksX2_rangeByJoining_0 17 rfl rfl)
theorem dX2_rangeByJoining_19 : decode cX2_rangeByJoining 19 = .ok (.if_icmp .ge 16, 3) := dk_162 0 16 (dk_at dksX2_rangeByJoining_0 19 rfl rfl)
theorem dX2_rangeByJoining_22 : decode cX2_rangeByJoining 22 = .ok (.aload 4, 2) := dk_25 4 (dk_at dksX2_rangeByJoining_0 22 rfl rfl)
theorem dX2_rangeByJoining_24 : decode cX2_rangeByJoining 24 = .ok (.iload 5, 2) := dk_21 5 (dk_at dksX2_rangeByJoining_1 0 rfl rfl)
theorem dX2_rangeByJoining_26 : decode cX2_rangeByJoining 26 = .ok (.iload 5, 2) := dk_21 5 (dk_at dksX2_rangeByJoining_1 2 rfl rfl)
theorem dX2_rangeByJoining_28 : decode cX2_rangeByJoining 28 = .ok (.iastore, 1) := dk_79 (dk_at dksX2_rangeByJoining_1 4 rfl rfl)
theorem dX2_rangeByJoining_29 : decode cX2_rangeByJoining 29 = .ok (.iinc 5 1, 3) := dk_132 5 1 (dk_at dksX2_rangeByJoining_1 5 rfl rfl)
theorem dX2_rangeByJoining_32 : decode cX2_rangeByJoining 32 = .ok (.goto (-17), 3) := dk_167 255 239 (dk_at dksX2_rangeByJoining_1 8 rfl rfl)
theorem dX2_rangeByJoining_35 : decode cX2_rangeByJoining 35 = .ok (.iconst 0, 1) := dk_3 (dk_at dksX2_rangeByJoining_1 11 rfl rfl)
theorem dX2_rangeByJoining_36 : decode cX2_rangeByJoining 36 = .ok (.istore 5, 2) := dk_54 5 (dk_at dksX2_rangeByJoining_1 12 rfl rfl)
theorem dX2_rangeByJoining_38 : decode cX2_rangeByJoining 38 = .ok (.iload 5, 2) := dk_21 5 (dk_at dksX2_rangeByJoining_1 14 rfl rfl)
theorem dX2_rangeByJoining_40 : decode cX2_rangeByJoining 40 = .ok (.bipush 64, 2) := dk_16 64 (dk_at dksX2_rangeByJoining_1 16 rfl rfl)
theorem dX2_rangeByJoining_42 : decode cX2_rangeByJoining 42 = .ok (.if_icmp .ge 68, 3) := dk_162 0 68 (dk_at dksX2_rangeByJoining_1 18 rfl rfl)
theorem dX2_rangeByJoining_45 : decode cX2_rangeByJoining 45 = .ok (.iconst 0, 1) := dk_3 (dk_at dksX2_rangeByJoining_1 21 rfl rfl)
theorem dX2_rangeByJoining_46 : decode cX2_rangeByJoining 46 = .ok (.istore 6, 2) := dk_54 6 (dk_at dksX2_rangeByJoining_1 22 rfl rfl)
theorem dX2_rangeByJoining_48 : decode cX2_rangeByJoining 48 = .ok (.iload 6, 2) := dk_21 6 (dk_at dksX2_rangeByJoining_2 0 rfl rfl)
theorem dX2_rangeByJoining_50 : decode cX2_rangeByJoining 50 = .ok (.iload 5, 2) := dk_21 5 (dk_at dksX2_rangeByJoining_2 2 rfl rfl)
theorem dX2_rangeByJoining_52 : decode cX2_rangeByJoining 52 = .ok (.if_icmp .ge 52, 3) := dk_162 0 52 (dk_at dksX2_rangeByJoining_2 4 rfl rfl)
theorem dX2_rangeByJoining_55 : decode cX2_rangeByJoining 55 = .ok (.lload_n 2, 1) := dk_32 (dk_at dksX2_rangeByJoining_2 7 rfl rfl)
theorem dX2_rangeByJoining_56 : decode cX2_rangeByJoining 56 = .ok (.iload 5, 2) := dk_21 5 (dk_at dksX2_rangeByJoining_2 8 rfl rfl)
theorem dX2_rangeByJoining_58 : decode cX2_rangeByJoining 58 = .ok (.invokestatic 129, 3) := dk_184 0 129 (dk_at dksX2_rangeByJoining_2 10 rfl rfl)
theorem dX2_rangeByJoining_61 : decode cX2_rangeByJoining 61 = .ok (.ifCond .eq 37, 3) := dk_153 0 37 (dk_at dksX2_rangeByJoining_2 13 rfl rfl)
theorem dX2_rangeByJoining_64 : decode cX2_rangeByJoining 64 = .ok (.lload_n 2, 1) := dk_32 (dk_at dksX2_rangeByJoining_2 16 rfl rfl)
theorem dX2_rangeByJoining_65 : decode cX2_rangeByJoining 65 = .ok (.iload 6, 2) := dk_21 6 (dk_at dksX2_rangeByJoining_2 17 rfl rfl)
theorem dX2_rangeByJoining_67 : decode cX2_rangeByJoining 67 = .ok (.invokestatic 129, 3) := dk_184 0 129 (dk_at dksX2_rangeByJoining_2 19 rfl rfl)
theorem dX2_rangeByJoining_70 : decode cX2_rangeByJoining 70 = .ok (.ifCond .eq 28, 3) := dk_153 0 28 (dk_at dksX2_rangeByJoining_3 0 rfl rfl)
theorem dX2_rangeByJoining_73 : decode cX2_rangeByJoining 73 = .ok (.iload 5, 2) := dk_21 5 (dk_at dksX2_rangeByJoining_3 3 rfl rfl)
theorem dX2_rangeByJoining_75 : decode cX2_rangeByJoining 75 = .ok (.iload 6, 2) := dk_21 6 (dk_at dksX2_rangeByJoining_3 5 rfl rfl)
theorem dX2_rangeByJoining_77 : decode cX2_rangeByJoining 77 = .ok (.invokestatic 136, 3) := dk_184 0 136 (dk_at dksX2_rangeByJoining_3 7 rfl rfl)
theorem dX2_rangeByJoining_80 : decode cX2_rangeByJoining 80 = .ok (.ifCond .eq 18, 3) := dk_153 0 18 (dk_at dksX2_rangeByJoining_3 10 rfl rfl)
theorem dX2_rangeByJoining_83 : decode cX2_rangeByJoining 83 = .ok (.aload 4, 2) := dk_25 4 (dk_at dksX2_rangeByJoining_3 13 rfl rfl)
theorem dX2_rangeByJoining_85 : decode cX2_rangeByJoining 85 = .ok (.aload 4, 2) := dk_25 4 (dk_at dksX2_rangeByJoining_3 15 rfl rfl)
theorem dX2_rangeByJoining_87 : decode cX2_rangeByJoining 87 = .ok (.iload 5, 2) := dk_21 5 (dk_at dksX2_rangeByJoining_3 17 rfl rfl)
theorem dX2_rangeByJoining_89 : decode cX2_rangeByJoining 89 = .ok (.iaload, 1) := dk_46 (dk_at dksX2_rangeByJoining_3 19 rfl rfl)
theorem dX2_rangeByJoining_90 : decode cX2_rangeByJoining 90 = .ok (.aload 4, 2) := dk_25 4 (dk_at dksX2_rangeByJoining_3 20 rfl rfl)
theorem dX2_rangeByJoining_92 : decode cX2_rangeByJoining 92 = .ok (.iload 6, 2) := dk_21 6 (dk_at dksX2_rangeByJoining_3 22 rfl rfl)
theorem dX2_rangeByJoining_94 : decode cX2_rangeByJoining 94 = .ok (.iaload, 1) := dk_46 (dk_at dksX2_rangeByJoining_4 0 rfl rfl)
theorem dX2_rangeByJoining_95 : decode cX2_rangeByJoining 95 = .ok (.invokestatic 140, 3) := dk_184 0 140 (dk_at dksX2_rangeByJoining_4 1 rfl rfl)
theorem dX2_rangeByJoining_98 : decode cX2_rangeByJoining 98 = .ok (.iinc 6 1, 3) := dk_132 6 1 (dk_at dksX2_rangeByJoining_4 4 rfl rfl)
theorem dX2_rangeByJoining_101 : decode cX2_rangeByJoining 101 = .ok (.goto (-53), 3) := dk_167 255 203 (dk_at dksX2_rangeByJoining_4 7 rfl rfl)
theorem dX2_rangeByJoining_104 : decode cX2_rangeByJoining 104 = .ok (.iinc 5 1, 3) := dk_132 5 1 (dk_at dksX2_rangeByJoining_4 10 rfl rfl)
theorem dX2_rangeByJoining_107 : decode cX2_rangeByJoining 107 = .ok (.goto (-69), 3) := dk_167 255 187 (dk_at dksX2_rangeByJoining_4 13 rfl rfl)
theorem dX2_rangeByJoining_110 : decode cX2_rangeByJoining 110 = .ok (.lconst 0, 1) := dk_9 (dk_at dksX2_rangeByJoining_4 16 rfl rfl)
theorem dX2_rangeByJoining_111 : decode cX2_rangeByJoining 111 = .ok (.lstore 5, 2) := dk_55 5 (dk_at dksX2_rangeByJoining_4 17 rfl rfl)
theorem dX2_rangeByJoining_113 : decode cX2_rangeByJoining 113 = .ok (.iconst 0, 1) := dk_3 (dk_at dksX2_rangeByJoining_4 19 rfl rfl)
theorem dX2_rangeByJoining_114 : decode cX2_rangeByJoining 114 = .ok (.istore 7, 2) := dk_54 7 (dk_at dksX2_rangeByJoining_4 20 rfl rfl)
theorem dX2_rangeByJoining_116 : decode cX2_rangeByJoining 116 = .ok (.iload 7, 2) := dk_21 7 (dk_at dksX2_rangeByJoining_4 22 rfl rfl)
theorem dX2_rangeByJoining_118 : decode cX2_rangeByJoining 118 = .ok (.bipush 64, 2) := dk_16 64 (dk_at dksX2_rangeByJoining_5 0 rfl rfl)
theorem dX2_rangeByJoining_120 : decode cX2_rangeByJoining 120 = .ok (.if_icmp .ge 34, 3) := dk_162 0 34 (dk_at dksX2_rangeByJoining_5 2 rfl rfl)
theorem dX2_rangeByJoining_123 : decode cX2_rangeByJoining 123 = .ok (.lload 5, 2) := dk_22 5 (dk_at dksX2_rangeByJoining_5 5 rfl rfl)
theorem dX2_rangeByJoining_125 : decode cX2_rangeByJoining 125 = .ok (.aload 4, 2) := dk_25 4 (dk_at dksX2_rangeByJoining_5 7 rfl rfl)
theorem dX2_rangeByJoining_127 : decode cX2_rangeByJoining 127 = .ok (.iload 7, 2) := dk_21 7 (dk_at dksX2_rangeByJoining_5 9 rfl rfl)
theorem dX2_rangeByJoining_129 : decode cX2_rangeByJoining 129 = .ok (.iaload, 1) := dk_46 (dk_at dksX2_rangeByJoining_5 11 rfl rfl)
theorem dX2_rangeByJoining_130 : decode cX2_rangeByJoining 130 = .ok (.aload 4, 2) := dk_25 4 (dk_at dksX2_rangeByJoining_5 12 rfl rfl)
theorem dX2_rangeByJoining_132 : decode cX2_rangeByJoining 132 = .ok (.iload_n 1, 1) := dk_27 (dk_at dksX2_rangeByJoining_5 14 rfl rfl)
theorem dX2_rangeByJoining_133 : decode cX2_rangeByJoining 133 = .ok (.iaload, 1) := dk_46 (dk_at dksX2_rangeByJoining_5 15 rfl rfl)
theorem dX2_rangeByJoining_134 : decode cX2_rangeByJoining 134 = .ok (.if_icmp .ne 10, 3) := dk_160 0 10 (dk_at dksX2_rangeByJoining_5 16 rfl rfl)
theorem dX2_rangeByJoining_137 : decode cX2_rangeByJoining 137 = .ok (.lconst 1, 1) := dk_10 (dk_at dksX2_rangeByJoining_5 19 rfl rfl)
theorem dX2_rangeByJoining_138 : decode cX2_rangeByJoining 138 = .ok (.iload 7, 2) := dk_21 7 (dk_at dksX2_rangeByJoining_5 20 rfl rfl)
theorem dX2_rangeByJoining_140 : decode cX2_rangeByJoining 140 = .ok (.lshl, 1) := dk_121 (dk_at dksX2_rangeByJoining_5 22 rfl rfl)
theorem dX2_rangeByJoining_141 : decode cX2_rangeByJoining 141 = .ok (.goto 4, 3) := dk_167 0 4 (dk_at dksX2_rangeByJoining_6 0 rfl rfl)
theorem dX2_rangeByJoining_144 : decode cX2_rangeByJoining 144 = .ok (.lconst 0, 1) := dk_9 (dk_at dksX2_rangeByJoining_6 3 rfl rfl)
theorem dX2_rangeByJoining_145 : decode cX2_rangeByJoining 145 = .ok (.lor, 1) := dk_129 (dk_at dksX2_rangeByJoining_6 4 rfl rfl)
theorem dX2_rangeByJoining_146 : decode cX2_rangeByJoining 146 = .ok (.lstore 5, 2) := dk_55 5 (dk_at dksX2_rangeByJoining_6 5 rfl rfl)
theorem dX2_rangeByJoining_148 : decode cX2_rangeByJoining 148 = .ok (.iinc 7 1, 3) := dk_132 7 1 (dk_at dksX2_rangeByJoining_6 7 rfl rfl)
theorem dX2_rangeByJoining_151 : decode cX2_rangeByJoining 151 = .ok (.goto (-35), 3) := dk_167 255 221 (dk_at dksX2_rangeByJoining_6 10 rfl rfl)
theorem dX2_rangeByJoining_154 : decode cX2_rangeByJoining 154 = .ok (.lload 5, 2) := dk_22 5 (dk_at dksX2_rangeByJoining_6 13 rfl rfl)
theorem dX2_rangeByJoining_156 : decode cX2_rangeByJoining 156 = .ok (.lreturn, 1) := dk_173 (dk_at dksX2_rangeByJoining_6 15 rfl rfl)
abbrev cX2_join : ByteArray := prog_3_method_11_code
def yX2_join : MethodName := ⟨RX2, "join", "([III)V"⟩
def dkwX2_join_1 : List UInt8 := [79, 132, 3, 1, 167, 255, 230, 177]
abbrev dktX2_join_1 : List UInt8 := dkwX2_join_1 ++ []
def dkwX2_join_0 : List UInt8 := [3, 62, 29, 16, 64, 162, 0, 26, 42, 29, 42, 29, 46, 27, 160, 0, 7, 28, 167, 0, 6, 42, 29, 46]
abbrev dktX2_join_0 : List UInt8 := dkwX2_join_0 ++ dktX2_join_1
theorem dksX2_join_0 : cX2_join.data.toList.drop 0 = dktX2_join_0 := by decide +kernel
theorem dksX2_join_1 : cX2_join.data.toList.drop 24 = dktX2_join_1 := dk_seg dksX2_join_0 24 rfl rfl
theorem dX2_join_0 : decode cX2_join 0 = .ok (.iconst 0, 1) := dk_3 (dk_at dksX2_join_0 0 rfl rfl)
theorem dX2_join_1 : decode cX2_join 1 = .ok (.istore_n 3, 1) := dk_62 (dk_at dksX2_join_0 1 rfl rfl)
theorem dX2_join_2 : decode cX2_join 2 = .ok (.iload_n 3, 1) := dk_29 (dk_at dksX2_join_0 2 rfl rfl)
theorem dX2_join_3 : decode cX2_join 3 = .ok (.bipush 64, 2) := dk_16 64 (dk_at dksX2_join_0 3 rfl rfl)
theorem dX2_join_5 : decode cX2_join 5 = .ok (.if_icmp .ge 26, 3) := dk_162 0 26 (dk_at dksX2_join_0 5 rfl rfl)
theorem dX2_join_8 : decode cX2_join 8 = .ok (.aload_n 0, 1) := dk_42 (dk_at dksX2_join_0 8 rfl rfl)
theorem dX2_join_9 : decode cX2_join 9 = .ok (.iload_n 3, 1) := dk_29 (dk_at dksX2_join_0 9 rfl rfl)
theorem dX2_join_10 : decode cX2_join 10 = .ok (.aload_n 0, 1) := dk_42 (dk_at dksX2_join_0 10 rfl rfl)
theorem dX2_join_11 : decode cX2_join 11 = .ok (.iload_n 3, 1) := dk_29 (dk_at dksX2_join_0 11 rfl rfl)
theorem dX2_join_12 : decode cX2_join 12 = .ok (.iaload, 1) := dk_46 (dk_at dksX2_join_0 12 rfl rfl)
theorem dX2_join_13 : decode cX2_join 13 = .ok (.iload_n 1, 1) := dk_27 (dk_at dksX2_join_0 13 rfl rfl)
theorem dX2_join_14 : decode cX2_join 14 = .ok (.if_icmp .ne 7, 3) := dk_160 0 7 (dk_at dksX2_join_0 14 rfl rfl)
theorem dX2_join_17 : decode cX2_join 17 = .ok (.iload_n 2, 1) := dk_28 (dk_at dksX2_join_0 17 rfl rfl)
theorem dX2_join_18 : decode cX2_join 18 = .ok (.goto 6, 3) := dk_167 0 6 (dk_at dksX2_join_0 18 rfl rfl)
theorem dX2_join_21 : decode cX2_join 21 = .ok (.aload_n 0, 1) := dk_42 (dk_at dksX2_join_0 21 rfl rfl)
theorem dX2_join_22 : decode cX2_join 22 = .ok (.iload_n 3, 1) := dk_29 (dk_at dksX2_join_0 22 rfl rfl)
theorem dX2_join_23 : decode cX2_join 23 = .ok (.iaload, 1) := dk_46 (dk_at dksX2_join_0 23 rfl rfl)
theorem dX2_join_24 : decode cX2_join 24 = .ok (.iastore, 1) := dk_79 (dk_at dksX2_join_1 0 rfl rfl)
theorem dX2_join_25 : decode cX2_join 25 = .ok (.iinc 3 1, 3) := dk_132 3 1 (dk_at dksX2_join_1 1 rfl rfl)
theorem dX2_join_28 : decode cX2_join 28 = .ok (.goto (-26), 3) := dk_167 255 230 (dk_at dksX2_join_1 4 rfl rfl)
theorem dX2_join_31 : decode cX2_join 31 = .ok (.return_, 1) := dk_177 (dk_at dksX2_join_1 7 rfl rfl)
abbrev cX2_offspringByParents : ByteArray := prog_3_method_54_code
def yX2_offspringByParents : MethodName := ⟨RX2, "offspringByParents", "(I)I"⟩
def dkwX2_offspringByParents_2 : List UInt8 := [54, 4, 132, 5, 1, 167, 255, 226, 21, 4, 172]
abbrev dktX2_offspringByParents_2 : List UInt8 := dkwX2_offspringByParents_2 ++ []
def dkwX2_offspringByParents_1 : List UInt8 := [28, 162, 0, 30, 21, 4, 42, 21, 5, 182, 1, 43, 29, 51, 153, 0, 7, 4, 167, 0, 4, 3, 96]
abbrev dktX2_offspringByParents_1 : List UInt8 := dkwX2_offspringByParents_1 ++ dktX2_offspringByParents_2
def dkwX2_offspringByParents_0 : List UInt8 := [42, 180, 0, 35, 182, 0, 49, 61, 42, 27, 182, 1, 40, 62, 3, 54, 4, 29, 4, 96, 54, 5, 21, 5]
abbrev dktX2_offspringByParents_0 : List UInt8 := dkwX2_offspringByParents_0 ++ dktX2_offspringByParents_1
theorem dksX2_offspringByParents_0 : cX2_offspringByParents.data.toList.drop 0 = dktX2_offspringByParents_0 := by decide +kernel
theorem dksX2_offspringByParents_1 : cX2_offspringByParents.data.toList.drop 24 = dktX2_offspringByParents_1 := dk_seg dksX2_offspringByParents_0 24 rfl rfl
theorem dksX2_offspringByParents_2 : cX2_offspringByParents.data.toList.drop 47 = dktX2_offspringByParents_2 := dk_seg dksX2_offspringByParents_1 23 rfl rfl
theorem dX2_offspringByParents_0 : decode cX2_offspringByParents 0 = .ok (.aload_n 0, 1) := dk_42 (dk_at dksX2_offspringByParents_0 0 rfl rfl)
theorem dX2_offspringByParents_1 : decode cX2_offspringByParents 1 = .ok (.getfield 35, 3) := dk_180 0 35 (dk_at dksX2_offspringByParents_0 1 rfl rfl)
theorem dX2_offspringByParents_4 : decode cX2_offspringByParents 4 = .ok (.invokevirtual 49, 3) := dk_182 0 49 (dk_at dksX2_offspringByParents_0 4 rfl rfl)
theorem dX2_offspringByParents_7 : decode cX2_offspringByParents 7 = .ok (.istore_n 2, 1) := dk_61 (dk_at dksX2_offspringByParents_0 7 rfl rfl)
theorem dX2_offspringByParents_8 : decode cX2_offspringByParents 8 = .ok (.aload_n 0, 1) := dk_42 (dk_at dksX2_offspringByParents_0 8 rfl rfl)
theorem dX2_offspringByParents_9 : decode cX2_offspringByParents 9 = .ok (.iload_n 1, 1) := dk_27 (dk_at dksX2_offspringByParents_0 9 rfl rfl)
theorem dX2_offspringByParents_10 : decode cX2_offspringByParents 10 = .ok (.invokevirtual 296, 3) := dk_182 1 40 (dk_at dksX2_offspringByParents_0 10 rfl rfl)
theorem dX2_offspringByParents_13 : decode cX2_offspringByParents 13 = .ok (.istore_n 3, 1) := dk_62 (dk_at dksX2_offspringByParents_0 13 rfl rfl)
theorem dX2_offspringByParents_14 : decode cX2_offspringByParents 14 = .ok (.iconst 0, 1) := dk_3 (dk_at dksX2_offspringByParents_0 14 rfl rfl)
theorem dX2_offspringByParents_15 : decode cX2_offspringByParents 15 = .ok (.istore 4, 2) := dk_54 4 (dk_at dksX2_offspringByParents_0 15 rfl rfl)
theorem dX2_offspringByParents_17 : decode cX2_offspringByParents 17 = .ok (.iload_n 3, 1) := dk_29 (dk_at dksX2_offspringByParents_0 17 rfl rfl)
theorem dX2_offspringByParents_18 : decode cX2_offspringByParents 18 = .ok (.iconst 1, 1) := dk_4 (dk_at dksX2_offspringByParents_0 18 rfl rfl)
theorem dX2_offspringByParents_19 : decode cX2_offspringByParents 19 = .ok (.iadd, 1) := dk_96 (dk_at dksX2_offspringByParents_0 19 rfl rfl)
theorem dX2_offspringByParents_20 : decode cX2_offspringByParents 20 = .ok (.istore 5, 2) := dk_54 5 (dk_at dksX2_offspringByParents_0 20 rfl rfl)
theorem dX2_offspringByParents_22 : decode cX2_offspringByParents 22 = .ok (.iload 5, 2) := dk_21 5 (dk_at dksX2_offspringByParents_0 22 rfl rfl)
theorem dX2_offspringByParents_24 : decode cX2_offspringByParents 24 = .ok (.iload_n 2, 1) := dk_28 (dk_at dksX2_offspringByParents_1 0 rfl rfl)
theorem dX2_offspringByParents_25 : decode cX2_offspringByParents 25 = .ok (.if_icmp .ge 30, 3) := dk_162 0 30 (dk_at dksX2_offspringByParents_1 1 rfl rfl)
theorem dX2_offspringByParents_28 : decode cX2_offspringByParents 28 = .ok (.iload 4, 2) := dk_21 4 (dk_at dksX2_offspringByParents_1 4 rfl rfl)
theorem dX2_offspringByParents_30 : decode cX2_offspringByParents 30 = .ok (.aload_n 0, 1) := dk_42 (dk_at dksX2_offspringByParents_1 6 rfl rfl)
theorem dX2_offspringByParents_31 : decode cX2_offspringByParents 31 = .ok (.iload 5, 2) := dk_21 5 (dk_at dksX2_offspringByParents_1 7 rfl rfl)
theorem dX2_offspringByParents_33 : decode cX2_offspringByParents 33 = .ok (.invokevirtual 299, 3) := dk_182 1 43 (dk_at dksX2_offspringByParents_1 9 rfl rfl)
theorem dX2_offspringByParents_36 : decode cX2_offspringByParents 36 = .ok (.iload_n 3, 1) := dk_29 (dk_at dksX2_offspringByParents_1 12 rfl rfl)
theorem dX2_offspringByParents_37 : decode cX2_offspringByParents 37 = .ok (.baload, 1) := dk_51 (dk_at dksX2_offspringByParents_1 13 rfl rfl)
theorem dX2_offspringByParents_38 : decode cX2_offspringByParents 38 = .ok (.ifCond .eq 7, 3) := dk_153 0 7 (dk_at dksX2_offspringByParents_1 14 rfl rfl)
theorem dX2_offspringByParents_41 : decode cX2_offspringByParents 41 = .ok (.iconst 1, 1) := dk_4 (dk_at dksX2_offspringByParents_1 17 rfl rfl)
theorem dX2_offspringByParents_42 : decode cX2_offspringByParents 42 = .ok (.goto 4, 3) := dk_167 0 4 (dk_at dksX2_offspringByParents_1 18 rfl rfl)
theorem dX2_offspringByParents_45 : decode cX2_offspringByParents 45 = .ok (.iconst 0, 1) := dk_3 (dk_at dksX2_offspringByParents_1 21 rfl rfl)
theorem dX2_offspringByParents_46 : decode cX2_offspringByParents 46 = .ok (.iadd, 1) := dk_96 (dk_at dksX2_offspringByParents_1 22 rfl rfl)
theorem dX2_offspringByParents_47 : decode cX2_offspringByParents 47 = .ok (.istore 4, 2) := dk_54 4 (dk_at dksX2_offspringByParents_2 0 rfl rfl)
theorem dX2_offspringByParents_49 : decode cX2_offspringByParents 49 = .ok (.iinc 5 1, 3) := dk_132 5 1 (dk_at dksX2_offspringByParents_2 2 rfl rfl)
theorem dX2_offspringByParents_52 : decode cX2_offspringByParents 52 = .ok (.goto (-30), 3) := dk_167 255 226 (dk_at dksX2_offspringByParents_2 5 rfl rfl)
theorem dX2_offspringByParents_55 : decode cX2_offspringByParents 55 = .ok (.iload 4, 2) := dk_21 4 (dk_at dksX2_offspringByParents_2 8 rfl rfl)
theorem dX2_offspringByParents_57 : decode cX2_offspringByParents 57 = .ok (.ireturn, 1) := dk_172 (dk_at dksX2_offspringByParents_2 10 rfl rfl)
theorem q120 : (Jvm.Cond.initialized "OwlYears$Land") ∈ lw_all := lw_g (lw_at lw_m1 2 rfl) rfl
theorem q168 : (Jvm.Cond.instantiable "OwlYears$Land" (18 : Nat)) ∈ lw_all := lw_g (lw_at lw_m1 50 rfl) rfl
theorem q170 : (Jvm.Cond.instanceMethod ({ cls := "OwlYears$Land", name := "<init>", desc := "()V" } : Jvm.MethodName)) ∈ lw_all := lw_g (lw_at lw_m1 52 rfl) rfl
theorem q171 : (Jvm.Cond.code ({ cls := "OwlYears$Land", name := "<init>", desc := "()V" } : Jvm.MethodName) prog_3_method_1_code (2 : Nat) (Option.none : Option Jvm.ClassFile.FieldType)) ∈ lw_all := lw_g (lw_at lw_m1 53 rfl) rfl
theorem q172 : (Jvm.Cond.methodLink "OwlYears$Land" (3 : Nat) ({ cls := "java/lang/Object", name := "<init>", desc := "()V" } : Jvm.MethodName)) ∈ lw_all := lw_g (lw_at lw_m1 54 rfl) rfl
theorem q173 : (Jvm.Cond.classLink "OwlYears$Land" (21 : Nat) "java/util/ArrayList") ∈ lw_all := lw_g (lw_at lw_m1 55 rfl) rfl
theorem q175 : (Jvm.Cond.methodLink "OwlYears$Land" (23 : Nat) ({ cls := "java/util/ArrayList", name := "<init>", desc := "()V" } : Jvm.MethodName)) ∈ lw_all := lw_g (lw_at lw_m1 57 rfl) rfl
theorem q200 : (Jvm.Cond.classLink "OwlYears$Land" (28 : Nat) "java/util/HashMap") ∈ lw_all := lw_g (lw_at lw_m1 82 rfl) rfl
theorem q202 : (Jvm.Cond.methodLink "OwlYears$Land" (30 : Nat) ({ cls := "java/util/HashMap", name := "<init>", desc := "()V" } : Jvm.MethodName)) ∈ lw_all := lw_g (lw_at lw_m1 84 rfl) rfl
theorem q232 : (Jvm.Cond.fieldLink "OwlYears$Land" (9 : Nat) "OwlYears$Land" "kinds" "[I") ∈ lw_all := lw_g (lw_at lw_m1 114 rfl) rfl
theorem q234 : (Jvm.Cond.fieldLink "OwlYears$Land" (15 : Nat) "OwlYears$Land" "voles" "[I") ∈ lw_all := lw_g (lw_at lw_m1 116 rfl) rfl
theorem q236 : (Jvm.Cond.fieldLink "OwlYears$Land" (18 : Nat) "OwlYears$Land" "crowds" "[I") ∈ lw_all := lw_g (lw_at lw_m1 118 rfl) rfl
theorem q237 : (Jvm.Cond.fieldLink "OwlYears$Land" (24 : Nat) "OwlYears$Land" "boxes" "Ljava/util/ArrayList;") ∈ lw_all := lw_g (lw_at lw_m1 119 rfl) rfl
theorem q239 : (Jvm.Cond.fieldLink "OwlYears$Land" (31 : Nat) "OwlYears$Land" "bySpot" "Ljava/util/HashMap;") ∈ lw_all := lw_g (lw_at lw_m1 121 rfl) rfl
theorem q240 : (Jvm.Cond.fieldLink "OwlYears$Land" (35 : Nat) "OwlYears$Land" "owls" "Ljava/util/ArrayList;") ∈ lw_all := lw_g (lw_at lw_m1 122 rfl) rfl
theorem q242 : (Jvm.Cond.fieldLink "OwlYears$Land" (38 : Nat) "OwlYears$Land" "log" "[I") ∈ lw_all := lw_g (lw_at lw_m1 124 rfl) rfl
theorem q244 : (Jvm.Cond.fieldLink "OwlYears$Land" (41 : Nat) "OwlYears$Land" "died" "[I") ∈ lw_all := lw_g (lw_at lw_m1 126 rfl) rfl
theorem q246 : (Jvm.Cond.fieldLink "OwlYears$Land" (75 : Nat) "OwlYears$Land" "logged" "I") ∈ lw_all := lw_g (lw_at lw_m1 128 rfl) rfl
theorem q248 : (Jvm.Cond.fieldLink "OwlYears$Land" (78 : Nat) "OwlYears$Land" "year" "I") ∈ lw_all := lw_g (lw_at lw_m1 130 rfl) rfl
theorem q250 : (Jvm.Cond.fieldLink "OwlYears$Land" (44 : Nat) "OwlYears$Land" "chances" "I") ∈ lw_all := lw_g (lw_at lw_m1 132 rfl) rfl
theorem q252 : (Jvm.Cond.fieldLink "OwlYears$Land" (81 : Nat) "OwlYears$Land" "rings" "I") ∈ lw_all := lw_g (lw_at lw_m1 134 rfl) rfl
theorem q254 : (Jvm.Cond.fieldLink "OwlYears$Land" (84 : Nat) "OwlYears$Land" "alive" "I") ∈ lw_all := lw_g (lw_at lw_m1 136 rfl) rfl
theorem q256 : (Jvm.Cond.fieldLink "OwlYears$Land" (87 : Nat) "OwlYears$Land" "letIn" "I") ∈ lw_all := lw_g (lw_at lw_m1 138 rfl) rfl
theorem q257 : (Jvm.Cond.fieldLink "OwlYears$Land" (90 : Nat) "OwlYears$Land" "born" "I") ∈ lw_all := lw_g (lw_at lw_m1 139 rfl) rfl
theorem q259 : (Jvm.Cond.fieldLink "OwlYears$Land" (93 : Nat) "OwlYears$Land" "takenOut" "I") ∈ lw_all := lw_g (lw_at lw_m1 141 rfl) rfl
theorem q261 : (Jvm.Cond.fieldLink "OwlYears$Land" (96 : Nat) "OwlYears$Land" "eaten" "I") ∈ lw_all := lw_g (lw_at lw_m1 143 rfl) rfl
theorem q263 : (Jvm.Cond.fieldLink "OwlYears$Land" (99 : Nat) "OwlYears$Land" "most" "I") ∈ lw_all := lw_g (lw_at lw_m1 145 rfl) rfl
theorem q265 : (Jvm.Cond.laysFinal "OwlYears$Land" "OwlYears$Land" "kinds" "[I") ∈ lw_all := lw_g (lw_at lw_m1 147 rfl) rfl
theorem q266 : (Jvm.Cond.soleField "OwlYears$Land" "kinds") ∈ lw_all := lw_g (lw_at lw_m1 148 rfl) rfl
theorem q267 : (Jvm.Cond.laysFinal "OwlYears$Land" "OwlYears$Land" "voles" "[I") ∈ lw_all := lw_g (lw_at lw_m1 149 rfl) rfl
theorem q268 : (Jvm.Cond.soleField "OwlYears$Land" "voles") ∈ lw_all := lw_g (lw_at lw_m1 150 rfl) rfl
theorem q269 : (Jvm.Cond.laysFinal "OwlYears$Land" "OwlYears$Land" "crowds" "[I") ∈ lw_all := lw_g (lw_at lw_m1 151 rfl) rfl
theorem q270 : (Jvm.Cond.soleField "OwlYears$Land" "crowds") ∈ lw_all := lw_g (lw_at lw_m1 152 rfl) rfl
theorem q271 : (Jvm.Cond.laysFinal "OwlYears$Land" "OwlYears$Land" "boxes" "Ljava/util/ArrayList;") ∈ lw_all := lw_g (lw_at lw_m1 153 rfl) rfl
theorem q272 : (Jvm.Cond.soleField "OwlYears$Land" "boxes") ∈ lw_all := lw_g (lw_at lw_m1 154 rfl) rfl
theorem q273 : (Jvm.Cond.laysFinal "OwlYears$Land" "OwlYears$Land" "bySpot" "Ljava/util/HashMap;") ∈ lw_all := lw_g (lw_at lw_m1 155 rfl) rfl
theorem q274 : (Jvm.Cond.soleField "OwlYears$Land" "bySpot") ∈ lw_all := lw_g (lw_at lw_m1 156 rfl) rfl
theorem q275 : (Jvm.Cond.laysFinal "OwlYears$Land" "OwlYears$Land" "owls" "Ljava/util/ArrayList;") ∈ lw_all := lw_g (lw_at lw_m1 157 rfl) rfl
theorem q276 : (Jvm.Cond.soleField "OwlYears$Land" "owls") ∈ lw_all := lw_g (lw_at lw_m1 158 rfl) rfl
theorem q277 : (Jvm.Cond.laysFinal "OwlYears$Land" "OwlYears$Land" "log" "[I") ∈ lw_all := lw_g (lw_at lw_m1 159 rfl) rfl
theorem q278 : (Jvm.Cond.soleField "OwlYears$Land" "log") ∈ lw_all := lw_g (lw_at lw_m1 160 rfl) rfl
theorem q279 : (Jvm.Cond.laysFinal "OwlYears$Land" "OwlYears$Land" "died" "[I") ∈ lw_all := lw_g (lw_at lw_m1 161 rfl) rfl
theorem q280 : (Jvm.Cond.soleField "OwlYears$Land" "died") ∈ lw_all := lw_g (lw_at lw_m1 162 rfl) rfl
theorem q281 : (Jvm.Cond.lays "OwlYears$Land" "OwlYears$Land" "logged" "I") ∈ lw_all := lw_g (lw_at lw_m1 163 rfl) rfl
theorem q282 : (Jvm.Cond.soleField "OwlYears$Land" "logged") ∈ lw_all := lw_g (lw_at lw_m1 164 rfl) rfl
theorem q283 : (Jvm.Cond.lays "OwlYears$Land" "OwlYears$Land" "year" "I") ∈ lw_all := lw_g (lw_at lw_m1 165 rfl) rfl
theorem q284 : (Jvm.Cond.soleField "OwlYears$Land" "year") ∈ lw_all := lw_g (lw_at lw_m1 166 rfl) rfl
theorem q285 : (Jvm.Cond.lays "OwlYears$Land" "OwlYears$Land" "chances" "I") ∈ lw_all := lw_g (lw_at lw_m1 167 rfl) rfl
theorem q286 : (Jvm.Cond.soleField "OwlYears$Land" "chances") ∈ lw_all := lw_g (lw_at lw_m1 168 rfl) rfl
theorem q287 : (Jvm.Cond.lays "OwlYears$Land" "OwlYears$Land" "rings" "I") ∈ lw_all := lw_g (lw_at lw_m1 169 rfl) rfl
theorem q288 : (Jvm.Cond.soleField "OwlYears$Land" "rings") ∈ lw_all := lw_g (lw_at lw_m1 170 rfl) rfl
theorem q289 : (Jvm.Cond.lays "OwlYears$Land" "OwlYears$Land" "alive" "I") ∈ lw_all := lw_g (lw_at lw_m1 171 rfl) rfl
theorem q290 : (Jvm.Cond.soleField "OwlYears$Land" "alive") ∈ lw_all := lw_g (lw_at lw_m1 172 rfl) rfl
theorem q291 : (Jvm.Cond.lays "OwlYears$Land" "OwlYears$Land" "letIn" "I") ∈ lw_all := lw_g (lw_at lw_m1 173 rfl) rfl
theorem q292 : (Jvm.Cond.soleField "OwlYears$Land" "letIn") ∈ lw_all := lw_g (lw_at lw_m1 174 rfl) rfl
theorem q293 : (Jvm.Cond.lays "OwlYears$Land" "OwlYears$Land" "born" "I") ∈ lw_all := lw_g (lw_at lw_m1 175 rfl) rfl
theorem q294 : (Jvm.Cond.soleField "OwlYears$Land" "born") ∈ lw_all := lw_g (lw_at lw_m1 176 rfl) rfl
theorem q295 : (Jvm.Cond.lays "OwlYears$Land" "OwlYears$Land" "takenOut" "I") ∈ lw_all := lw_g (lw_at lw_m1 177 rfl) rfl
theorem q296 : (Jvm.Cond.soleField "OwlYears$Land" "takenOut") ∈ lw_all := lw_g (lw_at lw_m1 178 rfl) rfl
theorem q297 : (Jvm.Cond.lays "OwlYears$Land" "OwlYears$Land" "eaten" "I") ∈ lw_all := lw_g (lw_at lw_m1 179 rfl) rfl
theorem q298 : (Jvm.Cond.soleField "OwlYears$Land" "eaten") ∈ lw_all := lw_g (lw_at lw_m1 180 rfl) rfl
theorem q299 : (Jvm.Cond.lays "OwlYears$Land" "OwlYears$Land" "most" "I") ∈ lw_all := lw_g (lw_at lw_m1 181 rfl) rfl
theorem q300 : (Jvm.Cond.soleField "OwlYears$Land" "most") ∈ lw_all := lw_g (lw_at lw_m1 182 rfl) rfl
theorem q301 : (Jvm.Cond.superclass "OwlYears$Land" "java/lang/Object") ∈ lw_all := lw_g (lw_at lw_m1 183 rfl) rfl
theorem q355 : (Jvm.Cond.instanceMethod ({ cls := "OwlYears$Land", name := "copy", desc := "()LOwlYears$Land;" } : Jvm.MethodName)) ∈ lw_all := lw_g (lw_at lw_m1 237 rfl) rfl
theorem q356 : (Jvm.Cond.selects "OwlYears$Land" ({ cls := "OwlYears$Land", name := "copy", desc := "()LOwlYears$Land;" } : Jvm.MethodName) ({ cls := "OwlYears$Land", name := "copy", desc := "()LOwlYears$Land;" } : Jvm.MethodName)) ∈ lw_all := lw_g (lw_at lw_m1 238 rfl) rfl
theorem q357 : (Jvm.Cond.code ({ cls := "OwlYears$Land", name := "copy", desc := "()LOwlYears$Land;" } : Jvm.MethodName) prog_3_method_2_code (5 : Nat) (Option.some (Jvm.ClassFile.FieldType.object "OwlYears$Land"))) ∈ lw_all := lw_g (lw_at lw_m1 239 rfl) rfl
theorem q358 : (Jvm.Cond.classLink "OwlYears$Land" (10 : Nat) "OwlYears$Land") ∈ lw_all := lw_g (lw_at lw_m2 0 rfl) rfl
theorem q359 : (Jvm.Cond.methodLink "OwlYears$Land" (48 : Nat) ({ cls := "OwlYears$Land", name := "<init>", desc := "()V" } : Jvm.MethodName)) ∈ lw_all := lw_g (lw_at lw_m2 1 rfl) rfl
theorem q360 : (Jvm.Cond.methodLink "OwlYears$Land" (49 : Nat) ({ cls := "java/util/ArrayList", name := "size", desc := "()I" } : Jvm.MethodName)) ∈ lw_all := lw_g (lw_at lw_m2 2 rfl) rfl
theorem q364 : (Jvm.Cond.methodLink "OwlYears$Land" (53 : Nat) ({ cls := "java/util/ArrayList", name := "get", desc := "(I)Ljava/lang/Object;" } : Jvm.MethodName)) ∈ lw_all := lw_g (lw_at lw_m2 6 rfl) rfl
theorem q378 : (Jvm.Cond.classLink "OwlYears$Land" (57 : Nat) "OwlYears$Box") ∈ lw_all := lw_g (lw_at lw_m2 20 rfl) rfl
theorem q379 : (Jvm.Cond.methodLink "OwlYears$Land" (59 : Nat) ({ cls := "OwlYears$Box", name := "copy", desc := "()LOwlYears$Box;" } : Jvm.MethodName)) ∈ lw_all := lw_g (lw_at lw_m2 21 rfl) rfl
theorem q390 : (Jvm.Cond.fieldLinkNest "OwlYears$Land" (104 : Nat) "OwlYears$Box" "square" "I" "OwlYears") ∈ lw_tbl := lw_at lw_m2 32 rfl
theorem q393 : (Jvm.Cond.fieldLinkNest "OwlYears$Land" (182 : Nat) "OwlYears$Box" "rings" "[I" "OwlYears") ∈ lw_tbl := lw_at lw_m2 35 rfl
theorem q396 : (Jvm.Cond.fieldLinkNest "OwlYears$Land" (147 : Nat) "OwlYears$Box" "range" "J" "OwlYears") ∈ lw_tbl := lw_at lw_m2 38 rfl
theorem q405 : (Jvm.Cond.methodLink "OwlYears$Land" (63 : Nat) ({ cls := "OwlYears$Land", name := "add", desc := "(LOwlYears$Box;)V" } : Jvm.MethodName)) ∈ lw_all := lw_g (lw_at lw_m2 47 rfl) rfl
theorem q406 : (Jvm.Cond.privateMethod ({ cls := "OwlYears$Land", name := "add", desc := "(LOwlYears$Box;)V" } : Jvm.MethodName)) ∈ lw_tbl := lw_at lw_m2 48 rfl
theorem q407 : (Jvm.Cond.instanceMethod ({ cls := "OwlYears$Land", name := "add", desc := "(LOwlYears$Box;)V" } : Jvm.MethodName)) ∈ lw_all := lw_g (lw_at lw_m2 49 rfl) rfl
theorem q408 : (Jvm.Cond.code ({ cls := "OwlYears$Land", name := "add", desc := "(LOwlYears$Box;)V" } : Jvm.MethodName) prog_3_method_3_code (2 : Nat) (Option.none : Option Jvm.ClassFile.FieldType)) ∈ lw_all := lw_g (lw_at lw_m2 50 rfl) rfl
theorem q409 : (Jvm.Cond.methodLink "OwlYears$Land" (72 : Nat) ({ cls := "java/util/ArrayList", name := "add", desc := "(Ljava/lang/Object;)Z" } : Jvm.MethodName)) ∈ lw_all := lw_g (lw_at lw_m2 51 rfl) rfl
theorem q443 : (Jvm.Cond.selects "OwlYears$Land" ({ cls := "java/lang/Object", name := "getClass", desc := "()Ljava/lang/Class;" } : Jvm.MethodName) ({ cls := "java/lang/Object", name := "getClass", desc := "()Ljava/lang/Class;" } : Jvm.MethodName)) ∈ lw_all := lw_g (lw_at lw_m2 85 rfl) rfl
theorem q477 : (Jvm.Cond.classLink "OwlYears$Land" (102 : Nat) "OwlYears$Spot") ∈ lw_all := lw_g (lw_at lw_m2 119 rfl) rfl
theorem q479 : (Jvm.Cond.methodLink "OwlYears$Land" (107 : Nat) ({ cls := "OwlYears$Spot", name := "<init>", desc := "(I)V" } : Jvm.MethodName)) ∈ lw_all := lw_g (lw_at lw_m2 121 rfl) rfl
theorem q490 : (Jvm.Cond.methodLink "OwlYears$Land" (110 : Nat) ({ cls := "java/util/HashMap", name := "put", desc := "(Ljava/lang/Object;Ljava/lang/Object;)Ljava/lang/Object;" } : Jvm.MethodName)) ∈ lw_all := lw_g (lw_at lw_m2 132 rfl) rfl
theorem q503 : (Jvm.Cond.selects "OwlYears$Land" ({ cls := "java/lang/Object", name := "hashCode", desc := "()I" } : Jvm.MethodName) ({ cls := "java/lang/Object", name := "hashCode", desc := "()I" } : Jvm.MethodName)) ∈ lw_all := lw_g (lw_at lw_m2 145 rfl) rfl
theorem q1122 : (Jvm.Cond.selects "OwlYears$Land" ({ cls := "java/lang/Object", name := "equals", desc := "(Ljava/lang/Object;)Z" } : Jvm.MethodName) ({ cls := "java/lang/Object", name := "equals", desc := "(Ljava/lang/Object;)Z" } : Jvm.MethodName)) ∈ lw_all := lw_g (lw_at lw_m5 44 rfl) rfl
theorem q1213 : (Jvm.Cond.classLink "OwlYears$Land" (67 : Nat) "OwlYears$Owl") ∈ lw_all := lw_g (lw_at lw_m5 135 rfl) rfl
theorem q1214 : (Jvm.Cond.methodLink "OwlYears$Land" (69 : Nat) ({ cls := "OwlYears$Owl", name := "copy", desc := "()LOwlYears$Owl;" } : Jvm.MethodName)) ∈ lw_all := lw_g (lw_at lw_m5 136 rfl) rfl
theorem q1225 : (Jvm.Cond.fieldLinkNest "OwlYears$Land" (190 : Nat) "OwlYears$Owl" "ring" "I" "OwlYears") ∈ lw_tbl := lw_at lw_m5 147 rfl
theorem q1228 : (Jvm.Cond.fieldLinkNest "OwlYears$Land" (187 : Nat) "OwlYears$Owl" "sex" "I" "OwlYears") ∈ lw_tbl := lw_at lw_m5 150 rfl
theorem q1231 : (Jvm.Cond.fieldLinkNest "OwlYears$Land" (223 : Nat) "OwlYears$Owl" "mother" "I" "OwlYears") ∈ lw_tbl := lw_at lw_m5 153 rfl
theorem q1233 : (Jvm.Cond.fieldLinkNest "OwlYears$Land" (229 : Nat) "OwlYears$Owl" "father" "I" "OwlYears") ∈ lw_tbl := lw_at lw_m5 155 rfl
theorem q1235 : (Jvm.Cond.fieldLinkNest "OwlYears$Land" (197 : Nat) "OwlYears$Owl" "age" "I" "OwlYears") ∈ lw_tbl := lw_at lw_m5 157 rfl
theorem q1238 : (Jvm.Cond.fieldLinkNest "OwlYears$Land" (175 : Nat) "OwlYears$Owl" "box" "I" "OwlYears") ∈ lw_tbl := lw_at lw_m5 160 rfl
theorem q1242 : (Jvm.Cond.fieldLinkNest "OwlYears$Land" (207 : Nat) "OwlYears$Owl" "alive" "Z" "OwlYears") ∈ lw_tbl := lw_at lw_m5 164 rfl
theorem q1267 : (Jvm.Cond.instanceMethod ({ cls := "OwlYears$Land", name := "phase", desc := "()I" } : Jvm.MethodName)) ∈ lw_all := lw_g (lw_at lw_m5 189 rfl) rfl
theorem q1268 : (Jvm.Cond.selects "OwlYears$Land" ({ cls := "OwlYears$Land", name := "phase", desc := "()I" } : Jvm.MethodName) ({ cls := "OwlYears$Land", name := "phase", desc := "()I" } : Jvm.MethodName)) ∈ lw_all := lw_g (lw_at lw_m5 190 rfl) rfl
theorem q1269 : (Jvm.Cond.code ({ cls := "OwlYears$Land", name := "phase", desc := "()I" } : Jvm.MethodName) prog_3_method_34_code (1 : Nat) (Option.some Jvm.ClassFile.FieldType.int)) ∈ lw_all := lw_g (lw_at lw_m5 191 rfl) rfl
theorem q1275 : (Jvm.Cond.instanceMethod ({ cls := "OwlYears$Land", name := "allVoles", desc := "()I" } : Jvm.MethodName)) ∈ lw_all := lw_g (lw_at lw_m5 197 rfl) rfl
theorem q1276 : (Jvm.Cond.selects "OwlYears$Land" ({ cls := "OwlYears$Land", name := "allVoles", desc := "()I" } : Jvm.MethodName) ({ cls := "OwlYears$Land", name := "allVoles", desc := "()I" } : Jvm.MethodName)) ∈ lw_all := lw_g (lw_at lw_m5 198 rfl) rfl
theorem q1277 : (Jvm.Cond.code ({ cls := "OwlYears$Land", name := "allVoles", desc := "()I" } : Jvm.MethodName) prog_3_method_57_code (3 : Nat) (Option.some Jvm.ClassFile.FieldType.int)) ∈ lw_all := lw_g (lw_at lw_m5 199 rfl) rfl
theorem q1296 : (Jvm.Cond.instanceMethod ({ cls := "OwlYears$Land", name := "byAccount", desc := "()I" } : Jvm.MethodName)) ∈ lw_all := lw_g (lw_at lw_m5 218 rfl) rfl
theorem q1297 : (Jvm.Cond.selects "OwlYears$Land" ({ cls := "OwlYears$Land", name := "byAccount", desc := "()I" } : Jvm.MethodName) ({ cls := "OwlYears$Land", name := "byAccount", desc := "()I" } : Jvm.MethodName)) ∈ lw_all := lw_g (lw_at lw_m5 219 rfl) rfl
theorem q1298 : (Jvm.Cond.code ({ cls := "OwlYears$Land", name := "byAccount", desc := "()I" } : Jvm.MethodName) prog_3_method_61_code (1 : Nat) (Option.some Jvm.ClassFile.FieldType.int)) ∈ lw_all := lw_g (lw_at lw_m5 220 rfl) rfl
theorem q1304 : (Jvm.Cond.instanceMethod ({ cls := "OwlYears$Land", name := "wanderers", desc := "()I" } : Jvm.MethodName)) ∈ lw_all := lw_g (lw_at lw_m5 226 rfl) rfl
theorem q1305 : (Jvm.Cond.selects "OwlYears$Land" ({ cls := "OwlYears$Land", name := "wanderers", desc := "()I" } : Jvm.MethodName) ({ cls := "OwlYears$Land", name := "wanderers", desc := "()I" } : Jvm.MethodName)) ∈ lw_all := lw_g (lw_at lw_m5 227 rfl) rfl
theorem q1306 : (Jvm.Cond.code ({ cls := "OwlYears$Land", name := "wanderers", desc := "()I" } : Jvm.MethodName) prog_3_method_59_code (4 : Nat) (Option.some Jvm.ClassFile.FieldType.int)) ∈ lw_all := lw_g (lw_at lw_m5 228 rfl) rfl
theorem q1316 : (Jvm.Cond.instanceMethod ({ cls := "OwlYears$Land", name := "known", desc := "(I)LOwlYears$Owl;" } : Jvm.MethodName)) ∈ lw_all := lw_g (lw_at lw_m5 238 rfl) rfl
theorem q1317 : (Jvm.Cond.selects "OwlYears$Land" ({ cls := "OwlYears$Land", name := "known", desc := "(I)LOwlYears$Owl;" } : Jvm.MethodName) ({ cls := "OwlYears$Land", name := "known", desc := "(I)LOwlYears$Owl;" } : Jvm.MethodName)) ∈ lw_all := lw_g (lw_at lw_m5 239 rfl) rfl
theorem q1318 : (Jvm.Cond.code ({ cls := "OwlYears$Land", name := "known", desc := "(I)LOwlYears$Owl;" } : Jvm.MethodName) prog_3_method_30_code (4 : Nat) (Option.some (Jvm.ClassFile.FieldType.object "OwlYears$Owl"))) ∈ lw_all := lw_g (lw_at lw_m6 0 rfl) rfl
theorem q1324 : (Jvm.Cond.instanceMethod ({ cls := "OwlYears$Land", name := "oldest", desc := "()LOwlYears$Owl;" } : Jvm.MethodName)) ∈ lw_all := lw_g (lw_at lw_m6 6 rfl) rfl
theorem q1325 : (Jvm.Cond.selects "OwlYears$Land" ({ cls := "OwlYears$Land", name := "oldest", desc := "()LOwlYears$Owl;" } : Jvm.MethodName) ({ cls := "OwlYears$Land", name := "oldest", desc := "()LOwlYears$Owl;" } : Jvm.MethodName)) ∈ lw_all := lw_g (lw_at lw_m6 7 rfl) rfl
theorem q1326 : (Jvm.Cond.code ({ cls := "OwlYears$Land", name := "oldest", desc := "()LOwlYears$Owl;" } : Jvm.MethodName) prog_3_method_60_code (5 : Nat) (Option.some (Jvm.ClassFile.FieldType.object "OwlYears$Owl"))) ∈ lw_all := lw_g (lw_at lw_m6 8 rfl) rfl
theorem q1338 : (Jvm.Cond.instanceMethod ({ cls := "OwlYears$Land", name := "kinPairs", desc := "()I" } : Jvm.MethodName)) ∈ lw_all := lw_g (lw_at lw_m6 20 rfl) rfl
theorem q1339 : (Jvm.Cond.selects "OwlYears$Land" ({ cls := "OwlYears$Land", name := "kinPairs", desc := "()I" } : Jvm.MethodName) ({ cls := "OwlYears$Land", name := "kinPairs", desc := "()I" } : Jvm.MethodName)) ∈ lw_all := lw_g (lw_at lw_m6 21 rfl) rfl
theorem q1340 : (Jvm.Cond.code ({ cls := "OwlYears$Land", name := "kinPairs", desc := "()I" } : Jvm.MethodName) prog_3_method_56_code (5 : Nat) (Option.some Jvm.ClassFile.FieldType.int)) ∈ lw_all := lw_g (lw_at lw_m6 22 rfl) rfl
theorem q1341 : (Jvm.Cond.methodLink "OwlYears$Land" (178 : Nat) ({ cls := "OwlYears$Box", name := "size", desc := "()I" } : Jvm.MethodName)) ∈ lw_all := lw_g (lw_at lw_m6 23 rfl) rfl
theorem q1345 : (Jvm.Cond.methodLink "OwlYears$Land" (303 : Nat) ({ cls := "OwlYears$Land", name := "areKin", desc := "(II)Z" } : Jvm.MethodName)) ∈ lw_all := lw_g (lw_at lw_m6 27 rfl) rfl
theorem q1346 : (Jvm.Cond.instanceMethod ({ cls := "OwlYears$Land", name := "areKin", desc := "(II)Z" } : Jvm.MethodName)) ∈ lw_all := lw_g (lw_at lw_m6 28 rfl) rfl
theorem q1347 : (Jvm.Cond.selects "OwlYears$Land" ({ cls := "OwlYears$Land", name := "areKin", desc := "(II)Z" } : Jvm.MethodName) ({ cls := "OwlYears$Land", name := "areKin", desc := "(II)Z" } : Jvm.MethodName)) ∈ lw_all := lw_g (lw_at lw_m6 29 rfl) rfl
theorem q1348 : (Jvm.Cond.code ({ cls := "OwlYears$Land", name := "areKin", desc := "(II)Z" } : Jvm.MethodName) prog_3_method_55_code (7 : Nat) (Option.some Jvm.ClassFile.FieldType.boolean)) ∈ lw_all := lw_g (lw_at lw_m6 30 rfl) rfl
theorem q1349 : (Jvm.Cond.methodLink "OwlYears$Land" (296 : Nat) ({ cls := "OwlYears$Land", name := "placeOf", desc := "(I)I" } : Jvm.MethodName)) ∈ lw_all := lw_g (lw_at lw_m6 31 rfl) rfl
theorem q1350 : (Jvm.Cond.privateMethod ({ cls := "OwlYears$Land", name := "placeOf", desc := "(I)I" } : Jvm.MethodName)) ∈ lw_tbl := lw_at lw_m6 32 rfl
theorem q1351 : (Jvm.Cond.instanceMethod ({ cls := "OwlYears$Land", name := "placeOf", desc := "(I)I" } : Jvm.MethodName)) ∈ lw_all := lw_g (lw_at lw_m6 33 rfl) rfl
theorem q1352 : (Jvm.Cond.code ({ cls := "OwlYears$Land", name := "placeOf", desc := "(I)I" } : Jvm.MethodName) prog_3_method_51_code (3 : Nat) (Option.some Jvm.ClassFile.FieldType.int)) ∈ lw_all := lw_g (lw_at lw_m6 34 rfl) rfl
theorem q1353 : (Jvm.Cond.methodLink "OwlYears$Land" (299 : Nat) ({ cls := "OwlYears$Land", name := "upFrom", desc := "(I)[Z" } : Jvm.MethodName)) ∈ lw_all := lw_g (lw_at lw_m6 35 rfl) rfl
theorem q1354 : (Jvm.Cond.privateMethod ({ cls := "OwlYears$Land", name := "upFrom", desc := "(I)[Z" } : Jvm.MethodName)) ∈ lw_tbl := lw_at lw_m6 36 rfl
theorem q1355 : (Jvm.Cond.instanceMethod ({ cls := "OwlYears$Land", name := "upFrom", desc := "(I)[Z" } : Jvm.MethodName)) ∈ lw_all := lw_g (lw_at lw_m6 37 rfl) rfl
theorem q1356 : (Jvm.Cond.code ({ cls := "OwlYears$Land", name := "upFrom", desc := "(I)[Z" } : Jvm.MethodName) prog_3_method_53_code (6 : Nat) (Option.some (Jvm.ClassFile.FieldType.array Jvm.ClassFile.FieldType.boolean))) ∈ lw_all := lw_g (lw_at lw_m6 38 rfl) rfl
theorem q1357 : (Jvm.Cond.methodLink "OwlYears$Land" (293 : Nat) ({ cls := "OwlYears$Owl", name := "isChildOf", desc := "(I)Z" } : Jvm.MethodName)) ∈ lw_all := lw_g (lw_at lw_m6 39 rfl) rfl
theorem q1387 : (Jvm.Cond.instanceMethod ({ cls := "OwlYears$Land", name := "bestSquare", desc := "()I" } : Jvm.MethodName)) ∈ lw_all := lw_g (lw_at lw_m6 69 rfl) rfl
theorem q1388 : (Jvm.Cond.selects "OwlYears$Land" ({ cls := "OwlYears$Land", name := "bestSquare", desc := "()I" } : Jvm.MethodName) ({ cls := "OwlYears$Land", name := "bestSquare", desc := "()I" } : Jvm.MethodName)) ∈ lw_all := lw_g (lw_at lw_m6 70 rfl) rfl
theorem q1389 : (Jvm.Cond.code ({ cls := "OwlYears$Land", name := "bestSquare", desc := "()I" } : Jvm.MethodName) prog_3_method_62_code (6 : Nat) (Option.some Jvm.ClassFile.FieldType.int)) ∈ lw_all := lw_g (lw_at lw_m6 71 rfl) rfl
theorem q1390 : (Jvm.Cond.methodLink "OwlYears$Land" (121 : Nat) ({ cls := "OwlYears$Land", name := "isRoad", desc := "(I)Z" } : Jvm.MethodName)) ∈ lw_all := lw_g (lw_at lw_m6 72 rfl) rfl
theorem q1391 : (Jvm.Cond.instanceMethod ({ cls := "OwlYears$Land", name := "isRoad", desc := "(I)Z" } : Jvm.MethodName)) ∈ lw_all := lw_g (lw_at lw_m6 73 rfl) rfl
theorem q1392 : (Jvm.Cond.selects "OwlYears$Land" ({ cls := "OwlYears$Land", name := "isRoad", desc := "(I)Z" } : Jvm.MethodName) ({ cls := "OwlYears$Land", name := "isRoad", desc := "(I)Z" } : Jvm.MethodName)) ∈ lw_all := lw_g (lw_at lw_m6 74 rfl) rfl
theorem q1393 : (Jvm.Cond.code ({ cls := "OwlYears$Land", name := "isRoad", desc := "(I)Z" } : Jvm.MethodName) prog_3_method_5_code (2 : Nat) (Option.some Jvm.ClassFile.FieldType.boolean)) ∈ lw_all := lw_g (lw_at lw_m6 75 rfl) rfl
theorem q1394 : (Jvm.Cond.methodLink "OwlYears$Land" (165 : Nat) ({ cls := "OwlYears$Land", name := "hasBox", desc := "(I)Z" } : Jvm.MethodName)) ∈ lw_all := lw_g (lw_at lw_m6 76 rfl) rfl
theorem q1395 : (Jvm.Cond.instanceMethod ({ cls := "OwlYears$Land", name := "hasBox", desc := "(I)Z" } : Jvm.MethodName)) ∈ lw_all := lw_g (lw_at lw_m6 77 rfl) rfl
theorem q1396 : (Jvm.Cond.selects "OwlYears$Land" ({ cls := "OwlYears$Land", name := "hasBox", desc := "(I)Z" } : Jvm.MethodName) ({ cls := "OwlYears$Land", name := "hasBox", desc := "(I)Z" } : Jvm.MethodName)) ∈ lw_all := lw_g (lw_at lw_m6 78 rfl) rfl
theorem q1397 : (Jvm.Cond.code ({ cls := "OwlYears$Land", name := "hasBox", desc := "(I)Z" } : Jvm.MethodName) prog_3_method_4_code (2 : Nat) (Option.some Jvm.ClassFile.FieldType.boolean)) ∈ lw_all := lw_g (lw_at lw_m6 79 rfl) rfl
theorem q1398 : (Jvm.Cond.methodLink "OwlYears$Land" (114 : Nat) ({ cls := "java/util/HashMap", name := "containsKey", desc := "(Ljava/lang/Object;)Z" } : Jvm.MethodName)) ∈ lw_all := lw_g (lw_at lw_m6 80 rfl) rfl
theorem q1410 : (Jvm.Cond.methodLink "OwlYears$Land" (144 : Nat) ({ cls := "OwlYears$Land", name := "range", desc := "(I)J" } : Jvm.MethodName)) ∈ lw_all := lw_g (lw_at lw_m6 92 rfl) rfl
theorem q1411 : (Jvm.Cond.privateMethod ({ cls := "OwlYears$Land", name := "range", desc := "(I)J" } : Jvm.MethodName)) ∈ lw_tbl := lw_at lw_m6 93 rfl
theorem q1412 : (Jvm.Cond.instanceMethod ({ cls := "OwlYears$Land", name := "range", desc := "(I)J" } : Jvm.MethodName)) ∈ lw_all := lw_g (lw_at lw_m6 94 rfl) rfl
theorem q1413 : (Jvm.Cond.code ({ cls := "OwlYears$Land", name := "range", desc := "(I)J" } : Jvm.MethodName) prog_3_method_8_code (10 : Nat) (Option.some Jvm.ClassFile.FieldType.long)) ∈ lw_all := lw_g (lw_at lw_m6 95 rfl) rfl
theorem q1414 : (Jvm.Cond.methodLink "OwlYears$Land" (125 : Nat) ({ cls := "OwlYears$Land", name := "near", desc := "(I)J" } : Jvm.MethodName)) ∈ lw_all := lw_g (lw_at lw_m6 96 rfl) rfl
theorem q1415 : (Jvm.Cond.privateMethod ({ cls := "OwlYears$Land", name := "near", desc := "(I)J" } : Jvm.MethodName)) ∈ lw_tbl := lw_at lw_m6 97 rfl
theorem q1416 : (Jvm.Cond.instanceMethod ({ cls := "OwlYears$Land", name := "near", desc := "(I)J" } : Jvm.MethodName)) ∈ lw_all := lw_g (lw_at lw_m6 98 rfl) rfl
theorem q1417 : (Jvm.Cond.code ({ cls := "OwlYears$Land", name := "near", desc := "(I)J" } : Jvm.MethodName) prog_3_method_7_code (5 : Nat) (Option.some Jvm.ClassFile.FieldType.long)) ∈ lw_all := lw_g (lw_at lw_m6 99 rfl) rfl
theorem q1418 : (Jvm.Cond.methodLinkNest "OwlYears$Land" (117 : Nat) ({ cls := "OwlYears", name := "far", desc := "(II)I" } : Jvm.MethodName) "OwlYears") ∈ lw_tbl := lw_at lw_m6 100 rfl
theorem q1425 : (Jvm.Cond.methodLinkNest "OwlYears$Land" (129 : Nat) ({ cls := "OwlYears", name := "has", desc := "(JI)Z" } : Jvm.MethodName) "OwlYears") ∈ lw_tbl := lw_at lw_m6 107 rfl
theorem q1428 : (Jvm.Cond.methodLink "OwlYears$Land" (133 : Nat) ({ cls := "OwlYears$Land", name := "touches", desc := "(JI)Z" } : Jvm.MethodName)) ∈ lw_all := lw_g (lw_at lw_m6 110 rfl) rfl
theorem q1429 : (Jvm.Cond.static ({ cls := "OwlYears$Land", name := "touches", desc := "(JI)Z" } : Jvm.MethodName)) ∈ lw_all := lw_g (lw_at lw_m6 111 rfl) rfl
theorem q1430 : (Jvm.Cond.code ({ cls := "OwlYears$Land", name := "touches", desc := "(JI)Z" } : Jvm.MethodName) prog_3_method_9_code (4 : Nat) (Option.some Jvm.ClassFile.FieldType.boolean)) ∈ lw_all := lw_g (lw_at lw_m6 112 rfl) rfl
theorem q1431 : (Jvm.Cond.methodLink "OwlYears$Land" (158 : Nat) ({ cls := "OwlYears$Land", name := "shared", desc := "(JI)I" } : Jvm.MethodName)) ∈ lw_all := lw_g (lw_at lw_m6 113 rfl) rfl
theorem q1432 : (Jvm.Cond.privateMethod ({ cls := "OwlYears$Land", name := "shared", desc := "(JI)I" } : Jvm.MethodName)) ∈ lw_tbl := lw_at lw_m6 114 rfl
theorem q1433 : (Jvm.Cond.instanceMethod ({ cls := "OwlYears$Land", name := "shared", desc := "(JI)I" } : Jvm.MethodName)) ∈ lw_all := lw_g (lw_at lw_m6 115 rfl) rfl
theorem q1434 : (Jvm.Cond.code ({ cls := "OwlYears$Land", name := "shared", desc := "(JI)I" } : Jvm.MethodName) prog_3_method_14_code (6 : Nat) (Option.some Jvm.ClassFile.FieldType.int)) ∈ lw_all := lw_g (lw_at lw_m6 116 rfl) rfl
theorem q1435 : (Jvm.Cond.methodLink "OwlYears$Land" (154 : Nat) ({ cls := "OwlYears$Land", name := "crowd", desc := "(I)I" } : Jvm.MethodName)) ∈ lw_all := lw_g (lw_at lw_m6 117 rfl) rfl
theorem q1436 : (Jvm.Cond.instanceMethod ({ cls := "OwlYears$Land", name := "crowd", desc := "(I)I" } : Jvm.MethodName)) ∈ lw_all := lw_g (lw_at lw_m6 118 rfl) rfl
theorem q1437 : (Jvm.Cond.selects "OwlYears$Land" ({ cls := "OwlYears$Land", name := "crowd", desc := "(I)I" } : Jvm.MethodName) ({ cls := "OwlYears$Land", name := "crowd", desc := "(I)I" } : Jvm.MethodName)) ∈ lw_all := lw_g (lw_at lw_m6 119 rfl) rfl
theorem q1438 : (Jvm.Cond.code ({ cls := "OwlYears$Land", name := "crowd", desc := "(I)I" } : Jvm.MethodName) prog_3_method_13_code (6 : Nat) (Option.some Jvm.ClassFile.FieldType.int)) ∈ lw_all := lw_g (lw_at lw_m6 120 rfl) rfl
theorem q1439 : (Jvm.Cond.methodLink "OwlYears$Land" (150 : Nat) ({ cls := "OwlYears$Box", name := "isLivedIn", desc := "()Z" } : Jvm.MethodName)) ∈ lw_all := lw_g (lw_at lw_m6 121 rfl) rfl
theorem q1449 : (Jvm.Cond.instanceMethod ({ cls := "OwlYears$Land", name := "untilGone", desc := "()I" } : Jvm.MethodName)) ∈ lw_all := lw_g (lw_at lw_m6 131 rfl) rfl
theorem q1450 : (Jvm.Cond.selects "OwlYears$Land" ({ cls := "OwlYears$Land", name := "untilGone", desc := "()I" } : Jvm.MethodName) ({ cls := "OwlYears$Land", name := "untilGone", desc := "()I" } : Jvm.MethodName)) ∈ lw_all := lw_g (lw_at lw_m6 132 rfl) rfl
theorem q1451 : (Jvm.Cond.code ({ cls := "OwlYears$Land", name := "untilGone", desc := "()I" } : Jvm.MethodName) prog_3_method_65_code (3 : Nat) (Option.some Jvm.ClassFile.FieldType.int)) ∈ lw_all := lw_g (lw_at lw_m6 133 rfl) rfl
theorem q1452 : (Jvm.Cond.methodLink "OwlYears$Land" (306 : Nat) ({ cls := "OwlYears$Land", name := "copy", desc := "()LOwlYears$Land;" } : Jvm.MethodName)) ∈ lw_all := lw_g (lw_at lw_m6 134 rfl) rfl
theorem q1453 : (Jvm.Cond.methodLink "OwlYears$Land" (290 : Nat) ({ cls := "OwlYears$Land", name := "passOne", desc := "()V" } : Jvm.MethodName)) ∈ lw_all := lw_g (lw_at lw_m6 135 rfl) rfl
theorem q1454 : (Jvm.Cond.privateMethod ({ cls := "OwlYears$Land", name := "passOne", desc := "()V" } : Jvm.MethodName)) ∈ lw_tbl := lw_at lw_m6 136 rfl
theorem q1455 : (Jvm.Cond.instanceMethod ({ cls := "OwlYears$Land", name := "passOne", desc := "()V" } : Jvm.MethodName)) ∈ lw_all := lw_g (lw_at lw_m6 137 rfl) rfl
theorem q1456 : (Jvm.Cond.code ({ cls := "OwlYears$Land", name := "passOne", desc := "()V" } : Jvm.MethodName) prog_3_method_48_code (1 : Nat) (Option.none : Option Jvm.ClassFile.FieldType)) ∈ lw_all := lw_g (lw_at lw_m6 138 rfl) rfl
theorem q1457 : (Jvm.Cond.methodLink "OwlYears$Land" (272 : Nat) ({ cls := "OwlYears$Land", name := "growVoles", desc := "()V" } : Jvm.MethodName)) ∈ lw_all := lw_g (lw_at lw_m6 139 rfl) rfl
theorem q1458 : (Jvm.Cond.privateMethod ({ cls := "OwlYears$Land", name := "growVoles", desc := "()V" } : Jvm.MethodName)) ∈ lw_tbl := lw_at lw_m6 140 rfl
theorem q1459 : (Jvm.Cond.instanceMethod ({ cls := "OwlYears$Land", name := "growVoles", desc := "()V" } : Jvm.MethodName)) ∈ lw_all := lw_g (lw_at lw_m6 141 rfl) rfl
theorem q1460 : (Jvm.Cond.code ({ cls := "OwlYears$Land", name := "growVoles", desc := "()V" } : Jvm.MethodName) prog_3_method_36_code (2 : Nat) (Option.none : Option Jvm.ClassFile.FieldType)) ∈ lw_all := lw_g (lw_at lw_m6 142 rfl) rfl
theorem q1461 : (Jvm.Cond.methodLink "OwlYears$Land" (235 : Nat) ({ cls := "OwlYears$Land", name := "volesNext", desc := "(I)I" } : Jvm.MethodName)) ∈ lw_all := lw_g (lw_at lw_m6 143 rfl) rfl
theorem q1462 : (Jvm.Cond.instanceMethod ({ cls := "OwlYears$Land", name := "volesNext", desc := "(I)I" } : Jvm.MethodName)) ∈ lw_all := lw_g (lw_at lw_m6 144 rfl) rfl
theorem q1463 : (Jvm.Cond.selects "OwlYears$Land" ({ cls := "OwlYears$Land", name := "volesNext", desc := "(I)I" } : Jvm.MethodName) ({ cls := "OwlYears$Land", name := "volesNext", desc := "(I)I" } : Jvm.MethodName)) ∈ lw_all := lw_g (lw_at lw_m6 145 rfl) rfl
theorem q1464 : (Jvm.Cond.code ({ cls := "OwlYears$Land", name := "volesNext", desc := "(I)I" } : Jvm.MethodName) prog_3_method_35_code (6 : Nat) (Option.some Jvm.ClassFile.FieldType.int)) ∈ lw_all := lw_g (lw_at lw_m6 146 rfl) rfl
theorem q1465 : (Jvm.Cond.methodLink "OwlYears$Land" (232 : Nat) ({ cls := "OwlYears$Land", name := "phase", desc := "()I" } : Jvm.MethodName)) ∈ lw_all := lw_g (lw_at lw_m6 147 rfl) rfl
theorem q1466 : (Jvm.Cond.methodLink "OwlYears$Land" (214 : Nat) ({ cls := "java/lang/Math", name := "min", desc := "(II)I" } : Jvm.MethodName)) ∈ lw_all := lw_g (lw_at lw_m6 148 rfl) rfl
theorem q1467 : (Jvm.Cond.methodLink "OwlYears$Land" (275 : Nat) ({ cls := "OwlYears$Land", name := "hunger", desc := "()V" } : Jvm.MethodName)) ∈ lw_all := lw_g (lw_at lw_m6 149 rfl) rfl
theorem q1468 : (Jvm.Cond.privateMethod ({ cls := "OwlYears$Land", name := "hunger", desc := "()V" } : Jvm.MethodName)) ∈ lw_tbl := lw_at lw_m6 150 rfl
theorem q1469 : (Jvm.Cond.instanceMethod ({ cls := "OwlYears$Land", name := "hunger", desc := "()V" } : Jvm.MethodName)) ∈ lw_all := lw_g (lw_at lw_m6 151 rfl) rfl
theorem q1470 : (Jvm.Cond.code ({ cls := "OwlYears$Land", name := "hunger", desc := "()V" } : Jvm.MethodName) prog_3_method_40_code (4 : Nat) (Option.none : Option Jvm.ClassFile.FieldType)) ∈ lw_all := lw_g (lw_at lw_m6 152 rfl) rfl
theorem q1471 : (Jvm.Cond.methodLink "OwlYears$Land" (245 : Nat) ({ cls := "OwlYears$Land", name := "share", desc := "(LOwlYears$Box;)I" } : Jvm.MethodName)) ∈ lw_all := lw_g (lw_at lw_m6 153 rfl) rfl
theorem q1472 : (Jvm.Cond.instanceMethod ({ cls := "OwlYears$Land", name := "share", desc := "(LOwlYears$Box;)I" } : Jvm.MethodName)) ∈ lw_all := lw_g (lw_at lw_m6 154 rfl) rfl
theorem q1473 : (Jvm.Cond.selects "OwlYears$Land" ({ cls := "OwlYears$Land", name := "share", desc := "(LOwlYears$Box;)I" } : Jvm.MethodName) ({ cls := "OwlYears$Land", name := "share", desc := "(LOwlYears$Box;)I" } : Jvm.MethodName)) ∈ lw_all := lw_g (lw_at lw_m6 155 rfl) rfl
theorem q1474 : (Jvm.Cond.code ({ cls := "OwlYears$Land", name := "share", desc := "(LOwlYears$Box;)I" } : Jvm.MethodName) prog_3_method_15_code (2 : Nat) (Option.some Jvm.ClassFile.FieldType.int)) ∈ lw_all := lw_g (lw_at lw_m6 156 rfl) rfl
theorem q1475 : (Jvm.Cond.methodLink "OwlYears$Land" (249 : Nat) ({ cls := "OwlYears$Land", name := "starve", desc := "(LOwlYears$Box;I)V" } : Jvm.MethodName)) ∈ lw_all := lw_g (lw_at lw_m6 157 rfl) rfl
theorem q1476 : (Jvm.Cond.privateMethod ({ cls := "OwlYears$Land", name := "starve", desc := "(LOwlYears$Box;I)V" } : Jvm.MethodName)) ∈ lw_tbl := lw_at lw_m6 158 rfl
theorem q1477 : (Jvm.Cond.instanceMethod ({ cls := "OwlYears$Land", name := "starve", desc := "(LOwlYears$Box;I)V" } : Jvm.MethodName)) ∈ lw_all := lw_g (lw_at lw_m6 159 rfl) rfl
theorem q1478 : (Jvm.Cond.code ({ cls := "OwlYears$Land", name := "starve", desc := "(LOwlYears$Box;I)V" } : Jvm.MethodName) prog_3_method_38_code (5 : Nat) (Option.none : Option Jvm.ClassFile.FieldType)) ∈ lw_all := lw_g (lw_at lw_m6 160 rfl) rfl
theorem q1479 : (Jvm.Cond.methodLink "OwlYears$Land" (219 : Nat) ({ cls := "OwlYears$Land", name := "known", desc := "(I)LOwlYears$Owl;" } : Jvm.MethodName)) ∈ lw_all := lw_g (lw_at lw_m6 161 rfl) rfl
theorem q1480 : (Jvm.Cond.methodLink "OwlYears$Land" (238 : Nat) ({ cls := "OwlYears$Land", name := "die", desc := "(LOwlYears$Owl;I)V" } : Jvm.MethodName)) ∈ lw_all := lw_g (lw_at lw_m6 162 rfl) rfl
theorem q1481 : (Jvm.Cond.privateMethod ({ cls := "OwlYears$Land", name := "die", desc := "(LOwlYears$Owl;I)V" } : Jvm.MethodName)) ∈ lw_tbl := lw_at lw_m6 163 rfl
theorem q1482 : (Jvm.Cond.instanceMethod ({ cls := "OwlYears$Land", name := "die", desc := "(LOwlYears$Owl;I)V" } : Jvm.MethodName)) ∈ lw_all := lw_g (lw_at lw_m6 164 rfl) rfl
theorem q1483 : (Jvm.Cond.code ({ cls := "OwlYears$Land", name := "die", desc := "(LOwlYears$Owl;I)V" } : Jvm.MethodName) prog_3_method_28_code (4 : Nat) (Option.none : Option Jvm.ClassFile.FieldType)) ∈ lw_all := lw_g (lw_at lw_m6 165 rfl) rfl
theorem q1484 : (Jvm.Cond.methodLink "OwlYears$Land" (210 : Nat) ({ cls := "OwlYears$Land", name := "leave", desc := "(LOwlYears$Owl;)V" } : Jvm.MethodName)) ∈ lw_all := lw_g (lw_at lw_m6 166 rfl) rfl
theorem q1485 : (Jvm.Cond.privateMethod ({ cls := "OwlYears$Land", name := "leave", desc := "(LOwlYears$Owl;)V" } : Jvm.MethodName)) ∈ lw_tbl := lw_at lw_m6 167 rfl
theorem q1486 : (Jvm.Cond.instanceMethod ({ cls := "OwlYears$Land", name := "leave", desc := "(LOwlYears$Owl;)V" } : Jvm.MethodName)) ∈ lw_all := lw_g (lw_at lw_m6 168 rfl) rfl
theorem q1487 : (Jvm.Cond.code ({ cls := "OwlYears$Land", name := "leave", desc := "(LOwlYears$Owl;)V" } : Jvm.MethodName) prog_3_method_26_code (2 : Nat) (Option.none : Option Jvm.ClassFile.FieldType)) ∈ lw_all := lw_g (lw_at lw_m6 169 rfl) rfl
theorem q1488 : (Jvm.Cond.methodLink "OwlYears$Land" (179 : Nat) ({ cls := "OwlYears$Land", name := "box", desc := "(I)LOwlYears$Box;" } : Jvm.MethodName)) ∈ lw_all := lw_g (lw_at lw_m6 170 rfl) rfl
theorem q1489 : (Jvm.Cond.instanceMethod ({ cls := "OwlYears$Land", name := "box", desc := "(I)LOwlYears$Box;" } : Jvm.MethodName)) ∈ lw_all := lw_g (lw_at lw_m6 171 rfl) rfl
theorem q1490 : (Jvm.Cond.selects "OwlYears$Land" ({ cls := "OwlYears$Land", name := "box", desc := "(I)LOwlYears$Box;" } : Jvm.MethodName) ({ cls := "OwlYears$Land", name := "box", desc := "(I)LOwlYears$Box;" } : Jvm.MethodName)) ∈ lw_all := lw_g (lw_at lw_m6 172 rfl) rfl
theorem q1491 : (Jvm.Cond.code ({ cls := "OwlYears$Land", name := "box", desc := "(I)LOwlYears$Box;" } : Jvm.MethodName) prog_3_method_6_code (2 : Nat) (Option.some (Jvm.ClassFile.FieldType.object "OwlYears$Box"))) ∈ lw_all := lw_g (lw_at lw_m6 173 rfl) rfl
theorem q1492 : (Jvm.Cond.methodLink "OwlYears$Land" (241 : Nat) ({ cls := "OwlYears$Land", name := "younger", desc := "(LOwlYears$Box;)LOwlYears$Owl;" } : Jvm.MethodName)) ∈ lw_all := lw_g (lw_at lw_m6 174 rfl) rfl
theorem q1493 : (Jvm.Cond.privateMethod ({ cls := "OwlYears$Land", name := "younger", desc := "(LOwlYears$Box;)LOwlYears$Owl;" } : Jvm.MethodName)) ∈ lw_tbl := lw_at lw_m6 175 rfl
theorem q1494 : (Jvm.Cond.instanceMethod ({ cls := "OwlYears$Land", name := "younger", desc := "(LOwlYears$Box;)LOwlYears$Owl;" } : Jvm.MethodName)) ∈ lw_all := lw_g (lw_at lw_m6 176 rfl) rfl
theorem q1495 : (Jvm.Cond.code ({ cls := "OwlYears$Land", name := "younger", desc := "(LOwlYears$Box;)LOwlYears$Owl;" } : Jvm.MethodName) prog_3_method_37_code (5 : Nat) (Option.some (Jvm.ClassFile.FieldType.object "OwlYears$Owl"))) ∈ lw_all := lw_g (lw_at lw_m6 177 rfl) rfl
theorem q1496 : (Jvm.Cond.methodLink "OwlYears$Land" (253 : Nat) ({ cls := "OwlYears$Land", name := "eat", desc := "(LOwlYears$Box;)V" } : Jvm.MethodName)) ∈ lw_all := lw_g (lw_at lw_m6 178 rfl) rfl
theorem q1497 : (Jvm.Cond.privateMethod ({ cls := "OwlYears$Land", name := "eat", desc := "(LOwlYears$Box;)V" } : Jvm.MethodName)) ∈ lw_tbl := lw_at lw_m6 179 rfl
theorem q1498 : (Jvm.Cond.instanceMethod ({ cls := "OwlYears$Land", name := "eat", desc := "(LOwlYears$Box;)V" } : Jvm.MethodName)) ∈ lw_all := lw_g (lw_at lw_m6 180 rfl) rfl
theorem q1499 : (Jvm.Cond.code ({ cls := "OwlYears$Land", name := "eat", desc := "(LOwlYears$Box;)V" } : Jvm.MethodName) prog_3_method_39_code (5 : Nat) (Option.none : Option Jvm.ClassFile.FieldType)) ∈ lw_all := lw_g (lw_at lw_m6 181 rfl) rfl
theorem q1500 : (Jvm.Cond.methodLink "OwlYears$Land" (278 : Nat) ({ cls := "OwlYears$Land", name := "roads", desc := "()V" } : Jvm.MethodName)) ∈ lw_all := lw_g (lw_at lw_m6 182 rfl) rfl
theorem q1501 : (Jvm.Cond.privateMethod ({ cls := "OwlYears$Land", name := "roads", desc := "()V" } : Jvm.MethodName)) ∈ lw_tbl := lw_at lw_m6 183 rfl
theorem q1502 : (Jvm.Cond.instanceMethod ({ cls := "OwlYears$Land", name := "roads", desc := "()V" } : Jvm.MethodName)) ∈ lw_all := lw_g (lw_at lw_m6 184 rfl) rfl
theorem q1503 : (Jvm.Cond.code ({ cls := "OwlYears$Land", name := "roads", desc := "()V" } : Jvm.MethodName) prog_3_method_41_code (5 : Nat) (Option.none : Option Jvm.ClassFile.FieldType)) ∈ lw_all := lw_g (lw_at lw_m6 185 rfl) rfl
theorem q1504 : (Jvm.Cond.methodLink "OwlYears$Land" (256 : Nat) ({ cls := "OwlYears$Land", name := "risk", desc := "(LOwlYears$Box;)I" } : Jvm.MethodName)) ∈ lw_all := lw_g (lw_at lw_m6 186 rfl) rfl
theorem q1505 : (Jvm.Cond.instanceMethod ({ cls := "OwlYears$Land", name := "risk", desc := "(LOwlYears$Box;)I" } : Jvm.MethodName)) ∈ lw_all := lw_g (lw_at lw_m6 187 rfl) rfl
theorem q1506 : (Jvm.Cond.selects "OwlYears$Land" ({ cls := "OwlYears$Land", name := "risk", desc := "(LOwlYears$Box;)I" } : Jvm.MethodName) ({ cls := "OwlYears$Land", name := "risk", desc := "(LOwlYears$Box;)I" } : Jvm.MethodName)) ∈ lw_all := lw_g (lw_at lw_m6 188 rfl) rfl
theorem q1507 : (Jvm.Cond.code ({ cls := "OwlYears$Land", name := "risk", desc := "(LOwlYears$Box;)I" } : Jvm.MethodName) prog_3_method_16_code (4 : Nat) (Option.some Jvm.ClassFile.FieldType.int)) ∈ lw_all := lw_g (lw_at lw_m6 189 rfl) rfl
theorem q1508 : (Jvm.Cond.constant "OwlYears$Land" (259 : Nat) (65537 : Int32)) ∈ lw_all := lw_g (lw_at lw_m6 190 rfl) rfl
theorem q1509 : (Jvm.Cond.methodLink "OwlYears$Land" (281 : Nat) ({ cls := "OwlYears$Land", name := "ages", desc := "()V" } : Jvm.MethodName)) ∈ lw_all := lw_g (lw_at lw_m6 191 rfl) rfl
theorem q1510 : (Jvm.Cond.privateMethod ({ cls := "OwlYears$Land", name := "ages", desc := "()V" } : Jvm.MethodName)) ∈ lw_tbl := lw_at lw_m6 192 rfl
theorem q1511 : (Jvm.Cond.instanceMethod ({ cls := "OwlYears$Land", name := "ages", desc := "()V" } : Jvm.MethodName)) ∈ lw_all := lw_g (lw_at lw_m6 193 rfl) rfl
theorem q1512 : (Jvm.Cond.code ({ cls := "OwlYears$Land", name := "ages", desc := "()V" } : Jvm.MethodName) prog_3_method_42_code (4 : Nat) (Option.none : Option Jvm.ClassFile.FieldType)) ∈ lw_all := lw_g (lw_at lw_m6 194 rfl) rfl
theorem q1513 : (Jvm.Cond.methodLink "OwlYears$Land" (284 : Nat) ({ cls := "OwlYears$Land", name := "breed", desc := "()V" } : Jvm.MethodName)) ∈ lw_all := lw_g (lw_at lw_m6 195 rfl) rfl
theorem q1514 : (Jvm.Cond.privateMethod ({ cls := "OwlYears$Land", name := "breed", desc := "()V" } : Jvm.MethodName)) ∈ lw_tbl := lw_at lw_m6 196 rfl
theorem q1515 : (Jvm.Cond.instanceMethod ({ cls := "OwlYears$Land", name := "breed", desc := "()V" } : Jvm.MethodName)) ∈ lw_all := lw_g (lw_at lw_m6 197 rfl) rfl
theorem q1516 : (Jvm.Cond.code ({ cls := "OwlYears$Land", name := "breed", desc := "()V" } : Jvm.MethodName) prog_3_method_45_code (6 : Nat) (Option.none : Option Jvm.ClassFile.FieldType)) ∈ lw_all := lw_g (lw_at lw_m6 198 rfl) rfl
theorem q1517 : (Jvm.Cond.methodLink "OwlYears$Land" (263 : Nat) ({ cls := "OwlYears$Land", name := "young", desc := "(LOwlYears$Box;)I" } : Jvm.MethodName)) ∈ lw_all := lw_g (lw_at lw_m6 199 rfl) rfl
theorem q1518 : (Jvm.Cond.instanceMethod ({ cls := "OwlYears$Land", name := "young", desc := "(LOwlYears$Box;)I" } : Jvm.MethodName)) ∈ lw_all := lw_g (lw_at lw_m6 200 rfl) rfl
theorem q1519 : (Jvm.Cond.selects "OwlYears$Land" ({ cls := "OwlYears$Land", name := "young", desc := "(LOwlYears$Box;)I" } : Jvm.MethodName) ({ cls := "OwlYears$Land", name := "young", desc := "(LOwlYears$Box;)I" } : Jvm.MethodName)) ∈ lw_all := lw_g (lw_at lw_m6 201 rfl) rfl
theorem q1520 : (Jvm.Cond.code ({ cls := "OwlYears$Land", name := "young", desc := "(LOwlYears$Box;)I" } : Jvm.MethodName) prog_3_method_44_code (3 : Nat) (Option.some Jvm.ClassFile.FieldType.int)) ∈ lw_all := lw_g (lw_at lw_m6 202 rfl) rfl
theorem q1521 : (Jvm.Cond.methodLink "OwlYears$Land" (260 : Nat) ({ cls := "OwlYears$Land", name := "whyNoYoung", desc := "(LOwlYears$Box;)I" } : Jvm.MethodName)) ∈ lw_all := lw_g (lw_at lw_m6 203 rfl) rfl
theorem q1522 : (Jvm.Cond.instanceMethod ({ cls := "OwlYears$Land", name := "whyNoYoung", desc := "(LOwlYears$Box;)I" } : Jvm.MethodName)) ∈ lw_all := lw_g (lw_at lw_m6 204 rfl) rfl
theorem q1523 : (Jvm.Cond.selects "OwlYears$Land" ({ cls := "OwlYears$Land", name := "whyNoYoung", desc := "(LOwlYears$Box;)I" } : Jvm.MethodName) ({ cls := "OwlYears$Land", name := "whyNoYoung", desc := "(LOwlYears$Box;)I" } : Jvm.MethodName)) ∈ lw_all := lw_g (lw_at lw_m6 205 rfl) rfl
theorem q1524 : (Jvm.Cond.code ({ cls := "OwlYears$Land", name := "whyNoYoung", desc := "(LOwlYears$Box;)I" } : Jvm.MethodName) prog_3_method_43_code (3 : Nat) (Option.some Jvm.ClassFile.FieldType.int)) ∈ lw_all := lw_g (lw_at lw_m6 206 rfl) rfl
theorem q1525 : (Jvm.Cond.methodLink "OwlYears$Land" (193 : Nat) ({ cls := "OwlYears$Land", name := "ringed", desc := "(III)LOwlYears$Owl;" } : Jvm.MethodName)) ∈ lw_all := lw_g (lw_at lw_m6 207 rfl) rfl
theorem q1526 : (Jvm.Cond.privateMethod ({ cls := "OwlYears$Land", name := "ringed", desc := "(III)LOwlYears$Owl;" } : Jvm.MethodName)) ∈ lw_tbl := lw_at lw_m6 208 rfl
theorem q1527 : (Jvm.Cond.instanceMethod ({ cls := "OwlYears$Land", name := "ringed", desc := "(III)LOwlYears$Owl;" } : Jvm.MethodName)) ∈ lw_all := lw_g (lw_at lw_m6 209 rfl) rfl
theorem q1528 : (Jvm.Cond.code ({ cls := "OwlYears$Land", name := "ringed", desc := "(III)LOwlYears$Owl;" } : Jvm.MethodName) prog_3_method_23_code (5 : Nat) (Option.some (Jvm.ClassFile.FieldType.object "OwlYears$Owl"))) ∈ lw_all := lw_g (lw_at lw_m6 210 rfl) rfl
theorem q1529 : (Jvm.Cond.methodLink "OwlYears$Land" (184 : Nat) ({ cls := "OwlYears$Owl", name := "<init>", desc := "(IIII)V" } : Jvm.MethodName)) ∈ lw_all := lw_g (lw_at lw_m6 211 rfl) rfl
theorem q1530 : (Jvm.Cond.methodLink "OwlYears$Land" (287 : Nat) ({ cls := "OwlYears$Land", name := "settle", desc := "()V" } : Jvm.MethodName)) ∈ lw_all := lw_g (lw_at lw_m6 212 rfl) rfl
theorem q1531 : (Jvm.Cond.privateMethod ({ cls := "OwlYears$Land", name := "settle", desc := "()V" } : Jvm.MethodName)) ∈ lw_tbl := lw_at lw_m6 213 rfl
theorem q1532 : (Jvm.Cond.instanceMethod ({ cls := "OwlYears$Land", name := "settle", desc := "()V" } : Jvm.MethodName)) ∈ lw_all := lw_g (lw_at lw_m6 214 rfl) rfl
theorem q1533 : (Jvm.Cond.code ({ cls := "OwlYears$Land", name := "settle", desc := "()V" } : Jvm.MethodName) prog_3_method_47_code (5 : Nat) (Option.none : Option Jvm.ClassFile.FieldType)) ∈ lw_all := lw_g (lw_at lw_m6 215 rfl) rfl
theorem q1534 : (Jvm.Cond.methodLink "OwlYears$Land" (269 : Nat) ({ cls := "OwlYears$Land", name := "boxFor", desc := "(I)I" } : Jvm.MethodName)) ∈ lw_all := lw_g (lw_at lw_m6 216 rfl) rfl
theorem q1535 : (Jvm.Cond.privateMethod ({ cls := "OwlYears$Land", name := "boxFor", desc := "(I)I" } : Jvm.MethodName)) ∈ lw_tbl := lw_at lw_m6 217 rfl
theorem q1536 : (Jvm.Cond.instanceMethod ({ cls := "OwlYears$Land", name := "boxFor", desc := "(I)I" } : Jvm.MethodName)) ∈ lw_all := lw_g (lw_at lw_m6 218 rfl) rfl
theorem q1537 : (Jvm.Cond.code ({ cls := "OwlYears$Land", name := "boxFor", desc := "(I)I" } : Jvm.MethodName) prog_3_method_46_code (8 : Nat) (Option.some Jvm.ClassFile.FieldType.int)) ∈ lw_all := lw_g (lw_at lw_m6 219 rfl) rfl
theorem q1538 : (Jvm.Cond.methodLink "OwlYears$Land" (266 : Nat) ({ cls := "java/lang/Math", name := "max", desc := "(II)I" } : Jvm.MethodName)) ∈ lw_all := lw_g (lw_at lw_m6 220 rfl) rfl
theorem q1539 : (Jvm.Cond.methodLink "OwlYears$Land" (200 : Nat) ({ cls := "OwlYears$Land", name := "moveIn", desc := "(LOwlYears$Owl;I)V" } : Jvm.MethodName)) ∈ lw_all := lw_g (lw_at lw_m6 221 rfl) rfl
theorem q1540 : (Jvm.Cond.privateMethod ({ cls := "OwlYears$Land", name := "moveIn", desc := "(LOwlYears$Owl;I)V" } : Jvm.MethodName)) ∈ lw_tbl := lw_at lw_m6 222 rfl
theorem q1541 : (Jvm.Cond.instanceMethod ({ cls := "OwlYears$Land", name := "moveIn", desc := "(LOwlYears$Owl;I)V" } : Jvm.MethodName)) ∈ lw_all := lw_g (lw_at lw_m6 223 rfl) rfl
theorem q1542 : (Jvm.Cond.code ({ cls := "OwlYears$Land", name := "moveIn", desc := "(LOwlYears$Owl;I)V" } : Jvm.MethodName) prog_3_method_24_code (3 : Nat) (Option.none : Option Jvm.ClassFile.FieldType)) ∈ lw_all := lw_g (lw_at lw_m6 224 rfl) rfl
theorem q1543 : (Jvm.Cond.methodLink "OwlYears$Land" (204 : Nat) ({ cls := "OwlYears$Land", name := "forget", desc := "()V" } : Jvm.MethodName)) ∈ lw_all := lw_g (lw_at lw_m6 225 rfl) rfl
theorem q1544 : (Jvm.Cond.privateMethod ({ cls := "OwlYears$Land", name := "forget", desc := "()V" } : Jvm.MethodName)) ∈ lw_tbl := lw_at lw_m6 226 rfl
theorem q1545 : (Jvm.Cond.instanceMethod ({ cls := "OwlYears$Land", name := "forget", desc := "()V" } : Jvm.MethodName)) ∈ lw_all := lw_g (lw_at lw_m6 227 rfl) rfl
theorem q1546 : (Jvm.Cond.code ({ cls := "OwlYears$Land", name := "forget", desc := "()V" } : Jvm.MethodName) prog_3_method_29_code (2 : Nat) (Option.none : Option Jvm.ClassFile.FieldType)) ∈ lw_all := lw_g (lw_at lw_m6 228 rfl) rfl
theorem q1547 : (Jvm.Cond.methodLink "OwlYears$Land" (169 : Nat) ({ cls := "java/util/ArrayList", name := "remove", desc := "(I)Ljava/lang/Object;" } : Jvm.MethodName)) ∈ lw_all := lw_g (lw_at lw_m6 229 rfl) rfl
theorem q1561 : (Jvm.Cond.instanceMethod ({ cls := "OwlYears$Land", name := "bestRow", desc := "()I" } : Jvm.MethodName)) ∈ lw_all := lw_g (lw_at lw_m7 3 rfl) rfl
theorem q1562 : (Jvm.Cond.selects "OwlYears$Land" ({ cls := "OwlYears$Land", name := "bestRow", desc := "()I" } : Jvm.MethodName) ({ cls := "OwlYears$Land", name := "bestRow", desc := "()I" } : Jvm.MethodName)) ∈ lw_all := lw_g (lw_at lw_m7 4 rfl) rfl
theorem q1563 : (Jvm.Cond.code ({ cls := "OwlYears$Land", name := "bestRow", desc := "()I" } : Jvm.MethodName) prog_3_method_66_code (5 : Nat) (Option.some Jvm.ClassFile.FieldType.int)) ∈ lw_all := lw_g (lw_at lw_m7 5 rfl) rfl
theorem q1564 : (Jvm.Cond.methodLink "OwlYears$Land" (316 : Nat) ({ cls := "OwlYears$Land", name := "owlsWithRoad", desc := "(IZI)I" } : Jvm.MethodName)) ∈ lw_all := lw_g (lw_at lw_m7 6 rfl) rfl
theorem q1565 : (Jvm.Cond.instanceMethod ({ cls := "OwlYears$Land", name := "owlsWithRoad", desc := "(IZI)I" } : Jvm.MethodName)) ∈ lw_all := lw_g (lw_at lw_m7 7 rfl) rfl
theorem q1566 : (Jvm.Cond.selects "OwlYears$Land" ({ cls := "OwlYears$Land", name := "owlsWithRoad", desc := "(IZI)I" } : Jvm.MethodName) ({ cls := "OwlYears$Land", name := "owlsWithRoad", desc := "(IZI)I" } : Jvm.MethodName)) ∈ lw_all := lw_g (lw_at lw_m7 8 rfl) rfl
theorem q1567 : (Jvm.Cond.code ({ cls := "OwlYears$Land", name := "owlsWithRoad", desc := "(IZI)I" } : Jvm.MethodName) prog_3_method_64_code (5 : Nat) (Option.some Jvm.ClassFile.FieldType.int)) ∈ lw_all := lw_g (lw_at lw_m7 9 rfl) rfl
theorem q1568 : (Jvm.Cond.methodLink "OwlYears$Land" (312 : Nat) ({ cls := "OwlYears$Land", name := "buildRoad", desc := "(IZ)I" } : Jvm.MethodName)) ∈ lw_all := lw_g (lw_at lw_m7 10 rfl) rfl
theorem q1569 : (Jvm.Cond.instanceMethod ({ cls := "OwlYears$Land", name := "buildRoad", desc := "(IZ)I" } : Jvm.MethodName)) ∈ lw_all := lw_g (lw_at lw_m7 11 rfl) rfl
theorem q1570 : (Jvm.Cond.selects "OwlYears$Land" ({ cls := "OwlYears$Land", name := "buildRoad", desc := "(IZ)I" } : Jvm.MethodName) ({ cls := "OwlYears$Land", name := "buildRoad", desc := "(IZ)I" } : Jvm.MethodName)) ∈ lw_all := lw_g (lw_at lw_m7 12 rfl) rfl
theorem q1571 : (Jvm.Cond.code ({ cls := "OwlYears$Land", name := "buildRoad", desc := "(IZ)I" } : Jvm.MethodName) prog_3_method_18_code (6 : Nat) (Option.some Jvm.ClassFile.FieldType.int)) ∈ lw_all := lw_g (lw_at lw_m7 13 rfl) rfl
theorem q1572 : (Jvm.Cond.methodLink "OwlYears$Land" (162 : Nat) ({ cls := "OwlYears$Land", name := "tellRanges", desc := "()V" } : Jvm.MethodName)) ∈ lw_all := lw_g (lw_at lw_m7 14 rfl) rfl
theorem q1573 : (Jvm.Cond.privateMethod ({ cls := "OwlYears$Land", name := "tellRanges", desc := "()V" } : Jvm.MethodName)) ∈ lw_tbl := lw_at lw_m7 15 rfl
theorem q1574 : (Jvm.Cond.instanceMethod ({ cls := "OwlYears$Land", name := "tellRanges", desc := "()V" } : Jvm.MethodName)) ∈ lw_all := lw_g (lw_at lw_m7 16 rfl) rfl
theorem q1575 : (Jvm.Cond.code ({ cls := "OwlYears$Land", name := "tellRanges", desc := "()V" } : Jvm.MethodName) prog_3_method_12_code (4 : Nat) (Option.none : Option Jvm.ClassFile.FieldType)) ∈ lw_all := lw_g (lw_at lw_m7 17 rfl) rfl
theorem q1576 : (Jvm.Cond.methodLink "OwlYears$Land" (309 : Nat) ({ cls := "OwlYears$Land", name := "pass", desc := "(I)V" } : Jvm.MethodName)) ∈ lw_all := lw_g (lw_at lw_m7 18 rfl) rfl
theorem q1577 : (Jvm.Cond.instanceMethod ({ cls := "OwlYears$Land", name := "pass", desc := "(I)V" } : Jvm.MethodName)) ∈ lw_all := lw_g (lw_at lw_m7 19 rfl) rfl
theorem q1578 : (Jvm.Cond.selects "OwlYears$Land" ({ cls := "OwlYears$Land", name := "pass", desc := "(I)V" } : Jvm.MethodName) ({ cls := "OwlYears$Land", name := "pass", desc := "(I)V" } : Jvm.MethodName)) ∈ lw_all := lw_g (lw_at lw_m7 20 rfl) rfl
theorem q1579 : (Jvm.Cond.code ({ cls := "OwlYears$Land", name := "pass", desc := "(I)V" } : Jvm.MethodName) prog_3_method_49_code (3 : Nat) (Option.none : Option Jvm.ClassFile.FieldType)) ∈ lw_all := lw_g (lw_at lw_m7 21 rfl) rfl
theorem q1748 : (Jvm.Cond.instanceMethod ({ cls := "OwlYears$Land", name := "squares", desc := "(I)J" } : Jvm.MethodName)) ∈ lw_all := lw_g (lw_at lw_m7 190 rfl) rfl
theorem q1749 : (Jvm.Cond.selects "OwlYears$Land" ({ cls := "OwlYears$Land", name := "squares", desc := "(I)J" } : Jvm.MethodName) ({ cls := "OwlYears$Land", name := "squares", desc := "(I)J" } : Jvm.MethodName)) ∈ lw_all := lw_g (lw_at lw_m7 191 rfl) rfl
theorem q1750 : (Jvm.Cond.code ({ cls := "OwlYears$Land", name := "squares", desc := "(I)J" } : Jvm.MethodName) prog_3_method_58_code (5 : Nat) (Option.some Jvm.ClassFile.FieldType.long)) ∈ lw_all := lw_g (lw_at lw_m7 192 rfl) rfl
theorem q1765 : (Jvm.Cond.instanceMethod ({ cls := "OwlYears$Land", name := "mother", desc := "(LOwlYears$Owl;)I" } : Jvm.MethodName)) ∈ lw_all := lw_g (lw_at lw_m7 207 rfl) rfl
theorem q1766 : (Jvm.Cond.selects "OwlYears$Land" ({ cls := "OwlYears$Land", name := "mother", desc := "(LOwlYears$Owl;)I" } : Jvm.MethodName) ({ cls := "OwlYears$Land", name := "mother", desc := "(LOwlYears$Owl;)I" } : Jvm.MethodName)) ∈ lw_all := lw_g (lw_at lw_m7 208 rfl) rfl
theorem q1767 : (Jvm.Cond.code ({ cls := "OwlYears$Land", name := "mother", desc := "(LOwlYears$Owl;)I" } : Jvm.MethodName) prog_3_method_32_code (2 : Nat) (Option.some Jvm.ClassFile.FieldType.int)) ∈ lw_all := lw_g (lw_at lw_m7 209 rfl) rfl
theorem q1768 : (Jvm.Cond.methodLink "OwlYears$Land" (226 : Nat) ({ cls := "OwlYears$Land", name := "knownRing", desc := "(I)I" } : Jvm.MethodName)) ∈ lw_all := lw_g (lw_at lw_m7 210 rfl) rfl
theorem q1769 : (Jvm.Cond.privateMethod ({ cls := "OwlYears$Land", name := "knownRing", desc := "(I)I" } : Jvm.MethodName)) ∈ lw_tbl := lw_at lw_m7 211 rfl
theorem q1770 : (Jvm.Cond.instanceMethod ({ cls := "OwlYears$Land", name := "knownRing", desc := "(I)I" } : Jvm.MethodName)) ∈ lw_all := lw_g (lw_at lw_m7 212 rfl) rfl
theorem q1771 : (Jvm.Cond.code ({ cls := "OwlYears$Land", name := "knownRing", desc := "(I)I" } : Jvm.MethodName) prog_3_method_31_code (2 : Nat) (Option.some Jvm.ClassFile.FieldType.int)) ∈ lw_all := lw_g (lw_at lw_m7 213 rfl) rfl
theorem q1773 : (Jvm.Cond.instanceMethod ({ cls := "OwlYears$Land", name := "father", desc := "(LOwlYears$Owl;)I" } : Jvm.MethodName)) ∈ lw_all := lw_g (lw_at lw_m7 215 rfl) rfl
theorem q1774 : (Jvm.Cond.selects "OwlYears$Land" ({ cls := "OwlYears$Land", name := "father", desc := "(LOwlYears$Owl;)I" } : Jvm.MethodName) ({ cls := "OwlYears$Land", name := "father", desc := "(LOwlYears$Owl;)I" } : Jvm.MethodName)) ∈ lw_all := lw_g (lw_at lw_m7 216 rfl) rfl
theorem q1775 : (Jvm.Cond.code ({ cls := "OwlYears$Land", name := "father", desc := "(LOwlYears$Owl;)I" } : Jvm.MethodName) prog_3_method_33_code (2 : Nat) (Option.some Jvm.ClassFile.FieldType.int)) ∈ lw_all := lw_g (lw_at lw_m7 217 rfl) rfl
theorem q1777 : (Jvm.Cond.instanceMethod ({ cls := "OwlYears$Land", name := "children", desc := "(I)I" } : Jvm.MethodName)) ∈ lw_all := lw_g (lw_at lw_m7 219 rfl) rfl
theorem q1778 : (Jvm.Cond.selects "OwlYears$Land" ({ cls := "OwlYears$Land", name := "children", desc := "(I)I" } : Jvm.MethodName) ({ cls := "OwlYears$Land", name := "children", desc := "(I)I" } : Jvm.MethodName)) ∈ lw_all := lw_g (lw_at lw_m7 220 rfl) rfl
theorem q1779 : (Jvm.Cond.code ({ cls := "OwlYears$Land", name := "children", desc := "(I)I" } : Jvm.MethodName) prog_3_method_50_code (5 : Nat) (Option.some Jvm.ClassFile.FieldType.int)) ∈ lw_all := lw_g (lw_at lw_m7 221 rfl) rfl
theorem q1781 : (Jvm.Cond.instanceMethod ({ cls := "OwlYears$Land", name := "offspring", desc := "(I)I" } : Jvm.MethodName)) ∈ lw_all := lw_g (lw_at lw_m7 223 rfl) rfl
theorem q1782 : (Jvm.Cond.selects "OwlYears$Land" ({ cls := "OwlYears$Land", name := "offspring", desc := "(I)I" } : Jvm.MethodName) ({ cls := "OwlYears$Land", name := "offspring", desc := "(I)I" } : Jvm.MethodName)) ∈ lw_all := lw_g (lw_at lw_m7 224 rfl) rfl
theorem q1783 : (Jvm.Cond.code ({ cls := "OwlYears$Land", name := "offspring", desc := "(I)I" } : Jvm.MethodName) prog_3_method_52_code (10 : Nat) (Option.some Jvm.ClassFile.FieldType.int)) ∈ lw_all := lw_g (lw_at lw_m7 225 rfl) rfl
theorem q1785 : (Jvm.Cond.instanceMethod ({ cls := "OwlYears$Land", name := "owlsIn", desc := "(I)I" } : Jvm.MethodName)) ∈ lw_all := lw_g (lw_at lw_m7 227 rfl) rfl
theorem q1786 : (Jvm.Cond.selects "OwlYears$Land" ({ cls := "OwlYears$Land", name := "owlsIn", desc := "(I)I" } : Jvm.MethodName) ({ cls := "OwlYears$Land", name := "owlsIn", desc := "(I)I" } : Jvm.MethodName)) ∈ lw_all := lw_g (lw_at lw_m7 228 rfl) rfl
theorem q1787 : (Jvm.Cond.code ({ cls := "OwlYears$Land", name := "owlsIn", desc := "(I)I" } : Jvm.MethodName) prog_3_method_63_code (3 : Nat) (Option.some Jvm.ClassFile.FieldType.int)) ∈ lw_all := lw_g (lw_at lw_m7 229 rfl) rfl
theorem q1874 : (Jvm.Cond.instanceMethod ({ cls := "OwlYears$Land", name := "setLand", desc := "(II)V" } : Jvm.MethodName)) ∈ lw_all := lw_g (lw_at lw_m8 76 rfl) rfl
theorem q1875 : (Jvm.Cond.selects "OwlYears$Land" ({ cls := "OwlYears$Land", name := "setLand", desc := "(II)V" } : Jvm.MethodName) ({ cls := "OwlYears$Land", name := "setLand", desc := "(II)V" } : Jvm.MethodName)) ∈ lw_all := lw_g (lw_at lw_m8 77 rfl) rfl
theorem q1876 : (Jvm.Cond.code ({ cls := "OwlYears$Land", name := "setLand", desc := "(II)V" } : Jvm.MethodName) prog_3_method_17_code (3 : Nat) (Option.none : Option Jvm.ClassFile.FieldType)) ∈ lw_all := lw_g (lw_at lw_m8 78 rfl) rfl
theorem q1909 : (Jvm.Cond.instanceMethod ({ cls := "OwlYears$Land", name := "canPut", desc := "(I)Z" } : Jvm.MethodName)) ∈ lw_all := lw_g (lw_at lw_m8 111 rfl) rfl
theorem q1910 : (Jvm.Cond.selects "OwlYears$Land" ({ cls := "OwlYears$Land", name := "canPut", desc := "(I)Z" } : Jvm.MethodName) ({ cls := "OwlYears$Land", name := "canPut", desc := "(I)Z" } : Jvm.MethodName)) ∈ lw_all := lw_g (lw_at lw_m8 112 rfl) rfl
theorem q1911 : (Jvm.Cond.code ({ cls := "OwlYears$Land", name := "canPut", desc := "(I)Z" } : Jvm.MethodName) prog_3_method_19_code (2 : Nat) (Option.some Jvm.ClassFile.FieldType.boolean)) ∈ lw_all := lw_g (lw_at lw_m8 113 rfl) rfl
theorem q1913 : (Jvm.Cond.instanceMethod ({ cls := "OwlYears$Land", name := "putBox", desc := "(I)I" } : Jvm.MethodName)) ∈ lw_all := lw_g (lw_at lw_m8 115 rfl) rfl
theorem q1914 : (Jvm.Cond.selects "OwlYears$Land" ({ cls := "OwlYears$Land", name := "putBox", desc := "(I)I" } : Jvm.MethodName) ({ cls := "OwlYears$Land", name := "putBox", desc := "(I)I" } : Jvm.MethodName)) ∈ lw_all := lw_g (lw_at lw_m8 116 rfl) rfl
theorem q1915 : (Jvm.Cond.code ({ cls := "OwlYears$Land", name := "putBox", desc := "(I)I" } : Jvm.MethodName) prog_3_method_20_code (3 : Nat) (Option.some Jvm.ClassFile.FieldType.int)) ∈ lw_all := lw_g (lw_at lw_m8 117 rfl) rfl
theorem q1916 : (Jvm.Cond.methodLink "OwlYears$Land" (168 : Nat) ({ cls := "OwlYears$Box", name := "<init>", desc := "(I)V" } : Jvm.MethodName)) ∈ lw_all := lw_g (lw_at lw_m8 118 rfl) rfl
theorem q1929 : (Jvm.Cond.instanceMethod ({ cls := "OwlYears$Land", name := "takeBox", desc := "(I)I" } : Jvm.MethodName)) ∈ lw_all := lw_g (lw_at lw_m8 131 rfl) rfl
theorem q1930 : (Jvm.Cond.selects "OwlYears$Land" ({ cls := "OwlYears$Land", name := "takeBox", desc := "(I)I" } : Jvm.MethodName) ({ cls := "OwlYears$Land", name := "takeBox", desc := "(I)I" } : Jvm.MethodName)) ∈ lw_all := lw_g (lw_at lw_m8 132 rfl) rfl
theorem q1931 : (Jvm.Cond.code ({ cls := "OwlYears$Land", name := "takeBox", desc := "(I)I" } : Jvm.MethodName) prog_3_method_21_code (6 : Nat) (Option.some Jvm.ClassFile.FieldType.int)) ∈ lw_all := lw_g (lw_at lw_m8 133 rfl) rfl
theorem q1932 : (Jvm.Cond.methodLink "OwlYears$Land" (172 : Nat) ({ cls := "java/util/HashMap", name := "remove", desc := "(Ljava/lang/Object;)Ljava/lang/Object;" } : Jvm.MethodName)) ∈ lw_all := lw_g (lw_at lw_m8 134 rfl) rfl
theorem q1962 : (Jvm.Cond.instanceMethod ({ cls := "OwlYears$Land", name := "canLetIn", desc := "(II)Z" } : Jvm.MethodName)) ∈ lw_all := lw_g (lw_at lw_m8 164 rfl) rfl
theorem q1963 : (Jvm.Cond.selects "OwlYears$Land" ({ cls := "OwlYears$Land", name := "canLetIn", desc := "(II)Z" } : Jvm.MethodName) ({ cls := "OwlYears$Land", name := "canLetIn", desc := "(II)Z" } : Jvm.MethodName)) ∈ lw_all := lw_g (lw_at lw_m8 165 rfl) rfl
theorem q1964 : (Jvm.Cond.code ({ cls := "OwlYears$Land", name := "canLetIn", desc := "(II)Z" } : Jvm.MethodName) prog_3_method_22_code (3 : Nat) (Option.some Jvm.ClassFile.FieldType.boolean)) ∈ lw_all := lw_g (lw_at lw_m8 166 rfl) rfl
theorem q1966 : (Jvm.Cond.instanceMethod ({ cls := "OwlYears$Land", name := "letIn", desc := "(III)I" } : Jvm.MethodName)) ∈ lw_all := lw_g (lw_at lw_m8 168 rfl) rfl
theorem q1967 : (Jvm.Cond.selects "OwlYears$Land" ({ cls := "OwlYears$Land", name := "letIn", desc := "(III)I" } : Jvm.MethodName) ({ cls := "OwlYears$Land", name := "letIn", desc := "(III)I" } : Jvm.MethodName)) ∈ lw_all := lw_g (lw_at lw_m8 169 rfl) rfl
theorem q1968 : (Jvm.Cond.code ({ cls := "OwlYears$Land", name := "letIn", desc := "(III)I" } : Jvm.MethodName) prog_3_method_25_code (5 : Nat) (Option.some Jvm.ClassFile.FieldType.int)) ∈ lw_all := lw_g (lw_at lw_m8 170 rfl) rfl
theorem q1985 : (Jvm.Cond.instanceMethod ({ cls := "OwlYears$Land", name := "takeOut", desc := "(LOwlYears$Owl;)V" } : Jvm.MethodName)) ∈ lw_all := lw_g (lw_at lw_m8 187 rfl) rfl
theorem q1986 : (Jvm.Cond.selects "OwlYears$Land" ({ cls := "OwlYears$Land", name := "takeOut", desc := "(LOwlYears$Owl;)V" } : Jvm.MethodName) ({ cls := "OwlYears$Land", name := "takeOut", desc := "(LOwlYears$Owl;)V" } : Jvm.MethodName)) ∈ lw_all := lw_g (lw_at lw_m8 188 rfl) rfl
theorem q1987 : (Jvm.Cond.code ({ cls := "OwlYears$Land", name := "takeOut", desc := "(LOwlYears$Owl;)V" } : Jvm.MethodName) prog_3_method_27_code (2 : Nat) (Option.none : Option Jvm.ClassFile.FieldType)) ∈ lw_all := lw_g (lw_at lw_m8 189 rfl) rfl
theorem q2059 : (Jvm.Cond.instanceMethod ({ cls := "OwlYears$Land", name := "rangeByJoining", desc := "(I)J" } : Jvm.MethodName)) ∈ lw_all := lw_g (lw_at lw_m9 21 rfl) rfl
theorem q2060 : (Jvm.Cond.selects "OwlYears$Land" ({ cls := "OwlYears$Land", name := "rangeByJoining", desc := "(I)J" } : Jvm.MethodName) ({ cls := "OwlYears$Land", name := "rangeByJoining", desc := "(I)J" } : Jvm.MethodName)) ∈ lw_all := lw_g (lw_at lw_m9 22 rfl) rfl
theorem q2061 : (Jvm.Cond.code ({ cls := "OwlYears$Land", name := "rangeByJoining", desc := "(I)J" } : Jvm.MethodName) prog_3_method_10_code (8 : Nat) (Option.some Jvm.ClassFile.FieldType.long)) ∈ lw_all := lw_g (lw_at lw_m9 23 rfl) rfl
theorem q2062 : (Jvm.Cond.methodLinkNest "OwlYears$Land" (136 : Nat) ({ cls := "OwlYears", name := "areBeside", desc := "(II)Z" } : Jvm.MethodName) "OwlYears") ∈ lw_tbl := lw_at lw_m9 24 rfl
theorem q2065 : (Jvm.Cond.methodLink "OwlYears$Land" (140 : Nat) ({ cls := "OwlYears$Land", name := "join", desc := "([III)V" } : Jvm.MethodName)) ∈ lw_all := lw_g (lw_at lw_m9 27 rfl) rfl
theorem q2066 : (Jvm.Cond.static ({ cls := "OwlYears$Land", name := "join", desc := "([III)V" } : Jvm.MethodName)) ∈ lw_all := lw_g (lw_at lw_m9 28 rfl) rfl
theorem q2067 : (Jvm.Cond.code ({ cls := "OwlYears$Land", name := "join", desc := "([III)V" } : Jvm.MethodName) prog_3_method_11_code (4 : Nat) (Option.none : Option Jvm.ClassFile.FieldType)) ∈ lw_all := lw_g (lw_at lw_m9 29 rfl) rfl
theorem q2175 : (Jvm.Cond.instanceMethod ({ cls := "OwlYears$Land", name := "offspringByParents", desc := "(I)I" } : Jvm.MethodName)) ∈ lw_all := lw_g (lw_at lw_m9 137 rfl) rfl
theorem q2176 : (Jvm.Cond.selects "OwlYears$Land" ({ cls := "OwlYears$Land", name := "offspringByParents", desc := "(I)I" } : Jvm.MethodName) ({ cls := "OwlYears$Land", name := "offspringByParents", desc := "(I)I" } : Jvm.MethodName)) ∈ lw_all := lw_g (lw_at lw_m9 138 rfl) rfl
theorem q2177 : (Jvm.Cond.code ({ cls := "OwlYears$Land", name := "offspringByParents", desc := "(I)I" } : Jvm.MethodName) prog_3_method_54_code (6 : Nat) (Option.some Jvm.ClassFile.FieldType.int)) ∈ lw_all := lw_g (lw_at lw_m9 139 rfl) rfl
theorem q2967 : (Jvm.Cond.castable "OwlYears$Land" "java/lang/Object") ∈ lw_tbl := lw_at lw_m12 209 rfl
theorem in_X2 : ∀ w ∈ wsX20, w ∈ lw_all := lw_in wsX20 [265, 267, 269, 271, 273, 275, 277, 279, 281, 283, 285, 287, 289, 291, 293, 295, 297, 299] (by decide +kernel) (by decide +kernel)
