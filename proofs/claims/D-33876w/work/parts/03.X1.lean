/-! OwlYears -/
set_option maxRecDepth 100000
def RX1 : String := "OwlYears"
def TX1 : u_T := fun k => match k with
  | 0 => ("OwlYears", "land", "LOwlYears$Land;", false)
  | 1 => ("OwlYears", "kept", "LOwlYears$Land;", false)
  | 2 => ("OwlYears", "saved", "Ljava/util/ArrayList;", true)
  | _ => ("OwlYears", "text", "Ljava/lang/StringBuilder;", true)
def tyX1 : Nat → FieldType := fun k => match k with
  | 0 => .object "OwlYears$Land"
  | 1 => .object "OwlYears$Land"
  | 2 => .object "java/util/ArrayList"
  | _ => .object "java/lang/StringBuilder"
abbrev wsX10 : List Cond := u_ws RX1 TX1 4
theorem nmX1 : ∀ a, a < 4 → ∀ b, b < 4 → a ≠ b → (TX1 a).2.1 ≠ (TX1 b).2.1 := by decide +kernel
theorem tyX1_ok : ∀ k, k < 4 → parseFieldDescriptor (TX1 k).2.2.1 = some (tyX1 k) := by decide +kernel
abbrev cX1_init : ByteArray := prog_1_method_11_code
def yX1_init : MethodName := ⟨RX1, "<init>", "()V"⟩
def dkwX1_init_1 : List UInt8 := [181, 0, 50, 42, 187, 0, 54, 89, 16, 60, 183, 0, 56, 181, 0, 59, 177]
abbrev dktX1_init_1 : List UInt8 := dkwX1_init_1 ++ []
def dkwX1_init_0 : List UInt8 := [42, 183, 0, 37, 42, 187, 0, 40, 89, 183, 0, 42, 181, 0, 43, 42, 187, 0, 47, 89, 183, 0, 49]
abbrev dktX1_init_0 : List UInt8 := dkwX1_init_0 ++ dktX1_init_1
theorem dksX1_init_0 : cX1_init.data.toList.drop 0 = dktX1_init_0 := by decide +kernel
theorem dksX1_init_1 : cX1_init.data.toList.drop 23 = dktX1_init_1 := dk_seg dksX1_init_0 23 rfl rfl
theorem dX1_init_0 : decode cX1_init 0 = .ok (.aload_n 0, 1) := dk_42 (dk_at dksX1_init_0 0 rfl rfl)
theorem dX1_init_1 : decode cX1_init 1 = .ok (.invokespecial 37, 3) := dk_183 0 37 (dk_at dksX1_init_0 1 rfl rfl)
theorem dX1_init_4 : decode cX1_init 4 = .ok (.aload_n 0, 1) := dk_42 (dk_at dksX1_init_0 4 rfl rfl)
theorem dX1_init_5 : decode cX1_init 5 = .ok (.new 40, 3) := dk_187 0 40 (dk_at dksX1_init_0 5 rfl rfl)
theorem dX1_init_8 : decode cX1_init 8 = .ok (.dup, 1) := dk_89 (dk_at dksX1_init_0 8 rfl rfl)
theorem dX1_init_9 : decode cX1_init 9 = .ok (.invokespecial 42, 3) := dk_183 0 42 (dk_at dksX1_init_0 9 rfl rfl)
theorem dX1_init_12 : decode cX1_init 12 = .ok (.putfield 43, 3) := dk_181 0 43 (dk_at dksX1_init_0 12 rfl rfl)
theorem dX1_init_15 : decode cX1_init 15 = .ok (.aload_n 0, 1) := dk_42 (dk_at dksX1_init_0 15 rfl rfl)
theorem dX1_init_16 : decode cX1_init 16 = .ok (.new 47, 3) := dk_187 0 47 (dk_at dksX1_init_0 16 rfl rfl)
theorem dX1_init_19 : decode cX1_init 19 = .ok (.dup, 1) := dk_89 (dk_at dksX1_init_0 19 rfl rfl)
theorem dX1_init_20 : decode cX1_init 20 = .ok (.invokespecial 49, 3) := dk_183 0 49 (dk_at dksX1_init_0 20 rfl rfl)
theorem dX1_init_23 : decode cX1_init 23 = .ok (.putfield 50, 3) := dk_181 0 50 (dk_at dksX1_init_1 0 rfl rfl)
theorem dX1_init_26 : decode cX1_init 26 = .ok (.aload_n 0, 1) := dk_42 (dk_at dksX1_init_1 3 rfl rfl)
theorem dX1_init_27 : decode cX1_init 27 = .ok (.new 54, 3) := dk_187 0 54 (dk_at dksX1_init_1 4 rfl rfl)
theorem dX1_init_30 : decode cX1_init 30 = .ok (.dup, 1) := dk_89 (dk_at dksX1_init_1 7 rfl rfl)
theorem dX1_init_31 : decode cX1_init 31 = .ok (.bipush 60, 2) := dk_16 60 (dk_at dksX1_init_1 8 rfl rfl)
theorem dX1_init_33 : decode cX1_init 33 = .ok (.invokespecial 56, 3) := dk_183 0 56 (dk_at dksX1_init_1 10 rfl rfl)
theorem dX1_init_36 : decode cX1_init 36 = .ok (.putfield 59, 3) := dk_181 0 59 (dk_at dksX1_init_1 13 rfl rfl)
theorem dX1_init_39 : decode cX1_init 39 = .ok (.return_, 1) := dk_177 (dk_at dksX1_init_1 16 rfl rfl)
abbrev cX1_keep : ByteArray := prog_1_method_15_code
def yX1_keep : MethodName := ⟨RX1, "keep", "()I"⟩
def dkwX1_keep_0 : List UInt8 := [42, 42, 180, 0, 43, 182, 0, 75, 181, 0, 91, 42, 180, 0, 43, 180, 0, 94, 172]
abbrev dktX1_keep_0 : List UInt8 := dkwX1_keep_0 ++ []
theorem dksX1_keep_0 : cX1_keep.data.toList.drop 0 = dktX1_keep_0 := by decide +kernel
theorem dX1_keep_0 : decode cX1_keep 0 = .ok (.aload_n 0, 1) := dk_42 (dk_at dksX1_keep_0 0 rfl rfl)
theorem dX1_keep_1 : decode cX1_keep 1 = .ok (.aload_n 0, 1) := dk_42 (dk_at dksX1_keep_0 1 rfl rfl)
theorem dX1_keep_2 : decode cX1_keep 2 = .ok (.getfield 43, 3) := dk_180 0 43 (dk_at dksX1_keep_0 2 rfl rfl)
theorem dX1_keep_5 : decode cX1_keep 5 = .ok (.invokevirtual 75, 3) := dk_182 0 75 (dk_at dksX1_keep_0 5 rfl rfl)
theorem dX1_keep_8 : decode cX1_keep 8 = .ok (.putfield 91, 3) := dk_181 0 91 (dk_at dksX1_keep_0 8 rfl rfl)
theorem dX1_keep_11 : decode cX1_keep 11 = .ok (.aload_n 0, 1) := dk_42 (dk_at dksX1_keep_0 11 rfl rfl)
theorem dX1_keep_12 : decode cX1_keep 12 = .ok (.getfield 43, 3) := dk_180 0 43 (dk_at dksX1_keep_0 12 rfl rfl)
theorem dX1_keep_15 : decode cX1_keep 15 = .ok (.getfield 94, 3) := dk_180 0 94 (dk_at dksX1_keep_0 15 rfl rfl)
theorem dX1_keep_18 : decode cX1_keep 18 = .ok (.ireturn, 1) := dk_172 (dk_at dksX1_keep_0 18 rfl rfl)
abbrev cX1_year : ByteArray := prog_1_method_31_code
def yX1_year : MethodName := ⟨RX1, "year", "()I"⟩
def dkwX1_year_0 : List UInt8 := [42, 180, 0, 43, 180, 0, 94, 172]
abbrev dktX1_year_0 : List UInt8 := dkwX1_year_0 ++ []
theorem dksX1_year_0 : cX1_year.data.toList.drop 0 = dktX1_year_0 := by decide +kernel
theorem dX1_year_0 : decode cX1_year 0 = .ok (.aload_n 0, 1) := dk_42 (dk_at dksX1_year_0 0 rfl rfl)
theorem dX1_year_1 : decode cX1_year 1 = .ok (.getfield 43, 3) := dk_180 0 43 (dk_at dksX1_year_0 1 rfl rfl)
theorem dX1_year_4 : decode cX1_year 4 = .ok (.getfield 94, 3) := dk_180 0 94 (dk_at dksX1_year_0 4 rfl rfl)
theorem dX1_year_7 : decode cX1_year 7 = .ok (.ireturn, 1) := dk_172 (dk_at dksX1_year_0 7 rfl rfl)
abbrev cX1_phase : ByteArray := prog_1_method_32_code
def yX1_phase : MethodName := ⟨RX1, "phase", "()I"⟩
def dkwX1_phase_0 : List UInt8 := [42, 180, 0, 43, 182, 0, 196, 172]
abbrev dktX1_phase_0 : List UInt8 := dkwX1_phase_0 ++ []
theorem dksX1_phase_0 : cX1_phase.data.toList.drop 0 = dktX1_phase_0 := by decide +kernel
theorem dX1_phase_0 : decode cX1_phase 0 = .ok (.aload_n 0, 1) := dk_42 (dk_at dksX1_phase_0 0 rfl rfl)
theorem dX1_phase_1 : decode cX1_phase 1 = .ok (.getfield 43, 3) := dk_180 0 43 (dk_at dksX1_phase_0 1 rfl rfl)
theorem dX1_phase_4 : decode cX1_phase 4 = .ok (.invokevirtual 196, 3) := dk_182 0 196 (dk_at dksX1_phase_0 4 rfl rfl)
theorem dX1_phase_7 : decode cX1_phase 7 = .ok (.ireturn, 1) := dk_172 (dk_at dksX1_phase_0 7 rfl rfl)
abbrev cX1_voles : ByteArray := prog_1_method_36_code
def yX1_voles : MethodName := ⟨RX1, "voles", "()I"⟩
def dkwX1_voles_0 : List UInt8 := [42, 180, 0, 43, 182, 0, 203, 172]
abbrev dktX1_voles_0 : List UInt8 := dkwX1_voles_0 ++ []
theorem dksX1_voles_0 : cX1_voles.data.toList.drop 0 = dktX1_voles_0 := by decide +kernel
theorem dX1_voles_0 : decode cX1_voles 0 = .ok (.aload_n 0, 1) := dk_42 (dk_at dksX1_voles_0 0 rfl rfl)
theorem dX1_voles_1 : decode cX1_voles 1 = .ok (.getfield 43, 3) := dk_180 0 43 (dk_at dksX1_voles_0 1 rfl rfl)
theorem dX1_voles_4 : decode cX1_voles 4 = .ok (.invokevirtual 203, 3) := dk_182 0 203 (dk_at dksX1_voles_0 4 rfl rfl)
theorem dX1_voles_7 : decode cX1_voles 7 = .ok (.ireturn, 1) := dk_172 (dk_at dksX1_voles_0 7 rfl rfl)
abbrev cX1_chances : ByteArray := prog_1_method_39_code
def yX1_chances : MethodName := ⟨RX1, "chances", "()I"⟩
def dkwX1_chances_0 : List UInt8 := [42, 180, 0, 43, 180, 0, 153, 172]
abbrev dktX1_chances_0 : List UInt8 := dkwX1_chances_0 ++ []
theorem dksX1_chances_0 : cX1_chances.data.toList.drop 0 = dktX1_chances_0 := by decide +kernel
theorem dX1_chances_0 : decode cX1_chances 0 = .ok (.aload_n 0, 1) := dk_42 (dk_at dksX1_chances_0 0 rfl rfl)
theorem dX1_chances_1 : decode cX1_chances 1 = .ok (.getfield 43, 3) := dk_180 0 43 (dk_at dksX1_chances_0 1 rfl rfl)
theorem dX1_chances_4 : decode cX1_chances 4 = .ok (.getfield 153, 3) := dk_180 0 153 (dk_at dksX1_chances_0 4 rfl rfl)
theorem dX1_chances_7 : decode cX1_chances 7 = .ok (.ireturn, 1) := dk_172 (dk_at dksX1_chances_0 7 rfl rfl)
abbrev cX1_boxes : ByteArray := prog_1_method_40_code
def yX1_boxes : MethodName := ⟨RX1, "boxes", "()I"⟩
def dkwX1_boxes_0 : List UInt8 := [42, 180, 0, 43, 180, 0, 98, 182, 0, 63, 172]
abbrev dktX1_boxes_0 : List UInt8 := dkwX1_boxes_0 ++ []
theorem dksX1_boxes_0 : cX1_boxes.data.toList.drop 0 = dktX1_boxes_0 := by decide +kernel
theorem dX1_boxes_0 : decode cX1_boxes 0 = .ok (.aload_n 0, 1) := dk_42 (dk_at dksX1_boxes_0 0 rfl rfl)
theorem dX1_boxes_1 : decode cX1_boxes 1 = .ok (.getfield 43, 3) := dk_180 0 43 (dk_at dksX1_boxes_0 1 rfl rfl)
theorem dX1_boxes_4 : decode cX1_boxes 4 = .ok (.getfield 98, 3) := dk_180 0 98 (dk_at dksX1_boxes_0 4 rfl rfl)
theorem dX1_boxes_7 : decode cX1_boxes 7 = .ok (.invokevirtual 63, 3) := dk_182 0 63 (dk_at dksX1_boxes_0 7 rfl rfl)
theorem dX1_boxes_10 : decode cX1_boxes 10 = .ok (.ireturn, 1) := dk_172 (dk_at dksX1_boxes_0 10 rfl rfl)
abbrev cX1_owls : ByteArray := prog_1_method_50_code
def yX1_owls : MethodName := ⟨RX1, "owls", "()I"⟩
def dkwX1_owls_0 : List UInt8 := [42, 180, 0, 43, 180, 0, 194, 172]
abbrev dktX1_owls_0 : List UInt8 := dkwX1_owls_0 ++ []
theorem dksX1_owls_0 : cX1_owls.data.toList.drop 0 = dktX1_owls_0 := by decide +kernel
theorem dX1_owls_0 : decode cX1_owls 0 = .ok (.aload_n 0, 1) := dk_42 (dk_at dksX1_owls_0 0 rfl rfl)
theorem dX1_owls_1 : decode cX1_owls 1 = .ok (.getfield 43, 3) := dk_180 0 43 (dk_at dksX1_owls_0 1 rfl rfl)
theorem dX1_owls_4 : decode cX1_owls 4 = .ok (.getfield 194, 3) := dk_180 0 194 (dk_at dksX1_owls_0 4 rfl rfl)
theorem dX1_owls_7 : decode cX1_owls 7 = .ok (.ireturn, 1) := dk_172 (dk_at dksX1_owls_0 7 rfl rfl)
abbrev cX1_owlsByAccount : ByteArray := prog_1_method_51_code
def yX1_owlsByAccount : MethodName := ⟨RX1, "owlsByAccount", "()I"⟩
def dkwX1_owlsByAccount_0 : List UInt8 := [42, 180, 0, 43, 182, 0, 243, 172]
abbrev dktX1_owlsByAccount_0 : List UInt8 := dkwX1_owlsByAccount_0 ++ []
theorem dksX1_owlsByAccount_0 : cX1_owlsByAccount.data.toList.drop 0 = dktX1_owlsByAccount_0 := by decide +kernel
theorem dX1_owlsByAccount_0 : decode cX1_owlsByAccount 0 = .ok (.aload_n 0, 1) := dk_42 (dk_at dksX1_owlsByAccount_0 0 rfl rfl)
theorem dX1_owlsByAccount_1 : decode cX1_owlsByAccount 1 = .ok (.getfield 43, 3) := dk_180 0 43 (dk_at dksX1_owlsByAccount_0 1 rfl rfl)
theorem dX1_owlsByAccount_4 : decode cX1_owlsByAccount 4 = .ok (.invokevirtual 243, 3) := dk_182 0 243 (dk_at dksX1_owlsByAccount_0 4 rfl rfl)
theorem dX1_owlsByAccount_7 : decode cX1_owlsByAccount 7 = .ok (.ireturn, 1) := dk_172 (dk_at dksX1_owlsByAccount_0 7 rfl rfl)
abbrev cX1_wanderers : ByteArray := prog_1_method_52_code
def yX1_wanderers : MethodName := ⟨RX1, "wanderers", "()I"⟩
def dkwX1_wanderers_0 : List UInt8 := [42, 180, 0, 43, 182, 0, 246, 172]
abbrev dktX1_wanderers_0 : List UInt8 := dkwX1_wanderers_0 ++ []
theorem dksX1_wanderers_0 : cX1_wanderers.data.toList.drop 0 = dktX1_wanderers_0 := by decide +kernel
theorem dX1_wanderers_0 : decode cX1_wanderers 0 = .ok (.aload_n 0, 1) := dk_42 (dk_at dksX1_wanderers_0 0 rfl rfl)
theorem dX1_wanderers_1 : decode cX1_wanderers 1 = .ok (.getfield 43, 3) := dk_180 0 43 (dk_at dksX1_wanderers_0 1 rfl rfl)
theorem dX1_wanderers_4 : decode cX1_wanderers 4 = .ok (.invokevirtual 246, 3) := dk_182 0 246 (dk_at dksX1_wanderers_0 4 rfl rfl)
theorem dX1_wanderers_7 : decode cX1_wanderers 7 = .ok (.ireturn, 1) := dk_172 (dk_at dksX1_wanderers_0 7 rfl rfl)
abbrev cX1_rings : ByteArray := prog_1_method_54_code
def yX1_rings : MethodName := ⟨RX1, "rings", "()I"⟩
def dkwX1_rings_0 : List UInt8 := [42, 180, 0, 43, 180, 1, 2, 172]
abbrev dktX1_rings_0 : List UInt8 := dkwX1_rings_0 ++ []
theorem dksX1_rings_0 : cX1_rings.data.toList.drop 0 = dktX1_rings_0 := by decide +kernel
theorem dX1_rings_0 : decode cX1_rings 0 = .ok (.aload_n 0, 1) := dk_42 (dk_at dksX1_rings_0 0 rfl rfl)
theorem dX1_rings_1 : decode cX1_rings 1 = .ok (.getfield 43, 3) := dk_180 0 43 (dk_at dksX1_rings_0 1 rfl rfl)
theorem dX1_rings_4 : decode cX1_rings 4 = .ok (.getfield 258, 3) := dk_180 1 2 (dk_at dksX1_rings_0 4 rfl rfl)
theorem dX1_rings_7 : decode cX1_rings 7 = .ok (.ireturn, 1) := dk_172 (dk_at dksX1_rings_0 7 rfl rfl)
abbrev cX1_isAlive : ByteArray := prog_1_method_55_code
def yX1_isAlive : MethodName := ⟨RX1, "isAlive", "(I)Z"⟩
def dkwX1_isAlive_1 : List UInt8 := [3, 172]
abbrev dktX1_isAlive_1 : List UInt8 := dkwX1_isAlive_1 ++ []
def dkwX1_isAlive_0 : List UInt8 := [42, 180, 0, 43, 27, 182, 0, 105, 77, 44, 198, 0, 14, 44, 180, 0, 112, 153, 0, 7, 4, 167, 0, 4]
abbrev dktX1_isAlive_0 : List UInt8 := dkwX1_isAlive_0 ++ dktX1_isAlive_1
theorem dksX1_isAlive_0 : cX1_isAlive.data.toList.drop 0 = dktX1_isAlive_0 := by decide +kernel
theorem dksX1_isAlive_1 : cX1_isAlive.data.toList.drop 24 = dktX1_isAlive_1 := dk_seg dksX1_isAlive_0 24 rfl rfl
theorem dX1_isAlive_0 : decode cX1_isAlive 0 = .ok (.aload_n 0, 1) := dk_42 (dk_at dksX1_isAlive_0 0 rfl rfl)
theorem dX1_isAlive_1 : decode cX1_isAlive 1 = .ok (.getfield 43, 3) := dk_180 0 43 (dk_at dksX1_isAlive_0 1 rfl rfl)
theorem dX1_isAlive_4 : decode cX1_isAlive 4 = .ok (.iload_n 1, 1) := dk_27 (dk_at dksX1_isAlive_0 4 rfl rfl)
theorem dX1_isAlive_5 : decode cX1_isAlive 5 = .ok (.invokevirtual 105, 3) := dk_182 0 105 (dk_at dksX1_isAlive_0 5 rfl rfl)
theorem dX1_isAlive_8 : decode cX1_isAlive 8 = .ok (.astore_n 2, 1) := dk_77 (dk_at dksX1_isAlive_0 8 rfl rfl)
theorem dX1_isAlive_9 : decode cX1_isAlive 9 = .ok (.aload_n 2, 1) := dk_44 (dk_at dksX1_isAlive_0 9 rfl rfl)
theorem dX1_isAlive_10 : decode cX1_isAlive 10 = .ok (.ifnull 14, 3) := dk_198 0 14 (dk_at dksX1_isAlive_0 10 rfl rfl)
theorem dX1_isAlive_13 : decode cX1_isAlive 13 = .ok (.aload_n 2, 1) := dk_44 (dk_at dksX1_isAlive_0 13 rfl rfl)
theorem dX1_isAlive_14 : decode cX1_isAlive 14 = .ok (.getfield 112, 3) := dk_180 0 112 (dk_at dksX1_isAlive_0 14 rfl rfl)
theorem dX1_isAlive_17 : decode cX1_isAlive 17 = .ok (.ifCond .eq 7, 3) := dk_153 0 7 (dk_at dksX1_isAlive_0 17 rfl rfl)
theorem dX1_isAlive_20 : decode cX1_isAlive 20 = .ok (.iconst 1, 1) := dk_4 (dk_at dksX1_isAlive_0 20 rfl rfl)
theorem dX1_isAlive_21 : decode cX1_isAlive 21 = .ok (.goto 4, 3) := dk_167 0 4 (dk_at dksX1_isAlive_0 21 rfl rfl)
theorem dX1_isAlive_24 : decode cX1_isAlive 24 = .ok (.iconst 0, 1) := dk_3 (dk_at dksX1_isAlive_1 0 rfl rfl)
theorem dX1_isAlive_25 : decode cX1_isAlive 25 = .ok (.ireturn, 1) := dk_172 (dk_at dksX1_isAlive_1 1 rfl rfl)
abbrev cX1_oldest : ByteArray := prog_1_method_59_code
def yX1_oldest : MethodName := ⟨RX1, "oldest", "()I"⟩
def dkwX1_oldest_0 : List UInt8 := [42, 180, 0, 43, 182, 1, 9, 76, 43, 199, 0, 7, 2, 167, 0, 7, 43, 180, 0, 255, 172]
abbrev dktX1_oldest_0 : List UInt8 := dkwX1_oldest_0 ++ []
theorem dksX1_oldest_0 : cX1_oldest.data.toList.drop 0 = dktX1_oldest_0 := by decide +kernel
theorem dX1_oldest_0 : decode cX1_oldest 0 = .ok (.aload_n 0, 1) := dk_42 (dk_at dksX1_oldest_0 0 rfl rfl)
theorem dX1_oldest_1 : decode cX1_oldest 1 = .ok (.getfield 43, 3) := dk_180 0 43 (dk_at dksX1_oldest_0 1 rfl rfl)
theorem dX1_oldest_4 : decode cX1_oldest 4 = .ok (.invokevirtual 265, 3) := dk_182 1 9 (dk_at dksX1_oldest_0 4 rfl rfl)
theorem dX1_oldest_7 : decode cX1_oldest 7 = .ok (.astore_n 1, 1) := dk_76 (dk_at dksX1_oldest_0 7 rfl rfl)
theorem dX1_oldest_8 : decode cX1_oldest 8 = .ok (.aload_n 1, 1) := dk_43 (dk_at dksX1_oldest_0 8 rfl rfl)
theorem dX1_oldest_9 : decode cX1_oldest 9 = .ok (.ifnonnull 7, 3) := dk_199 0 7 (dk_at dksX1_oldest_0 9 rfl rfl)
theorem dX1_oldest_12 : decode cX1_oldest 12 = .ok (.iconst (-1), 1) := dk_2 (dk_at dksX1_oldest_0 12 rfl rfl)
theorem dX1_oldest_13 : decode cX1_oldest 13 = .ok (.goto 7, 3) := dk_167 0 7 (dk_at dksX1_oldest_0 13 rfl rfl)
theorem dX1_oldest_16 : decode cX1_oldest 16 = .ok (.aload_n 1, 1) := dk_43 (dk_at dksX1_oldest_0 16 rfl rfl)
theorem dX1_oldest_17 : decode cX1_oldest 17 = .ok (.getfield 255, 3) := dk_180 0 255 (dk_at dksX1_oldest_0 17 rfl rfl)
theorem dX1_oldest_20 : decode cX1_oldest 20 = .ok (.ireturn, 1) := dk_172 (dk_at dksX1_oldest_0 20 rfl rfl)
abbrev cX1_meanAge : ByteArray := prog_1_method_60_code
def yX1_meanAge : MethodName := ⟨RX1, "meanAge", "()D"⟩
def dkwX1_meanAge_4 : List UInt8 := [180, 0, 194, 135, 111, 175]
abbrev dktX1_meanAge_4 : List UInt8 := dkwX1_meanAge_4 ++ []
def dkwX1_meanAge_3 : List UInt8 := [167, 255, 204, 42, 180, 0, 43, 180, 0, 194, 154, 0, 7, 14, 167, 0, 14, 27, 135, 42, 180, 0, 43]
abbrev dktX1_meanAge_3 : List UInt8 := dkwX1_meanAge_3 ++ dktX1_meanAge_4
def dkwX1_meanAge_2 : List UInt8 := [180, 0, 249, 29, 182, 0, 252, 192, 0, 113, 180, 0, 181, 167, 0, 4, 3, 96, 60, 132, 3, 1]
abbrev dktX1_meanAge_2 : List UInt8 := dkwX1_meanAge_2 ++ dktX1_meanAge_3
def dkwX1_meanAge_1 : List UInt8 := [180, 0, 43, 180, 0, 249, 29, 182, 0, 252, 192, 0, 113, 180, 0, 112, 153, 0, 23, 42, 180, 0, 43]
abbrev dktX1_meanAge_1 : List UInt8 := dkwX1_meanAge_1 ++ dktX1_meanAge_2
def dkwX1_meanAge_0 : List UInt8 := [3, 60, 42, 180, 0, 43, 180, 0, 249, 182, 0, 63, 61, 3, 62, 29, 28, 162, 0, 53, 27, 42]
abbrev dktX1_meanAge_0 : List UInt8 := dkwX1_meanAge_0 ++ dktX1_meanAge_1
theorem dksX1_meanAge_0 : cX1_meanAge.data.toList.drop 0 = dktX1_meanAge_0 := by decide +kernel
theorem dksX1_meanAge_1 : cX1_meanAge.data.toList.drop 22 = dktX1_meanAge_1 := dk_seg dksX1_meanAge_0 22 rfl rfl
theorem dksX1_meanAge_2 : cX1_meanAge.data.toList.drop 45 = dktX1_meanAge_2 := dk_seg dksX1_meanAge_1 23 rfl rfl
theorem dksX1_meanAge_3 : cX1_meanAge.data.toList.drop 67 = dktX1_meanAge_3 := dk_seg dksX1_meanAge_2 22 rfl rfl
theorem dksX1_meanAge_4 : cX1_meanAge.data.toList.drop 90 = dktX1_meanAge_4 := dk_seg dksX1_meanAge_3 23 rfl rfl
theorem dX1_meanAge_0 : decode cX1_meanAge 0 = .ok (.iconst 0, 1) := dk_3 (dk_at dksX1_meanAge_0 0 rfl rfl)
theorem dX1_meanAge_1 : decode cX1_meanAge 1 = .ok (.istore_n 1, 1) := dk_60 (dk_at dksX1_meanAge_0 1 rfl rfl)
theorem dX1_meanAge_2 : decode cX1_meanAge 2 = .ok (.aload_n 0, 1) := dk_42 (dk_at dksX1_meanAge_0 2 rfl rfl)
theorem dX1_meanAge_3 : decode cX1_meanAge 3 = .ok (.getfield 43, 3) := dk_180 0 43 (dk_at dksX1_meanAge_0 3 rfl rfl)
theorem dX1_meanAge_6 : decode cX1_meanAge 6 = .ok (.getfield 249, 3) := dk_180 0 249 (dk_at dksX1_meanAge_0 6 rfl rfl)
theorem dX1_meanAge_9 : decode cX1_meanAge 9 = .ok (.invokevirtual 63, 3) := dk_182 0 63 (dk_at dksX1_meanAge_0 9 rfl rfl)
theorem dX1_meanAge_12 : decode cX1_meanAge 12 = .ok (.istore_n 2, 1) := dk_61 (dk_at dksX1_meanAge_0 12 rfl rfl)
theorem dX1_meanAge_13 : decode cX1_meanAge 13 = .ok (.iconst 0, 1) := dk_3 (dk_at dksX1_meanAge_0 13 rfl rfl)
theorem dX1_meanAge_14 : decode cX1_meanAge 14 = .ok (.istore_n 3, 1) := dk_62 (dk_at dksX1_meanAge_0 14 rfl rfl)
theorem dX1_meanAge_15 : decode cX1_meanAge 15 = .ok (.iload_n 3, 1) := dk_29 (dk_at dksX1_meanAge_0 15 rfl rfl)
theorem dX1_meanAge_16 : decode cX1_meanAge 16 = .ok (.iload_n 2, 1) := dk_28 (dk_at dksX1_meanAge_0 16 rfl rfl)
theorem dX1_meanAge_17 : decode cX1_meanAge 17 = .ok (.if_icmp .ge 53, 3) := dk_162 0 53 (dk_at dksX1_meanAge_0 17 rfl rfl)
theorem dX1_meanAge_20 : decode cX1_meanAge 20 = .ok (.iload_n 1, 1) := dk_27 (dk_at dksX1_meanAge_0 20 rfl rfl)
theorem dX1_meanAge_21 : decode cX1_meanAge 21 = .ok (.aload_n 0, 1) := dk_42 (dk_at dksX1_meanAge_0 21 rfl rfl)
theorem dX1_meanAge_22 : decode cX1_meanAge 22 = .ok (.getfield 43, 3) := dk_180 0 43 (dk_at dksX1_meanAge_1 0 rfl rfl)
theorem dX1_meanAge_25 : decode cX1_meanAge 25 = .ok (.getfield 249, 3) := dk_180 0 249 (dk_at dksX1_meanAge_1 3 rfl rfl)
theorem dX1_meanAge_28 : decode cX1_meanAge 28 = .ok (.iload_n 3, 1) := dk_29 (dk_at dksX1_meanAge_1 6 rfl rfl)
theorem dX1_meanAge_29 : decode cX1_meanAge 29 = .ok (.invokevirtual 252, 3) := dk_182 0 252 (dk_at dksX1_meanAge_1 7 rfl rfl)
theorem dX1_meanAge_32 : decode cX1_meanAge 32 = .ok (.checkcast 113, 3) := dk_192 0 113 (dk_at dksX1_meanAge_1 10 rfl rfl)
theorem dX1_meanAge_35 : decode cX1_meanAge 35 = .ok (.getfield 112, 3) := dk_180 0 112 (dk_at dksX1_meanAge_1 13 rfl rfl)
theorem dX1_meanAge_38 : decode cX1_meanAge 38 = .ok (.ifCond .eq 23, 3) := dk_153 0 23 (dk_at dksX1_meanAge_1 16 rfl rfl)
theorem dX1_meanAge_41 : decode cX1_meanAge 41 = .ok (.aload_n 0, 1) := dk_42 (dk_at dksX1_meanAge_1 19 rfl rfl)
theorem dX1_meanAge_42 : decode cX1_meanAge 42 = .ok (.getfield 43, 3) := dk_180 0 43 (dk_at dksX1_meanAge_1 20 rfl rfl)
theorem dX1_meanAge_45 : decode cX1_meanAge 45 = .ok (.getfield 249, 3) := dk_180 0 249 (dk_at dksX1_meanAge_2 0 rfl rfl)
theorem dX1_meanAge_48 : decode cX1_meanAge 48 = .ok (.iload_n 3, 1) := dk_29 (dk_at dksX1_meanAge_2 3 rfl rfl)
theorem dX1_meanAge_49 : decode cX1_meanAge 49 = .ok (.invokevirtual 252, 3) := dk_182 0 252 (dk_at dksX1_meanAge_2 4 rfl rfl)
theorem dX1_meanAge_52 : decode cX1_meanAge 52 = .ok (.checkcast 113, 3) := dk_192 0 113 (dk_at dksX1_meanAge_2 7 rfl rfl)
theorem dX1_meanAge_55 : decode cX1_meanAge 55 = .ok (.getfield 181, 3) := dk_180 0 181 (dk_at dksX1_meanAge_2 10 rfl rfl)
theorem dX1_meanAge_58 : decode cX1_meanAge 58 = .ok (.goto 4, 3) := dk_167 0 4 (dk_at dksX1_meanAge_2 13 rfl rfl)
theorem dX1_meanAge_61 : decode cX1_meanAge 61 = .ok (.iconst 0, 1) := dk_3 (dk_at dksX1_meanAge_2 16 rfl rfl)
theorem dX1_meanAge_62 : decode cX1_meanAge 62 = .ok (.iadd, 1) := dk_96 (dk_at dksX1_meanAge_2 17 rfl rfl)
theorem dX1_meanAge_63 : decode cX1_meanAge 63 = .ok (.istore_n 1, 1) := dk_60 (dk_at dksX1_meanAge_2 18 rfl rfl)
theorem dX1_meanAge_64 : decode cX1_meanAge 64 = .ok (.iinc 3 1, 3) := dk_132 3 1 (dk_at dksX1_meanAge_2 19 rfl rfl)
theorem dX1_meanAge_67 : decode cX1_meanAge 67 = .ok (.goto (-52), 3) := dk_167 255 204 (dk_at dksX1_meanAge_3 0 rfl rfl)
theorem dX1_meanAge_70 : decode cX1_meanAge 70 = .ok (.aload_n 0, 1) := dk_42 (dk_at dksX1_meanAge_3 3 rfl rfl)
theorem dX1_meanAge_71 : decode cX1_meanAge 71 = .ok (.getfield 43, 3) := dk_180 0 43 (dk_at dksX1_meanAge_3 4 rfl rfl)
theorem dX1_meanAge_74 : decode cX1_meanAge 74 = .ok (.getfield 194, 3) := dk_180 0 194 (dk_at dksX1_meanAge_3 7 rfl rfl)
theorem dX1_meanAge_77 : decode cX1_meanAge 77 = .ok (.ifCond .ne 7, 3) := dk_154 0 7 (dk_at dksX1_meanAge_3 10 rfl rfl)
theorem dX1_meanAge_80 : decode cX1_meanAge 80 = .ok (.dconst 0, 1) := dk_14 (dk_at dksX1_meanAge_3 13 rfl rfl)
theorem dX1_meanAge_81 : decode cX1_meanAge 81 = .ok (.goto 14, 3) := dk_167 0 14 (dk_at dksX1_meanAge_3 14 rfl rfl)
theorem dX1_meanAge_84 : decode cX1_meanAge 84 = .ok (.iload_n 1, 1) := dk_27 (dk_at dksX1_meanAge_3 17 rfl rfl)
theorem dX1_meanAge_85 : decode cX1_meanAge 85 = .ok (.i2d, 1) := dk_135 (dk_at dksX1_meanAge_3 18 rfl rfl)
theorem dX1_meanAge_86 : decode cX1_meanAge 86 = .ok (.aload_n 0, 1) := dk_42 (dk_at dksX1_meanAge_3 19 rfl rfl)
theorem dX1_meanAge_87 : decode cX1_meanAge 87 = .ok (.getfield 43, 3) := dk_180 0 43 (dk_at dksX1_meanAge_3 20 rfl rfl)
theorem dX1_meanAge_90 : decode cX1_meanAge 90 = .ok (.getfield 194, 3) := dk_180 0 194 (dk_at dksX1_meanAge_4 0 rfl rfl)
theorem dX1_meanAge_93 : decode cX1_meanAge 93 = .ok (.i2d, 1) := dk_135 (dk_at dksX1_meanAge_4 3 rfl rfl)
theorem dX1_meanAge_94 : decode cX1_meanAge 94 = .ok (.ddiv, 1) := dk_111 (dk_at dksX1_meanAge_4 4 rfl rfl)
theorem dX1_meanAge_95 : decode cX1_meanAge 95 = .ok (.dreturn, 1) := dk_175 (dk_at dksX1_meanAge_4 5 rfl rfl)
abbrev cX1_kinPairs : ByteArray := prog_1_method_67_code
def yX1_kinPairs : MethodName := ⟨RX1, "kinPairs", "()I"⟩
def dkwX1_kinPairs_0 : List UInt8 := [42, 180, 0, 43, 182, 1, 32, 172]
abbrev dktX1_kinPairs_0 : List UInt8 := dkwX1_kinPairs_0 ++ []
theorem dksX1_kinPairs_0 : cX1_kinPairs.data.toList.drop 0 = dktX1_kinPairs_0 := by decide +kernel
theorem dX1_kinPairs_0 : decode cX1_kinPairs 0 = .ok (.aload_n 0, 1) := dk_42 (dk_at dksX1_kinPairs_0 0 rfl rfl)
theorem dX1_kinPairs_1 : decode cX1_kinPairs 1 = .ok (.getfield 43, 3) := dk_180 0 43 (dk_at dksX1_kinPairs_0 1 rfl rfl)
theorem dX1_kinPairs_4 : decode cX1_kinPairs 4 = .ok (.invokevirtual 288, 3) := dk_182 1 32 (dk_at dksX1_kinPairs_0 4 rfl rfl)
theorem dX1_kinPairs_7 : decode cX1_kinPairs 7 = .ok (.ireturn, 1) := dk_172 (dk_at dksX1_kinPairs_0 7 rfl rfl)
abbrev cX1_born : ByteArray := prog_1_method_68_code
def yX1_born : MethodName := ⟨RX1, "born", "()I"⟩
def dkwX1_born_0 : List UInt8 := [42, 180, 0, 43, 180, 1, 35, 172]
abbrev dktX1_born_0 : List UInt8 := dkwX1_born_0 ++ []
theorem dksX1_born_0 : cX1_born.data.toList.drop 0 = dktX1_born_0 := by decide +kernel
theorem dX1_born_0 : decode cX1_born 0 = .ok (.aload_n 0, 1) := dk_42 (dk_at dksX1_born_0 0 rfl rfl)
theorem dX1_born_1 : decode cX1_born 1 = .ok (.getfield 43, 3) := dk_180 0 43 (dk_at dksX1_born_0 1 rfl rfl)
theorem dX1_born_4 : decode cX1_born 4 = .ok (.getfield 291, 3) := dk_180 1 35 (dk_at dksX1_born_0 4 rfl rfl)
theorem dX1_born_7 : decode cX1_born 7 = .ok (.ireturn, 1) := dk_172 (dk_at dksX1_born_0 7 rfl rfl)
abbrev cX1_takenOut : ByteArray := prog_1_method_70_code
def yX1_takenOut : MethodName := ⟨RX1, "takenOut", "()I"⟩
def dkwX1_takenOut_0 : List UInt8 := [42, 180, 0, 43, 180, 1, 41, 172]
abbrev dktX1_takenOut_0 : List UInt8 := dkwX1_takenOut_0 ++ []
theorem dksX1_takenOut_0 : cX1_takenOut.data.toList.drop 0 = dktX1_takenOut_0 := by decide +kernel
theorem dX1_takenOut_0 : decode cX1_takenOut 0 = .ok (.aload_n 0, 1) := dk_42 (dk_at dksX1_takenOut_0 0 rfl rfl)
theorem dX1_takenOut_1 : decode cX1_takenOut 1 = .ok (.getfield 43, 3) := dk_180 0 43 (dk_at dksX1_takenOut_0 1 rfl rfl)
theorem dX1_takenOut_4 : decode cX1_takenOut 4 = .ok (.getfield 297, 3) := dk_180 1 41 (dk_at dksX1_takenOut_0 4 rfl rfl)
theorem dX1_takenOut_7 : decode cX1_takenOut 7 = .ok (.ireturn, 1) := dk_172 (dk_at dksX1_takenOut_0 7 rfl rfl)
abbrev cX1_eaten : ByteArray := prog_1_method_71_code
def yX1_eaten : MethodName := ⟨RX1, "eaten", "()I"⟩
def dkwX1_eaten_0 : List UInt8 := [42, 180, 0, 43, 180, 1, 44, 172]
abbrev dktX1_eaten_0 : List UInt8 := dkwX1_eaten_0 ++ []
theorem dksX1_eaten_0 : cX1_eaten.data.toList.drop 0 = dktX1_eaten_0 := by decide +kernel
theorem dX1_eaten_0 : decode cX1_eaten 0 = .ok (.aload_n 0, 1) := dk_42 (dk_at dksX1_eaten_0 0 rfl rfl)
theorem dX1_eaten_1 : decode cX1_eaten 1 = .ok (.getfield 43, 3) := dk_180 0 43 (dk_at dksX1_eaten_0 1 rfl rfl)
theorem dX1_eaten_4 : decode cX1_eaten 4 = .ok (.getfield 300, 3) := dk_180 1 44 (dk_at dksX1_eaten_0 4 rfl rfl)
theorem dX1_eaten_7 : decode cX1_eaten 7 = .ok (.ireturn, 1) := dk_172 (dk_at dksX1_eaten_0 7 rfl rfl)
abbrev cX1_mostOwls : ByteArray := prog_1_method_72_code
def yX1_mostOwls : MethodName := ⟨RX1, "mostOwls", "()I"⟩
def dkwX1_mostOwls_0 : List UInt8 := [42, 180, 0, 43, 180, 1, 47, 172]
abbrev dktX1_mostOwls_0 : List UInt8 := dkwX1_mostOwls_0 ++ []
theorem dksX1_mostOwls_0 : cX1_mostOwls.data.toList.drop 0 = dktX1_mostOwls_0 := by decide +kernel
theorem dX1_mostOwls_0 : decode cX1_mostOwls 0 = .ok (.aload_n 0, 1) := dk_42 (dk_at dksX1_mostOwls_0 0 rfl rfl)
theorem dX1_mostOwls_1 : decode cX1_mostOwls 1 = .ok (.getfield 43, 3) := dk_180 0 43 (dk_at dksX1_mostOwls_0 1 rfl rfl)
theorem dX1_mostOwls_4 : decode cX1_mostOwls 4 = .ok (.getfield 303, 3) := dk_180 1 47 (dk_at dksX1_mostOwls_0 4 rfl rfl)
theorem dX1_mostOwls_7 : decode cX1_mostOwls 7 = .ok (.ireturn, 1) := dk_172 (dk_at dksX1_mostOwls_0 7 rfl rfl)
abbrev cX1_deaths : ByteArray := prog_1_method_73_code
def yX1_deaths : MethodName := ⟨RX1, "deaths", "()I"⟩
def dkwX1_deaths_0 : List UInt8 := [42, 180, 0, 43, 180, 1, 50, 172]
abbrev dktX1_deaths_0 : List UInt8 := dkwX1_deaths_0 ++ []
theorem dksX1_deaths_0 : cX1_deaths.data.toList.drop 0 = dktX1_deaths_0 := by decide +kernel
theorem dX1_deaths_0 : decode cX1_deaths 0 = .ok (.aload_n 0, 1) := dk_42 (dk_at dksX1_deaths_0 0 rfl rfl)
theorem dX1_deaths_1 : decode cX1_deaths 1 = .ok (.getfield 43, 3) := dk_180 0 43 (dk_at dksX1_deaths_0 1 rfl rfl)
theorem dX1_deaths_4 : decode cX1_deaths 4 = .ok (.getfield 306, 3) := dk_180 1 50 (dk_at dksX1_deaths_0 4 rfl rfl)
theorem dX1_deaths_7 : decode cX1_deaths 7 = .ok (.ireturn, 1) := dk_172 (dk_at dksX1_deaths_0 7 rfl rfl)
abbrev cX1_bestSquare : ByteArray := prog_1_method_78_code
def yX1_bestSquare : MethodName := ⟨RX1, "bestSquare", "()I"⟩
def dkwX1_bestSquare_0 : List UInt8 := [42, 180, 0, 43, 182, 1, 59, 172]
abbrev dktX1_bestSquare_0 : List UInt8 := dkwX1_bestSquare_0 ++ []
theorem dksX1_bestSquare_0 : cX1_bestSquare.data.toList.drop 0 = dktX1_bestSquare_0 := by decide +kernel
theorem dX1_bestSquare_0 : decode cX1_bestSquare 0 = .ok (.aload_n 0, 1) := dk_42 (dk_at dksX1_bestSquare_0 0 rfl rfl)
theorem dX1_bestSquare_1 : decode cX1_bestSquare 1 = .ok (.getfield 43, 3) := dk_180 0 43 (dk_at dksX1_bestSquare_0 1 rfl rfl)
theorem dX1_bestSquare_4 : decode cX1_bestSquare 4 = .ok (.invokevirtual 315, 3) := dk_182 1 59 (dk_at dksX1_bestSquare_0 4 rfl rfl)
theorem dX1_bestSquare_7 : decode cX1_bestSquare 7 = .ok (.ireturn, 1) := dk_172 (dk_at dksX1_bestSquare_0 7 rfl rfl)
abbrev cX1_far : ByteArray := prog_1_method_9_code
def yX1_far : MethodName := ⟨RX1, "far", "(II)I"⟩
def dkwX1_far_1 : List UInt8 := [184, 0, 33, 172]
abbrev dktX1_far_1 : List UInt8 := dkwX1_far_1 ++ []
def dkwX1_far_0 : List UInt8 := [26, 16, 8, 108, 27, 16, 8, 108, 100, 184, 0, 27, 26, 16, 8, 112, 27, 16, 8, 112, 100, 184, 0, 27]
abbrev dktX1_far_0 : List UInt8 := dkwX1_far_0 ++ dktX1_far_1
theorem dksX1_far_0 : cX1_far.data.toList.drop 0 = dktX1_far_0 := by decide +kernel
theorem dksX1_far_1 : cX1_far.data.toList.drop 24 = dktX1_far_1 := dk_seg dksX1_far_0 24 rfl rfl
theorem dX1_far_0 : decode cX1_far 0 = .ok (.iload_n 0, 1) := dk_26 (dk_at dksX1_far_0 0 rfl rfl)
theorem dX1_far_1 : decode cX1_far 1 = .ok (.bipush 8, 2) := dk_16 8 (dk_at dksX1_far_0 1 rfl rfl)
theorem dX1_far_3 : decode cX1_far 3 = .ok (.idiv, 1) := dk_108 (dk_at dksX1_far_0 3 rfl rfl)
theorem dX1_far_4 : decode cX1_far 4 = .ok (.iload_n 1, 1) := dk_27 (dk_at dksX1_far_0 4 rfl rfl)
theorem dX1_far_5 : decode cX1_far 5 = .ok (.bipush 8, 2) := dk_16 8 (dk_at dksX1_far_0 5 rfl rfl)
theorem dX1_far_7 : decode cX1_far 7 = .ok (.idiv, 1) := dk_108 (dk_at dksX1_far_0 7 rfl rfl)
theorem dX1_far_8 : decode cX1_far 8 = .ok (.isub, 1) := dk_100 (dk_at dksX1_far_0 8 rfl rfl)
theorem dX1_far_9 : decode cX1_far 9 = .ok (.invokestatic 27, 3) := dk_184 0 27 (dk_at dksX1_far_0 9 rfl rfl)
theorem dX1_far_12 : decode cX1_far 12 = .ok (.iload_n 0, 1) := dk_26 (dk_at dksX1_far_0 12 rfl rfl)
theorem dX1_far_13 : decode cX1_far 13 = .ok (.bipush 8, 2) := dk_16 8 (dk_at dksX1_far_0 13 rfl rfl)
theorem dX1_far_15 : decode cX1_far 15 = .ok (.irem, 1) := dk_112 (dk_at dksX1_far_0 15 rfl rfl)
theorem dX1_far_16 : decode cX1_far 16 = .ok (.iload_n 1, 1) := dk_27 (dk_at dksX1_far_0 16 rfl rfl)
theorem dX1_far_17 : decode cX1_far 17 = .ok (.bipush 8, 2) := dk_16 8 (dk_at dksX1_far_0 17 rfl rfl)
theorem dX1_far_19 : decode cX1_far 19 = .ok (.irem, 1) := dk_112 (dk_at dksX1_far_0 19 rfl rfl)
theorem dX1_far_20 : decode cX1_far 20 = .ok (.isub, 1) := dk_100 (dk_at dksX1_far_0 20 rfl rfl)
theorem dX1_far_21 : decode cX1_far 21 = .ok (.invokestatic 27, 3) := dk_184 0 27 (dk_at dksX1_far_0 21 rfl rfl)
theorem dX1_far_24 : decode cX1_far 24 = .ok (.invokestatic 33, 3) := dk_184 0 33 (dk_at dksX1_far_1 0 rfl rfl)
theorem dX1_far_27 : decode cX1_far 27 = .ok (.ireturn, 1) := dk_172 (dk_at dksX1_far_1 3 rfl rfl)
abbrev cX1_has : ByteArray := prog_1_method_8_code
def yX1_has : MethodName := ⟨RX1, "has", "(JI)Z"⟩
def dkwX1_has_0 : List UInt8 := [30, 28, 123, 10, 127, 10, 148, 154, 0, 7, 4, 167, 0, 4, 3, 172]
abbrev dktX1_has_0 : List UInt8 := dkwX1_has_0 ++ []
theorem dksX1_has_0 : cX1_has.data.toList.drop 0 = dktX1_has_0 := by decide +kernel
theorem dX1_has_0 : decode cX1_has 0 = .ok (.lload_n 0, 1) := dk_30 (dk_at dksX1_has_0 0 rfl rfl)
theorem dX1_has_1 : decode cX1_has 1 = .ok (.iload_n 2, 1) := dk_28 (dk_at dksX1_has_0 1 rfl rfl)
theorem dX1_has_2 : decode cX1_has 2 = .ok (.lshr, 1) := dk_123 (dk_at dksX1_has_0 2 rfl rfl)
theorem dX1_has_3 : decode cX1_has 3 = .ok (.lconst 1, 1) := dk_10 (dk_at dksX1_has_0 3 rfl rfl)
theorem dX1_has_4 : decode cX1_has 4 = .ok (.land, 1) := dk_127 (dk_at dksX1_has_0 4 rfl rfl)
theorem dX1_has_5 : decode cX1_has 5 = .ok (.lconst 1, 1) := dk_10 (dk_at dksX1_has_0 5 rfl rfl)
theorem dX1_has_6 : decode cX1_has 6 = .ok (.lcmp, 1) := dk_148 (dk_at dksX1_has_0 6 rfl rfl)
theorem dX1_has_7 : decode cX1_has 7 = .ok (.ifCond .ne 7, 3) := dk_154 0 7 (dk_at dksX1_has_0 7 rfl rfl)
theorem dX1_has_10 : decode cX1_has 10 = .ok (.iconst 1, 1) := dk_4 (dk_at dksX1_has_0 10 rfl rfl)
theorem dX1_has_11 : decode cX1_has 11 = .ok (.goto 4, 3) := dk_167 0 4 (dk_at dksX1_has_0 11 rfl rfl)
theorem dX1_has_14 : decode cX1_has 14 = .ok (.iconst 0, 1) := dk_3 (dk_at dksX1_has_0 14 rfl rfl)
theorem dX1_has_15 : decode cX1_has 15 = .ok (.ireturn, 1) := dk_172 (dk_at dksX1_has_0 15 rfl rfl)
abbrev cX1_yearsUntilGone : ByteArray := prog_1_method_81_code
def yX1_yearsUntilGone : MethodName := ⟨RX1, "yearsUntilGone", "()I"⟩
def dkwX1_yearsUntilGone_0 : List UInt8 := [42, 180, 0, 43, 182, 1, 69, 172]
abbrev dktX1_yearsUntilGone_0 : List UInt8 := dkwX1_yearsUntilGone_0 ++ []
theorem dksX1_yearsUntilGone_0 : cX1_yearsUntilGone.data.toList.drop 0 = dktX1_yearsUntilGone_0 := by decide +kernel
theorem dX1_yearsUntilGone_0 : decode cX1_yearsUntilGone 0 = .ok (.aload_n 0, 1) := dk_42 (dk_at dksX1_yearsUntilGone_0 0 rfl rfl)
theorem dX1_yearsUntilGone_1 : decode cX1_yearsUntilGone 1 = .ok (.getfield 43, 3) := dk_180 0 43 (dk_at dksX1_yearsUntilGone_0 1 rfl rfl)
theorem dX1_yearsUntilGone_4 : decode cX1_yearsUntilGone 4 = .ok (.invokevirtual 325, 3) := dk_182 1 69 (dk_at dksX1_yearsUntilGone_0 4 rfl rfl)
theorem dX1_yearsUntilGone_7 : decode cX1_yearsUntilGone 7 = .ok (.ireturn, 1) := dk_172 (dk_at dksX1_yearsUntilGone_0 7 rfl rfl)
abbrev cX1_bestRow : ByteArray := prog_1_method_82_code
def yX1_bestRow : MethodName := ⟨RX1, "bestRow", "()I"⟩
def dkwX1_bestRow_0 : List UInt8 := [42, 180, 0, 43, 182, 1, 72, 172]
abbrev dktX1_bestRow_0 : List UInt8 := dkwX1_bestRow_0 ++ []
theorem dksX1_bestRow_0 : cX1_bestRow.data.toList.drop 0 = dktX1_bestRow_0 := by decide +kernel
theorem dX1_bestRow_0 : decode cX1_bestRow 0 = .ok (.aload_n 0, 1) := dk_42 (dk_at dksX1_bestRow_0 0 rfl rfl)
theorem dX1_bestRow_1 : decode cX1_bestRow 1 = .ok (.getfield 43, 3) := dk_180 0 43 (dk_at dksX1_bestRow_0 1 rfl rfl)
theorem dX1_bestRow_4 : decode cX1_bestRow 4 = .ok (.invokevirtual 328, 3) := dk_182 1 72 (dk_at dksX1_bestRow_0 4 rfl rfl)
theorem dX1_bestRow_7 : decode cX1_bestRow 7 = .ok (.ireturn, 1) := dk_172 (dk_at dksX1_bestRow_0 7 rfl rfl)
abbrev cX1_clearText : ByteArray := prog_1_method_84_code
def yX1_clearText : MethodName := ⟨RX1, "clearText", "()I"⟩
def dkwX1_clearText_0 : List UInt8 := [42, 180, 0, 59, 182, 1, 75, 60, 42, 180, 0, 59, 3, 182, 1, 82, 27, 172]
abbrev dktX1_clearText_0 : List UInt8 := dkwX1_clearText_0 ++ []
theorem dksX1_clearText_0 : cX1_clearText.data.toList.drop 0 = dktX1_clearText_0 := by decide +kernel
theorem dX1_clearText_0 : decode cX1_clearText 0 = .ok (.aload_n 0, 1) := dk_42 (dk_at dksX1_clearText_0 0 rfl rfl)
theorem dX1_clearText_1 : decode cX1_clearText 1 = .ok (.getfield 59, 3) := dk_180 0 59 (dk_at dksX1_clearText_0 1 rfl rfl)
theorem dX1_clearText_4 : decode cX1_clearText 4 = .ok (.invokevirtual 331, 3) := dk_182 1 75 (dk_at dksX1_clearText_0 4 rfl rfl)
theorem dX1_clearText_7 : decode cX1_clearText 7 = .ok (.istore_n 1, 1) := dk_60 (dk_at dksX1_clearText_0 7 rfl rfl)
theorem dX1_clearText_8 : decode cX1_clearText 8 = .ok (.aload_n 0, 1) := dk_42 (dk_at dksX1_clearText_0 8 rfl rfl)
theorem dX1_clearText_9 : decode cX1_clearText 9 = .ok (.getfield 59, 3) := dk_180 0 59 (dk_at dksX1_clearText_0 9 rfl rfl)
theorem dX1_clearText_12 : decode cX1_clearText 12 = .ok (.iconst 0, 1) := dk_3 (dk_at dksX1_clearText_0 12 rfl rfl)
theorem dX1_clearText_13 : decode cX1_clearText 13 = .ok (.invokevirtual 338, 3) := dk_182 1 82 (dk_at dksX1_clearText_0 13 rfl rfl)
theorem dX1_clearText_16 : decode cX1_clearText 16 = .ok (.iload_n 1, 1) := dk_27 (dk_at dksX1_clearText_0 16 rfl rfl)
theorem dX1_clearText_17 : decode cX1_clearText 17 = .ok (.ireturn, 1) := dk_172 (dk_at dksX1_clearText_0 17 rfl rfl)
abbrev cX1_firstError : ByteArray := prog_1_method_85_code
def yX1_firstError : MethodName := ⟨RX1, "firstError", "()I"⟩
def dkwX1_firstError_0 : List UInt8 := [187, 1, 85, 89, 42, 180, 0, 59, 183, 1, 87, 182, 1, 90, 172]
abbrev dktX1_firstError_0 : List UInt8 := dkwX1_firstError_0 ++ []
theorem dksX1_firstError_0 : cX1_firstError.data.toList.drop 0 = dktX1_firstError_0 := by decide +kernel
theorem dX1_firstError_0 : decode cX1_firstError 0 = .ok (.new 341, 3) := dk_187 1 85 (dk_at dksX1_firstError_0 0 rfl rfl)
theorem dX1_firstError_3 : decode cX1_firstError 3 = .ok (.dup, 1) := dk_89 (dk_at dksX1_firstError_0 3 rfl rfl)
theorem dX1_firstError_4 : decode cX1_firstError 4 = .ok (.aload_n 0, 1) := dk_42 (dk_at dksX1_firstError_0 4 rfl rfl)
theorem dX1_firstError_5 : decode cX1_firstError 5 = .ok (.getfield 59, 3) := dk_180 0 59 (dk_at dksX1_firstError_0 5 rfl rfl)
theorem dX1_firstError_8 : decode cX1_firstError 8 = .ok (.invokespecial 343, 3) := dk_183 1 87 (dk_at dksX1_firstError_0 8 rfl rfl)
theorem dX1_firstError_11 : decode cX1_firstError 11 = .ok (.invokevirtual 346, 3) := dk_182 1 90 (dk_at dksX1_firstError_0 11 rfl rfl)
theorem dX1_firstError_14 : decode cX1_firstError 14 = .ok (.ireturn, 1) := dk_172 (dk_at dksX1_firstError_0 14 rfl rfl)
abbrev cX1_isWithin : ByteArray := prog_1_method_1_code
def yX1_isWithin : MethodName := ⟨RX1, "isWithin", "(III)Z"⟩
def dkwX1_isWithin_0 : List UInt8 := [26, 27, 161, 0, 12, 26, 28, 163, 0, 7, 4, 167, 0, 4, 3, 172]
abbrev dktX1_isWithin_0 : List UInt8 := dkwX1_isWithin_0 ++ []
theorem dksX1_isWithin_0 : cX1_isWithin.data.toList.drop 0 = dktX1_isWithin_0 := by decide +kernel
theorem dX1_isWithin_0 : decode cX1_isWithin 0 = .ok (.iload_n 0, 1) := dk_26 (dk_at dksX1_isWithin_0 0 rfl rfl)
theorem dX1_isWithin_1 : decode cX1_isWithin 1 = .ok (.iload_n 1, 1) := dk_27 (dk_at dksX1_isWithin_0 1 rfl rfl)
theorem dX1_isWithin_2 : decode cX1_isWithin 2 = .ok (.if_icmp .lt 12, 3) := dk_161 0 12 (dk_at dksX1_isWithin_0 2 rfl rfl)
theorem dX1_isWithin_5 : decode cX1_isWithin 5 = .ok (.iload_n 0, 1) := dk_26 (dk_at dksX1_isWithin_0 5 rfl rfl)
theorem dX1_isWithin_6 : decode cX1_isWithin 6 = .ok (.iload_n 2, 1) := dk_28 (dk_at dksX1_isWithin_0 6 rfl rfl)
theorem dX1_isWithin_7 : decode cX1_isWithin 7 = .ok (.if_icmp .gt 7, 3) := dk_163 0 7 (dk_at dksX1_isWithin_0 7 rfl rfl)
theorem dX1_isWithin_10 : decode cX1_isWithin 10 = .ok (.iconst 1, 1) := dk_4 (dk_at dksX1_isWithin_0 10 rfl rfl)
theorem dX1_isWithin_11 : decode cX1_isWithin 11 = .ok (.goto 4, 3) := dk_167 0 4 (dk_at dksX1_isWithin_0 11 rfl rfl)
theorem dX1_isWithin_14 : decode cX1_isWithin 14 = .ok (.iconst 0, 1) := dk_3 (dk_at dksX1_isWithin_0 14 rfl rfl)
theorem dX1_isWithin_15 : decode cX1_isWithin 15 = .ok (.ireturn, 1) := dk_172 (dk_at dksX1_isWithin_0 15 rfl rfl)
abbrev cX1_digest : ByteArray := prog_1_method_93_code
def yX1_digest : MethodName := ⟨RX1, "digest", "()J"⟩
def dkwX1_digest_12 : List UInt8 := [43, 182, 1, 59, 133, 80, 89, 4, 43, 7, 182, 1, 62, 133, 80, 184, 1, 122, 173]
abbrev dktX1_digest_12 : List UInt8 := dkwX1_digest_12 ++ []
def dkwX1_digest_11 : List UInt8 := [180, 1, 53, 21, 4, 46, 133, 80, 184, 1, 122, 65, 132, 4, 1, 167, 255, 223, 32, 5, 188, 11, 89, 3]
abbrev dktX1_digest_11 : List UInt8 := dkwX1_digest_11 ++ dktX1_digest_12
def dkwX1_digest_10 : List UInt8 := [65, 3, 54, 4, 21, 4, 6, 43, 180, 1, 50, 104, 162, 0, 28, 32, 4, 188, 11, 89, 3, 43]
abbrev dktX1_digest_10 : List UInt8 := dkwX1_digest_10 ++ dktX1_digest_11
def dkwX1_digest_9 : List UInt8 := [21, 4, 46, 133, 80, 184, 1, 122, 65, 132, 4, 1, 167, 255, 227, 42, 42, 32, 182, 1, 129, 182, 1, 133]
abbrev dktX1_digest_9 : List UInt8 := dkwX1_digest_9 ++ dktX1_digest_10
def dkwX1_digest_8 : List UInt8 := [167, 255, 230, 3, 54, 4, 21, 4, 16, 64, 162, 0, 28, 32, 4, 188, 11, 89, 3, 43, 180, 0, 149]
abbrev dktX1_digest_8 : List UInt8 := dkwX1_digest_8 ++ dktX1_digest_9
def dkwX1_digest_7 : List UInt8 := [7, 162, 0, 26, 32, 4, 188, 11, 89, 3, 43, 21, 4, 182, 0, 199, 80, 184, 1, 122, 65, 132, 4, 1]
abbrev dktX1_digest_7 : List UInt8 := dkwX1_digest_7 ++ dktX1_digest_8
def dkwX1_digest_6 : List UInt8 := [43, 180, 1, 38, 21, 4, 46, 133, 80, 184, 1, 122, 65, 132, 4, 1, 167, 255, 228, 3, 54, 4, 21, 4]
abbrev dktX1_digest_6 : List UInt8 := dkwX1_digest_6 ++ dktX1_digest_7
def dkwX1_digest_5 : List UInt8 := [180, 1, 47, 133, 80, 184, 1, 122, 65, 3, 54, 4, 21, 4, 7, 162, 0, 28, 32, 4, 188, 11, 89, 3]
abbrev dktX1_digest_5 : List UInt8 := dkwX1_digest_5 ++ dktX1_digest_6
def dkwX1_digest_4 : List UInt8 := [133, 80, 89, 16, 10, 43, 180, 1, 41, 133, 80, 89, 16, 11, 43, 180, 1, 44, 133, 80, 89, 16, 12, 43]
abbrev dktX1_digest_4 : List UInt8 := dkwX1_digest_4 ++ dktX1_digest_5
def dkwX1_digest_3 : List UInt8 := [16, 7, 42, 182, 1, 127, 133, 80, 89, 16, 8, 43, 182, 1, 32, 133, 80, 89, 16, 9, 43, 180, 1, 35]
abbrev dktX1_digest_3 : List UInt8 := dkwX1_digest_3 ++ dktX1_digest_4
def dkwX1_digest_2 : List UInt8 := [180, 0, 194, 133, 80, 89, 8, 43, 182, 0, 246, 133, 80, 89, 16, 6, 43, 180, 1, 2, 133, 80, 89]
abbrev dktX1_digest_2 : List UInt8 := dkwX1_digest_2 ++ dktX1_digest_3
def dkwX1_digest_1 : List UInt8 := [182, 0, 203, 133, 80, 89, 5, 43, 180, 0, 153, 133, 80, 89, 6, 42, 182, 1, 102, 133, 80, 89, 7, 43]
abbrev dktX1_digest_1 : List UInt8 := dkwX1_digest_1 ++ dktX1_digest_2
def dkwX1_digest_0 : List UInt8 := [42, 180, 0, 43, 76, 20, 1, 125, 16, 13, 188, 11, 89, 3, 43, 180, 0, 94, 133, 80, 89, 4, 43]
abbrev dktX1_digest_0 : List UInt8 := dkwX1_digest_0 ++ dktX1_digest_1
theorem dksX1_digest_0 : cX1_digest.data.toList.drop 0 = dktX1_digest_0 := by decide +kernel
theorem dksX1_digest_1 : cX1_digest.data.toList.drop 23 = dktX1_digest_1 := dk_seg dksX1_digest_0 23 rfl rfl
theorem dksX1_digest_2 : cX1_digest.data.toList.drop 47 = dktX1_digest_2 := dk_seg dksX1_digest_1 24 rfl rfl
theorem dksX1_digest_3 : cX1_digest.data.toList.drop 70 = dktX1_digest_3 := dk_seg dksX1_digest_2 23 rfl rfl
theorem dksX1_digest_4 : cX1_digest.data.toList.drop 94 = dktX1_digest_4 := dk_seg dksX1_digest_3 24 rfl rfl
theorem dksX1_digest_5 : cX1_digest.data.toList.drop 118 = dktX1_digest_5 := dk_seg dksX1_digest_4 24 rfl rfl
theorem dksX1_digest_6 : cX1_digest.data.toList.drop 142 = dktX1_digest_6 := dk_seg dksX1_digest_5 24 rfl rfl
theorem dksX1_digest_7 : cX1_digest.data.toList.drop 166 = dktX1_digest_7 := dk_seg dksX1_digest_6 24 rfl rfl
theorem dksX1_digest_8 : cX1_digest.data.toList.drop 190 = dktX1_digest_8 := dk_seg dksX1_digest_7 24 rfl rfl
theorem dksX1_digest_9 : cX1_digest.data.toList.drop 213 = dktX1_digest_9 := dk_seg dksX1_digest_8 23 rfl rfl
theorem dksX1_digest_10 : cX1_digest.data.toList.drop 237 = dktX1_digest_10 := dk_seg dksX1_digest_9 24 rfl rfl
theorem dksX1_digest_11 : cX1_digest.data.toList.drop 259 = dktX1_digest_11 := dk_seg dksX1_digest_10 22 rfl rfl
theorem dksX1_digest_12 : cX1_digest.data.toList.drop 283 = dktX1_digest_12 := dk_seg dksX1_digest_11 24 rfl rfl
theorem dX1_digest_0 : decode cX1_digest 0 = .ok (.aload_n 0, 1) := dk_42 (dk_at dksX1_digest_0 0 rfl rfl)
theorem dX1_digest_1 : decode cX1_digest 1 = .ok (.getfield 43, 3) := dk_180 0 43 (dk_at dksX1_digest_0 1 rfl rfl)
theorem dX1_digest_4 : decode cX1_digest 4 = .ok (.astore_n 1, 1) := dk_76 (dk_at dksX1_digest_0 4 rfl rfl)
theorem dX1_digest_5 : decode cX1_digest 5 = .ok (.ldc2_w 381, 3) := dk_20 1 125 (dk_at dksX1_digest_0 5 rfl rfl)
theorem dX1_digest_8 : decode cX1_digest 8 = .ok (.bipush 13, 2) := dk_16 13 (dk_at dksX1_digest_0 8 rfl rfl)
theorem dX1_digest_10 : decode cX1_digest 10 = .ok (.newarray .long, 2) := dk_188_11 (dk_at dksX1_digest_0 10 rfl rfl)
theorem dX1_digest_12 : decode cX1_digest 12 = .ok (.dup, 1) := dk_89 (dk_at dksX1_digest_0 12 rfl rfl)
theorem dX1_digest_13 : decode cX1_digest 13 = .ok (.iconst 0, 1) := dk_3 (dk_at dksX1_digest_0 13 rfl rfl)
theorem dX1_digest_14 : decode cX1_digest 14 = .ok (.aload_n 1, 1) := dk_43 (dk_at dksX1_digest_0 14 rfl rfl)
theorem dX1_digest_15 : decode cX1_digest 15 = .ok (.getfield 94, 3) := dk_180 0 94 (dk_at dksX1_digest_0 15 rfl rfl)
theorem dX1_digest_18 : decode cX1_digest 18 = .ok (.i2l, 1) := dk_133 (dk_at dksX1_digest_0 18 rfl rfl)
theorem dX1_digest_19 : decode cX1_digest 19 = .ok (.lastore, 1) := dk_80 (dk_at dksX1_digest_0 19 rfl rfl)
theorem dX1_digest_20 : decode cX1_digest 20 = .ok (.dup, 1) := dk_89 (dk_at dksX1_digest_0 20 rfl rfl)
theorem dX1_digest_21 : decode cX1_digest 21 = .ok (.iconst 1, 1) := dk_4 (dk_at dksX1_digest_0 21 rfl rfl)
theorem dX1_digest_22 : decode cX1_digest 22 = .ok (.aload_n 1, 1) := dk_43 (dk_at dksX1_digest_0 22 rfl rfl)
theorem dX1_digest_23 : decode cX1_digest 23 = .ok (.invokevirtual 203, 3) := dk_182 0 203 (dk_at dksX1_digest_1 0 rfl rfl)
theorem dX1_digest_26 : decode cX1_digest 26 = .ok (.i2l, 1) := dk_133 (dk_at dksX1_digest_1 3 rfl rfl)
theorem dX1_digest_27 : decode cX1_digest 27 = .ok (.lastore, 1) := dk_80 (dk_at dksX1_digest_1 4 rfl rfl)
theorem dX1_digest_28 : decode cX1_digest 28 = .ok (.dup, 1) := dk_89 (dk_at dksX1_digest_1 5 rfl rfl)
theorem dX1_digest_29 : decode cX1_digest 29 = .ok (.iconst 2, 1) := dk_5 (dk_at dksX1_digest_1 6 rfl rfl)
theorem dX1_digest_30 : decode cX1_digest 30 = .ok (.aload_n 1, 1) := dk_43 (dk_at dksX1_digest_1 7 rfl rfl)
theorem dX1_digest_31 : decode cX1_digest 31 = .ok (.getfield 153, 3) := dk_180 0 153 (dk_at dksX1_digest_1 8 rfl rfl)
theorem dX1_digest_34 : decode cX1_digest 34 = .ok (.i2l, 1) := dk_133 (dk_at dksX1_digest_1 11 rfl rfl)
theorem dX1_digest_35 : decode cX1_digest 35 = .ok (.lastore, 1) := dk_80 (dk_at dksX1_digest_1 12 rfl rfl)
theorem dX1_digest_36 : decode cX1_digest 36 = .ok (.dup, 1) := dk_89 (dk_at dksX1_digest_1 13 rfl rfl)
theorem dX1_digest_37 : decode cX1_digest 37 = .ok (.iconst 3, 1) := dk_6 (dk_at dksX1_digest_1 14 rfl rfl)
theorem dX1_digest_38 : decode cX1_digest 38 = .ok (.aload_n 0, 1) := dk_42 (dk_at dksX1_digest_1 15 rfl rfl)
theorem dX1_digest_39 : decode cX1_digest 39 = .ok (.invokevirtual 358, 3) := dk_182 1 102 (dk_at dksX1_digest_1 16 rfl rfl)
theorem dX1_digest_42 : decode cX1_digest 42 = .ok (.i2l, 1) := dk_133 (dk_at dksX1_digest_1 19 rfl rfl)
theorem dX1_digest_43 : decode cX1_digest 43 = .ok (.lastore, 1) := dk_80 (dk_at dksX1_digest_1 20 rfl rfl)
theorem dX1_digest_44 : decode cX1_digest 44 = .ok (.dup, 1) := dk_89 (dk_at dksX1_digest_1 21 rfl rfl)
theorem dX1_digest_45 : decode cX1_digest 45 = .ok (.iconst 4, 1) := dk_7 (dk_at dksX1_digest_1 22 rfl rfl)
theorem dX1_digest_46 : decode cX1_digest 46 = .ok (.aload_n 1, 1) := dk_43 (dk_at dksX1_digest_1 23 rfl rfl)
theorem dX1_digest_47 : decode cX1_digest 47 = .ok (.getfield 194, 3) := dk_180 0 194 (dk_at dksX1_digest_2 0 rfl rfl)
theorem dX1_digest_50 : decode cX1_digest 50 = .ok (.i2l, 1) := dk_133 (dk_at dksX1_digest_2 3 rfl rfl)
theorem dX1_digest_51 : decode cX1_digest 51 = .ok (.lastore, 1) := dk_80 (dk_at dksX1_digest_2 4 rfl rfl)
theorem dX1_digest_52 : decode cX1_digest 52 = .ok (.dup, 1) := dk_89 (dk_at dksX1_digest_2 5 rfl rfl)
theorem dX1_digest_53 : decode cX1_digest 53 = .ok (.iconst 5, 1) := dk_8 (dk_at dksX1_digest_2 6 rfl rfl)
theorem dX1_digest_54 : decode cX1_digest 54 = .ok (.aload_n 1, 1) := dk_43 (dk_at dksX1_digest_2 7 rfl rfl)
theorem dX1_digest_55 : decode cX1_digest 55 = .ok (.invokevirtual 246, 3) := dk_182 0 246 (dk_at dksX1_digest_2 8 rfl rfl)
theorem dX1_digest_58 : decode cX1_digest 58 = .ok (.i2l, 1) := dk_133 (dk_at dksX1_digest_2 11 rfl rfl)
theorem dX1_digest_59 : decode cX1_digest 59 = .ok (.lastore, 1) := dk_80 (dk_at dksX1_digest_2 12 rfl rfl)
theorem dX1_digest_60 : decode cX1_digest 60 = .ok (.dup, 1) := dk_89 (dk_at dksX1_digest_2 13 rfl rfl)
theorem dX1_digest_61 : decode cX1_digest 61 = .ok (.bipush 6, 2) := dk_16 6 (dk_at dksX1_digest_2 14 rfl rfl)
theorem dX1_digest_63 : decode cX1_digest 63 = .ok (.aload_n 1, 1) := dk_43 (dk_at dksX1_digest_2 16 rfl rfl)
theorem dX1_digest_64 : decode cX1_digest 64 = .ok (.getfield 258, 3) := dk_180 1 2 (dk_at dksX1_digest_2 17 rfl rfl)
theorem dX1_digest_67 : decode cX1_digest 67 = .ok (.i2l, 1) := dk_133 (dk_at dksX1_digest_2 20 rfl rfl)
theorem dX1_digest_68 : decode cX1_digest 68 = .ok (.lastore, 1) := dk_80 (dk_at dksX1_digest_2 21 rfl rfl)
theorem dX1_digest_69 : decode cX1_digest 69 = .ok (.dup, 1) := dk_89 (dk_at dksX1_digest_2 22 rfl rfl)
theorem dX1_digest_70 : decode cX1_digest 70 = .ok (.bipush 7, 2) := dk_16 7 (dk_at dksX1_digest_3 0 rfl rfl)
theorem dX1_digest_72 : decode cX1_digest 72 = .ok (.aload_n 0, 1) := dk_42 (dk_at dksX1_digest_3 2 rfl rfl)
theorem dX1_digest_73 : decode cX1_digest 73 = .ok (.invokevirtual 383, 3) := dk_182 1 127 (dk_at dksX1_digest_3 3 rfl rfl)
theorem dX1_digest_76 : decode cX1_digest 76 = .ok (.i2l, 1) := dk_133 (dk_at dksX1_digest_3 6 rfl rfl)
theorem dX1_digest_77 : decode cX1_digest 77 = .ok (.lastore, 1) := dk_80 (dk_at dksX1_digest_3 7 rfl rfl)
theorem dX1_digest_78 : decode cX1_digest 78 = .ok (.dup, 1) := dk_89 (dk_at dksX1_digest_3 8 rfl rfl)
theorem dX1_digest_79 : decode cX1_digest 79 = .ok (.bipush 8, 2) := dk_16 8 (dk_at dksX1_digest_3 9 rfl rfl)
theorem dX1_digest_81 : decode cX1_digest 81 = .ok (.aload_n 1, 1) := dk_43 (dk_at dksX1_digest_3 11 rfl rfl)
theorem dX1_digest_82 : decode cX1_digest 82 = .ok (.invokevirtual 288, 3) := dk_182 1 32 (dk_at dksX1_digest_3 12 rfl rfl)
theorem dX1_digest_85 : decode cX1_digest 85 = .ok (.i2l, 1) := dk_133 (dk_at dksX1_digest_3 15 rfl rfl)
theorem dX1_digest_86 : decode cX1_digest 86 = .ok (.lastore, 1) := dk_80 (dk_at dksX1_digest_3 16 rfl rfl)
theorem dX1_digest_87 : decode cX1_digest 87 = .ok (.dup, 1) := dk_89 (dk_at dksX1_digest_3 17 rfl rfl)
theorem dX1_digest_88 : decode cX1_digest 88 = .ok (.bipush 9, 2) := dk_16 9 (dk_at dksX1_digest_3 18 rfl rfl)
theorem dX1_digest_90 : decode cX1_digest 90 = .ok (.aload_n 1, 1) := dk_43 (dk_at dksX1_digest_3 20 rfl rfl)
theorem dX1_digest_91 : decode cX1_digest 91 = .ok (.getfield 291, 3) := dk_180 1 35 (dk_at dksX1_digest_3 21 rfl rfl)
theorem dX1_digest_94 : decode cX1_digest 94 = .ok (.i2l, 1) := dk_133 (dk_at dksX1_digest_4 0 rfl rfl)
theorem dX1_digest_95 : decode cX1_digest 95 = .ok (.lastore, 1) := dk_80 (dk_at dksX1_digest_4 1 rfl rfl)
theorem dX1_digest_96 : decode cX1_digest 96 = .ok (.dup, 1) := dk_89 (dk_at dksX1_digest_4 2 rfl rfl)
theorem dX1_digest_97 : decode cX1_digest 97 = .ok (.bipush 10, 2) := dk_16 10 (dk_at dksX1_digest_4 3 rfl rfl)
theorem dX1_digest_99 : decode cX1_digest 99 = .ok (.aload_n 1, 1) := dk_43 (dk_at dksX1_digest_4 5 rfl rfl)
theorem dX1_digest_100 : decode cX1_digest 100 = .ok (.getfield 297, 3) := dk_180 1 41 (dk_at dksX1_digest_4 6 rfl rfl)
theorem dX1_digest_103 : decode cX1_digest 103 = .ok (.i2l, 1) := dk_133 (dk_at dksX1_digest_4 9 rfl rfl)
theorem dX1_digest_104 : decode cX1_digest 104 = .ok (.lastore, 1) := dk_80 (dk_at dksX1_digest_4 10 rfl rfl)
theorem dX1_digest_105 : decode cX1_digest 105 = .ok (.dup, 1) := dk_89 (dk_at dksX1_digest_4 11 rfl rfl)
theorem dX1_digest_106 : decode cX1_digest 106 = .ok (.bipush 11, 2) := dk_16 11 (dk_at dksX1_digest_4 12 rfl rfl)
theorem dX1_digest_108 : decode cX1_digest 108 = .ok (.aload_n 1, 1) := dk_43 (dk_at dksX1_digest_4 14 rfl rfl)
theorem dX1_digest_109 : decode cX1_digest 109 = .ok (.getfield 300, 3) := dk_180 1 44 (dk_at dksX1_digest_4 15 rfl rfl)
theorem dX1_digest_112 : decode cX1_digest 112 = .ok (.i2l, 1) := dk_133 (dk_at dksX1_digest_4 18 rfl rfl)
theorem dX1_digest_113 : decode cX1_digest 113 = .ok (.lastore, 1) := dk_80 (dk_at dksX1_digest_4 19 rfl rfl)
theorem dX1_digest_114 : decode cX1_digest 114 = .ok (.dup, 1) := dk_89 (dk_at dksX1_digest_4 20 rfl rfl)
theorem dX1_digest_115 : decode cX1_digest 115 = .ok (.bipush 12, 2) := dk_16 12 (dk_at dksX1_digest_4 21 rfl rfl)
theorem dX1_digest_117 : decode cX1_digest 117 = .ok (.aload_n 1, 1) := dk_43 (dk_at dksX1_digest_4 23 rfl rfl)
theorem dX1_digest_118 : decode cX1_digest 118 = .ok (.getfield 303, 3) := dk_180 1 47 (dk_at dksX1_digest_5 0 rfl rfl)
theorem dX1_digest_121 : decode cX1_digest 121 = .ok (.i2l, 1) := dk_133 (dk_at dksX1_digest_5 3 rfl rfl)
theorem dX1_digest_122 : decode cX1_digest 122 = .ok (.lastore, 1) := dk_80 (dk_at dksX1_digest_5 4 rfl rfl)
theorem dX1_digest_123 : decode cX1_digest 123 = .ok (.invokestatic 378, 3) := dk_184 1 122 (dk_at dksX1_digest_5 5 rfl rfl)
theorem dX1_digest_126 : decode cX1_digest 126 = .ok (.lstore_n 2, 1) := dk_65 (dk_at dksX1_digest_5 8 rfl rfl)
theorem dX1_digest_127 : decode cX1_digest 127 = .ok (.iconst 0, 1) := dk_3 (dk_at dksX1_digest_5 9 rfl rfl)
theorem dX1_digest_128 : decode cX1_digest 128 = .ok (.istore 4, 2) := dk_54 4 (dk_at dksX1_digest_5 10 rfl rfl)
theorem dX1_digest_130 : decode cX1_digest 130 = .ok (.iload 4, 2) := dk_21 4 (dk_at dksX1_digest_5 12 rfl rfl)
theorem dX1_digest_132 : decode cX1_digest 132 = .ok (.iconst 4, 1) := dk_7 (dk_at dksX1_digest_5 14 rfl rfl)
theorem dX1_digest_133 : decode cX1_digest 133 = .ok (.if_icmp .ge 28, 3) := dk_162 0 28 (dk_at dksX1_digest_5 15 rfl rfl)
theorem dX1_digest_136 : decode cX1_digest 136 = .ok (.lload_n 2, 1) := dk_32 (dk_at dksX1_digest_5 18 rfl rfl)
theorem dX1_digest_137 : decode cX1_digest 137 = .ok (.iconst 1, 1) := dk_4 (dk_at dksX1_digest_5 19 rfl rfl)
theorem dX1_digest_138 : decode cX1_digest 138 = .ok (.newarray .long, 2) := dk_188_11 (dk_at dksX1_digest_5 20 rfl rfl)
theorem dX1_digest_140 : decode cX1_digest 140 = .ok (.dup, 1) := dk_89 (dk_at dksX1_digest_5 22 rfl rfl)
theorem dX1_digest_141 : decode cX1_digest 141 = .ok (.iconst 0, 1) := dk_3 (dk_at dksX1_digest_5 23 rfl rfl)
theorem dX1_digest_142 : decode cX1_digest 142 = .ok (.aload_n 1, 1) := dk_43 (dk_at dksX1_digest_6 0 rfl rfl)
theorem dX1_digest_143 : decode cX1_digest 143 = .ok (.getfield 294, 3) := dk_180 1 38 (dk_at dksX1_digest_6 1 rfl rfl)
theorem dX1_digest_146 : decode cX1_digest 146 = .ok (.iload 4, 2) := dk_21 4 (dk_at dksX1_digest_6 4 rfl rfl)
theorem dX1_digest_148 : decode cX1_digest 148 = .ok (.iaload, 1) := dk_46 (dk_at dksX1_digest_6 6 rfl rfl)
theorem dX1_digest_149 : decode cX1_digest 149 = .ok (.i2l, 1) := dk_133 (dk_at dksX1_digest_6 7 rfl rfl)
theorem dX1_digest_150 : decode cX1_digest 150 = .ok (.lastore, 1) := dk_80 (dk_at dksX1_digest_6 8 rfl rfl)
theorem dX1_digest_151 : decode cX1_digest 151 = .ok (.invokestatic 378, 3) := dk_184 1 122 (dk_at dksX1_digest_6 9 rfl rfl)
theorem dX1_digest_154 : decode cX1_digest 154 = .ok (.lstore_n 2, 1) := dk_65 (dk_at dksX1_digest_6 12 rfl rfl)
theorem dX1_digest_155 : decode cX1_digest 155 = .ok (.iinc 4 1, 3) := dk_132 4 1 (dk_at dksX1_digest_6 13 rfl rfl)
theorem dX1_digest_158 : decode cX1_digest 158 = .ok (.goto (-28), 3) := dk_167 255 228 (dk_at dksX1_digest_6 16 rfl rfl)
theorem dX1_digest_161 : decode cX1_digest 161 = .ok (.iconst 0, 1) := dk_3 (dk_at dksX1_digest_6 19 rfl rfl)
theorem dX1_digest_162 : decode cX1_digest 162 = .ok (.istore 4, 2) := dk_54 4 (dk_at dksX1_digest_6 20 rfl rfl)
theorem dX1_digest_164 : decode cX1_digest 164 = .ok (.iload 4, 2) := dk_21 4 (dk_at dksX1_digest_6 22 rfl rfl)
theorem dX1_digest_166 : decode cX1_digest 166 = .ok (.iconst 4, 1) := dk_7 (dk_at dksX1_digest_7 0 rfl rfl)
theorem dX1_digest_167 : decode cX1_digest 167 = .ok (.if_icmp .ge 26, 3) := dk_162 0 26 (dk_at dksX1_digest_7 1 rfl rfl)
theorem dX1_digest_170 : decode cX1_digest 170 = .ok (.lload_n 2, 1) := dk_32 (dk_at dksX1_digest_7 4 rfl rfl)
theorem dX1_digest_171 : decode cX1_digest 171 = .ok (.iconst 1, 1) := dk_4 (dk_at dksX1_digest_7 5 rfl rfl)
theorem dX1_digest_172 : decode cX1_digest 172 = .ok (.newarray .long, 2) := dk_188_11 (dk_at dksX1_digest_7 6 rfl rfl)
theorem dX1_digest_174 : decode cX1_digest 174 = .ok (.dup, 1) := dk_89 (dk_at dksX1_digest_7 8 rfl rfl)
theorem dX1_digest_175 : decode cX1_digest 175 = .ok (.iconst 0, 1) := dk_3 (dk_at dksX1_digest_7 9 rfl rfl)
theorem dX1_digest_176 : decode cX1_digest 176 = .ok (.aload_n 1, 1) := dk_43 (dk_at dksX1_digest_7 10 rfl rfl)
theorem dX1_digest_177 : decode cX1_digest 177 = .ok (.iload 4, 2) := dk_21 4 (dk_at dksX1_digest_7 11 rfl rfl)
theorem dX1_digest_179 : decode cX1_digest 179 = .ok (.invokevirtual 199, 3) := dk_182 0 199 (dk_at dksX1_digest_7 13 rfl rfl)
theorem dX1_digest_182 : decode cX1_digest 182 = .ok (.lastore, 1) := dk_80 (dk_at dksX1_digest_7 16 rfl rfl)
theorem dX1_digest_183 : decode cX1_digest 183 = .ok (.invokestatic 378, 3) := dk_184 1 122 (dk_at dksX1_digest_7 17 rfl rfl)
theorem dX1_digest_186 : decode cX1_digest 186 = .ok (.lstore_n 2, 1) := dk_65 (dk_at dksX1_digest_7 20 rfl rfl)
theorem dX1_digest_187 : decode cX1_digest 187 = .ok (.iinc 4 1, 3) := dk_132 4 1 (dk_at dksX1_digest_7 21 rfl rfl)
theorem dX1_digest_190 : decode cX1_digest 190 = .ok (.goto (-26), 3) := dk_167 255 230 (dk_at dksX1_digest_8 0 rfl rfl)
theorem dX1_digest_193 : decode cX1_digest 193 = .ok (.iconst 0, 1) := dk_3 (dk_at dksX1_digest_8 3 rfl rfl)
theorem dX1_digest_194 : decode cX1_digest 194 = .ok (.istore 4, 2) := dk_54 4 (dk_at dksX1_digest_8 4 rfl rfl)
theorem dX1_digest_196 : decode cX1_digest 196 = .ok (.iload 4, 2) := dk_21 4 (dk_at dksX1_digest_8 6 rfl rfl)
theorem dX1_digest_198 : decode cX1_digest 198 = .ok (.bipush 64, 2) := dk_16 64 (dk_at dksX1_digest_8 8 rfl rfl)
theorem dX1_digest_200 : decode cX1_digest 200 = .ok (.if_icmp .ge 28, 3) := dk_162 0 28 (dk_at dksX1_digest_8 10 rfl rfl)
theorem dX1_digest_203 : decode cX1_digest 203 = .ok (.lload_n 2, 1) := dk_32 (dk_at dksX1_digest_8 13 rfl rfl)
theorem dX1_digest_204 : decode cX1_digest 204 = .ok (.iconst 1, 1) := dk_4 (dk_at dksX1_digest_8 14 rfl rfl)
theorem dX1_digest_205 : decode cX1_digest 205 = .ok (.newarray .long, 2) := dk_188_11 (dk_at dksX1_digest_8 15 rfl rfl)
theorem dX1_digest_207 : decode cX1_digest 207 = .ok (.dup, 1) := dk_89 (dk_at dksX1_digest_8 17 rfl rfl)
theorem dX1_digest_208 : decode cX1_digest 208 = .ok (.iconst 0, 1) := dk_3 (dk_at dksX1_digest_8 18 rfl rfl)
theorem dX1_digest_209 : decode cX1_digest 209 = .ok (.aload_n 1, 1) := dk_43 (dk_at dksX1_digest_8 19 rfl rfl)
theorem dX1_digest_210 : decode cX1_digest 210 = .ok (.getfield 149, 3) := dk_180 0 149 (dk_at dksX1_digest_8 20 rfl rfl)
theorem dX1_digest_213 : decode cX1_digest 213 = .ok (.iload 4, 2) := dk_21 4 (dk_at dksX1_digest_9 0 rfl rfl)
theorem dX1_digest_215 : decode cX1_digest 215 = .ok (.iaload, 1) := dk_46 (dk_at dksX1_digest_9 2 rfl rfl)
theorem dX1_digest_216 : decode cX1_digest 216 = .ok (.i2l, 1) := dk_133 (dk_at dksX1_digest_9 3 rfl rfl)
theorem dX1_digest_217 : decode cX1_digest 217 = .ok (.lastore, 1) := dk_80 (dk_at dksX1_digest_9 4 rfl rfl)
theorem dX1_digest_218 : decode cX1_digest 218 = .ok (.invokestatic 378, 3) := dk_184 1 122 (dk_at dksX1_digest_9 5 rfl rfl)
theorem dX1_digest_221 : decode cX1_digest 221 = .ok (.lstore_n 2, 1) := dk_65 (dk_at dksX1_digest_9 8 rfl rfl)
theorem dX1_digest_222 : decode cX1_digest 222 = .ok (.iinc 4 1, 3) := dk_132 4 1 (dk_at dksX1_digest_9 9 rfl rfl)
theorem dX1_digest_225 : decode cX1_digest 225 = .ok (.goto (-29), 3) := dk_167 255 227 (dk_at dksX1_digest_9 12 rfl rfl)
theorem dX1_digest_228 : decode cX1_digest 228 = .ok (.aload_n 0, 1) := dk_42 (dk_at dksX1_digest_9 15 rfl rfl)
theorem dX1_digest_229 : decode cX1_digest 229 = .ok (.aload_n 0, 1) := dk_42 (dk_at dksX1_digest_9 16 rfl rfl)
theorem dX1_digest_230 : decode cX1_digest 230 = .ok (.lload_n 2, 1) := dk_32 (dk_at dksX1_digest_9 17 rfl rfl)
theorem dX1_digest_231 : decode cX1_digest 231 = .ok (.invokevirtual 385, 3) := dk_182 1 129 (dk_at dksX1_digest_9 18 rfl rfl)
theorem dX1_digest_234 : decode cX1_digest 234 = .ok (.invokevirtual 389, 3) := dk_182 1 133 (dk_at dksX1_digest_9 21 rfl rfl)
theorem dX1_digest_237 : decode cX1_digest 237 = .ok (.lstore_n 2, 1) := dk_65 (dk_at dksX1_digest_10 0 rfl rfl)
theorem dX1_digest_238 : decode cX1_digest 238 = .ok (.iconst 0, 1) := dk_3 (dk_at dksX1_digest_10 1 rfl rfl)
theorem dX1_digest_239 : decode cX1_digest 239 = .ok (.istore 4, 2) := dk_54 4 (dk_at dksX1_digest_10 2 rfl rfl)
theorem dX1_digest_241 : decode cX1_digest 241 = .ok (.iload 4, 2) := dk_21 4 (dk_at dksX1_digest_10 4 rfl rfl)
theorem dX1_digest_243 : decode cX1_digest 243 = .ok (.iconst 3, 1) := dk_6 (dk_at dksX1_digest_10 6 rfl rfl)
theorem dX1_digest_244 : decode cX1_digest 244 = .ok (.aload_n 1, 1) := dk_43 (dk_at dksX1_digest_10 7 rfl rfl)
theorem dX1_digest_245 : decode cX1_digest 245 = .ok (.getfield 306, 3) := dk_180 1 50 (dk_at dksX1_digest_10 8 rfl rfl)
theorem dX1_digest_248 : decode cX1_digest 248 = .ok (.imul, 1) := dk_104 (dk_at dksX1_digest_10 11 rfl rfl)
theorem dX1_digest_249 : decode cX1_digest 249 = .ok (.if_icmp .ge 28, 3) := dk_162 0 28 (dk_at dksX1_digest_10 12 rfl rfl)
theorem dX1_digest_252 : decode cX1_digest 252 = .ok (.lload_n 2, 1) := dk_32 (dk_at dksX1_digest_10 15 rfl rfl)
theorem dX1_digest_253 : decode cX1_digest 253 = .ok (.iconst 1, 1) := dk_4 (dk_at dksX1_digest_10 16 rfl rfl)
theorem dX1_digest_254 : decode cX1_digest 254 = .ok (.newarray .long, 2) := dk_188_11 (dk_at dksX1_digest_10 17 rfl rfl)
theorem dX1_digest_256 : decode cX1_digest 256 = .ok (.dup, 1) := dk_89 (dk_at dksX1_digest_10 19 rfl rfl)
theorem dX1_digest_257 : decode cX1_digest 257 = .ok (.iconst 0, 1) := dk_3 (dk_at dksX1_digest_10 20 rfl rfl)
theorem dX1_digest_258 : decode cX1_digest 258 = .ok (.aload_n 1, 1) := dk_43 (dk_at dksX1_digest_10 21 rfl rfl)
theorem dX1_digest_259 : decode cX1_digest 259 = .ok (.getfield 309, 3) := dk_180 1 53 (dk_at dksX1_digest_11 0 rfl rfl)
theorem dX1_digest_262 : decode cX1_digest 262 = .ok (.iload 4, 2) := dk_21 4 (dk_at dksX1_digest_11 3 rfl rfl)
theorem dX1_digest_264 : decode cX1_digest 264 = .ok (.iaload, 1) := dk_46 (dk_at dksX1_digest_11 5 rfl rfl)
theorem dX1_digest_265 : decode cX1_digest 265 = .ok (.i2l, 1) := dk_133 (dk_at dksX1_digest_11 6 rfl rfl)
theorem dX1_digest_266 : decode cX1_digest 266 = .ok (.lastore, 1) := dk_80 (dk_at dksX1_digest_11 7 rfl rfl)
theorem dX1_digest_267 : decode cX1_digest 267 = .ok (.invokestatic 378, 3) := dk_184 1 122 (dk_at dksX1_digest_11 8 rfl rfl)
theorem dX1_digest_270 : decode cX1_digest 270 = .ok (.lstore_n 2, 1) := dk_65 (dk_at dksX1_digest_11 11 rfl rfl)
theorem dX1_digest_271 : decode cX1_digest 271 = .ok (.iinc 4 1, 3) := dk_132 4 1 (dk_at dksX1_digest_11 12 rfl rfl)
theorem dX1_digest_274 : decode cX1_digest 274 = .ok (.goto (-33), 3) := dk_167 255 223 (dk_at dksX1_digest_11 15 rfl rfl)
theorem dX1_digest_277 : decode cX1_digest 277 = .ok (.lload_n 2, 1) := dk_32 (dk_at dksX1_digest_11 18 rfl rfl)
theorem dX1_digest_278 : decode cX1_digest 278 = .ok (.iconst 2, 1) := dk_5 (dk_at dksX1_digest_11 19 rfl rfl)
theorem dX1_digest_279 : decode cX1_digest 279 = .ok (.newarray .long, 2) := dk_188_11 (dk_at dksX1_digest_11 20 rfl rfl)
theorem dX1_digest_281 : decode cX1_digest 281 = .ok (.dup, 1) := dk_89 (dk_at dksX1_digest_11 22 rfl rfl)
theorem dX1_digest_282 : decode cX1_digest 282 = .ok (.iconst 0, 1) := dk_3 (dk_at dksX1_digest_11 23 rfl rfl)
theorem dX1_digest_283 : decode cX1_digest 283 = .ok (.aload_n 1, 1) := dk_43 (dk_at dksX1_digest_12 0 rfl rfl)
theorem dX1_digest_284 : decode cX1_digest 284 = .ok (.invokevirtual 315, 3) := dk_182 1 59 (dk_at dksX1_digest_12 1 rfl rfl)
theorem dX1_digest_287 : decode cX1_digest 287 = .ok (.i2l, 1) := dk_133 (dk_at dksX1_digest_12 4 rfl rfl)
theorem dX1_digest_288 : decode cX1_digest 288 = .ok (.lastore, 1) := dk_80 (dk_at dksX1_digest_12 5 rfl rfl)
theorem dX1_digest_289 : decode cX1_digest 289 = .ok (.dup, 1) := dk_89 (dk_at dksX1_digest_12 6 rfl rfl)
theorem dX1_digest_290 : decode cX1_digest 290 = .ok (.iconst 1, 1) := dk_4 (dk_at dksX1_digest_12 7 rfl rfl)
theorem dX1_digest_291 : decode cX1_digest 291 = .ok (.aload_n 1, 1) := dk_43 (dk_at dksX1_digest_12 8 rfl rfl)
theorem dX1_digest_292 : decode cX1_digest 292 = .ok (.iconst 4, 1) := dk_7 (dk_at dksX1_digest_12 9 rfl rfl)
theorem dX1_digest_293 : decode cX1_digest 293 = .ok (.invokevirtual 318, 3) := dk_182 1 62 (dk_at dksX1_digest_12 10 rfl rfl)
theorem dX1_digest_296 : decode cX1_digest 296 = .ok (.i2l, 1) := dk_133 (dk_at dksX1_digest_12 13 rfl rfl)
theorem dX1_digest_297 : decode cX1_digest 297 = .ok (.lastore, 1) := dk_80 (dk_at dksX1_digest_12 14 rfl rfl)
theorem dX1_digest_298 : decode cX1_digest 298 = .ok (.invokestatic 378, 3) := dk_184 1 122 (dk_at dksX1_digest_12 15 rfl rfl)
theorem dX1_digest_301 : decode cX1_digest 301 = .ok (.lreturn, 1) := dk_173 (dk_at dksX1_digest_12 18 rfl rfl)
abbrev cX1_add : ByteArray := prog_1_method_90_code
def yX1_add : MethodName := ⟨RX1, "add", "(J[J)J"⟩
def dkwX1_add_1 : List UInt8 := [132, 5, 1, 167, 255, 235, 33, 173]
abbrev dktX1_add_1 : List UInt8 := dkwX1_add_1 ++ []
def dkwX1_add_0 : List UInt8 := [30, 66, 3, 54, 5, 21, 5, 44, 190, 162, 0, 20, 20, 1, 120, 33, 105, 44, 21, 5, 47, 97, 66]
abbrev dktX1_add_0 : List UInt8 := dkwX1_add_0 ++ dktX1_add_1
theorem dksX1_add_0 : cX1_add.data.toList.drop 0 = dktX1_add_0 := by decide +kernel
theorem dksX1_add_1 : cX1_add.data.toList.drop 23 = dktX1_add_1 := dk_seg dksX1_add_0 23 rfl rfl
theorem dX1_add_0 : decode cX1_add 0 = .ok (.lload_n 0, 1) := dk_30 (dk_at dksX1_add_0 0 rfl rfl)
theorem dX1_add_1 : decode cX1_add 1 = .ok (.lstore_n 3, 1) := dk_66 (dk_at dksX1_add_0 1 rfl rfl)
theorem dX1_add_2 : decode cX1_add 2 = .ok (.iconst 0, 1) := dk_3 (dk_at dksX1_add_0 2 rfl rfl)
theorem dX1_add_3 : decode cX1_add 3 = .ok (.istore 5, 2) := dk_54 5 (dk_at dksX1_add_0 3 rfl rfl)
theorem dX1_add_5 : decode cX1_add 5 = .ok (.iload 5, 2) := dk_21 5 (dk_at dksX1_add_0 5 rfl rfl)
theorem dX1_add_7 : decode cX1_add 7 = .ok (.aload_n 2, 1) := dk_44 (dk_at dksX1_add_0 7 rfl rfl)
theorem dX1_add_8 : decode cX1_add 8 = .ok (.arraylength, 1) := dk_190 (dk_at dksX1_add_0 8 rfl rfl)
theorem dX1_add_9 : decode cX1_add 9 = .ok (.if_icmp .ge 20, 3) := dk_162 0 20 (dk_at dksX1_add_0 9 rfl rfl)
theorem dX1_add_12 : decode cX1_add 12 = .ok (.ldc2_w 376, 3) := dk_20 1 120 (dk_at dksX1_add_0 12 rfl rfl)
theorem dX1_add_15 : decode cX1_add 15 = .ok (.lload_n 3, 1) := dk_33 (dk_at dksX1_add_0 15 rfl rfl)
theorem dX1_add_16 : decode cX1_add 16 = .ok (.lmul, 1) := dk_105 (dk_at dksX1_add_0 16 rfl rfl)
theorem dX1_add_17 : decode cX1_add 17 = .ok (.aload_n 2, 1) := dk_44 (dk_at dksX1_add_0 17 rfl rfl)
theorem dX1_add_18 : decode cX1_add 18 = .ok (.iload 5, 2) := dk_21 5 (dk_at dksX1_add_0 18 rfl rfl)
theorem dX1_add_20 : decode cX1_add 20 = .ok (.laload, 1) := dk_47 (dk_at dksX1_add_0 20 rfl rfl)
theorem dX1_add_21 : decode cX1_add 21 = .ok (.ladd, 1) := dk_97 (dk_at dksX1_add_0 21 rfl rfl)
theorem dX1_add_22 : decode cX1_add 22 = .ok (.lstore_n 3, 1) := dk_66 (dk_at dksX1_add_0 22 rfl rfl)
theorem dX1_add_23 : decode cX1_add 23 = .ok (.iinc 5 1, 3) := dk_132 5 1 (dk_at dksX1_add_1 0 rfl rfl)
theorem dX1_add_26 : decode cX1_add 26 = .ok (.goto (-21), 3) := dk_167 255 235 (dk_at dksX1_add_1 3 rfl rfl)
theorem dX1_add_29 : decode cX1_add 29 = .ok (.lload_n 3, 1) := dk_33 (dk_at dksX1_add_1 6 rfl rfl)
theorem dX1_add_30 : decode cX1_add 30 = .ok (.lreturn, 1) := dk_173 (dk_at dksX1_add_1 7 rfl rfl)
abbrev cX1_addBoxes : ByteArray := prog_1_method_91_code
def yX1_addBoxes : MethodName := ⟨RX1, "addBoxes", "(J)J"⟩
def dkwX1_addBoxes_5 : List UInt8 := [42, 180, 0, 43, 25, 7, 182, 0, 240, 133, 80, 184, 1, 122, 66, 132, 6, 1, 167, 255, 133, 33, 173]
abbrev dktX1_addBoxes_5 : List UInt8 := dkwX1_addBoxes_5 ++ []
def dkwX1_addBoxes_4 : List UInt8 := [180, 0, 234, 4, 46, 133, 80, 89, 16, 6, 42, 180, 0, 43, 25, 7, 182, 0, 237, 133, 80, 89, 16, 7]
abbrev dktX1_addBoxes_4 : List UInt8 := dkwX1_addBoxes_4 ++ dktX1_addBoxes_5
def dkwX1_addBoxes_3 : List UInt8 := [25, 7, 182, 0, 231, 133, 80, 89, 7, 25, 7, 180, 0, 234, 3, 46, 133, 80, 89, 8, 25, 7]
abbrev dktX1_addBoxes_3 : List UInt8 := dkwX1_addBoxes_3 ++ dktX1_addBoxes_4
def dkwX1_addBoxes_2 : List UInt8 := [180, 0, 217, 80, 89, 5, 42, 180, 0, 43, 25, 7, 182, 0, 224, 133, 80, 89, 6, 42, 180, 0, 43]
abbrev dktX1_addBoxes_2 : List UInt8 := dkwX1_addBoxes_2 ++ dktX1_addBoxes_3
def dkwX1_addBoxes_1 : List UInt8 := [182, 0, 101, 58, 7, 33, 16, 8, 188, 11, 89, 3, 25, 7, 180, 0, 212, 133, 80, 89, 4, 25, 7]
abbrev dktX1_addBoxes_1 : List UInt8 := dkwX1_addBoxes_1 ++ dktX1_addBoxes_2
def dkwX1_addBoxes_0 : List UInt8 := [31, 66, 42, 182, 1, 102, 54, 5, 3, 54, 6, 21, 6, 21, 5, 162, 0, 122, 42, 180, 0, 43, 21, 6]
abbrev dktX1_addBoxes_0 : List UInt8 := dkwX1_addBoxes_0 ++ dktX1_addBoxes_1
theorem dksX1_addBoxes_0 : cX1_addBoxes.data.toList.drop 0 = dktX1_addBoxes_0 := by decide +kernel
theorem dksX1_addBoxes_1 : cX1_addBoxes.data.toList.drop 24 = dktX1_addBoxes_1 := dk_seg dksX1_addBoxes_0 24 rfl rfl
theorem dksX1_addBoxes_2 : cX1_addBoxes.data.toList.drop 47 = dktX1_addBoxes_2 := dk_seg dksX1_addBoxes_1 23 rfl rfl
theorem dksX1_addBoxes_3 : cX1_addBoxes.data.toList.drop 70 = dktX1_addBoxes_3 := dk_seg dksX1_addBoxes_2 23 rfl rfl
theorem dksX1_addBoxes_4 : cX1_addBoxes.data.toList.drop 92 = dktX1_addBoxes_4 := dk_seg dksX1_addBoxes_3 22 rfl rfl
theorem dksX1_addBoxes_5 : cX1_addBoxes.data.toList.drop 116 = dktX1_addBoxes_5 := dk_seg dksX1_addBoxes_4 24 rfl rfl
theorem dX1_addBoxes_0 : decode cX1_addBoxes 0 = .ok (.lload_n 1, 1) := dk_31 (dk_at dksX1_addBoxes_0 0 rfl rfl)
theorem dX1_addBoxes_1 : decode cX1_addBoxes 1 = .ok (.lstore_n 3, 1) := dk_66 (dk_at dksX1_addBoxes_0 1 rfl rfl)
theorem dX1_addBoxes_2 : decode cX1_addBoxes 2 = .ok (.aload_n 0, 1) := dk_42 (dk_at dksX1_addBoxes_0 2 rfl rfl)
theorem dX1_addBoxes_3 : decode cX1_addBoxes 3 = .ok (.invokevirtual 358, 3) := dk_182 1 102 (dk_at dksX1_addBoxes_0 3 rfl rfl)
theorem dX1_addBoxes_6 : decode cX1_addBoxes 6 = .ok (.istore 5, 2) := dk_54 5 (dk_at dksX1_addBoxes_0 6 rfl rfl)
theorem dX1_addBoxes_8 : decode cX1_addBoxes 8 = .ok (.iconst 0, 1) := dk_3 (dk_at dksX1_addBoxes_0 8 rfl rfl)
theorem dX1_addBoxes_9 : decode cX1_addBoxes 9 = .ok (.istore 6, 2) := dk_54 6 (dk_at dksX1_addBoxes_0 9 rfl rfl)
theorem dX1_addBoxes_11 : decode cX1_addBoxes 11 = .ok (.iload 6, 2) := dk_21 6 (dk_at dksX1_addBoxes_0 11 rfl rfl)
theorem dX1_addBoxes_13 : decode cX1_addBoxes 13 = .ok (.iload 5, 2) := dk_21 5 (dk_at dksX1_addBoxes_0 13 rfl rfl)
theorem dX1_addBoxes_15 : decode cX1_addBoxes 15 = .ok (.if_icmp .ge 122, 3) := dk_162 0 122 (dk_at dksX1_addBoxes_0 15 rfl rfl)
theorem dX1_addBoxes_18 : decode cX1_addBoxes 18 = .ok (.aload_n 0, 1) := dk_42 (dk_at dksX1_addBoxes_0 18 rfl rfl)
theorem dX1_addBoxes_19 : decode cX1_addBoxes 19 = .ok (.getfield 43, 3) := dk_180 0 43 (dk_at dksX1_addBoxes_0 19 rfl rfl)
theorem dX1_addBoxes_22 : decode cX1_addBoxes 22 = .ok (.iload 6, 2) := dk_21 6 (dk_at dksX1_addBoxes_0 22 rfl rfl)
theorem dX1_addBoxes_24 : decode cX1_addBoxes 24 = .ok (.invokevirtual 101, 3) := dk_182 0 101 (dk_at dksX1_addBoxes_1 0 rfl rfl)
theorem dX1_addBoxes_27 : decode cX1_addBoxes 27 = .ok (.astore 7, 2) := dk_58 7 (dk_at dksX1_addBoxes_1 3 rfl rfl)
theorem dX1_addBoxes_29 : decode cX1_addBoxes 29 = .ok (.lload_n 3, 1) := dk_33 (dk_at dksX1_addBoxes_1 5 rfl rfl)
theorem dX1_addBoxes_30 : decode cX1_addBoxes 30 = .ok (.bipush 8, 2) := dk_16 8 (dk_at dksX1_addBoxes_1 6 rfl rfl)
theorem dX1_addBoxes_32 : decode cX1_addBoxes 32 = .ok (.newarray .long, 2) := dk_188_11 (dk_at dksX1_addBoxes_1 8 rfl rfl)
theorem dX1_addBoxes_34 : decode cX1_addBoxes 34 = .ok (.dup, 1) := dk_89 (dk_at dksX1_addBoxes_1 10 rfl rfl)
theorem dX1_addBoxes_35 : decode cX1_addBoxes 35 = .ok (.iconst 0, 1) := dk_3 (dk_at dksX1_addBoxes_1 11 rfl rfl)
theorem dX1_addBoxes_36 : decode cX1_addBoxes 36 = .ok (.aload 7, 2) := dk_25 7 (dk_at dksX1_addBoxes_1 12 rfl rfl)
theorem dX1_addBoxes_38 : decode cX1_addBoxes 38 = .ok (.getfield 212, 3) := dk_180 0 212 (dk_at dksX1_addBoxes_1 14 rfl rfl)
theorem dX1_addBoxes_41 : decode cX1_addBoxes 41 = .ok (.i2l, 1) := dk_133 (dk_at dksX1_addBoxes_1 17 rfl rfl)
theorem dX1_addBoxes_42 : decode cX1_addBoxes 42 = .ok (.lastore, 1) := dk_80 (dk_at dksX1_addBoxes_1 18 rfl rfl)
theorem dX1_addBoxes_43 : decode cX1_addBoxes 43 = .ok (.dup, 1) := dk_89 (dk_at dksX1_addBoxes_1 19 rfl rfl)
theorem dX1_addBoxes_44 : decode cX1_addBoxes 44 = .ok (.iconst 1, 1) := dk_4 (dk_at dksX1_addBoxes_1 20 rfl rfl)
theorem dX1_addBoxes_45 : decode cX1_addBoxes 45 = .ok (.aload 7, 2) := dk_25 7 (dk_at dksX1_addBoxes_1 21 rfl rfl)
theorem dX1_addBoxes_47 : decode cX1_addBoxes 47 = .ok (.getfield 217, 3) := dk_180 0 217 (dk_at dksX1_addBoxes_2 0 rfl rfl)
theorem dX1_addBoxes_50 : decode cX1_addBoxes 50 = .ok (.lastore, 1) := dk_80 (dk_at dksX1_addBoxes_2 3 rfl rfl)
theorem dX1_addBoxes_51 : decode cX1_addBoxes 51 = .ok (.dup, 1) := dk_89 (dk_at dksX1_addBoxes_2 4 rfl rfl)
theorem dX1_addBoxes_52 : decode cX1_addBoxes 52 = .ok (.iconst 2, 1) := dk_5 (dk_at dksX1_addBoxes_2 5 rfl rfl)
theorem dX1_addBoxes_53 : decode cX1_addBoxes 53 = .ok (.aload_n 0, 1) := dk_42 (dk_at dksX1_addBoxes_2 6 rfl rfl)
theorem dX1_addBoxes_54 : decode cX1_addBoxes 54 = .ok (.getfield 43, 3) := dk_180 0 43 (dk_at dksX1_addBoxes_2 7 rfl rfl)
theorem dX1_addBoxes_57 : decode cX1_addBoxes 57 = .ok (.aload 7, 2) := dk_25 7 (dk_at dksX1_addBoxes_2 10 rfl rfl)
theorem dX1_addBoxes_59 : decode cX1_addBoxes 59 = .ok (.invokevirtual 224, 3) := dk_182 0 224 (dk_at dksX1_addBoxes_2 12 rfl rfl)
theorem dX1_addBoxes_62 : decode cX1_addBoxes 62 = .ok (.i2l, 1) := dk_133 (dk_at dksX1_addBoxes_2 15 rfl rfl)
theorem dX1_addBoxes_63 : decode cX1_addBoxes 63 = .ok (.lastore, 1) := dk_80 (dk_at dksX1_addBoxes_2 16 rfl rfl)
theorem dX1_addBoxes_64 : decode cX1_addBoxes 64 = .ok (.dup, 1) := dk_89 (dk_at dksX1_addBoxes_2 17 rfl rfl)
theorem dX1_addBoxes_65 : decode cX1_addBoxes 65 = .ok (.iconst 3, 1) := dk_6 (dk_at dksX1_addBoxes_2 18 rfl rfl)
theorem dX1_addBoxes_66 : decode cX1_addBoxes 66 = .ok (.aload_n 0, 1) := dk_42 (dk_at dksX1_addBoxes_2 19 rfl rfl)
theorem dX1_addBoxes_67 : decode cX1_addBoxes 67 = .ok (.getfield 43, 3) := dk_180 0 43 (dk_at dksX1_addBoxes_2 20 rfl rfl)
theorem dX1_addBoxes_70 : decode cX1_addBoxes 70 = .ok (.aload 7, 2) := dk_25 7 (dk_at dksX1_addBoxes_3 0 rfl rfl)
theorem dX1_addBoxes_72 : decode cX1_addBoxes 72 = .ok (.invokevirtual 231, 3) := dk_182 0 231 (dk_at dksX1_addBoxes_3 2 rfl rfl)
theorem dX1_addBoxes_75 : decode cX1_addBoxes 75 = .ok (.i2l, 1) := dk_133 (dk_at dksX1_addBoxes_3 5 rfl rfl)
theorem dX1_addBoxes_76 : decode cX1_addBoxes 76 = .ok (.lastore, 1) := dk_80 (dk_at dksX1_addBoxes_3 6 rfl rfl)
theorem dX1_addBoxes_77 : decode cX1_addBoxes 77 = .ok (.dup, 1) := dk_89 (dk_at dksX1_addBoxes_3 7 rfl rfl)
theorem dX1_addBoxes_78 : decode cX1_addBoxes 78 = .ok (.iconst 4, 1) := dk_7 (dk_at dksX1_addBoxes_3 8 rfl rfl)
theorem dX1_addBoxes_79 : decode cX1_addBoxes 79 = .ok (.aload 7, 2) := dk_25 7 (dk_at dksX1_addBoxes_3 9 rfl rfl)
theorem dX1_addBoxes_81 : decode cX1_addBoxes 81 = .ok (.getfield 234, 3) := dk_180 0 234 (dk_at dksX1_addBoxes_3 11 rfl rfl)
theorem dX1_addBoxes_84 : decode cX1_addBoxes 84 = .ok (.iconst 0, 1) := dk_3 (dk_at dksX1_addBoxes_3 14 rfl rfl)
theorem dX1_addBoxes_85 : decode cX1_addBoxes 85 = .ok (.iaload, 1) := dk_46 (dk_at dksX1_addBoxes_3 15 rfl rfl)
theorem dX1_addBoxes_86 : decode cX1_addBoxes 86 = .ok (.i2l, 1) := dk_133 (dk_at dksX1_addBoxes_3 16 rfl rfl)
theorem dX1_addBoxes_87 : decode cX1_addBoxes 87 = .ok (.lastore, 1) := dk_80 (dk_at dksX1_addBoxes_3 17 rfl rfl)
theorem dX1_addBoxes_88 : decode cX1_addBoxes 88 = .ok (.dup, 1) := dk_89 (dk_at dksX1_addBoxes_3 18 rfl rfl)
theorem dX1_addBoxes_89 : decode cX1_addBoxes 89 = .ok (.iconst 5, 1) := dk_8 (dk_at dksX1_addBoxes_3 19 rfl rfl)
theorem dX1_addBoxes_90 : decode cX1_addBoxes 90 = .ok (.aload 7, 2) := dk_25 7 (dk_at dksX1_addBoxes_3 20 rfl rfl)
theorem dX1_addBoxes_92 : decode cX1_addBoxes 92 = .ok (.getfield 234, 3) := dk_180 0 234 (dk_at dksX1_addBoxes_4 0 rfl rfl)
theorem dX1_addBoxes_95 : decode cX1_addBoxes 95 = .ok (.iconst 1, 1) := dk_4 (dk_at dksX1_addBoxes_4 3 rfl rfl)
theorem dX1_addBoxes_96 : decode cX1_addBoxes 96 = .ok (.iaload, 1) := dk_46 (dk_at dksX1_addBoxes_4 4 rfl rfl)
theorem dX1_addBoxes_97 : decode cX1_addBoxes 97 = .ok (.i2l, 1) := dk_133 (dk_at dksX1_addBoxes_4 5 rfl rfl)
theorem dX1_addBoxes_98 : decode cX1_addBoxes 98 = .ok (.lastore, 1) := dk_80 (dk_at dksX1_addBoxes_4 6 rfl rfl)
theorem dX1_addBoxes_99 : decode cX1_addBoxes 99 = .ok (.dup, 1) := dk_89 (dk_at dksX1_addBoxes_4 7 rfl rfl)
theorem dX1_addBoxes_100 : decode cX1_addBoxes 100 = .ok (.bipush 6, 2) := dk_16 6 (dk_at dksX1_addBoxes_4 8 rfl rfl)
theorem dX1_addBoxes_102 : decode cX1_addBoxes 102 = .ok (.aload_n 0, 1) := dk_42 (dk_at dksX1_addBoxes_4 10 rfl rfl)
theorem dX1_addBoxes_103 : decode cX1_addBoxes 103 = .ok (.getfield 43, 3) := dk_180 0 43 (dk_at dksX1_addBoxes_4 11 rfl rfl)
theorem dX1_addBoxes_106 : decode cX1_addBoxes 106 = .ok (.aload 7, 2) := dk_25 7 (dk_at dksX1_addBoxes_4 14 rfl rfl)
theorem dX1_addBoxes_108 : decode cX1_addBoxes 108 = .ok (.invokevirtual 237, 3) := dk_182 0 237 (dk_at dksX1_addBoxes_4 16 rfl rfl)
theorem dX1_addBoxes_111 : decode cX1_addBoxes 111 = .ok (.i2l, 1) := dk_133 (dk_at dksX1_addBoxes_4 19 rfl rfl)
theorem dX1_addBoxes_112 : decode cX1_addBoxes 112 = .ok (.lastore, 1) := dk_80 (dk_at dksX1_addBoxes_4 20 rfl rfl)
theorem dX1_addBoxes_113 : decode cX1_addBoxes 113 = .ok (.dup, 1) := dk_89 (dk_at dksX1_addBoxes_4 21 rfl rfl)
theorem dX1_addBoxes_114 : decode cX1_addBoxes 114 = .ok (.bipush 7, 2) := dk_16 7 (dk_at dksX1_addBoxes_4 22 rfl rfl)
theorem dX1_addBoxes_116 : decode cX1_addBoxes 116 = .ok (.aload_n 0, 1) := dk_42 (dk_at dksX1_addBoxes_5 0 rfl rfl)
theorem dX1_addBoxes_117 : decode cX1_addBoxes 117 = .ok (.getfield 43, 3) := dk_180 0 43 (dk_at dksX1_addBoxes_5 1 rfl rfl)
theorem dX1_addBoxes_120 : decode cX1_addBoxes 120 = .ok (.aload 7, 2) := dk_25 7 (dk_at dksX1_addBoxes_5 4 rfl rfl)
theorem dX1_addBoxes_122 : decode cX1_addBoxes 122 = .ok (.invokevirtual 240, 3) := dk_182 0 240 (dk_at dksX1_addBoxes_5 6 rfl rfl)
theorem dX1_addBoxes_125 : decode cX1_addBoxes 125 = .ok (.i2l, 1) := dk_133 (dk_at dksX1_addBoxes_5 9 rfl rfl)
theorem dX1_addBoxes_126 : decode cX1_addBoxes 126 = .ok (.lastore, 1) := dk_80 (dk_at dksX1_addBoxes_5 10 rfl rfl)
theorem dX1_addBoxes_127 : decode cX1_addBoxes 127 = .ok (.invokestatic 378, 3) := dk_184 1 122 (dk_at dksX1_addBoxes_5 11 rfl rfl)
theorem dX1_addBoxes_130 : decode cX1_addBoxes 130 = .ok (.lstore_n 3, 1) := dk_66 (dk_at dksX1_addBoxes_5 14 rfl rfl)
theorem dX1_addBoxes_131 : decode cX1_addBoxes 131 = .ok (.iinc 6 1, 3) := dk_132 6 1 (dk_at dksX1_addBoxes_5 15 rfl rfl)
theorem dX1_addBoxes_134 : decode cX1_addBoxes 134 = .ok (.goto (-123), 3) := dk_167 255 133 (dk_at dksX1_addBoxes_5 18 rfl rfl)
theorem dX1_addBoxes_137 : decode cX1_addBoxes 137 = .ok (.lload_n 3, 1) := dk_33 (dk_at dksX1_addBoxes_5 21 rfl rfl)
theorem dX1_addBoxes_138 : decode cX1_addBoxes 138 = .ok (.lreturn, 1) := dk_173 (dk_at dksX1_addBoxes_5 22 rfl rfl)
abbrev cX1_addOwls : ByteArray := prog_1_method_92_code
def yX1_addOwls : MethodName := ⟨RX1, "addOwls", "(J)J"⟩
def dkwX1_addOwls_6 : List UInt8 := [25, 7, 180, 0, 255, 182, 1, 23, 133, 80, 184, 1, 122, 66, 132, 6, 1, 167, 255, 116, 33, 173]
abbrev dktX1_addOwls_6 : List UInt8 := dkwX1_addOwls_6 ++ []
def dkwX1_addOwls_5 : List UInt8 := [16, 6, 42, 180, 0, 43, 25, 7, 180, 0, 255, 182, 1, 20, 133, 80, 89, 16, 7, 42, 180, 0, 43]
abbrev dktX1_addOwls_5 : List UInt8 := dkwX1_addOwls_5 ++ dktX1_addOwls_6
def dkwX1_addOwls_4 : List UInt8 := [180, 0, 43, 25, 7, 182, 1, 13, 133, 80, 89, 8, 42, 180, 0, 43, 25, 7, 182, 1, 17, 133, 80, 89]
abbrev dktX1_addOwls_4 : List UInt8 := dkwX1_addOwls_4 ++ dktX1_addOwls_5
def dkwX1_addOwls_3 : List UInt8 := [133, 80, 89, 5, 25, 7, 180, 0, 181, 133, 80, 89, 6, 25, 7, 180, 1, 7, 133, 80, 89, 7, 42]
abbrev dktX1_addOwls_3 : List UInt8 := dkwX1_addOwls_3 ++ dktX1_addOwls_4
def dkwX1_addOwls_2 : List UInt8 := [153, 0, 108, 33, 16, 8, 188, 11, 89, 3, 25, 7, 180, 0, 255, 133, 80, 89, 4, 25, 7, 180, 1, 4]
abbrev dktX1_addOwls_2 : List UInt8 := dkwX1_addOwls_2 ++ dktX1_addOwls_3
def dkwX1_addOwls_1 : List UInt8 := [42, 180, 0, 43, 180, 0, 249, 21, 6, 182, 0, 252, 192, 0, 113, 58, 7, 25, 7, 180, 0, 112]
abbrev dktX1_addOwls_1 : List UInt8 := dkwX1_addOwls_1 ++ dktX1_addOwls_2
def dkwX1_addOwls_0 : List UInt8 := [31, 66, 42, 180, 0, 43, 180, 0, 249, 182, 0, 63, 54, 5, 3, 54, 6, 21, 6, 21, 5, 162, 0, 139]
abbrev dktX1_addOwls_0 : List UInt8 := dkwX1_addOwls_0 ++ dktX1_addOwls_1
theorem dksX1_addOwls_0 : cX1_addOwls.data.toList.drop 0 = dktX1_addOwls_0 := by decide +kernel
theorem dksX1_addOwls_1 : cX1_addOwls.data.toList.drop 24 = dktX1_addOwls_1 := dk_seg dksX1_addOwls_0 24 rfl rfl
theorem dksX1_addOwls_2 : cX1_addOwls.data.toList.drop 46 = dktX1_addOwls_2 := dk_seg dksX1_addOwls_1 22 rfl rfl
theorem dksX1_addOwls_3 : cX1_addOwls.data.toList.drop 70 = dktX1_addOwls_3 := dk_seg dksX1_addOwls_2 24 rfl rfl
theorem dksX1_addOwls_4 : cX1_addOwls.data.toList.drop 93 = dktX1_addOwls_4 := dk_seg dksX1_addOwls_3 23 rfl rfl
theorem dksX1_addOwls_5 : cX1_addOwls.data.toList.drop 117 = dktX1_addOwls_5 := dk_seg dksX1_addOwls_4 24 rfl rfl
theorem dksX1_addOwls_6 : cX1_addOwls.data.toList.drop 140 = dktX1_addOwls_6 := dk_seg dksX1_addOwls_5 23 rfl rfl
theorem dX1_addOwls_0 : decode cX1_addOwls 0 = .ok (.lload_n 1, 1) := dk_31 (dk_at dksX1_addOwls_0 0 rfl rfl)
theorem dX1_addOwls_1 : decode cX1_addOwls 1 = .ok (.lstore_n 3, 1) := dk_66 (dk_at dksX1_addOwls_0 1 rfl rfl)
theorem dX1_addOwls_2 : decode cX1_addOwls 2 = .ok (.aload_n 0, 1) := dk_42 (dk_at dksX1_addOwls_0 2 rfl rfl)
theorem dX1_addOwls_3 : decode cX1_addOwls 3 = .ok (.getfield 43, 3) := dk_180 0 43 (dk_at dksX1_addOwls_0 3 rfl rfl)
theorem dX1_addOwls_6 : decode cX1_addOwls 6 = .ok (.getfield 249, 3) := dk_180 0 249 (dk_at dksX1_addOwls_0 6 rfl rfl)
theorem dX1_addOwls_9 : decode cX1_addOwls 9 = .ok (.invokevirtual 63, 3) := dk_182 0 63 (dk_at dksX1_addOwls_0 9 rfl rfl)
theorem dX1_addOwls_12 : decode cX1_addOwls 12 = .ok (.istore 5, 2) := dk_54 5 (dk_at dksX1_addOwls_0 12 rfl rfl)
theorem dX1_addOwls_14 : decode cX1_addOwls 14 = .ok (.iconst 0, 1) := dk_3 (dk_at dksX1_addOwls_0 14 rfl rfl)
theorem dX1_addOwls_15 : decode cX1_addOwls 15 = .ok (.istore 6, 2) := dk_54 6 (dk_at dksX1_addOwls_0 15 rfl rfl)
theorem dX1_addOwls_17 : decode cX1_addOwls 17 = .ok (.iload 6, 2) := dk_21 6 (dk_at dksX1_addOwls_0 17 rfl rfl)
theorem dX1_addOwls_19 : decode cX1_addOwls 19 = .ok (.iload 5, 2) := dk_21 5 (dk_at dksX1_addOwls_0 19 rfl rfl)
theorem dX1_addOwls_21 : decode cX1_addOwls 21 = .ok (.if_icmp .ge 139, 3) := dk_162 0 139 (dk_at dksX1_addOwls_0 21 rfl rfl)
theorem dX1_addOwls_24 : decode cX1_addOwls 24 = .ok (.aload_n 0, 1) := dk_42 (dk_at dksX1_addOwls_1 0 rfl rfl)
theorem dX1_addOwls_25 : decode cX1_addOwls 25 = .ok (.getfield 43, 3) := dk_180 0 43 (dk_at dksX1_addOwls_1 1 rfl rfl)
theorem dX1_addOwls_28 : decode cX1_addOwls 28 = .ok (.getfield 249, 3) := dk_180 0 249 (dk_at dksX1_addOwls_1 4 rfl rfl)
theorem dX1_addOwls_31 : decode cX1_addOwls 31 = .ok (.iload 6, 2) := dk_21 6 (dk_at dksX1_addOwls_1 7 rfl rfl)
theorem dX1_addOwls_33 : decode cX1_addOwls 33 = .ok (.invokevirtual 252, 3) := dk_182 0 252 (dk_at dksX1_addOwls_1 9 rfl rfl)
theorem dX1_addOwls_36 : decode cX1_addOwls 36 = .ok (.checkcast 113, 3) := dk_192 0 113 (dk_at dksX1_addOwls_1 12 rfl rfl)
theorem dX1_addOwls_39 : decode cX1_addOwls 39 = .ok (.astore 7, 2) := dk_58 7 (dk_at dksX1_addOwls_1 15 rfl rfl)
theorem dX1_addOwls_41 : decode cX1_addOwls 41 = .ok (.aload 7, 2) := dk_25 7 (dk_at dksX1_addOwls_1 17 rfl rfl)
theorem dX1_addOwls_43 : decode cX1_addOwls 43 = .ok (.getfield 112, 3) := dk_180 0 112 (dk_at dksX1_addOwls_1 19 rfl rfl)
theorem dX1_addOwls_46 : decode cX1_addOwls 46 = .ok (.ifCond .eq 108, 3) := dk_153 0 108 (dk_at dksX1_addOwls_2 0 rfl rfl)
theorem dX1_addOwls_49 : decode cX1_addOwls 49 = .ok (.lload_n 3, 1) := dk_33 (dk_at dksX1_addOwls_2 3 rfl rfl)
theorem dX1_addOwls_50 : decode cX1_addOwls 50 = .ok (.bipush 8, 2) := dk_16 8 (dk_at dksX1_addOwls_2 4 rfl rfl)
theorem dX1_addOwls_52 : decode cX1_addOwls 52 = .ok (.newarray .long, 2) := dk_188_11 (dk_at dksX1_addOwls_2 6 rfl rfl)
theorem dX1_addOwls_54 : decode cX1_addOwls 54 = .ok (.dup, 1) := dk_89 (dk_at dksX1_addOwls_2 8 rfl rfl)
theorem dX1_addOwls_55 : decode cX1_addOwls 55 = .ok (.iconst 0, 1) := dk_3 (dk_at dksX1_addOwls_2 9 rfl rfl)
theorem dX1_addOwls_56 : decode cX1_addOwls 56 = .ok (.aload 7, 2) := dk_25 7 (dk_at dksX1_addOwls_2 10 rfl rfl)
theorem dX1_addOwls_58 : decode cX1_addOwls 58 = .ok (.getfield 255, 3) := dk_180 0 255 (dk_at dksX1_addOwls_2 12 rfl rfl)
theorem dX1_addOwls_61 : decode cX1_addOwls 61 = .ok (.i2l, 1) := dk_133 (dk_at dksX1_addOwls_2 15 rfl rfl)
theorem dX1_addOwls_62 : decode cX1_addOwls 62 = .ok (.lastore, 1) := dk_80 (dk_at dksX1_addOwls_2 16 rfl rfl)
theorem dX1_addOwls_63 : decode cX1_addOwls 63 = .ok (.dup, 1) := dk_89 (dk_at dksX1_addOwls_2 17 rfl rfl)
theorem dX1_addOwls_64 : decode cX1_addOwls 64 = .ok (.iconst 1, 1) := dk_4 (dk_at dksX1_addOwls_2 18 rfl rfl)
theorem dX1_addOwls_65 : decode cX1_addOwls 65 = .ok (.aload 7, 2) := dk_25 7 (dk_at dksX1_addOwls_2 19 rfl rfl)
theorem dX1_addOwls_67 : decode cX1_addOwls 67 = .ok (.getfield 260, 3) := dk_180 1 4 (dk_at dksX1_addOwls_2 21 rfl rfl)
theorem dX1_addOwls_70 : decode cX1_addOwls 70 = .ok (.i2l, 1) := dk_133 (dk_at dksX1_addOwls_3 0 rfl rfl)
theorem dX1_addOwls_71 : decode cX1_addOwls 71 = .ok (.lastore, 1) := dk_80 (dk_at dksX1_addOwls_3 1 rfl rfl)
theorem dX1_addOwls_72 : decode cX1_addOwls 72 = .ok (.dup, 1) := dk_89 (dk_at dksX1_addOwls_3 2 rfl rfl)
theorem dX1_addOwls_73 : decode cX1_addOwls 73 = .ok (.iconst 2, 1) := dk_5 (dk_at dksX1_addOwls_3 3 rfl rfl)
theorem dX1_addOwls_74 : decode cX1_addOwls 74 = .ok (.aload 7, 2) := dk_25 7 (dk_at dksX1_addOwls_3 4 rfl rfl)
theorem dX1_addOwls_76 : decode cX1_addOwls 76 = .ok (.getfield 181, 3) := dk_180 0 181 (dk_at dksX1_addOwls_3 6 rfl rfl)
theorem dX1_addOwls_79 : decode cX1_addOwls 79 = .ok (.i2l, 1) := dk_133 (dk_at dksX1_addOwls_3 9 rfl rfl)
theorem dX1_addOwls_80 : decode cX1_addOwls 80 = .ok (.lastore, 1) := dk_80 (dk_at dksX1_addOwls_3 10 rfl rfl)
theorem dX1_addOwls_81 : decode cX1_addOwls 81 = .ok (.dup, 1) := dk_89 (dk_at dksX1_addOwls_3 11 rfl rfl)
theorem dX1_addOwls_82 : decode cX1_addOwls 82 = .ok (.iconst 3, 1) := dk_6 (dk_at dksX1_addOwls_3 12 rfl rfl)
theorem dX1_addOwls_83 : decode cX1_addOwls 83 = .ok (.aload 7, 2) := dk_25 7 (dk_at dksX1_addOwls_3 13 rfl rfl)
theorem dX1_addOwls_85 : decode cX1_addOwls 85 = .ok (.getfield 263, 3) := dk_180 1 7 (dk_at dksX1_addOwls_3 15 rfl rfl)
theorem dX1_addOwls_88 : decode cX1_addOwls 88 = .ok (.i2l, 1) := dk_133 (dk_at dksX1_addOwls_3 18 rfl rfl)
theorem dX1_addOwls_89 : decode cX1_addOwls 89 = .ok (.lastore, 1) := dk_80 (dk_at dksX1_addOwls_3 19 rfl rfl)
theorem dX1_addOwls_90 : decode cX1_addOwls 90 = .ok (.dup, 1) := dk_89 (dk_at dksX1_addOwls_3 20 rfl rfl)
theorem dX1_addOwls_91 : decode cX1_addOwls 91 = .ok (.iconst 4, 1) := dk_7 (dk_at dksX1_addOwls_3 21 rfl rfl)
theorem dX1_addOwls_92 : decode cX1_addOwls 92 = .ok (.aload_n 0, 1) := dk_42 (dk_at dksX1_addOwls_3 22 rfl rfl)
theorem dX1_addOwls_93 : decode cX1_addOwls 93 = .ok (.getfield 43, 3) := dk_180 0 43 (dk_at dksX1_addOwls_4 0 rfl rfl)
theorem dX1_addOwls_96 : decode cX1_addOwls 96 = .ok (.aload 7, 2) := dk_25 7 (dk_at dksX1_addOwls_4 3 rfl rfl)
theorem dX1_addOwls_98 : decode cX1_addOwls 98 = .ok (.invokevirtual 269, 3) := dk_182 1 13 (dk_at dksX1_addOwls_4 5 rfl rfl)
theorem dX1_addOwls_101 : decode cX1_addOwls 101 = .ok (.i2l, 1) := dk_133 (dk_at dksX1_addOwls_4 8 rfl rfl)
theorem dX1_addOwls_102 : decode cX1_addOwls 102 = .ok (.lastore, 1) := dk_80 (dk_at dksX1_addOwls_4 9 rfl rfl)
theorem dX1_addOwls_103 : decode cX1_addOwls 103 = .ok (.dup, 1) := dk_89 (dk_at dksX1_addOwls_4 10 rfl rfl)
theorem dX1_addOwls_104 : decode cX1_addOwls 104 = .ok (.iconst 5, 1) := dk_8 (dk_at dksX1_addOwls_4 11 rfl rfl)
theorem dX1_addOwls_105 : decode cX1_addOwls 105 = .ok (.aload_n 0, 1) := dk_42 (dk_at dksX1_addOwls_4 12 rfl rfl)
theorem dX1_addOwls_106 : decode cX1_addOwls 106 = .ok (.getfield 43, 3) := dk_180 0 43 (dk_at dksX1_addOwls_4 13 rfl rfl)
theorem dX1_addOwls_109 : decode cX1_addOwls 109 = .ok (.aload 7, 2) := dk_25 7 (dk_at dksX1_addOwls_4 16 rfl rfl)
theorem dX1_addOwls_111 : decode cX1_addOwls 111 = .ok (.invokevirtual 273, 3) := dk_182 1 17 (dk_at dksX1_addOwls_4 18 rfl rfl)
theorem dX1_addOwls_114 : decode cX1_addOwls 114 = .ok (.i2l, 1) := dk_133 (dk_at dksX1_addOwls_4 21 rfl rfl)
theorem dX1_addOwls_115 : decode cX1_addOwls 115 = .ok (.lastore, 1) := dk_80 (dk_at dksX1_addOwls_4 22 rfl rfl)
theorem dX1_addOwls_116 : decode cX1_addOwls 116 = .ok (.dup, 1) := dk_89 (dk_at dksX1_addOwls_4 23 rfl rfl)
theorem dX1_addOwls_117 : decode cX1_addOwls 117 = .ok (.bipush 6, 2) := dk_16 6 (dk_at dksX1_addOwls_5 0 rfl rfl)
theorem dX1_addOwls_119 : decode cX1_addOwls 119 = .ok (.aload_n 0, 1) := dk_42 (dk_at dksX1_addOwls_5 2 rfl rfl)
theorem dX1_addOwls_120 : decode cX1_addOwls 120 = .ok (.getfield 43, 3) := dk_180 0 43 (dk_at dksX1_addOwls_5 3 rfl rfl)
theorem dX1_addOwls_123 : decode cX1_addOwls 123 = .ok (.aload 7, 2) := dk_25 7 (dk_at dksX1_addOwls_5 6 rfl rfl)
theorem dX1_addOwls_125 : decode cX1_addOwls 125 = .ok (.getfield 255, 3) := dk_180 0 255 (dk_at dksX1_addOwls_5 8 rfl rfl)
theorem dX1_addOwls_128 : decode cX1_addOwls 128 = .ok (.invokevirtual 276, 3) := dk_182 1 20 (dk_at dksX1_addOwls_5 11 rfl rfl)
theorem dX1_addOwls_131 : decode cX1_addOwls 131 = .ok (.i2l, 1) := dk_133 (dk_at dksX1_addOwls_5 14 rfl rfl)
theorem dX1_addOwls_132 : decode cX1_addOwls 132 = .ok (.lastore, 1) := dk_80 (dk_at dksX1_addOwls_5 15 rfl rfl)
theorem dX1_addOwls_133 : decode cX1_addOwls 133 = .ok (.dup, 1) := dk_89 (dk_at dksX1_addOwls_5 16 rfl rfl)
theorem dX1_addOwls_134 : decode cX1_addOwls 134 = .ok (.bipush 7, 2) := dk_16 7 (dk_at dksX1_addOwls_5 17 rfl rfl)
theorem dX1_addOwls_136 : decode cX1_addOwls 136 = .ok (.aload_n 0, 1) := dk_42 (dk_at dksX1_addOwls_5 19 rfl rfl)
theorem dX1_addOwls_137 : decode cX1_addOwls 137 = .ok (.getfield 43, 3) := dk_180 0 43 (dk_at dksX1_addOwls_5 20 rfl rfl)
theorem dX1_addOwls_140 : decode cX1_addOwls 140 = .ok (.aload 7, 2) := dk_25 7 (dk_at dksX1_addOwls_6 0 rfl rfl)
theorem dX1_addOwls_142 : decode cX1_addOwls 142 = .ok (.getfield 255, 3) := dk_180 0 255 (dk_at dksX1_addOwls_6 2 rfl rfl)
theorem dX1_addOwls_145 : decode cX1_addOwls 145 = .ok (.invokevirtual 279, 3) := dk_182 1 23 (dk_at dksX1_addOwls_6 5 rfl rfl)
theorem dX1_addOwls_148 : decode cX1_addOwls 148 = .ok (.i2l, 1) := dk_133 (dk_at dksX1_addOwls_6 8 rfl rfl)
theorem dX1_addOwls_149 : decode cX1_addOwls 149 = .ok (.lastore, 1) := dk_80 (dk_at dksX1_addOwls_6 9 rfl rfl)
theorem dX1_addOwls_150 : decode cX1_addOwls 150 = .ok (.invokestatic 378, 3) := dk_184 1 122 (dk_at dksX1_addOwls_6 10 rfl rfl)
theorem dX1_addOwls_153 : decode cX1_addOwls 153 = .ok (.lstore_n 3, 1) := dk_66 (dk_at dksX1_addOwls_6 13 rfl rfl)
theorem dX1_addOwls_154 : decode cX1_addOwls 154 = .ok (.iinc 6 1, 3) := dk_132 6 1 (dk_at dksX1_addOwls_6 14 rfl rfl)
theorem dX1_addOwls_157 : decode cX1_addOwls 157 = .ok (.goto (-140), 3) := dk_167 255 116 (dk_at dksX1_addOwls_6 17 rfl rfl)
theorem dX1_addOwls_160 : decode cX1_addOwls 160 = .ok (.lload_n 3, 1) := dk_33 (dk_at dksX1_addOwls_6 20 rfl rfl)
theorem dX1_addOwls_161 : decode cX1_addOwls 161 = .ok (.lreturn, 1) := dk_173 (dk_at dksX1_addOwls_6 21 rfl rfl)
abbrev cX1_setLand : ByteArray := prog_1_method_21_code
def yX1_setLand : MethodName := ⟨RX1, "setLand", "(II)I"⟩
def dkwX1_setLand_1 : List UInt8 := [180, 0, 43, 180, 0, 135, 27, 46, 62, 42, 180, 0, 43, 27, 28, 182, 0, 139, 29, 172]
abbrev dktX1_setLand_1 : List UInt8 := dkwX1_setLand_1 ++ []
def dkwX1_setLand_0 : List UInt8 := [27, 184, 0, 122, 28, 184, 0, 125, 42, 27, 28, 182, 0, 128, 184, 0, 87, 42, 182, 0, 132, 42]
abbrev dktX1_setLand_0 : List UInt8 := dkwX1_setLand_0 ++ dktX1_setLand_1
theorem dksX1_setLand_0 : cX1_setLand.data.toList.drop 0 = dktX1_setLand_0 := by decide +kernel
theorem dksX1_setLand_1 : cX1_setLand.data.toList.drop 22 = dktX1_setLand_1 := dk_seg dksX1_setLand_0 22 rfl rfl
theorem dX1_setLand_0 : decode cX1_setLand 0 = .ok (.iload_n 1, 1) := dk_27 (dk_at dksX1_setLand_0 0 rfl rfl)
theorem dX1_setLand_1 : decode cX1_setLand 1 = .ok (.invokestatic 122, 3) := dk_184 0 122 (dk_at dksX1_setLand_0 1 rfl rfl)
theorem dX1_setLand_4 : decode cX1_setLand 4 = .ok (.iload_n 2, 1) := dk_28 (dk_at dksX1_setLand_0 4 rfl rfl)
theorem dX1_setLand_5 : decode cX1_setLand 5 = .ok (.invokestatic 125, 3) := dk_184 0 125 (dk_at dksX1_setLand_0 5 rfl rfl)
theorem dX1_setLand_8 : decode cX1_setLand 8 = .ok (.aload_n 0, 1) := dk_42 (dk_at dksX1_setLand_0 8 rfl rfl)
theorem dX1_setLand_9 : decode cX1_setLand 9 = .ok (.iload_n 1, 1) := dk_27 (dk_at dksX1_setLand_0 9 rfl rfl)
theorem dX1_setLand_10 : decode cX1_setLand 10 = .ok (.iload_n 2, 1) := dk_28 (dk_at dksX1_setLand_0 10 rfl rfl)
theorem dX1_setLand_11 : decode cX1_setLand 11 = .ok (.invokevirtual 128, 3) := dk_182 0 128 (dk_at dksX1_setLand_0 11 rfl rfl)
theorem dX1_setLand_14 : decode cX1_setLand 14 = .ok (.invokestatic 87, 3) := dk_184 0 87 (dk_at dksX1_setLand_0 14 rfl rfl)
theorem dX1_setLand_17 : decode cX1_setLand 17 = .ok (.aload_n 0, 1) := dk_42 (dk_at dksX1_setLand_0 17 rfl rfl)
theorem dX1_setLand_18 : decode cX1_setLand 18 = .ok (.invokevirtual 132, 3) := dk_182 0 132 (dk_at dksX1_setLand_0 18 rfl rfl)
theorem dX1_setLand_21 : decode cX1_setLand 21 = .ok (.aload_n 0, 1) := dk_42 (dk_at dksX1_setLand_0 21 rfl rfl)
theorem dX1_setLand_22 : decode cX1_setLand 22 = .ok (.getfield 43, 3) := dk_180 0 43 (dk_at dksX1_setLand_1 0 rfl rfl)
theorem dX1_setLand_25 : decode cX1_setLand 25 = .ok (.getfield 135, 3) := dk_180 0 135 (dk_at dksX1_setLand_1 3 rfl rfl)
theorem dX1_setLand_28 : decode cX1_setLand 28 = .ok (.iload_n 1, 1) := dk_27 (dk_at dksX1_setLand_1 6 rfl rfl)
theorem dX1_setLand_29 : decode cX1_setLand 29 = .ok (.iaload, 1) := dk_46 (dk_at dksX1_setLand_1 7 rfl rfl)
theorem dX1_setLand_30 : decode cX1_setLand 30 = .ok (.istore_n 3, 1) := dk_62 (dk_at dksX1_setLand_1 8 rfl rfl)
theorem dX1_setLand_31 : decode cX1_setLand 31 = .ok (.aload_n 0, 1) := dk_42 (dk_at dksX1_setLand_1 9 rfl rfl)
theorem dX1_setLand_32 : decode cX1_setLand 32 = .ok (.getfield 43, 3) := dk_180 0 43 (dk_at dksX1_setLand_1 10 rfl rfl)
theorem dX1_setLand_35 : decode cX1_setLand 35 = .ok (.iload_n 1, 1) := dk_27 (dk_at dksX1_setLand_1 13 rfl rfl)
theorem dX1_setLand_36 : decode cX1_setLand 36 = .ok (.iload_n 2, 1) := dk_28 (dk_at dksX1_setLand_1 14 rfl rfl)
theorem dX1_setLand_37 : decode cX1_setLand 37 = .ok (.invokevirtual 139, 3) := dk_182 0 139 (dk_at dksX1_setLand_1 15 rfl rfl)
theorem dX1_setLand_40 : decode cX1_setLand 40 = .ok (.iload_n 3, 1) := dk_29 (dk_at dksX1_setLand_1 18 rfl rfl)
theorem dX1_setLand_41 : decode cX1_setLand 41 = .ok (.ireturn, 1) := dk_172 (dk_at dksX1_setLand_1 19 rfl rfl)
abbrev cX1_checkSquare : ByteArray := prog_1_method_4_code
def yX1_checkSquare : MethodName := ⟨RX1, "checkSquare", "(I)V"⟩
def dkwX1_checkSquare_0 : List UInt8 := [26, 16, 64, 184, 0, 16, 177]
abbrev dktX1_checkSquare_0 : List UInt8 := dkwX1_checkSquare_0 ++ []
theorem dksX1_checkSquare_0 : cX1_checkSquare.data.toList.drop 0 = dktX1_checkSquare_0 := by decide +kernel
theorem dX1_checkSquare_0 : decode cX1_checkSquare 0 = .ok (.iload_n 0, 1) := dk_26 (dk_at dksX1_checkSquare_0 0 rfl rfl)
theorem dX1_checkSquare_1 : decode cX1_checkSquare 1 = .ok (.bipush 64, 2) := dk_16 64 (dk_at dksX1_checkSquare_0 1 rfl rfl)
theorem dX1_checkSquare_3 : decode cX1_checkSquare 3 = .ok (.invokestatic 16, 3) := dk_184 0 16 (dk_at dksX1_checkSquare_0 3 rfl rfl)
theorem dX1_checkSquare_6 : decode cX1_checkSquare 6 = .ok (.return_, 1) := dk_177 (dk_at dksX1_checkSquare_0 6 rfl rfl)
abbrev cX1_checkIndex : ByteArray := prog_1_method_3_code
def yX1_checkIndex : MethodName := ⟨RX1, "checkIndex", "(II)V"⟩
def dkwX1_checkIndex_0 : List UInt8 := [26, 3, 27, 4, 100, 184, 0, 3, 154, 0, 11, 187, 0, 13, 89, 183, 0, 15, 191, 177]
abbrev dktX1_checkIndex_0 : List UInt8 := dkwX1_checkIndex_0 ++ []
theorem dksX1_checkIndex_0 : cX1_checkIndex.data.toList.drop 0 = dktX1_checkIndex_0 := by decide +kernel
theorem dX1_checkIndex_0 : decode cX1_checkIndex 0 = .ok (.iload_n 0, 1) := dk_26 (dk_at dksX1_checkIndex_0 0 rfl rfl)
theorem dX1_checkIndex_1 : decode cX1_checkIndex 1 = .ok (.iconst 0, 1) := dk_3 (dk_at dksX1_checkIndex_0 1 rfl rfl)
theorem dX1_checkIndex_2 : decode cX1_checkIndex 2 = .ok (.iload_n 1, 1) := dk_27 (dk_at dksX1_checkIndex_0 2 rfl rfl)
theorem dX1_checkIndex_3 : decode cX1_checkIndex 3 = .ok (.iconst 1, 1) := dk_4 (dk_at dksX1_checkIndex_0 3 rfl rfl)
theorem dX1_checkIndex_4 : decode cX1_checkIndex 4 = .ok (.isub, 1) := dk_100 (dk_at dksX1_checkIndex_0 4 rfl rfl)
theorem dX1_checkIndex_5 : decode cX1_checkIndex 5 = .ok (.invokestatic 3, 3) := dk_184 0 3 (dk_at dksX1_checkIndex_0 5 rfl rfl)
theorem dX1_checkIndex_8 : decode cX1_checkIndex 8 = .ok (.ifCond .ne 11, 3) := dk_154 0 11 (dk_at dksX1_checkIndex_0 8 rfl rfl)
theorem dX1_checkIndex_11 : decode cX1_checkIndex 11 = .ok (.new 13, 3) := dk_187 0 13 (dk_at dksX1_checkIndex_0 11 rfl rfl)
theorem dX1_checkIndex_14 : decode cX1_checkIndex 14 = .ok (.dup, 1) := dk_89 (dk_at dksX1_checkIndex_0 14 rfl rfl)
theorem dX1_checkIndex_15 : decode cX1_checkIndex 15 = .ok (.invokespecial 15, 3) := dk_183 0 15 (dk_at dksX1_checkIndex_0 15 rfl rfl)
theorem dX1_checkIndex_18 : decode cX1_checkIndex 18 = .ok (.athrow, 1) := dk_191 (dk_at dksX1_checkIndex_0 18 rfl rfl)
theorem dX1_checkIndex_19 : decode cX1_checkIndex 19 = .ok (.return_, 1) := dk_177 (dk_at dksX1_checkIndex_0 19 rfl rfl)
abbrev cX1_checkKind : ByteArray := prog_1_method_5_code
def yX1_checkKind : MethodName := ⟨RX1, "checkKind", "(I)V"⟩
def dkwX1_checkKind_0 : List UInt8 := [26, 3, 6, 184, 0, 20, 177]
abbrev dktX1_checkKind_0 : List UInt8 := dkwX1_checkKind_0 ++ []
theorem dksX1_checkKind_0 : cX1_checkKind.data.toList.drop 0 = dktX1_checkKind_0 := by decide +kernel
theorem dX1_checkKind_0 : decode cX1_checkKind 0 = .ok (.iload_n 0, 1) := dk_26 (dk_at dksX1_checkKind_0 0 rfl rfl)
theorem dX1_checkKind_1 : decode cX1_checkKind 1 = .ok (.iconst 0, 1) := dk_3 (dk_at dksX1_checkKind_0 1 rfl rfl)
theorem dX1_checkKind_2 : decode cX1_checkKind 2 = .ok (.iconst 3, 1) := dk_6 (dk_at dksX1_checkKind_0 2 rfl rfl)
theorem dX1_checkKind_3 : decode cX1_checkKind 3 = .ok (.invokestatic 20, 3) := dk_184 0 20 (dk_at dksX1_checkKind_0 3 rfl rfl)
theorem dX1_checkKind_6 : decode cX1_checkKind 6 = .ok (.return_, 1) := dk_177 (dk_at dksX1_checkKind_0 6 rfl rfl)
abbrev cX1_checkRange : ByteArray := prog_1_method_2_code
def yX1_checkRange : MethodName := ⟨RX1, "checkRange", "(III)V"⟩
def dkwX1_checkRange_0 : List UInt8 := [26, 27, 28, 184, 0, 3, 154, 0, 11, 187, 0, 7, 89, 183, 0, 9, 191, 177]
abbrev dktX1_checkRange_0 : List UInt8 := dkwX1_checkRange_0 ++ []
theorem dksX1_checkRange_0 : cX1_checkRange.data.toList.drop 0 = dktX1_checkRange_0 := by decide +kernel
theorem dX1_checkRange_0 : decode cX1_checkRange 0 = .ok (.iload_n 0, 1) := dk_26 (dk_at dksX1_checkRange_0 0 rfl rfl)
theorem dX1_checkRange_1 : decode cX1_checkRange 1 = .ok (.iload_n 1, 1) := dk_27 (dk_at dksX1_checkRange_0 1 rfl rfl)
theorem dX1_checkRange_2 : decode cX1_checkRange 2 = .ok (.iload_n 2, 1) := dk_28 (dk_at dksX1_checkRange_0 2 rfl rfl)
theorem dX1_checkRange_3 : decode cX1_checkRange 3 = .ok (.invokestatic 3, 3) := dk_184 0 3 (dk_at dksX1_checkRange_0 3 rfl rfl)
theorem dX1_checkRange_6 : decode cX1_checkRange 6 = .ok (.ifCond .ne 11, 3) := dk_154 0 11 (dk_at dksX1_checkRange_0 6 rfl rfl)
theorem dX1_checkRange_9 : decode cX1_checkRange 9 = .ok (.new 7, 3) := dk_187 0 7 (dk_at dksX1_checkRange_0 9 rfl rfl)
theorem dX1_checkRange_12 : decode cX1_checkRange 12 = .ok (.dup, 1) := dk_89 (dk_at dksX1_checkRange_0 12 rfl rfl)
theorem dX1_checkRange_13 : decode cX1_checkRange 13 = .ok (.invokespecial 9, 3) := dk_183 0 9 (dk_at dksX1_checkRange_0 13 rfl rfl)
theorem dX1_checkRange_16 : decode cX1_checkRange 16 = .ok (.athrow, 1) := dk_191 (dk_at dksX1_checkRange_0 16 rfl rfl)
theorem dX1_checkRange_17 : decode cX1_checkRange 17 = .ok (.return_, 1) := dk_177 (dk_at dksX1_checkRange_0 17 rfl rfl)
abbrev cX1_canBecome : ByteArray := prog_1_method_20_code
def yX1_canBecome : MethodName := ⟨RX1, "canBecome", "(II)Z"⟩
def dkwX1_canBecome_0 : List UInt8 := [28, 6, 160, 0, 14, 42, 180, 0, 43, 27, 182, 0, 118, 154, 0, 7, 4, 167, 0, 4, 3, 172]
abbrev dktX1_canBecome_0 : List UInt8 := dkwX1_canBecome_0 ++ []
theorem dksX1_canBecome_0 : cX1_canBecome.data.toList.drop 0 = dktX1_canBecome_0 := by decide +kernel
theorem dX1_canBecome_0 : decode cX1_canBecome 0 = .ok (.iload_n 2, 1) := dk_28 (dk_at dksX1_canBecome_0 0 rfl rfl)
theorem dX1_canBecome_1 : decode cX1_canBecome 1 = .ok (.iconst 3, 1) := dk_6 (dk_at dksX1_canBecome_0 1 rfl rfl)
theorem dX1_canBecome_2 : decode cX1_canBecome 2 = .ok (.if_icmp .ne 14, 3) := dk_160 0 14 (dk_at dksX1_canBecome_0 2 rfl rfl)
theorem dX1_canBecome_5 : decode cX1_canBecome 5 = .ok (.aload_n 0, 1) := dk_42 (dk_at dksX1_canBecome_0 5 rfl rfl)
theorem dX1_canBecome_6 : decode cX1_canBecome 6 = .ok (.getfield 43, 3) := dk_180 0 43 (dk_at dksX1_canBecome_0 6 rfl rfl)
theorem dX1_canBecome_9 : decode cX1_canBecome 9 = .ok (.iload_n 1, 1) := dk_27 (dk_at dksX1_canBecome_0 9 rfl rfl)
theorem dX1_canBecome_10 : decode cX1_canBecome 10 = .ok (.invokevirtual 118, 3) := dk_182 0 118 (dk_at dksX1_canBecome_0 10 rfl rfl)
theorem dX1_canBecome_13 : decode cX1_canBecome 13 = .ok (.ifCond .ne 7, 3) := dk_154 0 7 (dk_at dksX1_canBecome_0 13 rfl rfl)
theorem dX1_canBecome_16 : decode cX1_canBecome 16 = .ok (.iconst 1, 1) := dk_4 (dk_at dksX1_canBecome_0 16 rfl rfl)
theorem dX1_canBecome_17 : decode cX1_canBecome 17 = .ok (.goto 4, 3) := dk_167 0 4 (dk_at dksX1_canBecome_0 17 rfl rfl)
theorem dX1_canBecome_20 : decode cX1_canBecome 20 = .ok (.iconst 0, 1) := dk_3 (dk_at dksX1_canBecome_0 20 rfl rfl)
theorem dX1_canBecome_21 : decode cX1_canBecome 21 = .ok (.ireturn, 1) := dk_172 (dk_at dksX1_canBecome_0 21 rfl rfl)
abbrev cX1_checkState : ByteArray := prog_1_method_7_code
def yX1_checkState : MethodName := ⟨RX1, "checkState", "(Z)V"⟩
def dkwX1_checkState_0 : List UInt8 := [26, 154, 0, 11, 187, 0, 24, 89, 183, 0, 26, 191, 177]
abbrev dktX1_checkState_0 : List UInt8 := dkwX1_checkState_0 ++ []
theorem dksX1_checkState_0 : cX1_checkState.data.toList.drop 0 = dktX1_checkState_0 := by decide +kernel
theorem dX1_checkState_0 : decode cX1_checkState 0 = .ok (.iload_n 0, 1) := dk_26 (dk_at dksX1_checkState_0 0 rfl rfl)
theorem dX1_checkState_1 : decode cX1_checkState 1 = .ok (.ifCond .ne 11, 3) := dk_154 0 11 (dk_at dksX1_checkState_0 1 rfl rfl)
theorem dX1_checkState_4 : decode cX1_checkState 4 = .ok (.new 24, 3) := dk_187 0 24 (dk_at dksX1_checkState_0 4 rfl rfl)
theorem dX1_checkState_7 : decode cX1_checkState 7 = .ok (.dup, 1) := dk_89 (dk_at dksX1_checkState_0 7 rfl rfl)
theorem dX1_checkState_8 : decode cX1_checkState 8 = .ok (.invokespecial 26, 3) := dk_183 0 26 (dk_at dksX1_checkState_0 8 rfl rfl)
theorem dX1_checkState_11 : decode cX1_checkState 11 = .ok (.athrow, 1) := dk_191 (dk_at dksX1_checkState_0 11 rfl rfl)
theorem dX1_checkState_12 : decode cX1_checkState 12 = .ok (.return_, 1) := dk_177 (dk_at dksX1_checkState_0 12 rfl rfl)
abbrev cX1_save : ByteArray := prog_1_method_13_code
def yX1_save : MethodName := ⟨RX1, "save", "()V"⟩
def dkwX1_save_0 : List UInt8 := [42, 42, 180, 0, 43, 182, 0, 75, 182, 0, 79, 177]
abbrev dktX1_save_0 : List UInt8 := dkwX1_save_0 ++ []
theorem dksX1_save_0 : cX1_save.data.toList.drop 0 = dktX1_save_0 := by decide +kernel
theorem dX1_save_0 : decode cX1_save 0 = .ok (.aload_n 0, 1) := dk_42 (dk_at dksX1_save_0 0 rfl rfl)
theorem dX1_save_1 : decode cX1_save 1 = .ok (.aload_n 0, 1) := dk_42 (dk_at dksX1_save_0 1 rfl rfl)
theorem dX1_save_2 : decode cX1_save 2 = .ok (.getfield 43, 3) := dk_180 0 43 (dk_at dksX1_save_0 2 rfl rfl)
theorem dX1_save_5 : decode cX1_save 5 = .ok (.invokevirtual 75, 3) := dk_182 0 75 (dk_at dksX1_save_0 5 rfl rfl)
theorem dX1_save_8 : decode cX1_save 8 = .ok (.invokevirtual 79, 3) := dk_182 0 79 (dk_at dksX1_save_0 8 rfl rfl)
theorem dX1_save_11 : decode cX1_save 11 = .ok (.return_, 1) := dk_177 (dk_at dksX1_save_0 11 rfl rfl)
abbrev cX1_remember : ByteArray := prog_1_method_12_code
def yX1_remember : MethodName := ⟨RX1, "remember", "(LOwlYears$Land;)V"⟩
def dkwX1_remember_1 : List UInt8 := [180, 0, 50, 43, 182, 0, 71, 87, 177]
abbrev dktX1_remember_1 : List UInt8 := dkwX1_remember_1 ++ []
def dkwX1_remember_0 : List UInt8 := [42, 180, 0, 50, 182, 0, 63, 16, 6, 160, 0, 12, 42, 180, 0, 50, 3, 182, 0, 67, 87, 42]
abbrev dktX1_remember_0 : List UInt8 := dkwX1_remember_0 ++ dktX1_remember_1
theorem dksX1_remember_0 : cX1_remember.data.toList.drop 0 = dktX1_remember_0 := by decide +kernel
theorem dksX1_remember_1 : cX1_remember.data.toList.drop 22 = dktX1_remember_1 := dk_seg dksX1_remember_0 22 rfl rfl
theorem dX1_remember_0 : decode cX1_remember 0 = .ok (.aload_n 0, 1) := dk_42 (dk_at dksX1_remember_0 0 rfl rfl)
theorem dX1_remember_1 : decode cX1_remember 1 = .ok (.getfield 50, 3) := dk_180 0 50 (dk_at dksX1_remember_0 1 rfl rfl)
theorem dX1_remember_4 : decode cX1_remember 4 = .ok (.invokevirtual 63, 3) := dk_182 0 63 (dk_at dksX1_remember_0 4 rfl rfl)
theorem dX1_remember_7 : decode cX1_remember 7 = .ok (.bipush 6, 2) := dk_16 6 (dk_at dksX1_remember_0 7 rfl rfl)
theorem dX1_remember_9 : decode cX1_remember 9 = .ok (.if_icmp .ne 12, 3) := dk_160 0 12 (dk_at dksX1_remember_0 9 rfl rfl)
theorem dX1_remember_12 : decode cX1_remember 12 = .ok (.aload_n 0, 1) := dk_42 (dk_at dksX1_remember_0 12 rfl rfl)
theorem dX1_remember_13 : decode cX1_remember 13 = .ok (.getfield 50, 3) := dk_180 0 50 (dk_at dksX1_remember_0 13 rfl rfl)
theorem dX1_remember_16 : decode cX1_remember 16 = .ok (.iconst 0, 1) := dk_3 (dk_at dksX1_remember_0 16 rfl rfl)
theorem dX1_remember_17 : decode cX1_remember 17 = .ok (.invokevirtual 67, 3) := dk_182 0 67 (dk_at dksX1_remember_0 17 rfl rfl)
theorem dX1_remember_20 : decode cX1_remember 20 = .ok (.pop, 1) := dk_87 (dk_at dksX1_remember_0 20 rfl rfl)
theorem dX1_remember_21 : decode cX1_remember 21 = .ok (.aload_n 0, 1) := dk_42 (dk_at dksX1_remember_0 21 rfl rfl)
theorem dX1_remember_22 : decode cX1_remember 22 = .ok (.getfield 50, 3) := dk_180 0 50 (dk_at dksX1_remember_1 0 rfl rfl)
theorem dX1_remember_25 : decode cX1_remember 25 = .ok (.aload_n 1, 1) := dk_43 (dk_at dksX1_remember_1 3 rfl rfl)
theorem dX1_remember_26 : decode cX1_remember 26 = .ok (.invokevirtual 71, 3) := dk_182 0 71 (dk_at dksX1_remember_1 4 rfl rfl)
theorem dX1_remember_29 : decode cX1_remember 29 = .ok (.pop, 1) := dk_87 (dk_at dksX1_remember_1 7 rfl rfl)
theorem dX1_remember_30 : decode cX1_remember 30 = .ok (.return_, 1) := dk_177 (dk_at dksX1_remember_1 8 rfl rfl)
abbrev cX1_buildRoad : ByteArray := prog_1_method_22_code
def yX1_buildRoad : MethodName := ⟨RX1, "buildRoad", "(IZ)I"⟩
def dkwX1_buildRoad_0 : List UInt8 := [27, 3, 16, 7, 184, 0, 20, 42, 182, 0, 132, 42, 180, 0, 43, 27, 28, 182, 0, 142, 172]
abbrev dktX1_buildRoad_0 : List UInt8 := dkwX1_buildRoad_0 ++ []
theorem dksX1_buildRoad_0 : cX1_buildRoad.data.toList.drop 0 = dktX1_buildRoad_0 := by decide +kernel
theorem dX1_buildRoad_0 : decode cX1_buildRoad 0 = .ok (.iload_n 1, 1) := dk_27 (dk_at dksX1_buildRoad_0 0 rfl rfl)
theorem dX1_buildRoad_1 : decode cX1_buildRoad 1 = .ok (.iconst 0, 1) := dk_3 (dk_at dksX1_buildRoad_0 1 rfl rfl)
theorem dX1_buildRoad_2 : decode cX1_buildRoad 2 = .ok (.bipush 7, 2) := dk_16 7 (dk_at dksX1_buildRoad_0 2 rfl rfl)
theorem dX1_buildRoad_4 : decode cX1_buildRoad 4 = .ok (.invokestatic 20, 3) := dk_184 0 20 (dk_at dksX1_buildRoad_0 4 rfl rfl)
theorem dX1_buildRoad_7 : decode cX1_buildRoad 7 = .ok (.aload_n 0, 1) := dk_42 (dk_at dksX1_buildRoad_0 7 rfl rfl)
theorem dX1_buildRoad_8 : decode cX1_buildRoad 8 = .ok (.invokevirtual 132, 3) := dk_182 0 132 (dk_at dksX1_buildRoad_0 8 rfl rfl)
theorem dX1_buildRoad_11 : decode cX1_buildRoad 11 = .ok (.aload_n 0, 1) := dk_42 (dk_at dksX1_buildRoad_0 11 rfl rfl)
theorem dX1_buildRoad_12 : decode cX1_buildRoad 12 = .ok (.getfield 43, 3) := dk_180 0 43 (dk_at dksX1_buildRoad_0 12 rfl rfl)
theorem dX1_buildRoad_15 : decode cX1_buildRoad 15 = .ok (.iload_n 1, 1) := dk_27 (dk_at dksX1_buildRoad_0 15 rfl rfl)
theorem dX1_buildRoad_16 : decode cX1_buildRoad 16 = .ok (.iload_n 2, 1) := dk_28 (dk_at dksX1_buildRoad_0 16 rfl rfl)
theorem dX1_buildRoad_17 : decode cX1_buildRoad 17 = .ok (.invokevirtual 142, 3) := dk_182 0 142 (dk_at dksX1_buildRoad_0 17 rfl rfl)
theorem dX1_buildRoad_20 : decode cX1_buildRoad 20 = .ok (.ireturn, 1) := dk_172 (dk_at dksX1_buildRoad_0 20 rfl rfl)
abbrev cX1_setVoles : ByteArray := prog_1_method_23_code
def yX1_setVoles : MethodName := ⟨RX1, "setVoles", "(II)I"⟩
def dkwX1_setVoles_2 : List UInt8 := [180, 0, 43, 180, 0, 149, 27, 28, 79, 29, 172]
abbrev dktX1_setVoles_2 : List UInt8 := dkwX1_setVoles_2 ++ []
def dkwX1_setVoles_1 : List UInt8 := [167, 0, 4, 3, 184, 0, 87, 42, 182, 0, 132, 42, 180, 0, 43, 180, 0, 149, 27, 46, 62, 42]
abbrev dktX1_setVoles_1 : List UInt8 := dkwX1_setVoles_1 ++ dktX1_setVoles_2
def dkwX1_setVoles_0 : List UInt8 := [27, 184, 0, 122, 28, 3, 17, 0, 160, 184, 0, 20, 42, 180, 0, 43, 27, 182, 0, 146, 154, 0, 7, 4]
abbrev dktX1_setVoles_0 : List UInt8 := dkwX1_setVoles_0 ++ dktX1_setVoles_1
theorem dksX1_setVoles_0 : cX1_setVoles.data.toList.drop 0 = dktX1_setVoles_0 := by decide +kernel
theorem dksX1_setVoles_1 : cX1_setVoles.data.toList.drop 24 = dktX1_setVoles_1 := dk_seg dksX1_setVoles_0 24 rfl rfl
theorem dksX1_setVoles_2 : cX1_setVoles.data.toList.drop 46 = dktX1_setVoles_2 := dk_seg dksX1_setVoles_1 22 rfl rfl
theorem dX1_setVoles_0 : decode cX1_setVoles 0 = .ok (.iload_n 1, 1) := dk_27 (dk_at dksX1_setVoles_0 0 rfl rfl)
theorem dX1_setVoles_1 : decode cX1_setVoles 1 = .ok (.invokestatic 122, 3) := dk_184 0 122 (dk_at dksX1_setVoles_0 1 rfl rfl)
theorem dX1_setVoles_4 : decode cX1_setVoles 4 = .ok (.iload_n 2, 1) := dk_28 (dk_at dksX1_setVoles_0 4 rfl rfl)
theorem dX1_setVoles_5 : decode cX1_setVoles 5 = .ok (.iconst 0, 1) := dk_3 (dk_at dksX1_setVoles_0 5 rfl rfl)
theorem dX1_setVoles_6 : decode cX1_setVoles 6 = .ok (.sipush 160, 3) := dk_17 0 160 (dk_at dksX1_setVoles_0 6 rfl rfl)
theorem dX1_setVoles_9 : decode cX1_setVoles 9 = .ok (.invokestatic 20, 3) := dk_184 0 20 (dk_at dksX1_setVoles_0 9 rfl rfl)
theorem dX1_setVoles_12 : decode cX1_setVoles 12 = .ok (.aload_n 0, 1) := dk_42 (dk_at dksX1_setVoles_0 12 rfl rfl)
theorem dX1_setVoles_13 : decode cX1_setVoles 13 = .ok (.getfield 43, 3) := dk_180 0 43 (dk_at dksX1_setVoles_0 13 rfl rfl)
theorem dX1_setVoles_16 : decode cX1_setVoles 16 = .ok (.iload_n 1, 1) := dk_27 (dk_at dksX1_setVoles_0 16 rfl rfl)
theorem dX1_setVoles_17 : decode cX1_setVoles 17 = .ok (.invokevirtual 146, 3) := dk_182 0 146 (dk_at dksX1_setVoles_0 17 rfl rfl)
theorem dX1_setVoles_20 : decode cX1_setVoles 20 = .ok (.ifCond .ne 7, 3) := dk_154 0 7 (dk_at dksX1_setVoles_0 20 rfl rfl)
theorem dX1_setVoles_23 : decode cX1_setVoles 23 = .ok (.iconst 1, 1) := dk_4 (dk_at dksX1_setVoles_0 23 rfl rfl)
theorem dX1_setVoles_24 : decode cX1_setVoles 24 = .ok (.goto 4, 3) := dk_167 0 4 (dk_at dksX1_setVoles_1 0 rfl rfl)
theorem dX1_setVoles_27 : decode cX1_setVoles 27 = .ok (.iconst 0, 1) := dk_3 (dk_at dksX1_setVoles_1 3 rfl rfl)
theorem dX1_setVoles_28 : decode cX1_setVoles 28 = .ok (.invokestatic 87, 3) := dk_184 0 87 (dk_at dksX1_setVoles_1 4 rfl rfl)
theorem dX1_setVoles_31 : decode cX1_setVoles 31 = .ok (.aload_n 0, 1) := dk_42 (dk_at dksX1_setVoles_1 7 rfl rfl)
theorem dX1_setVoles_32 : decode cX1_setVoles 32 = .ok (.invokevirtual 132, 3) := dk_182 0 132 (dk_at dksX1_setVoles_1 8 rfl rfl)
theorem dX1_setVoles_35 : decode cX1_setVoles 35 = .ok (.aload_n 0, 1) := dk_42 (dk_at dksX1_setVoles_1 11 rfl rfl)
theorem dX1_setVoles_36 : decode cX1_setVoles 36 = .ok (.getfield 43, 3) := dk_180 0 43 (dk_at dksX1_setVoles_1 12 rfl rfl)
theorem dX1_setVoles_39 : decode cX1_setVoles 39 = .ok (.getfield 149, 3) := dk_180 0 149 (dk_at dksX1_setVoles_1 15 rfl rfl)
theorem dX1_setVoles_42 : decode cX1_setVoles 42 = .ok (.iload_n 1, 1) := dk_27 (dk_at dksX1_setVoles_1 18 rfl rfl)
theorem dX1_setVoles_43 : decode cX1_setVoles 43 = .ok (.iaload, 1) := dk_46 (dk_at dksX1_setVoles_1 19 rfl rfl)
theorem dX1_setVoles_44 : decode cX1_setVoles 44 = .ok (.istore_n 3, 1) := dk_62 (dk_at dksX1_setVoles_1 20 rfl rfl)
theorem dX1_setVoles_45 : decode cX1_setVoles 45 = .ok (.aload_n 0, 1) := dk_42 (dk_at dksX1_setVoles_1 21 rfl rfl)
theorem dX1_setVoles_46 : decode cX1_setVoles 46 = .ok (.getfield 43, 3) := dk_180 0 43 (dk_at dksX1_setVoles_2 0 rfl rfl)
theorem dX1_setVoles_49 : decode cX1_setVoles 49 = .ok (.getfield 149, 3) := dk_180 0 149 (dk_at dksX1_setVoles_2 3 rfl rfl)
theorem dX1_setVoles_52 : decode cX1_setVoles 52 = .ok (.iload_n 1, 1) := dk_27 (dk_at dksX1_setVoles_2 6 rfl rfl)
theorem dX1_setVoles_53 : decode cX1_setVoles 53 = .ok (.iload_n 2, 1) := dk_28 (dk_at dksX1_setVoles_2 7 rfl rfl)
theorem dX1_setVoles_54 : decode cX1_setVoles 54 = .ok (.iastore, 1) := dk_79 (dk_at dksX1_setVoles_2 8 rfl rfl)
theorem dX1_setVoles_55 : decode cX1_setVoles 55 = .ok (.iload_n 3, 1) := dk_29 (dk_at dksX1_setVoles_2 9 rfl rfl)
theorem dX1_setVoles_56 : decode cX1_setVoles 56 = .ok (.ireturn, 1) := dk_172 (dk_at dksX1_setVoles_2 10 rfl rfl)
abbrev cX1_setChances : ByteArray := prog_1_method_24_code
def yX1_setChances : MethodName := ⟨RX1, "setChances", "(I)I"⟩
def dkwX1_setChances_1 : List UInt8 := [181, 0, 153, 28, 172]
abbrev dktX1_setChances_1 : List UInt8 := dkwX1_setChances_1 ++ []
def dkwX1_setChances_0 : List UInt8 := [27, 3, 18, 152, 184, 0, 20, 42, 182, 0, 132, 42, 180, 0, 43, 180, 0, 153, 61, 42, 180, 0, 43, 27]
abbrev dktX1_setChances_0 : List UInt8 := dkwX1_setChances_0 ++ dktX1_setChances_1
theorem dksX1_setChances_0 : cX1_setChances.data.toList.drop 0 = dktX1_setChances_0 := by decide +kernel
theorem dksX1_setChances_1 : cX1_setChances.data.toList.drop 24 = dktX1_setChances_1 := dk_seg dksX1_setChances_0 24 rfl rfl
theorem dX1_setChances_0 : decode cX1_setChances 0 = .ok (.iload_n 1, 1) := dk_27 (dk_at dksX1_setChances_0 0 rfl rfl)
theorem dX1_setChances_1 : decode cX1_setChances 1 = .ok (.iconst 0, 1) := dk_3 (dk_at dksX1_setChances_0 1 rfl rfl)
theorem dX1_setChances_2 : decode cX1_setChances 2 = .ok (.ldc 152, 2) := dk_18 152 (dk_at dksX1_setChances_0 2 rfl rfl)
theorem dX1_setChances_4 : decode cX1_setChances 4 = .ok (.invokestatic 20, 3) := dk_184 0 20 (dk_at dksX1_setChances_0 4 rfl rfl)
theorem dX1_setChances_7 : decode cX1_setChances 7 = .ok (.aload_n 0, 1) := dk_42 (dk_at dksX1_setChances_0 7 rfl rfl)
theorem dX1_setChances_8 : decode cX1_setChances 8 = .ok (.invokevirtual 132, 3) := dk_182 0 132 (dk_at dksX1_setChances_0 8 rfl rfl)
theorem dX1_setChances_11 : decode cX1_setChances 11 = .ok (.aload_n 0, 1) := dk_42 (dk_at dksX1_setChances_0 11 rfl rfl)
theorem dX1_setChances_12 : decode cX1_setChances 12 = .ok (.getfield 43, 3) := dk_180 0 43 (dk_at dksX1_setChances_0 12 rfl rfl)
theorem dX1_setChances_15 : decode cX1_setChances 15 = .ok (.getfield 153, 3) := dk_180 0 153 (dk_at dksX1_setChances_0 15 rfl rfl)
theorem dX1_setChances_18 : decode cX1_setChances 18 = .ok (.istore_n 2, 1) := dk_61 (dk_at dksX1_setChances_0 18 rfl rfl)
theorem dX1_setChances_19 : decode cX1_setChances 19 = .ok (.aload_n 0, 1) := dk_42 (dk_at dksX1_setChances_0 19 rfl rfl)
theorem dX1_setChances_20 : decode cX1_setChances 20 = .ok (.getfield 43, 3) := dk_180 0 43 (dk_at dksX1_setChances_0 20 rfl rfl)
theorem dX1_setChances_23 : decode cX1_setChances 23 = .ok (.iload_n 1, 1) := dk_27 (dk_at dksX1_setChances_0 23 rfl rfl)
theorem dX1_setChances_24 : decode cX1_setChances 24 = .ok (.putfield 153, 3) := dk_181 0 153 (dk_at dksX1_setChances_1 0 rfl rfl)
theorem dX1_setChances_27 : decode cX1_setChances 27 = .ok (.iload_n 2, 1) := dk_28 (dk_at dksX1_setChances_1 3 rfl rfl)
theorem dX1_setChances_28 : decode cX1_setChances 28 = .ok (.ireturn, 1) := dk_172 (dk_at dksX1_setChances_1 4 rfl rfl)
abbrev cX1_putBox : ByteArray := prog_1_method_25_code
def yX1_putBox : MethodName := ⟨RX1, "putBox", "(I)I"⟩
def dkwX1_putBox_1 : List UInt8 := [182, 0, 159, 172]
abbrev dktX1_putBox_1 : List UInt8 := dkwX1_putBox_1 ++ []
def dkwX1_putBox_0 : List UInt8 := [27, 184, 0, 122, 42, 180, 0, 43, 27, 182, 0, 156, 184, 0, 87, 42, 182, 0, 132, 42, 180, 0, 43, 27]
abbrev dktX1_putBox_0 : List UInt8 := dkwX1_putBox_0 ++ dktX1_putBox_1
theorem dksX1_putBox_0 : cX1_putBox.data.toList.drop 0 = dktX1_putBox_0 := by decide +kernel
theorem dksX1_putBox_1 : cX1_putBox.data.toList.drop 24 = dktX1_putBox_1 := dk_seg dksX1_putBox_0 24 rfl rfl
theorem dX1_putBox_0 : decode cX1_putBox 0 = .ok (.iload_n 1, 1) := dk_27 (dk_at dksX1_putBox_0 0 rfl rfl)
theorem dX1_putBox_1 : decode cX1_putBox 1 = .ok (.invokestatic 122, 3) := dk_184 0 122 (dk_at dksX1_putBox_0 1 rfl rfl)
theorem dX1_putBox_4 : decode cX1_putBox 4 = .ok (.aload_n 0, 1) := dk_42 (dk_at dksX1_putBox_0 4 rfl rfl)
theorem dX1_putBox_5 : decode cX1_putBox 5 = .ok (.getfield 43, 3) := dk_180 0 43 (dk_at dksX1_putBox_0 5 rfl rfl)
theorem dX1_putBox_8 : decode cX1_putBox 8 = .ok (.iload_n 1, 1) := dk_27 (dk_at dksX1_putBox_0 8 rfl rfl)
theorem dX1_putBox_9 : decode cX1_putBox 9 = .ok (.invokevirtual 156, 3) := dk_182 0 156 (dk_at dksX1_putBox_0 9 rfl rfl)
theorem dX1_putBox_12 : decode cX1_putBox 12 = .ok (.invokestatic 87, 3) := dk_184 0 87 (dk_at dksX1_putBox_0 12 rfl rfl)
theorem dX1_putBox_15 : decode cX1_putBox 15 = .ok (.aload_n 0, 1) := dk_42 (dk_at dksX1_putBox_0 15 rfl rfl)
theorem dX1_putBox_16 : decode cX1_putBox 16 = .ok (.invokevirtual 132, 3) := dk_182 0 132 (dk_at dksX1_putBox_0 16 rfl rfl)
theorem dX1_putBox_19 : decode cX1_putBox 19 = .ok (.aload_n 0, 1) := dk_42 (dk_at dksX1_putBox_0 19 rfl rfl)
theorem dX1_putBox_20 : decode cX1_putBox 20 = .ok (.getfield 43, 3) := dk_180 0 43 (dk_at dksX1_putBox_0 20 rfl rfl)
theorem dX1_putBox_23 : decode cX1_putBox 23 = .ok (.iload_n 1, 1) := dk_27 (dk_at dksX1_putBox_0 23 rfl rfl)
theorem dX1_putBox_24 : decode cX1_putBox 24 = .ok (.invokevirtual 159, 3) := dk_182 0 159 (dk_at dksX1_putBox_1 0 rfl rfl)
theorem dX1_putBox_27 : decode cX1_putBox 27 = .ok (.ireturn, 1) := dk_172 (dk_at dksX1_putBox_1 3 rfl rfl)
abbrev cX1_takeBox : ByteArray := prog_1_method_26_code
def yX1_takeBox : MethodName := ⟨RX1, "takeBox", "(I)I"⟩
def dkwX1_takeBox_0 : List UInt8 := [42, 27, 182, 0, 162, 87, 42, 182, 0, 132, 42, 180, 0, 43, 27, 182, 0, 165, 172]
abbrev dktX1_takeBox_0 : List UInt8 := dkwX1_takeBox_0 ++ []
theorem dksX1_takeBox_0 : cX1_takeBox.data.toList.drop 0 = dktX1_takeBox_0 := by decide +kernel
theorem dX1_takeBox_0 : decode cX1_takeBox 0 = .ok (.aload_n 0, 1) := dk_42 (dk_at dksX1_takeBox_0 0 rfl rfl)
theorem dX1_takeBox_1 : decode cX1_takeBox 1 = .ok (.iload_n 1, 1) := dk_27 (dk_at dksX1_takeBox_0 1 rfl rfl)
theorem dX1_takeBox_2 : decode cX1_takeBox 2 = .ok (.invokevirtual 162, 3) := dk_182 0 162 (dk_at dksX1_takeBox_0 2 rfl rfl)
theorem dX1_takeBox_5 : decode cX1_takeBox 5 = .ok (.pop, 1) := dk_87 (dk_at dksX1_takeBox_0 5 rfl rfl)
theorem dX1_takeBox_6 : decode cX1_takeBox 6 = .ok (.aload_n 0, 1) := dk_42 (dk_at dksX1_takeBox_0 6 rfl rfl)
theorem dX1_takeBox_7 : decode cX1_takeBox 7 = .ok (.invokevirtual 132, 3) := dk_182 0 132 (dk_at dksX1_takeBox_0 7 rfl rfl)
theorem dX1_takeBox_10 : decode cX1_takeBox 10 = .ok (.aload_n 0, 1) := dk_42 (dk_at dksX1_takeBox_0 10 rfl rfl)
theorem dX1_takeBox_11 : decode cX1_takeBox 11 = .ok (.getfield 43, 3) := dk_180 0 43 (dk_at dksX1_takeBox_0 11 rfl rfl)
theorem dX1_takeBox_14 : decode cX1_takeBox 14 = .ok (.iload_n 1, 1) := dk_27 (dk_at dksX1_takeBox_0 14 rfl rfl)
theorem dX1_takeBox_15 : decode cX1_takeBox 15 = .ok (.invokevirtual 165, 3) := dk_182 0 165 (dk_at dksX1_takeBox_0 15 rfl rfl)
theorem dX1_takeBox_18 : decode cX1_takeBox 18 = .ok (.ireturn, 1) := dk_172 (dk_at dksX1_takeBox_0 18 rfl rfl)
abbrev cX1_checkedBox : ByteArray := prog_1_method_17_code
def yX1_checkedBox : MethodName := ⟨RX1, "checkedBox", "(I)LOwlYears$Box;"⟩
def dkwX1_checkedBox_0 : List UInt8 := [27, 42, 180, 0, 43, 180, 0, 98, 182, 0, 63, 184, 0, 16, 42, 180, 0, 43, 27, 182, 0, 101, 176]
abbrev dktX1_checkedBox_0 : List UInt8 := dkwX1_checkedBox_0 ++ []
theorem dksX1_checkedBox_0 : cX1_checkedBox.data.toList.drop 0 = dktX1_checkedBox_0 := by decide +kernel
theorem dX1_checkedBox_0 : decode cX1_checkedBox 0 = .ok (.iload_n 1, 1) := dk_27 (dk_at dksX1_checkedBox_0 0 rfl rfl)
theorem dX1_checkedBox_1 : decode cX1_checkedBox 1 = .ok (.aload_n 0, 1) := dk_42 (dk_at dksX1_checkedBox_0 1 rfl rfl)
theorem dX1_checkedBox_2 : decode cX1_checkedBox 2 = .ok (.getfield 43, 3) := dk_180 0 43 (dk_at dksX1_checkedBox_0 2 rfl rfl)
theorem dX1_checkedBox_5 : decode cX1_checkedBox 5 = .ok (.getfield 98, 3) := dk_180 0 98 (dk_at dksX1_checkedBox_0 5 rfl rfl)
theorem dX1_checkedBox_8 : decode cX1_checkedBox 8 = .ok (.invokevirtual 63, 3) := dk_182 0 63 (dk_at dksX1_checkedBox_0 8 rfl rfl)
theorem dX1_checkedBox_11 : decode cX1_checkedBox 11 = .ok (.invokestatic 16, 3) := dk_184 0 16 (dk_at dksX1_checkedBox_0 11 rfl rfl)
theorem dX1_checkedBox_14 : decode cX1_checkedBox 14 = .ok (.aload_n 0, 1) := dk_42 (dk_at dksX1_checkedBox_0 14 rfl rfl)
theorem dX1_checkedBox_15 : decode cX1_checkedBox 15 = .ok (.getfield 43, 3) := dk_180 0 43 (dk_at dksX1_checkedBox_0 15 rfl rfl)
theorem dX1_checkedBox_18 : decode cX1_checkedBox 18 = .ok (.iload_n 1, 1) := dk_27 (dk_at dksX1_checkedBox_0 18 rfl rfl)
theorem dX1_checkedBox_19 : decode cX1_checkedBox 19 = .ok (.invokevirtual 101, 3) := dk_182 0 101 (dk_at dksX1_checkedBox_0 19 rfl rfl)
theorem dX1_checkedBox_22 : decode cX1_checkedBox 22 = .ok (.areturn, 1) := dk_176 (dk_at dksX1_checkedBox_0 22 rfl rfl)
abbrev cX1_letIn : ByteArray := prog_1_method_27_code
def yX1_letIn : MethodName := ⟨RX1, "letIn", "(III)I"⟩
def dkwX1_letIn_1 : List UInt8 := [182, 0, 171, 184, 0, 87, 42, 182, 0, 132, 42, 180, 0, 43, 27, 28, 29, 182, 0, 174, 172]
abbrev dktX1_letIn_1 : List UInt8 := dkwX1_letIn_1 ++ []
def dkwX1_letIn_0 : List UInt8 := [42, 27, 182, 0, 162, 87, 28, 184, 0, 168, 29, 3, 16, 9, 184, 0, 20, 42, 180, 0, 43, 27, 28]
abbrev dktX1_letIn_0 : List UInt8 := dkwX1_letIn_0 ++ dktX1_letIn_1
theorem dksX1_letIn_0 : cX1_letIn.data.toList.drop 0 = dktX1_letIn_0 := by decide +kernel
theorem dksX1_letIn_1 : cX1_letIn.data.toList.drop 23 = dktX1_letIn_1 := dk_seg dksX1_letIn_0 23 rfl rfl
theorem dX1_letIn_0 : decode cX1_letIn 0 = .ok (.aload_n 0, 1) := dk_42 (dk_at dksX1_letIn_0 0 rfl rfl)
theorem dX1_letIn_1 : decode cX1_letIn 1 = .ok (.iload_n 1, 1) := dk_27 (dk_at dksX1_letIn_0 1 rfl rfl)
theorem dX1_letIn_2 : decode cX1_letIn 2 = .ok (.invokevirtual 162, 3) := dk_182 0 162 (dk_at dksX1_letIn_0 2 rfl rfl)
theorem dX1_letIn_5 : decode cX1_letIn 5 = .ok (.pop, 1) := dk_87 (dk_at dksX1_letIn_0 5 rfl rfl)
theorem dX1_letIn_6 : decode cX1_letIn 6 = .ok (.iload_n 2, 1) := dk_28 (dk_at dksX1_letIn_0 6 rfl rfl)
theorem dX1_letIn_7 : decode cX1_letIn 7 = .ok (.invokestatic 168, 3) := dk_184 0 168 (dk_at dksX1_letIn_0 7 rfl rfl)
theorem dX1_letIn_10 : decode cX1_letIn 10 = .ok (.iload_n 3, 1) := dk_29 (dk_at dksX1_letIn_0 10 rfl rfl)
theorem dX1_letIn_11 : decode cX1_letIn 11 = .ok (.iconst 0, 1) := dk_3 (dk_at dksX1_letIn_0 11 rfl rfl)
theorem dX1_letIn_12 : decode cX1_letIn 12 = .ok (.bipush 9, 2) := dk_16 9 (dk_at dksX1_letIn_0 12 rfl rfl)
theorem dX1_letIn_14 : decode cX1_letIn 14 = .ok (.invokestatic 20, 3) := dk_184 0 20 (dk_at dksX1_letIn_0 14 rfl rfl)
theorem dX1_letIn_17 : decode cX1_letIn 17 = .ok (.aload_n 0, 1) := dk_42 (dk_at dksX1_letIn_0 17 rfl rfl)
theorem dX1_letIn_18 : decode cX1_letIn 18 = .ok (.getfield 43, 3) := dk_180 0 43 (dk_at dksX1_letIn_0 18 rfl rfl)
theorem dX1_letIn_21 : decode cX1_letIn 21 = .ok (.iload_n 1, 1) := dk_27 (dk_at dksX1_letIn_0 21 rfl rfl)
theorem dX1_letIn_22 : decode cX1_letIn 22 = .ok (.iload_n 2, 1) := dk_28 (dk_at dksX1_letIn_0 22 rfl rfl)
theorem dX1_letIn_23 : decode cX1_letIn 23 = .ok (.invokevirtual 171, 3) := dk_182 0 171 (dk_at dksX1_letIn_1 0 rfl rfl)
theorem dX1_letIn_26 : decode cX1_letIn 26 = .ok (.invokestatic 87, 3) := dk_184 0 87 (dk_at dksX1_letIn_1 3 rfl rfl)
theorem dX1_letIn_29 : decode cX1_letIn 29 = .ok (.aload_n 0, 1) := dk_42 (dk_at dksX1_letIn_1 6 rfl rfl)
theorem dX1_letIn_30 : decode cX1_letIn 30 = .ok (.invokevirtual 132, 3) := dk_182 0 132 (dk_at dksX1_letIn_1 7 rfl rfl)
theorem dX1_letIn_33 : decode cX1_letIn 33 = .ok (.aload_n 0, 1) := dk_42 (dk_at dksX1_letIn_1 10 rfl rfl)
theorem dX1_letIn_34 : decode cX1_letIn 34 = .ok (.getfield 43, 3) := dk_180 0 43 (dk_at dksX1_letIn_1 11 rfl rfl)
theorem dX1_letIn_37 : decode cX1_letIn 37 = .ok (.iload_n 1, 1) := dk_27 (dk_at dksX1_letIn_1 14 rfl rfl)
theorem dX1_letIn_38 : decode cX1_letIn 38 = .ok (.iload_n 2, 1) := dk_28 (dk_at dksX1_letIn_1 15 rfl rfl)
theorem dX1_letIn_39 : decode cX1_letIn 39 = .ok (.iload_n 3, 1) := dk_29 (dk_at dksX1_letIn_1 16 rfl rfl)
theorem dX1_letIn_40 : decode cX1_letIn 40 = .ok (.invokevirtual 174, 3) := dk_182 0 174 (dk_at dksX1_letIn_1 17 rfl rfl)
theorem dX1_letIn_43 : decode cX1_letIn 43 = .ok (.ireturn, 1) := dk_172 (dk_at dksX1_letIn_1 20 rfl rfl)
abbrev cX1_checkSex : ByteArray := prog_1_method_6_code
def yX1_checkSex : MethodName := ⟨RX1, "checkSex", "(I)V"⟩
def dkwX1_checkSex_0 : List UInt8 := [26, 3, 4, 184, 0, 20, 177]
abbrev dktX1_checkSex_0 : List UInt8 := dkwX1_checkSex_0 ++ []
theorem dksX1_checkSex_0 : cX1_checkSex.data.toList.drop 0 = dktX1_checkSex_0 := by decide +kernel
theorem dX1_checkSex_0 : decode cX1_checkSex 0 = .ok (.iload_n 0, 1) := dk_26 (dk_at dksX1_checkSex_0 0 rfl rfl)
theorem dX1_checkSex_1 : decode cX1_checkSex 1 = .ok (.iconst 0, 1) := dk_3 (dk_at dksX1_checkSex_0 1 rfl rfl)
theorem dX1_checkSex_2 : decode cX1_checkSex 2 = .ok (.iconst 1, 1) := dk_4 (dk_at dksX1_checkSex_0 2 rfl rfl)
theorem dX1_checkSex_3 : decode cX1_checkSex 3 = .ok (.invokestatic 20, 3) := dk_184 0 20 (dk_at dksX1_checkSex_0 3 rfl rfl)
theorem dX1_checkSex_6 : decode cX1_checkSex 6 = .ok (.return_, 1) := dk_177 (dk_at dksX1_checkSex_0 6 rfl rfl)
abbrev cX1_takeOut : ByteArray := prog_1_method_28_code
def yX1_takeOut : MethodName := ⟨RX1, "takeOut", "(I)I"⟩
def dkwX1_takeOut_1 : List UInt8 := [42, 180, 0, 43, 44, 182, 0, 184, 29, 172]
abbrev dktX1_takeOut_1 : List UInt8 := dkwX1_takeOut_1 ++ []
def dkwX1_takeOut_0 : List UInt8 := [42, 27, 182, 0, 178, 87, 42, 182, 0, 132, 42, 180, 0, 43, 27, 182, 0, 105, 77, 44, 180, 0, 181, 62]
abbrev dktX1_takeOut_0 : List UInt8 := dkwX1_takeOut_0 ++ dktX1_takeOut_1
theorem dksX1_takeOut_0 : cX1_takeOut.data.toList.drop 0 = dktX1_takeOut_0 := by decide +kernel
theorem dksX1_takeOut_1 : cX1_takeOut.data.toList.drop 24 = dktX1_takeOut_1 := dk_seg dksX1_takeOut_0 24 rfl rfl
theorem dX1_takeOut_0 : decode cX1_takeOut 0 = .ok (.aload_n 0, 1) := dk_42 (dk_at dksX1_takeOut_0 0 rfl rfl)
theorem dX1_takeOut_1 : decode cX1_takeOut 1 = .ok (.iload_n 1, 1) := dk_27 (dk_at dksX1_takeOut_0 1 rfl rfl)
theorem dX1_takeOut_2 : decode cX1_takeOut 2 = .ok (.invokevirtual 178, 3) := dk_182 0 178 (dk_at dksX1_takeOut_0 2 rfl rfl)
theorem dX1_takeOut_5 : decode cX1_takeOut 5 = .ok (.pop, 1) := dk_87 (dk_at dksX1_takeOut_0 5 rfl rfl)
theorem dX1_takeOut_6 : decode cX1_takeOut 6 = .ok (.aload_n 0, 1) := dk_42 (dk_at dksX1_takeOut_0 6 rfl rfl)
theorem dX1_takeOut_7 : decode cX1_takeOut 7 = .ok (.invokevirtual 132, 3) := dk_182 0 132 (dk_at dksX1_takeOut_0 7 rfl rfl)
theorem dX1_takeOut_10 : decode cX1_takeOut 10 = .ok (.aload_n 0, 1) := dk_42 (dk_at dksX1_takeOut_0 10 rfl rfl)
theorem dX1_takeOut_11 : decode cX1_takeOut 11 = .ok (.getfield 43, 3) := dk_180 0 43 (dk_at dksX1_takeOut_0 11 rfl rfl)
theorem dX1_takeOut_14 : decode cX1_takeOut 14 = .ok (.iload_n 1, 1) := dk_27 (dk_at dksX1_takeOut_0 14 rfl rfl)
theorem dX1_takeOut_15 : decode cX1_takeOut 15 = .ok (.invokevirtual 105, 3) := dk_182 0 105 (dk_at dksX1_takeOut_0 15 rfl rfl)
theorem dX1_takeOut_18 : decode cX1_takeOut 18 = .ok (.astore_n 2, 1) := dk_77 (dk_at dksX1_takeOut_0 18 rfl rfl)
theorem dX1_takeOut_19 : decode cX1_takeOut 19 = .ok (.aload_n 2, 1) := dk_44 (dk_at dksX1_takeOut_0 19 rfl rfl)
theorem dX1_takeOut_20 : decode cX1_takeOut 20 = .ok (.getfield 181, 3) := dk_180 0 181 (dk_at dksX1_takeOut_0 20 rfl rfl)
theorem dX1_takeOut_23 : decode cX1_takeOut 23 = .ok (.istore_n 3, 1) := dk_62 (dk_at dksX1_takeOut_0 23 rfl rfl)
theorem dX1_takeOut_24 : decode cX1_takeOut 24 = .ok (.aload_n 0, 1) := dk_42 (dk_at dksX1_takeOut_1 0 rfl rfl)
theorem dX1_takeOut_25 : decode cX1_takeOut 25 = .ok (.getfield 43, 3) := dk_180 0 43 (dk_at dksX1_takeOut_1 1 rfl rfl)
theorem dX1_takeOut_28 : decode cX1_takeOut 28 = .ok (.aload_n 2, 1) := dk_44 (dk_at dksX1_takeOut_1 4 rfl rfl)
theorem dX1_takeOut_29 : decode cX1_takeOut 29 = .ok (.invokevirtual 184, 3) := dk_182 0 184 (dk_at dksX1_takeOut_1 5 rfl rfl)
theorem dX1_takeOut_32 : decode cX1_takeOut 32 = .ok (.iload_n 3, 1) := dk_29 (dk_at dksX1_takeOut_1 8 rfl rfl)
theorem dX1_takeOut_33 : decode cX1_takeOut 33 = .ok (.ireturn, 1) := dk_172 (dk_at dksX1_takeOut_1 9 rfl rfl)
abbrev cX1_checkedAlive : ByteArray := prog_1_method_19_code
def yX1_checkedAlive : MethodName := ⟨RX1, "checkedAlive", "(I)LOwlYears$Owl;"⟩
def dkwX1_checkedAlive_0 : List UInt8 := [42, 27, 182, 0, 109, 77, 44, 180, 0, 112, 154, 0, 11, 187, 0, 13, 89, 183, 0, 15, 191, 44, 176]
abbrev dktX1_checkedAlive_0 : List UInt8 := dkwX1_checkedAlive_0 ++ []
theorem dksX1_checkedAlive_0 : cX1_checkedAlive.data.toList.drop 0 = dktX1_checkedAlive_0 := by decide +kernel
theorem dX1_checkedAlive_0 : decode cX1_checkedAlive 0 = .ok (.aload_n 0, 1) := dk_42 (dk_at dksX1_checkedAlive_0 0 rfl rfl)
theorem dX1_checkedAlive_1 : decode cX1_checkedAlive 1 = .ok (.iload_n 1, 1) := dk_27 (dk_at dksX1_checkedAlive_0 1 rfl rfl)
theorem dX1_checkedAlive_2 : decode cX1_checkedAlive 2 = .ok (.invokevirtual 109, 3) := dk_182 0 109 (dk_at dksX1_checkedAlive_0 2 rfl rfl)
theorem dX1_checkedAlive_5 : decode cX1_checkedAlive 5 = .ok (.astore_n 2, 1) := dk_77 (dk_at dksX1_checkedAlive_0 5 rfl rfl)
theorem dX1_checkedAlive_6 : decode cX1_checkedAlive 6 = .ok (.aload_n 2, 1) := dk_44 (dk_at dksX1_checkedAlive_0 6 rfl rfl)
theorem dX1_checkedAlive_7 : decode cX1_checkedAlive 7 = .ok (.getfield 112, 3) := dk_180 0 112 (dk_at dksX1_checkedAlive_0 7 rfl rfl)
theorem dX1_checkedAlive_10 : decode cX1_checkedAlive 10 = .ok (.ifCond .ne 11, 3) := dk_154 0 11 (dk_at dksX1_checkedAlive_0 10 rfl rfl)
theorem dX1_checkedAlive_13 : decode cX1_checkedAlive 13 = .ok (.new 13, 3) := dk_187 0 13 (dk_at dksX1_checkedAlive_0 13 rfl rfl)
theorem dX1_checkedAlive_16 : decode cX1_checkedAlive 16 = .ok (.dup, 1) := dk_89 (dk_at dksX1_checkedAlive_0 16 rfl rfl)
theorem dX1_checkedAlive_17 : decode cX1_checkedAlive 17 = .ok (.invokespecial 15, 3) := dk_183 0 15 (dk_at dksX1_checkedAlive_0 17 rfl rfl)
theorem dX1_checkedAlive_20 : decode cX1_checkedAlive 20 = .ok (.athrow, 1) := dk_191 (dk_at dksX1_checkedAlive_0 20 rfl rfl)
theorem dX1_checkedAlive_21 : decode cX1_checkedAlive 21 = .ok (.aload_n 2, 1) := dk_44 (dk_at dksX1_checkedAlive_0 21 rfl rfl)
theorem dX1_checkedAlive_22 : decode cX1_checkedAlive 22 = .ok (.areturn, 1) := dk_176 (dk_at dksX1_checkedAlive_0 22 rfl rfl)
abbrev cX1_checkedOwl : ByteArray := prog_1_method_18_code
def yX1_checkedOwl : MethodName := ⟨RX1, "checkedOwl", "(I)LOwlYears$Owl;"⟩
def dkwX1_checkedOwl_0 : List UInt8 := [42, 180, 0, 43, 27, 182, 0, 105, 77, 44, 199, 0, 11, 187, 0, 13, 89, 183, 0, 15, 191, 44, 176]
abbrev dktX1_checkedOwl_0 : List UInt8 := dkwX1_checkedOwl_0 ++ []
theorem dksX1_checkedOwl_0 : cX1_checkedOwl.data.toList.drop 0 = dktX1_checkedOwl_0 := by decide +kernel
theorem dX1_checkedOwl_0 : decode cX1_checkedOwl 0 = .ok (.aload_n 0, 1) := dk_42 (dk_at dksX1_checkedOwl_0 0 rfl rfl)
theorem dX1_checkedOwl_1 : decode cX1_checkedOwl 1 = .ok (.getfield 43, 3) := dk_180 0 43 (dk_at dksX1_checkedOwl_0 1 rfl rfl)
theorem dX1_checkedOwl_4 : decode cX1_checkedOwl 4 = .ok (.iload_n 1, 1) := dk_27 (dk_at dksX1_checkedOwl_0 4 rfl rfl)
theorem dX1_checkedOwl_5 : decode cX1_checkedOwl 5 = .ok (.invokevirtual 105, 3) := dk_182 0 105 (dk_at dksX1_checkedOwl_0 5 rfl rfl)
theorem dX1_checkedOwl_8 : decode cX1_checkedOwl 8 = .ok (.astore_n 2, 1) := dk_77 (dk_at dksX1_checkedOwl_0 8 rfl rfl)
theorem dX1_checkedOwl_9 : decode cX1_checkedOwl 9 = .ok (.aload_n 2, 1) := dk_44 (dk_at dksX1_checkedOwl_0 9 rfl rfl)
theorem dX1_checkedOwl_10 : decode cX1_checkedOwl 10 = .ok (.ifnonnull 11, 3) := dk_199 0 11 (dk_at dksX1_checkedOwl_0 10 rfl rfl)
theorem dX1_checkedOwl_13 : decode cX1_checkedOwl 13 = .ok (.new 13, 3) := dk_187 0 13 (dk_at dksX1_checkedOwl_0 13 rfl rfl)
theorem dX1_checkedOwl_16 : decode cX1_checkedOwl 16 = .ok (.dup, 1) := dk_89 (dk_at dksX1_checkedOwl_0 16 rfl rfl)
theorem dX1_checkedOwl_17 : decode cX1_checkedOwl 17 = .ok (.invokespecial 15, 3) := dk_183 0 15 (dk_at dksX1_checkedOwl_0 17 rfl rfl)
theorem dX1_checkedOwl_20 : decode cX1_checkedOwl 20 = .ok (.athrow, 1) := dk_191 (dk_at dksX1_checkedOwl_0 20 rfl rfl)
theorem dX1_checkedOwl_21 : decode cX1_checkedOwl 21 = .ok (.aload_n 2, 1) := dk_44 (dk_at dksX1_checkedOwl_0 21 rfl rfl)
theorem dX1_checkedOwl_22 : decode cX1_checkedOwl 22 = .ok (.areturn, 1) := dk_176 (dk_at dksX1_checkedOwl_0 22 rfl rfl)
abbrev cX1_pass : ByteArray := prog_1_method_30_code
def yX1_pass : MethodName := ⟨RX1, "pass", "(I)I"⟩
def dkwX1_pass_1 : List UInt8 := [182, 0, 191, 42, 180, 0, 43, 180, 0, 194, 172]
abbrev dktX1_pass_1 : List UInt8 := dkwX1_pass_1 ++ []
def dkwX1_pass_0 : List UInt8 := [27, 4, 16, 20, 184, 0, 20, 42, 27, 182, 0, 188, 184, 0, 87, 42, 182, 0, 132, 42, 180, 0, 43, 27]
abbrev dktX1_pass_0 : List UInt8 := dkwX1_pass_0 ++ dktX1_pass_1
theorem dksX1_pass_0 : cX1_pass.data.toList.drop 0 = dktX1_pass_0 := by decide +kernel
theorem dksX1_pass_1 : cX1_pass.data.toList.drop 24 = dktX1_pass_1 := dk_seg dksX1_pass_0 24 rfl rfl
theorem dX1_pass_0 : decode cX1_pass 0 = .ok (.iload_n 1, 1) := dk_27 (dk_at dksX1_pass_0 0 rfl rfl)
theorem dX1_pass_1 : decode cX1_pass 1 = .ok (.iconst 1, 1) := dk_4 (dk_at dksX1_pass_0 1 rfl rfl)
theorem dX1_pass_2 : decode cX1_pass 2 = .ok (.bipush 20, 2) := dk_16 20 (dk_at dksX1_pass_0 2 rfl rfl)
theorem dX1_pass_4 : decode cX1_pass 4 = .ok (.invokestatic 20, 3) := dk_184 0 20 (dk_at dksX1_pass_0 4 rfl rfl)
theorem dX1_pass_7 : decode cX1_pass 7 = .ok (.aload_n 0, 1) := dk_42 (dk_at dksX1_pass_0 7 rfl rfl)
theorem dX1_pass_8 : decode cX1_pass 8 = .ok (.iload_n 1, 1) := dk_27 (dk_at dksX1_pass_0 8 rfl rfl)
theorem dX1_pass_9 : decode cX1_pass 9 = .ok (.invokevirtual 188, 3) := dk_182 0 188 (dk_at dksX1_pass_0 9 rfl rfl)
theorem dX1_pass_12 : decode cX1_pass 12 = .ok (.invokestatic 87, 3) := dk_184 0 87 (dk_at dksX1_pass_0 12 rfl rfl)
theorem dX1_pass_15 : decode cX1_pass 15 = .ok (.aload_n 0, 1) := dk_42 (dk_at dksX1_pass_0 15 rfl rfl)
theorem dX1_pass_16 : decode cX1_pass 16 = .ok (.invokevirtual 132, 3) := dk_182 0 132 (dk_at dksX1_pass_0 16 rfl rfl)
theorem dX1_pass_19 : decode cX1_pass 19 = .ok (.aload_n 0, 1) := dk_42 (dk_at dksX1_pass_0 19 rfl rfl)
theorem dX1_pass_20 : decode cX1_pass 20 = .ok (.getfield 43, 3) := dk_180 0 43 (dk_at dksX1_pass_0 20 rfl rfl)
theorem dX1_pass_23 : decode cX1_pass 23 = .ok (.iload_n 1, 1) := dk_27 (dk_at dksX1_pass_0 23 rfl rfl)
theorem dX1_pass_24 : decode cX1_pass 24 = .ok (.invokevirtual 191, 3) := dk_182 0 191 (dk_at dksX1_pass_1 0 rfl rfl)
theorem dX1_pass_27 : decode cX1_pass 27 = .ok (.aload_n 0, 1) := dk_42 (dk_at dksX1_pass_1 3 rfl rfl)
theorem dX1_pass_28 : decode cX1_pass 28 = .ok (.getfield 43, 3) := dk_180 0 43 (dk_at dksX1_pass_1 4 rfl rfl)
theorem dX1_pass_31 : decode cX1_pass 31 = .ok (.getfield 194, 3) := dk_180 0 194 (dk_at dksX1_pass_1 7 rfl rfl)
theorem dX1_pass_34 : decode cX1_pass 34 = .ok (.ireturn, 1) := dk_172 (dk_at dksX1_pass_1 10 rfl rfl)
abbrev cX1_isInTime : ByteArray := prog_1_method_29_code
def yX1_isInTime : MethodName := ⟨RX1, "isInTime", "(I)Z"⟩
def dkwX1_isInTime_0 : List UInt8 := [42, 180, 0, 43, 180, 0, 94, 27, 96, 17, 3, 231, 163, 0, 7, 4, 167, 0, 4, 3, 172]
abbrev dktX1_isInTime_0 : List UInt8 := dkwX1_isInTime_0 ++ []
theorem dksX1_isInTime_0 : cX1_isInTime.data.toList.drop 0 = dktX1_isInTime_0 := by decide +kernel
theorem dX1_isInTime_0 : decode cX1_isInTime 0 = .ok (.aload_n 0, 1) := dk_42 (dk_at dksX1_isInTime_0 0 rfl rfl)
theorem dX1_isInTime_1 : decode cX1_isInTime 1 = .ok (.getfield 43, 3) := dk_180 0 43 (dk_at dksX1_isInTime_0 1 rfl rfl)
theorem dX1_isInTime_4 : decode cX1_isInTime 4 = .ok (.getfield 94, 3) := dk_180 0 94 (dk_at dksX1_isInTime_0 4 rfl rfl)
theorem dX1_isInTime_7 : decode cX1_isInTime 7 = .ok (.iload_n 1, 1) := dk_27 (dk_at dksX1_isInTime_0 7 rfl rfl)
theorem dX1_isInTime_8 : decode cX1_isInTime 8 = .ok (.iadd, 1) := dk_96 (dk_at dksX1_isInTime_0 8 rfl rfl)
theorem dX1_isInTime_9 : decode cX1_isInTime 9 = .ok (.sipush 999, 3) := dk_17 3 231 (dk_at dksX1_isInTime_0 9 rfl rfl)
theorem dX1_isInTime_12 : decode cX1_isInTime 12 = .ok (.if_icmp .gt 7, 3) := dk_163 0 7 (dk_at dksX1_isInTime_0 12 rfl rfl)
theorem dX1_isInTime_15 : decode cX1_isInTime 15 = .ok (.iconst 1, 1) := dk_4 (dk_at dksX1_isInTime_0 15 rfl rfl)
theorem dX1_isInTime_16 : decode cX1_isInTime 16 = .ok (.goto 4, 3) := dk_167 0 4 (dk_at dksX1_isInTime_0 16 rfl rfl)
theorem dX1_isInTime_19 : decode cX1_isInTime 19 = .ok (.iconst 0, 1) := dk_3 (dk_at dksX1_isInTime_0 19 rfl rfl)
theorem dX1_isInTime_20 : decode cX1_isInTime 20 = .ok (.ireturn, 1) := dk_172 (dk_at dksX1_isInTime_0 20 rfl rfl)
abbrev cX1_landOf : ByteArray := prog_1_method_33_code
def yX1_landOf : MethodName := ⟨RX1, "landOf", "(I)I"⟩
def dkwX1_landOf_0 : List UInt8 := [27, 184, 0, 122, 42, 180, 0, 43, 180, 0, 135, 27, 46, 172]
abbrev dktX1_landOf_0 : List UInt8 := dkwX1_landOf_0 ++ []
theorem dksX1_landOf_0 : cX1_landOf.data.toList.drop 0 = dktX1_landOf_0 := by decide +kernel
theorem dX1_landOf_0 : decode cX1_landOf 0 = .ok (.iload_n 1, 1) := dk_27 (dk_at dksX1_landOf_0 0 rfl rfl)
theorem dX1_landOf_1 : decode cX1_landOf 1 = .ok (.invokestatic 122, 3) := dk_184 0 122 (dk_at dksX1_landOf_0 1 rfl rfl)
theorem dX1_landOf_4 : decode cX1_landOf 4 = .ok (.aload_n 0, 1) := dk_42 (dk_at dksX1_landOf_0 4 rfl rfl)
theorem dX1_landOf_5 : decode cX1_landOf 5 = .ok (.getfield 43, 3) := dk_180 0 43 (dk_at dksX1_landOf_0 5 rfl rfl)
theorem dX1_landOf_8 : decode cX1_landOf 8 = .ok (.getfield 135, 3) := dk_180 0 135 (dk_at dksX1_landOf_0 8 rfl rfl)
theorem dX1_landOf_11 : decode cX1_landOf 11 = .ok (.iload_n 1, 1) := dk_27 (dk_at dksX1_landOf_0 11 rfl rfl)
theorem dX1_landOf_12 : decode cX1_landOf 12 = .ok (.iaload, 1) := dk_46 (dk_at dksX1_landOf_0 12 rfl rfl)
theorem dX1_landOf_13 : decode cX1_landOf 13 = .ok (.ireturn, 1) := dk_172 (dk_at dksX1_landOf_0 13 rfl rfl)
abbrev cX1_squaresOf : ByteArray := prog_1_method_34_code
def yX1_squaresOf : MethodName := ⟨RX1, "squaresOf", "(I)J"⟩
def dkwX1_squaresOf_0 : List UInt8 := [27, 184, 0, 125, 42, 180, 0, 43, 27, 182, 0, 199, 173]
abbrev dktX1_squaresOf_0 : List UInt8 := dkwX1_squaresOf_0 ++ []
theorem dksX1_squaresOf_0 : cX1_squaresOf.data.toList.drop 0 = dktX1_squaresOf_0 := by decide +kernel
theorem dX1_squaresOf_0 : decode cX1_squaresOf 0 = .ok (.iload_n 1, 1) := dk_27 (dk_at dksX1_squaresOf_0 0 rfl rfl)
theorem dX1_squaresOf_1 : decode cX1_squaresOf 1 = .ok (.invokestatic 125, 3) := dk_184 0 125 (dk_at dksX1_squaresOf_0 1 rfl rfl)
theorem dX1_squaresOf_4 : decode cX1_squaresOf 4 = .ok (.aload_n 0, 1) := dk_42 (dk_at dksX1_squaresOf_0 4 rfl rfl)
theorem dX1_squaresOf_5 : decode cX1_squaresOf 5 = .ok (.getfield 43, 3) := dk_180 0 43 (dk_at dksX1_squaresOf_0 5 rfl rfl)
theorem dX1_squaresOf_8 : decode cX1_squaresOf 8 = .ok (.iload_n 1, 1) := dk_27 (dk_at dksX1_squaresOf_0 8 rfl rfl)
theorem dX1_squaresOf_9 : decode cX1_squaresOf 9 = .ok (.invokevirtual 199, 3) := dk_182 0 199 (dk_at dksX1_squaresOf_0 9 rfl rfl)
theorem dX1_squaresOf_12 : decode cX1_squaresOf 12 = .ok (.lreturn, 1) := dk_173 (dk_at dksX1_squaresOf_0 12 rfl rfl)
abbrev cX1_volesOf : ByteArray := prog_1_method_35_code
def yX1_volesOf : MethodName := ⟨RX1, "volesOf", "(I)I"⟩
def dkwX1_volesOf_0 : List UInt8 := [27, 184, 0, 122, 42, 180, 0, 43, 180, 0, 149, 27, 46, 172]
abbrev dktX1_volesOf_0 : List UInt8 := dkwX1_volesOf_0 ++ []
theorem dksX1_volesOf_0 : cX1_volesOf.data.toList.drop 0 = dktX1_volesOf_0 := by decide +kernel
theorem dX1_volesOf_0 : decode cX1_volesOf 0 = .ok (.iload_n 1, 1) := dk_27 (dk_at dksX1_volesOf_0 0 rfl rfl)
theorem dX1_volesOf_1 : decode cX1_volesOf 1 = .ok (.invokestatic 122, 3) := dk_184 0 122 (dk_at dksX1_volesOf_0 1 rfl rfl)
theorem dX1_volesOf_4 : decode cX1_volesOf 4 = .ok (.aload_n 0, 1) := dk_42 (dk_at dksX1_volesOf_0 4 rfl rfl)
theorem dX1_volesOf_5 : decode cX1_volesOf 5 = .ok (.getfield 43, 3) := dk_180 0 43 (dk_at dksX1_volesOf_0 5 rfl rfl)
theorem dX1_volesOf_8 : decode cX1_volesOf 8 = .ok (.getfield 149, 3) := dk_180 0 149 (dk_at dksX1_volesOf_0 8 rfl rfl)
theorem dX1_volesOf_11 : decode cX1_volesOf 11 = .ok (.iload_n 1, 1) := dk_27 (dk_at dksX1_volesOf_0 11 rfl rfl)
theorem dX1_volesOf_12 : decode cX1_volesOf 12 = .ok (.iaload, 1) := dk_46 (dk_at dksX1_volesOf_0 12 rfl rfl)
theorem dX1_volesOf_13 : decode cX1_volesOf 13 = .ok (.ireturn, 1) := dk_172 (dk_at dksX1_volesOf_0 13 rfl rfl)
abbrev cX1_volesNext : ByteArray := prog_1_method_37_code
def yX1_volesNext : MethodName := ⟨RX1, "volesNext", "(I)I"⟩
def dkwX1_volesNext_0 : List UInt8 := [27, 184, 0, 122, 42, 180, 0, 43, 27, 182, 0, 206, 172]
abbrev dktX1_volesNext_0 : List UInt8 := dkwX1_volesNext_0 ++ []
theorem dksX1_volesNext_0 : cX1_volesNext.data.toList.drop 0 = dktX1_volesNext_0 := by decide +kernel
theorem dX1_volesNext_0 : decode cX1_volesNext 0 = .ok (.iload_n 1, 1) := dk_27 (dk_at dksX1_volesNext_0 0 rfl rfl)
theorem dX1_volesNext_1 : decode cX1_volesNext 1 = .ok (.invokestatic 122, 3) := dk_184 0 122 (dk_at dksX1_volesNext_0 1 rfl rfl)
theorem dX1_volesNext_4 : decode cX1_volesNext 4 = .ok (.aload_n 0, 1) := dk_42 (dk_at dksX1_volesNext_0 4 rfl rfl)
theorem dX1_volesNext_5 : decode cX1_volesNext 5 = .ok (.getfield 43, 3) := dk_180 0 43 (dk_at dksX1_volesNext_0 5 rfl rfl)
theorem dX1_volesNext_8 : decode cX1_volesNext 8 = .ok (.iload_n 1, 1) := dk_27 (dk_at dksX1_volesNext_0 8 rfl rfl)
theorem dX1_volesNext_9 : decode cX1_volesNext 9 = .ok (.invokevirtual 206, 3) := dk_182 0 206 (dk_at dksX1_volesNext_0 9 rfl rfl)
theorem dX1_volesNext_12 : decode cX1_volesNext 12 = .ok (.ireturn, 1) := dk_172 (dk_at dksX1_volesNext_0 12 rfl rfl)
abbrev cX1_distance : ByteArray := prog_1_method_38_code
def yX1_distance : MethodName := ⟨RX1, "distance", "(II)I"⟩
def dkwX1_distance_0 : List UInt8 := [27, 184, 0, 122, 28, 184, 0, 122, 27, 28, 184, 0, 209, 172]
abbrev dktX1_distance_0 : List UInt8 := dkwX1_distance_0 ++ []
theorem dksX1_distance_0 : cX1_distance.data.toList.drop 0 = dktX1_distance_0 := by decide +kernel
theorem dX1_distance_0 : decode cX1_distance 0 = .ok (.iload_n 1, 1) := dk_27 (dk_at dksX1_distance_0 0 rfl rfl)
theorem dX1_distance_1 : decode cX1_distance 1 = .ok (.invokestatic 122, 3) := dk_184 0 122 (dk_at dksX1_distance_0 1 rfl rfl)
theorem dX1_distance_4 : decode cX1_distance 4 = .ok (.iload_n 2, 1) := dk_28 (dk_at dksX1_distance_0 4 rfl rfl)
theorem dX1_distance_5 : decode cX1_distance 5 = .ok (.invokestatic 122, 3) := dk_184 0 122 (dk_at dksX1_distance_0 5 rfl rfl)
theorem dX1_distance_8 : decode cX1_distance 8 = .ok (.iload_n 1, 1) := dk_27 (dk_at dksX1_distance_0 8 rfl rfl)
theorem dX1_distance_9 : decode cX1_distance 9 = .ok (.iload_n 2, 1) := dk_28 (dk_at dksX1_distance_0 9 rfl rfl)
theorem dX1_distance_10 : decode cX1_distance 10 = .ok (.invokestatic 209, 3) := dk_184 0 209 (dk_at dksX1_distance_0 10 rfl rfl)
theorem dX1_distance_13 : decode cX1_distance 13 = .ok (.ireturn, 1) := dk_172 (dk_at dksX1_distance_0 13 rfl rfl)
abbrev cX1_squareOf : ByteArray := prog_1_method_41_code
def yX1_squareOf : MethodName := ⟨RX1, "squareOf", "(I)I"⟩
def dkwX1_squareOf_0 : List UInt8 := [42, 27, 182, 0, 162, 180, 0, 212, 172]
abbrev dktX1_squareOf_0 : List UInt8 := dkwX1_squareOf_0 ++ []
theorem dksX1_squareOf_0 : cX1_squareOf.data.toList.drop 0 = dktX1_squareOf_0 := by decide +kernel
theorem dX1_squareOf_0 : decode cX1_squareOf 0 = .ok (.aload_n 0, 1) := dk_42 (dk_at dksX1_squareOf_0 0 rfl rfl)
theorem dX1_squareOf_1 : decode cX1_squareOf 1 = .ok (.iload_n 1, 1) := dk_27 (dk_at dksX1_squareOf_0 1 rfl rfl)
theorem dX1_squareOf_2 : decode cX1_squareOf 2 = .ok (.invokevirtual 162, 3) := dk_182 0 162 (dk_at dksX1_squareOf_0 2 rfl rfl)
theorem dX1_squareOf_5 : decode cX1_squareOf 5 = .ok (.getfield 212, 3) := dk_180 0 212 (dk_at dksX1_squareOf_0 5 rfl rfl)
theorem dX1_squareOf_8 : decode cX1_squareOf 8 = .ok (.ireturn, 1) := dk_172 (dk_at dksX1_squareOf_0 8 rfl rfl)
abbrev cX1_rangeOf : ByteArray := prog_1_method_42_code
def yX1_rangeOf : MethodName := ⟨RX1, "rangeOf", "(I)J"⟩
def dkwX1_rangeOf_0 : List UInt8 := [42, 27, 182, 0, 162, 180, 0, 217, 173]
abbrev dktX1_rangeOf_0 : List UInt8 := dkwX1_rangeOf_0 ++ []
theorem dksX1_rangeOf_0 : cX1_rangeOf.data.toList.drop 0 = dktX1_rangeOf_0 := by decide +kernel
theorem dX1_rangeOf_0 : decode cX1_rangeOf 0 = .ok (.aload_n 0, 1) := dk_42 (dk_at dksX1_rangeOf_0 0 rfl rfl)
theorem dX1_rangeOf_1 : decode cX1_rangeOf 1 = .ok (.iload_n 1, 1) := dk_27 (dk_at dksX1_rangeOf_0 1 rfl rfl)
theorem dX1_rangeOf_2 : decode cX1_rangeOf 2 = .ok (.invokevirtual 162, 3) := dk_182 0 162 (dk_at dksX1_rangeOf_0 2 rfl rfl)
theorem dX1_rangeOf_5 : decode cX1_rangeOf 5 = .ok (.getfield 217, 3) := dk_180 0 217 (dk_at dksX1_rangeOf_0 5 rfl rfl)
theorem dX1_rangeOf_8 : decode cX1_rangeOf 8 = .ok (.lreturn, 1) := dk_173 (dk_at dksX1_rangeOf_0 8 rfl rfl)
abbrev cX1_rangeByJoining : ByteArray := prog_1_method_43_code
def yX1_rangeByJoining : MethodName := ⟨RX1, "rangeByJoining", "(I)J"⟩
def dkwX1_rangeByJoining_0 : List UInt8 := [42, 180, 0, 43, 42, 27, 182, 0, 162, 180, 0, 212, 182, 0, 221, 173]
abbrev dktX1_rangeByJoining_0 : List UInt8 := dkwX1_rangeByJoining_0 ++ []
theorem dksX1_rangeByJoining_0 : cX1_rangeByJoining.data.toList.drop 0 = dktX1_rangeByJoining_0 := by decide +kernel
theorem dX1_rangeByJoining_0 : decode cX1_rangeByJoining 0 = .ok (.aload_n 0, 1) := dk_42 (dk_at dksX1_rangeByJoining_0 0 rfl rfl)
theorem dX1_rangeByJoining_1 : decode cX1_rangeByJoining 1 = .ok (.getfield 43, 3) := dk_180 0 43 (dk_at dksX1_rangeByJoining_0 1 rfl rfl)
theorem dX1_rangeByJoining_4 : decode cX1_rangeByJoining 4 = .ok (.aload_n 0, 1) := dk_42 (dk_at dksX1_rangeByJoining_0 4 rfl rfl)
theorem dX1_rangeByJoining_5 : decode cX1_rangeByJoining 5 = .ok (.iload_n 1, 1) := dk_27 (dk_at dksX1_rangeByJoining_0 5 rfl rfl)
theorem dX1_rangeByJoining_6 : decode cX1_rangeByJoining 6 = .ok (.invokevirtual 162, 3) := dk_182 0 162 (dk_at dksX1_rangeByJoining_0 6 rfl rfl)
theorem dX1_rangeByJoining_9 : decode cX1_rangeByJoining 9 = .ok (.getfield 212, 3) := dk_180 0 212 (dk_at dksX1_rangeByJoining_0 9 rfl rfl)
theorem dX1_rangeByJoining_12 : decode cX1_rangeByJoining 12 = .ok (.invokevirtual 221, 3) := dk_182 0 221 (dk_at dksX1_rangeByJoining_0 12 rfl rfl)
theorem dX1_rangeByJoining_15 : decode cX1_rangeByJoining 15 = .ok (.lreturn, 1) := dk_173 (dk_at dksX1_rangeByJoining_0 15 rfl rfl)
abbrev cX1_areBeside : ByteArray := prog_1_method_10_code
def yX1_areBeside : MethodName := ⟨RX1, "areBeside", "(II)Z"⟩
def dkwX1_areBeside_1 : List UInt8 := [96, 4, 160, 0, 7, 4, 167, 0, 4, 3, 172]
abbrev dktX1_areBeside_1 : List UInt8 := dkwX1_areBeside_1 ++ []
def dkwX1_areBeside_0 : List UInt8 := [26, 16, 8, 108, 27, 16, 8, 108, 100, 184, 0, 27, 26, 16, 8, 112, 27, 16, 8, 112, 100, 184, 0, 27]
abbrev dktX1_areBeside_0 : List UInt8 := dkwX1_areBeside_0 ++ dktX1_areBeside_1
theorem dksX1_areBeside_0 : cX1_areBeside.data.toList.drop 0 = dktX1_areBeside_0 := by decide +kernel
theorem dksX1_areBeside_1 : cX1_areBeside.data.toList.drop 24 = dktX1_areBeside_1 := dk_seg dksX1_areBeside_0 24 rfl rfl
theorem dX1_areBeside_0 : decode cX1_areBeside 0 = .ok (.iload_n 0, 1) := dk_26 (dk_at dksX1_areBeside_0 0 rfl rfl)
theorem dX1_areBeside_1 : decode cX1_areBeside 1 = .ok (.bipush 8, 2) := dk_16 8 (dk_at dksX1_areBeside_0 1 rfl rfl)
theorem dX1_areBeside_3 : decode cX1_areBeside 3 = .ok (.idiv, 1) := dk_108 (dk_at dksX1_areBeside_0 3 rfl rfl)
theorem dX1_areBeside_4 : decode cX1_areBeside 4 = .ok (.iload_n 1, 1) := dk_27 (dk_at dksX1_areBeside_0 4 rfl rfl)
theorem dX1_areBeside_5 : decode cX1_areBeside 5 = .ok (.bipush 8, 2) := dk_16 8 (dk_at dksX1_areBeside_0 5 rfl rfl)
theorem dX1_areBeside_7 : decode cX1_areBeside 7 = .ok (.idiv, 1) := dk_108 (dk_at dksX1_areBeside_0 7 rfl rfl)
theorem dX1_areBeside_8 : decode cX1_areBeside 8 = .ok (.isub, 1) := dk_100 (dk_at dksX1_areBeside_0 8 rfl rfl)
theorem dX1_areBeside_9 : decode cX1_areBeside 9 = .ok (.invokestatic 27, 3) := dk_184 0 27 (dk_at dksX1_areBeside_0 9 rfl rfl)
theorem dX1_areBeside_12 : decode cX1_areBeside 12 = .ok (.iload_n 0, 1) := dk_26 (dk_at dksX1_areBeside_0 12 rfl rfl)
theorem dX1_areBeside_13 : decode cX1_areBeside 13 = .ok (.bipush 8, 2) := dk_16 8 (dk_at dksX1_areBeside_0 13 rfl rfl)
theorem dX1_areBeside_15 : decode cX1_areBeside 15 = .ok (.irem, 1) := dk_112 (dk_at dksX1_areBeside_0 15 rfl rfl)
theorem dX1_areBeside_16 : decode cX1_areBeside 16 = .ok (.iload_n 1, 1) := dk_27 (dk_at dksX1_areBeside_0 16 rfl rfl)
theorem dX1_areBeside_17 : decode cX1_areBeside 17 = .ok (.bipush 8, 2) := dk_16 8 (dk_at dksX1_areBeside_0 17 rfl rfl)
theorem dX1_areBeside_19 : decode cX1_areBeside 19 = .ok (.irem, 1) := dk_112 (dk_at dksX1_areBeside_0 19 rfl rfl)
theorem dX1_areBeside_20 : decode cX1_areBeside 20 = .ok (.isub, 1) := dk_100 (dk_at dksX1_areBeside_0 20 rfl rfl)
theorem dX1_areBeside_21 : decode cX1_areBeside 21 = .ok (.invokestatic 27, 3) := dk_184 0 27 (dk_at dksX1_areBeside_0 21 rfl rfl)
theorem dX1_areBeside_24 : decode cX1_areBeside 24 = .ok (.iadd, 1) := dk_96 (dk_at dksX1_areBeside_1 0 rfl rfl)
theorem dX1_areBeside_25 : decode cX1_areBeside 25 = .ok (.iconst 1, 1) := dk_4 (dk_at dksX1_areBeside_1 1 rfl rfl)
theorem dX1_areBeside_26 : decode cX1_areBeside 26 = .ok (.if_icmp .ne 7, 3) := dk_160 0 7 (dk_at dksX1_areBeside_1 2 rfl rfl)
theorem dX1_areBeside_29 : decode cX1_areBeside 29 = .ok (.iconst 1, 1) := dk_4 (dk_at dksX1_areBeside_1 5 rfl rfl)
theorem dX1_areBeside_30 : decode cX1_areBeside 30 = .ok (.goto 4, 3) := dk_167 0 4 (dk_at dksX1_areBeside_1 6 rfl rfl)
theorem dX1_areBeside_33 : decode cX1_areBeside 33 = .ok (.iconst 0, 1) := dk_3 (dk_at dksX1_areBeside_1 9 rfl rfl)
theorem dX1_areBeside_34 : decode cX1_areBeside 34 = .ok (.ireturn, 1) := dk_172 (dk_at dksX1_areBeside_1 10 rfl rfl)
abbrev cX1_shareOf : ByteArray := prog_1_method_44_code
def yX1_shareOf : MethodName := ⟨RX1, "shareOf", "(I)I"⟩
def dkwX1_shareOf_0 : List UInt8 := [42, 180, 0, 43, 42, 27, 182, 0, 162, 182, 0, 224, 172]
abbrev dktX1_shareOf_0 : List UInt8 := dkwX1_shareOf_0 ++ []
theorem dksX1_shareOf_0 : cX1_shareOf.data.toList.drop 0 = dktX1_shareOf_0 := by decide +kernel
theorem dX1_shareOf_0 : decode cX1_shareOf 0 = .ok (.aload_n 0, 1) := dk_42 (dk_at dksX1_shareOf_0 0 rfl rfl)
theorem dX1_shareOf_1 : decode cX1_shareOf 1 = .ok (.getfield 43, 3) := dk_180 0 43 (dk_at dksX1_shareOf_0 1 rfl rfl)
theorem dX1_shareOf_4 : decode cX1_shareOf 4 = .ok (.aload_n 0, 1) := dk_42 (dk_at dksX1_shareOf_0 4 rfl rfl)
theorem dX1_shareOf_5 : decode cX1_shareOf 5 = .ok (.iload_n 1, 1) := dk_27 (dk_at dksX1_shareOf_0 5 rfl rfl)
theorem dX1_shareOf_6 : decode cX1_shareOf 6 = .ok (.invokevirtual 162, 3) := dk_182 0 162 (dk_at dksX1_shareOf_0 6 rfl rfl)
theorem dX1_shareOf_9 : decode cX1_shareOf 9 = .ok (.invokevirtual 224, 3) := dk_182 0 224 (dk_at dksX1_shareOf_0 9 rfl rfl)
theorem dX1_shareOf_12 : decode cX1_shareOf 12 = .ok (.ireturn, 1) := dk_172 (dk_at dksX1_shareOf_0 12 rfl rfl)
abbrev cX1_crowdOf : ByteArray := prog_1_method_45_code
def yX1_crowdOf : MethodName := ⟨RX1, "crowdOf", "(I)I"⟩
def dkwX1_crowdOf_0 : List UInt8 := [27, 184, 0, 122, 42, 180, 0, 43, 27, 182, 0, 228, 172]
abbrev dktX1_crowdOf_0 : List UInt8 := dkwX1_crowdOf_0 ++ []
theorem dksX1_crowdOf_0 : cX1_crowdOf.data.toList.drop 0 = dktX1_crowdOf_0 := by decide +kernel
theorem dX1_crowdOf_0 : decode cX1_crowdOf 0 = .ok (.iload_n 1, 1) := dk_27 (dk_at dksX1_crowdOf_0 0 rfl rfl)
theorem dX1_crowdOf_1 : decode cX1_crowdOf 1 = .ok (.invokestatic 122, 3) := dk_184 0 122 (dk_at dksX1_crowdOf_0 1 rfl rfl)
theorem dX1_crowdOf_4 : decode cX1_crowdOf 4 = .ok (.aload_n 0, 1) := dk_42 (dk_at dksX1_crowdOf_0 4 rfl rfl)
theorem dX1_crowdOf_5 : decode cX1_crowdOf 5 = .ok (.getfield 43, 3) := dk_180 0 43 (dk_at dksX1_crowdOf_0 5 rfl rfl)
theorem dX1_crowdOf_8 : decode cX1_crowdOf 8 = .ok (.iload_n 1, 1) := dk_27 (dk_at dksX1_crowdOf_0 8 rfl rfl)
theorem dX1_crowdOf_9 : decode cX1_crowdOf 9 = .ok (.invokevirtual 228, 3) := dk_182 0 228 (dk_at dksX1_crowdOf_0 9 rfl rfl)
theorem dX1_crowdOf_12 : decode cX1_crowdOf 12 = .ok (.ireturn, 1) := dk_172 (dk_at dksX1_crowdOf_0 12 rfl rfl)
abbrev cX1_riskOf : ByteArray := prog_1_method_46_code
def yX1_riskOf : MethodName := ⟨RX1, "riskOf", "(I)I"⟩
def dkwX1_riskOf_0 : List UInt8 := [42, 180, 0, 43, 42, 27, 182, 0, 162, 182, 0, 231, 172]
abbrev dktX1_riskOf_0 : List UInt8 := dkwX1_riskOf_0 ++ []
theorem dksX1_riskOf_0 : cX1_riskOf.data.toList.drop 0 = dktX1_riskOf_0 := by decide +kernel
theorem dX1_riskOf_0 : decode cX1_riskOf 0 = .ok (.aload_n 0, 1) := dk_42 (dk_at dksX1_riskOf_0 0 rfl rfl)
theorem dX1_riskOf_1 : decode cX1_riskOf 1 = .ok (.getfield 43, 3) := dk_180 0 43 (dk_at dksX1_riskOf_0 1 rfl rfl)
theorem dX1_riskOf_4 : decode cX1_riskOf 4 = .ok (.aload_n 0, 1) := dk_42 (dk_at dksX1_riskOf_0 4 rfl rfl)
theorem dX1_riskOf_5 : decode cX1_riskOf 5 = .ok (.iload_n 1, 1) := dk_27 (dk_at dksX1_riskOf_0 5 rfl rfl)
theorem dX1_riskOf_6 : decode cX1_riskOf 6 = .ok (.invokevirtual 162, 3) := dk_182 0 162 (dk_at dksX1_riskOf_0 6 rfl rfl)
theorem dX1_riskOf_9 : decode cX1_riskOf 9 = .ok (.invokevirtual 231, 3) := dk_182 0 231 (dk_at dksX1_riskOf_0 9 rfl rfl)
theorem dX1_riskOf_12 : decode cX1_riskOf 12 = .ok (.ireturn, 1) := dk_172 (dk_at dksX1_riskOf_0 12 rfl rfl)
abbrev cX1_livesIn : ByteArray := prog_1_method_47_code
def yX1_livesIn : MethodName := ⟨RX1, "livesIn", "(II)I"⟩
def dkwX1_livesIn_0 : List UInt8 := [42, 27, 182, 0, 162, 78, 28, 184, 0, 168, 45, 180, 0, 234, 28, 46, 172]
abbrev dktX1_livesIn_0 : List UInt8 := dkwX1_livesIn_0 ++ []
theorem dksX1_livesIn_0 : cX1_livesIn.data.toList.drop 0 = dktX1_livesIn_0 := by decide +kernel
theorem dX1_livesIn_0 : decode cX1_livesIn 0 = .ok (.aload_n 0, 1) := dk_42 (dk_at dksX1_livesIn_0 0 rfl rfl)
theorem dX1_livesIn_1 : decode cX1_livesIn 1 = .ok (.iload_n 1, 1) := dk_27 (dk_at dksX1_livesIn_0 1 rfl rfl)
theorem dX1_livesIn_2 : decode cX1_livesIn 2 = .ok (.invokevirtual 162, 3) := dk_182 0 162 (dk_at dksX1_livesIn_0 2 rfl rfl)
theorem dX1_livesIn_5 : decode cX1_livesIn 5 = .ok (.astore_n 3, 1) := dk_78 (dk_at dksX1_livesIn_0 5 rfl rfl)
theorem dX1_livesIn_6 : decode cX1_livesIn 6 = .ok (.iload_n 2, 1) := dk_28 (dk_at dksX1_livesIn_0 6 rfl rfl)
theorem dX1_livesIn_7 : decode cX1_livesIn 7 = .ok (.invokestatic 168, 3) := dk_184 0 168 (dk_at dksX1_livesIn_0 7 rfl rfl)
theorem dX1_livesIn_10 : decode cX1_livesIn 10 = .ok (.aload_n 3, 1) := dk_45 (dk_at dksX1_livesIn_0 10 rfl rfl)
theorem dX1_livesIn_11 : decode cX1_livesIn 11 = .ok (.getfield 234, 3) := dk_180 0 234 (dk_at dksX1_livesIn_0 11 rfl rfl)
theorem dX1_livesIn_14 : decode cX1_livesIn 14 = .ok (.iload_n 2, 1) := dk_28 (dk_at dksX1_livesIn_0 14 rfl rfl)
theorem dX1_livesIn_15 : decode cX1_livesIn 15 = .ok (.iaload, 1) := dk_46 (dk_at dksX1_livesIn_0 15 rfl rfl)
theorem dX1_livesIn_16 : decode cX1_livesIn 16 = .ok (.ireturn, 1) := dk_172 (dk_at dksX1_livesIn_0 16 rfl rfl)
abbrev cX1_whyNoYoung : ByteArray := prog_1_method_48_code
def yX1_whyNoYoung : MethodName := ⟨RX1, "whyNoYoung", "(I)I"⟩
def dkwX1_whyNoYoung_0 : List UInt8 := [42, 180, 0, 43, 42, 27, 182, 0, 162, 182, 0, 237, 172]
abbrev dktX1_whyNoYoung_0 : List UInt8 := dkwX1_whyNoYoung_0 ++ []
theorem dksX1_whyNoYoung_0 : cX1_whyNoYoung.data.toList.drop 0 = dktX1_whyNoYoung_0 := by decide +kernel
theorem dX1_whyNoYoung_0 : decode cX1_whyNoYoung 0 = .ok (.aload_n 0, 1) := dk_42 (dk_at dksX1_whyNoYoung_0 0 rfl rfl)
theorem dX1_whyNoYoung_1 : decode cX1_whyNoYoung 1 = .ok (.getfield 43, 3) := dk_180 0 43 (dk_at dksX1_whyNoYoung_0 1 rfl rfl)
theorem dX1_whyNoYoung_4 : decode cX1_whyNoYoung 4 = .ok (.aload_n 0, 1) := dk_42 (dk_at dksX1_whyNoYoung_0 4 rfl rfl)
theorem dX1_whyNoYoung_5 : decode cX1_whyNoYoung 5 = .ok (.iload_n 1, 1) := dk_27 (dk_at dksX1_whyNoYoung_0 5 rfl rfl)
theorem dX1_whyNoYoung_6 : decode cX1_whyNoYoung 6 = .ok (.invokevirtual 162, 3) := dk_182 0 162 (dk_at dksX1_whyNoYoung_0 6 rfl rfl)
theorem dX1_whyNoYoung_9 : decode cX1_whyNoYoung 9 = .ok (.invokevirtual 237, 3) := dk_182 0 237 (dk_at dksX1_whyNoYoung_0 9 rfl rfl)
theorem dX1_whyNoYoung_12 : decode cX1_whyNoYoung 12 = .ok (.ireturn, 1) := dk_172 (dk_at dksX1_whyNoYoung_0 12 rfl rfl)
abbrev cX1_youngOf : ByteArray := prog_1_method_49_code
def yX1_youngOf : MethodName := ⟨RX1, "youngOf", "(I)I"⟩
def dkwX1_youngOf_0 : List UInt8 := [42, 180, 0, 43, 42, 27, 182, 0, 162, 182, 0, 240, 172]
abbrev dktX1_youngOf_0 : List UInt8 := dkwX1_youngOf_0 ++ []
theorem dksX1_youngOf_0 : cX1_youngOf.data.toList.drop 0 = dktX1_youngOf_0 := by decide +kernel
theorem dX1_youngOf_0 : decode cX1_youngOf 0 = .ok (.aload_n 0, 1) := dk_42 (dk_at dksX1_youngOf_0 0 rfl rfl)
theorem dX1_youngOf_1 : decode cX1_youngOf 1 = .ok (.getfield 43, 3) := dk_180 0 43 (dk_at dksX1_youngOf_0 1 rfl rfl)
theorem dX1_youngOf_4 : decode cX1_youngOf 4 = .ok (.aload_n 0, 1) := dk_42 (dk_at dksX1_youngOf_0 4 rfl rfl)
theorem dX1_youngOf_5 : decode cX1_youngOf 5 = .ok (.iload_n 1, 1) := dk_27 (dk_at dksX1_youngOf_0 5 rfl rfl)
theorem dX1_youngOf_6 : decode cX1_youngOf 6 = .ok (.invokevirtual 162, 3) := dk_182 0 162 (dk_at dksX1_youngOf_0 6 rfl rfl)
theorem dX1_youngOf_9 : decode cX1_youngOf 9 = .ok (.invokevirtual 240, 3) := dk_182 0 240 (dk_at dksX1_youngOf_0 9 rfl rfl)
theorem dX1_youngOf_12 : decode cX1_youngOf 12 = .ok (.ireturn, 1) := dk_172 (dk_at dksX1_youngOf_0 12 rfl rfl)
abbrev cX1_ringAt : ByteArray := prog_1_method_53_code
def yX1_ringAt : MethodName := ⟨RX1, "ringAt", "(I)I"⟩
def dkwX1_ringAt_3 : List UInt8 := [167, 255, 201, 42, 180, 0, 43, 180, 0, 249, 28, 182, 0, 252, 192, 0, 113, 180, 0, 255, 172]
abbrev dktX1_ringAt_3 : List UInt8 := dkwX1_ringAt_3 ++ []
def dkwX1_ringAt_2 : List UInt8 := [28, 182, 0, 252, 192, 0, 113, 180, 0, 112, 153, 0, 7, 4, 167, 0, 4, 3, 100, 62, 132, 2, 1]
abbrev dktX1_ringAt_2 : List UInt8 := dkwX1_ringAt_2 ++ dktX1_ringAt_3
def dkwX1_ringAt_1 : List UInt8 := [180, 0, 249, 28, 182, 0, 252, 192, 0, 113, 180, 0, 112, 154, 0, 37, 29, 42, 180, 0, 43, 180, 0, 249]
abbrev dktX1_ringAt_1 : List UInt8 := dkwX1_ringAt_1 ++ dktX1_ringAt_2
def dkwX1_ringAt_0 : List UInt8 := [27, 42, 180, 0, 43, 180, 0, 194, 184, 0, 16, 3, 61, 27, 62, 29, 157, 0, 23, 42, 180, 0, 43]
abbrev dktX1_ringAt_0 : List UInt8 := dkwX1_ringAt_0 ++ dktX1_ringAt_1
theorem dksX1_ringAt_0 : cX1_ringAt.data.toList.drop 0 = dktX1_ringAt_0 := by decide +kernel
theorem dksX1_ringAt_1 : cX1_ringAt.data.toList.drop 23 = dktX1_ringAt_1 := dk_seg dksX1_ringAt_0 23 rfl rfl
theorem dksX1_ringAt_2 : cX1_ringAt.data.toList.drop 47 = dktX1_ringAt_2 := dk_seg dksX1_ringAt_1 24 rfl rfl
theorem dksX1_ringAt_3 : cX1_ringAt.data.toList.drop 70 = dktX1_ringAt_3 := dk_seg dksX1_ringAt_2 23 rfl rfl
theorem dX1_ringAt_0 : decode cX1_ringAt 0 = .ok (.iload_n 1, 1) := dk_27 (dk_at dksX1_ringAt_0 0 rfl rfl)
theorem dX1_ringAt_1 : decode cX1_ringAt 1 = .ok (.aload_n 0, 1) := dk_42 (dk_at dksX1_ringAt_0 1 rfl rfl)
theorem dX1_ringAt_2 : decode cX1_ringAt 2 = .ok (.getfield 43, 3) := dk_180 0 43 (dk_at dksX1_ringAt_0 2 rfl rfl)
theorem dX1_ringAt_5 : decode cX1_ringAt 5 = .ok (.getfield 194, 3) := dk_180 0 194 (dk_at dksX1_ringAt_0 5 rfl rfl)
theorem dX1_ringAt_8 : decode cX1_ringAt 8 = .ok (.invokestatic 16, 3) := dk_184 0 16 (dk_at dksX1_ringAt_0 8 rfl rfl)
theorem dX1_ringAt_11 : decode cX1_ringAt 11 = .ok (.iconst 0, 1) := dk_3 (dk_at dksX1_ringAt_0 11 rfl rfl)
theorem dX1_ringAt_12 : decode cX1_ringAt 12 = .ok (.istore_n 2, 1) := dk_61 (dk_at dksX1_ringAt_0 12 rfl rfl)
theorem dX1_ringAt_13 : decode cX1_ringAt 13 = .ok (.iload_n 1, 1) := dk_27 (dk_at dksX1_ringAt_0 13 rfl rfl)
theorem dX1_ringAt_14 : decode cX1_ringAt 14 = .ok (.istore_n 3, 1) := dk_62 (dk_at dksX1_ringAt_0 14 rfl rfl)
theorem dX1_ringAt_15 : decode cX1_ringAt 15 = .ok (.iload_n 3, 1) := dk_29 (dk_at dksX1_ringAt_0 15 rfl rfl)
theorem dX1_ringAt_16 : decode cX1_ringAt 16 = .ok (.ifCond .gt 23, 3) := dk_157 0 23 (dk_at dksX1_ringAt_0 16 rfl rfl)
theorem dX1_ringAt_19 : decode cX1_ringAt 19 = .ok (.aload_n 0, 1) := dk_42 (dk_at dksX1_ringAt_0 19 rfl rfl)
theorem dX1_ringAt_20 : decode cX1_ringAt 20 = .ok (.getfield 43, 3) := dk_180 0 43 (dk_at dksX1_ringAt_0 20 rfl rfl)
theorem dX1_ringAt_23 : decode cX1_ringAt 23 = .ok (.getfield 249, 3) := dk_180 0 249 (dk_at dksX1_ringAt_1 0 rfl rfl)
theorem dX1_ringAt_26 : decode cX1_ringAt 26 = .ok (.iload_n 2, 1) := dk_28 (dk_at dksX1_ringAt_1 3 rfl rfl)
theorem dX1_ringAt_27 : decode cX1_ringAt 27 = .ok (.invokevirtual 252, 3) := dk_182 0 252 (dk_at dksX1_ringAt_1 4 rfl rfl)
theorem dX1_ringAt_30 : decode cX1_ringAt 30 = .ok (.checkcast 113, 3) := dk_192 0 113 (dk_at dksX1_ringAt_1 7 rfl rfl)
theorem dX1_ringAt_33 : decode cX1_ringAt 33 = .ok (.getfield 112, 3) := dk_180 0 112 (dk_at dksX1_ringAt_1 10 rfl rfl)
theorem dX1_ringAt_36 : decode cX1_ringAt 36 = .ok (.ifCond .ne 37, 3) := dk_154 0 37 (dk_at dksX1_ringAt_1 13 rfl rfl)
theorem dX1_ringAt_39 : decode cX1_ringAt 39 = .ok (.iload_n 3, 1) := dk_29 (dk_at dksX1_ringAt_1 16 rfl rfl)
theorem dX1_ringAt_40 : decode cX1_ringAt 40 = .ok (.aload_n 0, 1) := dk_42 (dk_at dksX1_ringAt_1 17 rfl rfl)
theorem dX1_ringAt_41 : decode cX1_ringAt 41 = .ok (.getfield 43, 3) := dk_180 0 43 (dk_at dksX1_ringAt_1 18 rfl rfl)
theorem dX1_ringAt_44 : decode cX1_ringAt 44 = .ok (.getfield 249, 3) := dk_180 0 249 (dk_at dksX1_ringAt_1 21 rfl rfl)
theorem dX1_ringAt_47 : decode cX1_ringAt 47 = .ok (.iload_n 2, 1) := dk_28 (dk_at dksX1_ringAt_2 0 rfl rfl)
theorem dX1_ringAt_48 : decode cX1_ringAt 48 = .ok (.invokevirtual 252, 3) := dk_182 0 252 (dk_at dksX1_ringAt_2 1 rfl rfl)
theorem dX1_ringAt_51 : decode cX1_ringAt 51 = .ok (.checkcast 113, 3) := dk_192 0 113 (dk_at dksX1_ringAt_2 4 rfl rfl)
theorem dX1_ringAt_54 : decode cX1_ringAt 54 = .ok (.getfield 112, 3) := dk_180 0 112 (dk_at dksX1_ringAt_2 7 rfl rfl)
theorem dX1_ringAt_57 : decode cX1_ringAt 57 = .ok (.ifCond .eq 7, 3) := dk_153 0 7 (dk_at dksX1_ringAt_2 10 rfl rfl)
theorem dX1_ringAt_60 : decode cX1_ringAt 60 = .ok (.iconst 1, 1) := dk_4 (dk_at dksX1_ringAt_2 13 rfl rfl)
theorem dX1_ringAt_61 : decode cX1_ringAt 61 = .ok (.goto 4, 3) := dk_167 0 4 (dk_at dksX1_ringAt_2 14 rfl rfl)
theorem dX1_ringAt_64 : decode cX1_ringAt 64 = .ok (.iconst 0, 1) := dk_3 (dk_at dksX1_ringAt_2 17 rfl rfl)
theorem dX1_ringAt_65 : decode cX1_ringAt 65 = .ok (.isub, 1) := dk_100 (dk_at dksX1_ringAt_2 18 rfl rfl)
theorem dX1_ringAt_66 : decode cX1_ringAt 66 = .ok (.istore_n 3, 1) := dk_62 (dk_at dksX1_ringAt_2 19 rfl rfl)
theorem dX1_ringAt_67 : decode cX1_ringAt 67 = .ok (.iinc 2 1, 3) := dk_132 2 1 (dk_at dksX1_ringAt_2 20 rfl rfl)
theorem dX1_ringAt_70 : decode cX1_ringAt 70 = .ok (.goto (-55), 3) := dk_167 255 201 (dk_at dksX1_ringAt_3 0 rfl rfl)
theorem dX1_ringAt_73 : decode cX1_ringAt 73 = .ok (.aload_n 0, 1) := dk_42 (dk_at dksX1_ringAt_3 3 rfl rfl)
theorem dX1_ringAt_74 : decode cX1_ringAt 74 = .ok (.getfield 43, 3) := dk_180 0 43 (dk_at dksX1_ringAt_3 4 rfl rfl)
theorem dX1_ringAt_77 : decode cX1_ringAt 77 = .ok (.getfield 249, 3) := dk_180 0 249 (dk_at dksX1_ringAt_3 7 rfl rfl)
theorem dX1_ringAt_80 : decode cX1_ringAt 80 = .ok (.iload_n 2, 1) := dk_28 (dk_at dksX1_ringAt_3 10 rfl rfl)
theorem dX1_ringAt_81 : decode cX1_ringAt 81 = .ok (.invokevirtual 252, 3) := dk_182 0 252 (dk_at dksX1_ringAt_3 11 rfl rfl)
theorem dX1_ringAt_84 : decode cX1_ringAt 84 = .ok (.checkcast 113, 3) := dk_192 0 113 (dk_at dksX1_ringAt_3 14 rfl rfl)
theorem dX1_ringAt_87 : decode cX1_ringAt 87 = .ok (.getfield 255, 3) := dk_180 0 255 (dk_at dksX1_ringAt_3 17 rfl rfl)
theorem dX1_ringAt_90 : decode cX1_ringAt 90 = .ok (.ireturn, 1) := dk_172 (dk_at dksX1_ringAt_3 20 rfl rfl)
abbrev cX1_sexOf : ByteArray := prog_1_method_56_code
def yX1_sexOf : MethodName := ⟨RX1, "sexOf", "(I)I"⟩
def dkwX1_sexOf_0 : List UInt8 := [42, 27, 182, 0, 109, 180, 1, 4, 172]
abbrev dktX1_sexOf_0 : List UInt8 := dkwX1_sexOf_0 ++ []
theorem dksX1_sexOf_0 : cX1_sexOf.data.toList.drop 0 = dktX1_sexOf_0 := by decide +kernel
theorem dX1_sexOf_0 : decode cX1_sexOf 0 = .ok (.aload_n 0, 1) := dk_42 (dk_at dksX1_sexOf_0 0 rfl rfl)
theorem dX1_sexOf_1 : decode cX1_sexOf 1 = .ok (.iload_n 1, 1) := dk_27 (dk_at dksX1_sexOf_0 1 rfl rfl)
theorem dX1_sexOf_2 : decode cX1_sexOf 2 = .ok (.invokevirtual 109, 3) := dk_182 0 109 (dk_at dksX1_sexOf_0 2 rfl rfl)
theorem dX1_sexOf_5 : decode cX1_sexOf 5 = .ok (.getfield 260, 3) := dk_180 1 4 (dk_at dksX1_sexOf_0 5 rfl rfl)
theorem dX1_sexOf_8 : decode cX1_sexOf 8 = .ok (.ireturn, 1) := dk_172 (dk_at dksX1_sexOf_0 8 rfl rfl)
abbrev cX1_ageOf : ByteArray := prog_1_method_57_code
def yX1_ageOf : MethodName := ⟨RX1, "ageOf", "(I)I"⟩
def dkwX1_ageOf_0 : List UInt8 := [42, 27, 182, 0, 109, 180, 0, 181, 172]
abbrev dktX1_ageOf_0 : List UInt8 := dkwX1_ageOf_0 ++ []
theorem dksX1_ageOf_0 : cX1_ageOf.data.toList.drop 0 = dktX1_ageOf_0 := by decide +kernel
theorem dX1_ageOf_0 : decode cX1_ageOf 0 = .ok (.aload_n 0, 1) := dk_42 (dk_at dksX1_ageOf_0 0 rfl rfl)
theorem dX1_ageOf_1 : decode cX1_ageOf 1 = .ok (.iload_n 1, 1) := dk_27 (dk_at dksX1_ageOf_0 1 rfl rfl)
theorem dX1_ageOf_2 : decode cX1_ageOf 2 = .ok (.invokevirtual 109, 3) := dk_182 0 109 (dk_at dksX1_ageOf_0 2 rfl rfl)
theorem dX1_ageOf_5 : decode cX1_ageOf 5 = .ok (.getfield 181, 3) := dk_180 0 181 (dk_at dksX1_ageOf_0 5 rfl rfl)
theorem dX1_ageOf_8 : decode cX1_ageOf 8 = .ok (.ireturn, 1) := dk_172 (dk_at dksX1_ageOf_0 8 rfl rfl)
abbrev cX1_boxOf : ByteArray := prog_1_method_58_code
def yX1_boxOf : MethodName := ⟨RX1, "boxOf", "(I)I"⟩
def dkwX1_boxOf_0 : List UInt8 := [42, 27, 182, 0, 178, 180, 1, 7, 172]
abbrev dktX1_boxOf_0 : List UInt8 := dkwX1_boxOf_0 ++ []
theorem dksX1_boxOf_0 : cX1_boxOf.data.toList.drop 0 = dktX1_boxOf_0 := by decide +kernel
theorem dX1_boxOf_0 : decode cX1_boxOf 0 = .ok (.aload_n 0, 1) := dk_42 (dk_at dksX1_boxOf_0 0 rfl rfl)
theorem dX1_boxOf_1 : decode cX1_boxOf 1 = .ok (.iload_n 1, 1) := dk_27 (dk_at dksX1_boxOf_0 1 rfl rfl)
theorem dX1_boxOf_2 : decode cX1_boxOf 2 = .ok (.invokevirtual 178, 3) := dk_182 0 178 (dk_at dksX1_boxOf_0 2 rfl rfl)
theorem dX1_boxOf_5 : decode cX1_boxOf 5 = .ok (.getfield 263, 3) := dk_180 1 7 (dk_at dksX1_boxOf_0 5 rfl rfl)
theorem dX1_boxOf_8 : decode cX1_boxOf 8 = .ok (.ireturn, 1) := dk_172 (dk_at dksX1_boxOf_0 8 rfl rfl)
abbrev cX1_motherOf : ByteArray := prog_1_method_61_code
def yX1_motherOf : MethodName := ⟨RX1, "motherOf", "(I)I"⟩
def dkwX1_motherOf_0 : List UInt8 := [42, 180, 0, 43, 42, 27, 182, 0, 109, 182, 1, 13, 172]
abbrev dktX1_motherOf_0 : List UInt8 := dkwX1_motherOf_0 ++ []
theorem dksX1_motherOf_0 : cX1_motherOf.data.toList.drop 0 = dktX1_motherOf_0 := by decide +kernel
theorem dX1_motherOf_0 : decode cX1_motherOf 0 = .ok (.aload_n 0, 1) := dk_42 (dk_at dksX1_motherOf_0 0 rfl rfl)
theorem dX1_motherOf_1 : decode cX1_motherOf 1 = .ok (.getfield 43, 3) := dk_180 0 43 (dk_at dksX1_motherOf_0 1 rfl rfl)
theorem dX1_motherOf_4 : decode cX1_motherOf 4 = .ok (.aload_n 0, 1) := dk_42 (dk_at dksX1_motherOf_0 4 rfl rfl)
theorem dX1_motherOf_5 : decode cX1_motherOf 5 = .ok (.iload_n 1, 1) := dk_27 (dk_at dksX1_motherOf_0 5 rfl rfl)
theorem dX1_motherOf_6 : decode cX1_motherOf 6 = .ok (.invokevirtual 109, 3) := dk_182 0 109 (dk_at dksX1_motherOf_0 6 rfl rfl)
theorem dX1_motherOf_9 : decode cX1_motherOf 9 = .ok (.invokevirtual 269, 3) := dk_182 1 13 (dk_at dksX1_motherOf_0 9 rfl rfl)
theorem dX1_motherOf_12 : decode cX1_motherOf 12 = .ok (.ireturn, 1) := dk_172 (dk_at dksX1_motherOf_0 12 rfl rfl)
abbrev cX1_fatherOf : ByteArray := prog_1_method_62_code
def yX1_fatherOf : MethodName := ⟨RX1, "fatherOf", "(I)I"⟩
def dkwX1_fatherOf_0 : List UInt8 := [42, 180, 0, 43, 42, 27, 182, 0, 109, 182, 1, 17, 172]
abbrev dktX1_fatherOf_0 : List UInt8 := dkwX1_fatherOf_0 ++ []
theorem dksX1_fatherOf_0 : cX1_fatherOf.data.toList.drop 0 = dktX1_fatherOf_0 := by decide +kernel
theorem dX1_fatherOf_0 : decode cX1_fatherOf 0 = .ok (.aload_n 0, 1) := dk_42 (dk_at dksX1_fatherOf_0 0 rfl rfl)
theorem dX1_fatherOf_1 : decode cX1_fatherOf 1 = .ok (.getfield 43, 3) := dk_180 0 43 (dk_at dksX1_fatherOf_0 1 rfl rfl)
theorem dX1_fatherOf_4 : decode cX1_fatherOf 4 = .ok (.aload_n 0, 1) := dk_42 (dk_at dksX1_fatherOf_0 4 rfl rfl)
theorem dX1_fatherOf_5 : decode cX1_fatherOf 5 = .ok (.iload_n 1, 1) := dk_27 (dk_at dksX1_fatherOf_0 5 rfl rfl)
theorem dX1_fatherOf_6 : decode cX1_fatherOf 6 = .ok (.invokevirtual 109, 3) := dk_182 0 109 (dk_at dksX1_fatherOf_0 6 rfl rfl)
theorem dX1_fatherOf_9 : decode cX1_fatherOf 9 = .ok (.invokevirtual 273, 3) := dk_182 1 17 (dk_at dksX1_fatherOf_0 9 rfl rfl)
theorem dX1_fatherOf_12 : decode cX1_fatherOf 12 = .ok (.ireturn, 1) := dk_172 (dk_at dksX1_fatherOf_0 12 rfl rfl)
abbrev cX1_childrenOf : ByteArray := prog_1_method_63_code
def yX1_childrenOf : MethodName := ⟨RX1, "childrenOf", "(I)I"⟩
def dkwX1_childrenOf_0 : List UInt8 := [42, 27, 182, 0, 109, 87, 42, 180, 0, 43, 27, 182, 1, 20, 172]
abbrev dktX1_childrenOf_0 : List UInt8 := dkwX1_childrenOf_0 ++ []
theorem dksX1_childrenOf_0 : cX1_childrenOf.data.toList.drop 0 = dktX1_childrenOf_0 := by decide +kernel
theorem dX1_childrenOf_0 : decode cX1_childrenOf 0 = .ok (.aload_n 0, 1) := dk_42 (dk_at dksX1_childrenOf_0 0 rfl rfl)
theorem dX1_childrenOf_1 : decode cX1_childrenOf 1 = .ok (.iload_n 1, 1) := dk_27 (dk_at dksX1_childrenOf_0 1 rfl rfl)
theorem dX1_childrenOf_2 : decode cX1_childrenOf 2 = .ok (.invokevirtual 109, 3) := dk_182 0 109 (dk_at dksX1_childrenOf_0 2 rfl rfl)
theorem dX1_childrenOf_5 : decode cX1_childrenOf 5 = .ok (.pop, 1) := dk_87 (dk_at dksX1_childrenOf_0 5 rfl rfl)
theorem dX1_childrenOf_6 : decode cX1_childrenOf 6 = .ok (.aload_n 0, 1) := dk_42 (dk_at dksX1_childrenOf_0 6 rfl rfl)
theorem dX1_childrenOf_7 : decode cX1_childrenOf 7 = .ok (.getfield 43, 3) := dk_180 0 43 (dk_at dksX1_childrenOf_0 7 rfl rfl)
theorem dX1_childrenOf_10 : decode cX1_childrenOf 10 = .ok (.iload_n 1, 1) := dk_27 (dk_at dksX1_childrenOf_0 10 rfl rfl)
theorem dX1_childrenOf_11 : decode cX1_childrenOf 11 = .ok (.invokevirtual 276, 3) := dk_182 1 20 (dk_at dksX1_childrenOf_0 11 rfl rfl)
theorem dX1_childrenOf_14 : decode cX1_childrenOf 14 = .ok (.ireturn, 1) := dk_172 (dk_at dksX1_childrenOf_0 14 rfl rfl)
abbrev cX1_offspringOf : ByteArray := prog_1_method_64_code
def yX1_offspringOf : MethodName := ⟨RX1, "offspringOf", "(I)I"⟩
def dkwX1_offspringOf_0 : List UInt8 := [42, 27, 182, 0, 109, 87, 42, 180, 0, 43, 27, 182, 1, 23, 172]
abbrev dktX1_offspringOf_0 : List UInt8 := dkwX1_offspringOf_0 ++ []
theorem dksX1_offspringOf_0 : cX1_offspringOf.data.toList.drop 0 = dktX1_offspringOf_0 := by decide +kernel
theorem dX1_offspringOf_0 : decode cX1_offspringOf 0 = .ok (.aload_n 0, 1) := dk_42 (dk_at dksX1_offspringOf_0 0 rfl rfl)
theorem dX1_offspringOf_1 : decode cX1_offspringOf 1 = .ok (.iload_n 1, 1) := dk_27 (dk_at dksX1_offspringOf_0 1 rfl rfl)
theorem dX1_offspringOf_2 : decode cX1_offspringOf 2 = .ok (.invokevirtual 109, 3) := dk_182 0 109 (dk_at dksX1_offspringOf_0 2 rfl rfl)
theorem dX1_offspringOf_5 : decode cX1_offspringOf 5 = .ok (.pop, 1) := dk_87 (dk_at dksX1_offspringOf_0 5 rfl rfl)
theorem dX1_offspringOf_6 : decode cX1_offspringOf 6 = .ok (.aload_n 0, 1) := dk_42 (dk_at dksX1_offspringOf_0 6 rfl rfl)
theorem dX1_offspringOf_7 : decode cX1_offspringOf 7 = .ok (.getfield 43, 3) := dk_180 0 43 (dk_at dksX1_offspringOf_0 7 rfl rfl)
theorem dX1_offspringOf_10 : decode cX1_offspringOf 10 = .ok (.iload_n 1, 1) := dk_27 (dk_at dksX1_offspringOf_0 10 rfl rfl)
theorem dX1_offspringOf_11 : decode cX1_offspringOf 11 = .ok (.invokevirtual 279, 3) := dk_182 1 23 (dk_at dksX1_offspringOf_0 11 rfl rfl)
theorem dX1_offspringOf_14 : decode cX1_offspringOf 14 = .ok (.ireturn, 1) := dk_172 (dk_at dksX1_offspringOf_0 14 rfl rfl)
abbrev cX1_offspringByParents : ByteArray := prog_1_method_65_code
def yX1_offspringByParents : MethodName := ⟨RX1, "offspringByParents", "(I)I"⟩
def dkwX1_offspringByParents_0 : List UInt8 := [42, 27, 182, 0, 109, 87, 42, 180, 0, 43, 27, 182, 1, 26, 172]
abbrev dktX1_offspringByParents_0 : List UInt8 := dkwX1_offspringByParents_0 ++ []
theorem dksX1_offspringByParents_0 : cX1_offspringByParents.data.toList.drop 0 = dktX1_offspringByParents_0 := by decide +kernel
theorem dX1_offspringByParents_0 : decode cX1_offspringByParents 0 = .ok (.aload_n 0, 1) := dk_42 (dk_at dksX1_offspringByParents_0 0 rfl rfl)
theorem dX1_offspringByParents_1 : decode cX1_offspringByParents 1 = .ok (.iload_n 1, 1) := dk_27 (dk_at dksX1_offspringByParents_0 1 rfl rfl)
theorem dX1_offspringByParents_2 : decode cX1_offspringByParents 2 = .ok (.invokevirtual 109, 3) := dk_182 0 109 (dk_at dksX1_offspringByParents_0 2 rfl rfl)
theorem dX1_offspringByParents_5 : decode cX1_offspringByParents 5 = .ok (.pop, 1) := dk_87 (dk_at dksX1_offspringByParents_0 5 rfl rfl)
theorem dX1_offspringByParents_6 : decode cX1_offspringByParents 6 = .ok (.aload_n 0, 1) := dk_42 (dk_at dksX1_offspringByParents_0 6 rfl rfl)
theorem dX1_offspringByParents_7 : decode cX1_offspringByParents 7 = .ok (.getfield 43, 3) := dk_180 0 43 (dk_at dksX1_offspringByParents_0 7 rfl rfl)
theorem dX1_offspringByParents_10 : decode cX1_offspringByParents 10 = .ok (.iload_n 1, 1) := dk_27 (dk_at dksX1_offspringByParents_0 10 rfl rfl)
theorem dX1_offspringByParents_11 : decode cX1_offspringByParents 11 = .ok (.invokevirtual 282, 3) := dk_182 1 26 (dk_at dksX1_offspringByParents_0 11 rfl rfl)
theorem dX1_offspringByParents_14 : decode cX1_offspringByParents 14 = .ok (.ireturn, 1) := dk_172 (dk_at dksX1_offspringByParents_0 14 rfl rfl)
abbrev cX1_areKin : ByteArray := prog_1_method_66_code
def yX1_areKin : MethodName := ⟨RX1, "areKin", "(II)Z"⟩
def dkwX1_areKin_0 : List UInt8 := [42, 27, 182, 0, 109, 87, 42, 28, 182, 0, 109, 87, 42, 180, 0, 43, 27, 28, 182, 1, 29, 172]
abbrev dktX1_areKin_0 : List UInt8 := dkwX1_areKin_0 ++ []
theorem dksX1_areKin_0 : cX1_areKin.data.toList.drop 0 = dktX1_areKin_0 := by decide +kernel
theorem dX1_areKin_0 : decode cX1_areKin 0 = .ok (.aload_n 0, 1) := dk_42 (dk_at dksX1_areKin_0 0 rfl rfl)
theorem dX1_areKin_1 : decode cX1_areKin 1 = .ok (.iload_n 1, 1) := dk_27 (dk_at dksX1_areKin_0 1 rfl rfl)
theorem dX1_areKin_2 : decode cX1_areKin 2 = .ok (.invokevirtual 109, 3) := dk_182 0 109 (dk_at dksX1_areKin_0 2 rfl rfl)
theorem dX1_areKin_5 : decode cX1_areKin 5 = .ok (.pop, 1) := dk_87 (dk_at dksX1_areKin_0 5 rfl rfl)
theorem dX1_areKin_6 : decode cX1_areKin 6 = .ok (.aload_n 0, 1) := dk_42 (dk_at dksX1_areKin_0 6 rfl rfl)
theorem dX1_areKin_7 : decode cX1_areKin 7 = .ok (.iload_n 2, 1) := dk_28 (dk_at dksX1_areKin_0 7 rfl rfl)
theorem dX1_areKin_8 : decode cX1_areKin 8 = .ok (.invokevirtual 109, 3) := dk_182 0 109 (dk_at dksX1_areKin_0 8 rfl rfl)
theorem dX1_areKin_11 : decode cX1_areKin 11 = .ok (.pop, 1) := dk_87 (dk_at dksX1_areKin_0 11 rfl rfl)
theorem dX1_areKin_12 : decode cX1_areKin 12 = .ok (.aload_n 0, 1) := dk_42 (dk_at dksX1_areKin_0 12 rfl rfl)
theorem dX1_areKin_13 : decode cX1_areKin 13 = .ok (.getfield 43, 3) := dk_180 0 43 (dk_at dksX1_areKin_0 13 rfl rfl)
theorem dX1_areKin_16 : decode cX1_areKin 16 = .ok (.iload_n 1, 1) := dk_27 (dk_at dksX1_areKin_0 16 rfl rfl)
theorem dX1_areKin_17 : decode cX1_areKin 17 = .ok (.iload_n 2, 1) := dk_28 (dk_at dksX1_areKin_0 17 rfl rfl)
theorem dX1_areKin_18 : decode cX1_areKin 18 = .ok (.invokevirtual 285, 3) := dk_182 1 29 (dk_at dksX1_areKin_0 18 rfl rfl)
theorem dX1_areKin_21 : decode cX1_areKin 21 = .ok (.ireturn, 1) := dk_172 (dk_at dksX1_areKin_0 21 rfl rfl)
abbrev cX1_died : ByteArray := prog_1_method_69_code
def yX1_died : MethodName := ⟨RX1, "died", "(I)I"⟩
def dkwX1_died_0 : List UInt8 := [27, 3, 6, 184, 0, 20, 42, 180, 0, 43, 180, 1, 38, 27, 46, 172]
abbrev dktX1_died_0 : List UInt8 := dkwX1_died_0 ++ []
theorem dksX1_died_0 : cX1_died.data.toList.drop 0 = dktX1_died_0 := by decide +kernel
theorem dX1_died_0 : decode cX1_died 0 = .ok (.iload_n 1, 1) := dk_27 (dk_at dksX1_died_0 0 rfl rfl)
theorem dX1_died_1 : decode cX1_died 1 = .ok (.iconst 0, 1) := dk_3 (dk_at dksX1_died_0 1 rfl rfl)
theorem dX1_died_2 : decode cX1_died 2 = .ok (.iconst 3, 1) := dk_6 (dk_at dksX1_died_0 2 rfl rfl)
theorem dX1_died_3 : decode cX1_died 3 = .ok (.invokestatic 20, 3) := dk_184 0 20 (dk_at dksX1_died_0 3 rfl rfl)
theorem dX1_died_6 : decode cX1_died 6 = .ok (.aload_n 0, 1) := dk_42 (dk_at dksX1_died_0 6 rfl rfl)
theorem dX1_died_7 : decode cX1_died 7 = .ok (.getfield 43, 3) := dk_180 0 43 (dk_at dksX1_died_0 7 rfl rfl)
theorem dX1_died_10 : decode cX1_died 10 = .ok (.getfield 294, 3) := dk_180 1 38 (dk_at dksX1_died_0 10 rfl rfl)
theorem dX1_died_13 : decode cX1_died 13 = .ok (.iload_n 1, 1) := dk_27 (dk_at dksX1_died_0 13 rfl rfl)
theorem dX1_died_14 : decode cX1_died 14 = .ok (.iaload, 1) := dk_46 (dk_at dksX1_died_0 14 rfl rfl)
theorem dX1_died_15 : decode cX1_died 15 = .ok (.ireturn, 1) := dk_172 (dk_at dksX1_died_0 15 rfl rfl)
abbrev cX1_deathRing : ByteArray := prog_1_method_75_code
def yX1_deathRing : MethodName := ⟨RX1, "deathRing", "(I)I"⟩
def dkwX1_deathRing_0 : List UInt8 := [42, 27, 3, 182, 1, 56, 172]
abbrev dktX1_deathRing_0 : List UInt8 := dkwX1_deathRing_0 ++ []
theorem dksX1_deathRing_0 : cX1_deathRing.data.toList.drop 0 = dktX1_deathRing_0 := by decide +kernel
theorem dX1_deathRing_0 : decode cX1_deathRing 0 = .ok (.aload_n 0, 1) := dk_42 (dk_at dksX1_deathRing_0 0 rfl rfl)
theorem dX1_deathRing_1 : decode cX1_deathRing 1 = .ok (.iload_n 1, 1) := dk_27 (dk_at dksX1_deathRing_0 1 rfl rfl)
theorem dX1_deathRing_2 : decode cX1_deathRing 2 = .ok (.iconst 0, 1) := dk_3 (dk_at dksX1_deathRing_0 2 rfl rfl)
theorem dX1_deathRing_3 : decode cX1_deathRing 3 = .ok (.invokevirtual 312, 3) := dk_182 1 56 (dk_at dksX1_deathRing_0 3 rfl rfl)
theorem dX1_deathRing_6 : decode cX1_deathRing 6 = .ok (.ireturn, 1) := dk_172 (dk_at dksX1_deathRing_0 6 rfl rfl)
abbrev cX1_death : ByteArray := prog_1_method_74_code
def yX1_death : MethodName := ⟨RX1, "death", "(II)I"⟩
def dkwX1_death_1 : List UInt8 := [172]
abbrev dktX1_death_1 : List UInt8 := dkwX1_death_1 ++ []
def dkwX1_death_0 : List UInt8 := [27, 42, 180, 0, 43, 180, 1, 50, 184, 0, 16, 42, 180, 0, 43, 180, 1, 53, 6, 27, 104, 28, 96, 46]
abbrev dktX1_death_0 : List UInt8 := dkwX1_death_0 ++ dktX1_death_1
theorem dksX1_death_0 : cX1_death.data.toList.drop 0 = dktX1_death_0 := by decide +kernel
theorem dksX1_death_1 : cX1_death.data.toList.drop 24 = dktX1_death_1 := dk_seg dksX1_death_0 24 rfl rfl
theorem dX1_death_0 : decode cX1_death 0 = .ok (.iload_n 1, 1) := dk_27 (dk_at dksX1_death_0 0 rfl rfl)
theorem dX1_death_1 : decode cX1_death 1 = .ok (.aload_n 0, 1) := dk_42 (dk_at dksX1_death_0 1 rfl rfl)
theorem dX1_death_2 : decode cX1_death 2 = .ok (.getfield 43, 3) := dk_180 0 43 (dk_at dksX1_death_0 2 rfl rfl)
theorem dX1_death_5 : decode cX1_death 5 = .ok (.getfield 306, 3) := dk_180 1 50 (dk_at dksX1_death_0 5 rfl rfl)
theorem dX1_death_8 : decode cX1_death 8 = .ok (.invokestatic 16, 3) := dk_184 0 16 (dk_at dksX1_death_0 8 rfl rfl)
theorem dX1_death_11 : decode cX1_death 11 = .ok (.aload_n 0, 1) := dk_42 (dk_at dksX1_death_0 11 rfl rfl)
theorem dX1_death_12 : decode cX1_death 12 = .ok (.getfield 43, 3) := dk_180 0 43 (dk_at dksX1_death_0 12 rfl rfl)
theorem dX1_death_15 : decode cX1_death 15 = .ok (.getfield 309, 3) := dk_180 1 53 (dk_at dksX1_death_0 15 rfl rfl)
theorem dX1_death_18 : decode cX1_death 18 = .ok (.iconst 3, 1) := dk_6 (dk_at dksX1_death_0 18 rfl rfl)
theorem dX1_death_19 : decode cX1_death 19 = .ok (.iload_n 1, 1) := dk_27 (dk_at dksX1_death_0 19 rfl rfl)
theorem dX1_death_20 : decode cX1_death 20 = .ok (.imul, 1) := dk_104 (dk_at dksX1_death_0 20 rfl rfl)
theorem dX1_death_21 : decode cX1_death 21 = .ok (.iload_n 2, 1) := dk_28 (dk_at dksX1_death_0 21 rfl rfl)
theorem dX1_death_22 : decode cX1_death 22 = .ok (.iadd, 1) := dk_96 (dk_at dksX1_death_0 22 rfl rfl)
theorem dX1_death_23 : decode cX1_death 23 = .ok (.iaload, 1) := dk_46 (dk_at dksX1_death_0 23 rfl rfl)
theorem dX1_death_24 : decode cX1_death 24 = .ok (.ireturn, 1) := dk_172 (dk_at dksX1_death_1 0 rfl rfl)
abbrev cX1_deathCause : ByteArray := prog_1_method_76_code
def yX1_deathCause : MethodName := ⟨RX1, "deathCause", "(I)I"⟩
def dkwX1_deathCause_0 : List UInt8 := [42, 27, 4, 182, 1, 56, 172]
abbrev dktX1_deathCause_0 : List UInt8 := dkwX1_deathCause_0 ++ []
theorem dksX1_deathCause_0 : cX1_deathCause.data.toList.drop 0 = dktX1_deathCause_0 := by decide +kernel
theorem dX1_deathCause_0 : decode cX1_deathCause 0 = .ok (.aload_n 0, 1) := dk_42 (dk_at dksX1_deathCause_0 0 rfl rfl)
theorem dX1_deathCause_1 : decode cX1_deathCause 1 = .ok (.iload_n 1, 1) := dk_27 (dk_at dksX1_deathCause_0 1 rfl rfl)
theorem dX1_deathCause_2 : decode cX1_deathCause 2 = .ok (.iconst 1, 1) := dk_4 (dk_at dksX1_deathCause_0 2 rfl rfl)
theorem dX1_deathCause_3 : decode cX1_deathCause 3 = .ok (.invokevirtual 312, 3) := dk_182 1 56 (dk_at dksX1_deathCause_0 3 rfl rfl)
theorem dX1_deathCause_6 : decode cX1_deathCause 6 = .ok (.ireturn, 1) := dk_172 (dk_at dksX1_deathCause_0 6 rfl rfl)
abbrev cX1_deathYear : ByteArray := prog_1_method_77_code
def yX1_deathYear : MethodName := ⟨RX1, "deathYear", "(I)I"⟩
def dkwX1_deathYear_0 : List UInt8 := [42, 27, 5, 182, 1, 56, 172]
abbrev dktX1_deathYear_0 : List UInt8 := dkwX1_deathYear_0 ++ []
theorem dksX1_deathYear_0 : cX1_deathYear.data.toList.drop 0 = dktX1_deathYear_0 := by decide +kernel
theorem dX1_deathYear_0 : decode cX1_deathYear 0 = .ok (.aload_n 0, 1) := dk_42 (dk_at dksX1_deathYear_0 0 rfl rfl)
theorem dX1_deathYear_1 : decode cX1_deathYear 1 = .ok (.iload_n 1, 1) := dk_27 (dk_at dksX1_deathYear_0 1 rfl rfl)
theorem dX1_deathYear_2 : decode cX1_deathYear 2 = .ok (.iconst 2, 1) := dk_5 (dk_at dksX1_deathYear_0 2 rfl rfl)
theorem dX1_deathYear_3 : decode cX1_deathYear 3 = .ok (.invokevirtual 312, 3) := dk_182 1 56 (dk_at dksX1_deathYear_0 3 rfl rfl)
theorem dX1_deathYear_6 : decode cX1_deathYear 6 = .ok (.ireturn, 1) := dk_172 (dk_at dksX1_deathYear_0 6 rfl rfl)
abbrev cX1_owlsIn : ByteArray := prog_1_method_79_code
def yX1_owlsIn : MethodName := ⟨RX1, "owlsIn", "(I)I"⟩
def dkwX1_owlsIn_0 : List UInt8 := [27, 4, 16, 20, 184, 0, 20, 42, 180, 0, 43, 27, 182, 1, 62, 172]
abbrev dktX1_owlsIn_0 : List UInt8 := dkwX1_owlsIn_0 ++ []
theorem dksX1_owlsIn_0 : cX1_owlsIn.data.toList.drop 0 = dktX1_owlsIn_0 := by decide +kernel
theorem dX1_owlsIn_0 : decode cX1_owlsIn 0 = .ok (.iload_n 1, 1) := dk_27 (dk_at dksX1_owlsIn_0 0 rfl rfl)
theorem dX1_owlsIn_1 : decode cX1_owlsIn 1 = .ok (.iconst 1, 1) := dk_4 (dk_at dksX1_owlsIn_0 1 rfl rfl)
theorem dX1_owlsIn_2 : decode cX1_owlsIn 2 = .ok (.bipush 20, 2) := dk_16 20 (dk_at dksX1_owlsIn_0 2 rfl rfl)
theorem dX1_owlsIn_4 : decode cX1_owlsIn 4 = .ok (.invokestatic 20, 3) := dk_184 0 20 (dk_at dksX1_owlsIn_0 4 rfl rfl)
theorem dX1_owlsIn_7 : decode cX1_owlsIn 7 = .ok (.aload_n 0, 1) := dk_42 (dk_at dksX1_owlsIn_0 7 rfl rfl)
theorem dX1_owlsIn_8 : decode cX1_owlsIn 8 = .ok (.getfield 43, 3) := dk_180 0 43 (dk_at dksX1_owlsIn_0 8 rfl rfl)
theorem dX1_owlsIn_11 : decode cX1_owlsIn 11 = .ok (.iload_n 1, 1) := dk_27 (dk_at dksX1_owlsIn_0 11 rfl rfl)
theorem dX1_owlsIn_12 : decode cX1_owlsIn 12 = .ok (.invokevirtual 318, 3) := dk_182 1 62 (dk_at dksX1_owlsIn_0 12 rfl rfl)
theorem dX1_owlsIn_15 : decode cX1_owlsIn 15 = .ok (.ireturn, 1) := dk_172 (dk_at dksX1_owlsIn_0 15 rfl rfl)
abbrev cX1_owlsWithRoad : ByteArray := prog_1_method_80_code
def yX1_owlsWithRoad : MethodName := ⟨RX1, "owlsWithRoad", "(IZI)I"⟩
def dkwX1_owlsWithRoad_1 : List UInt8 := [172]
abbrev dktX1_owlsWithRoad_1 : List UInt8 := dkwX1_owlsWithRoad_1 ++ []
def dkwX1_owlsWithRoad_0 : List UInt8 := [27, 3, 16, 7, 184, 0, 20, 29, 4, 16, 20, 184, 0, 20, 42, 180, 0, 43, 27, 28, 29, 182, 1, 65]
abbrev dktX1_owlsWithRoad_0 : List UInt8 := dkwX1_owlsWithRoad_0 ++ dktX1_owlsWithRoad_1
theorem dksX1_owlsWithRoad_0 : cX1_owlsWithRoad.data.toList.drop 0 = dktX1_owlsWithRoad_0 := by decide +kernel
theorem dksX1_owlsWithRoad_1 : cX1_owlsWithRoad.data.toList.drop 24 = dktX1_owlsWithRoad_1 := dk_seg dksX1_owlsWithRoad_0 24 rfl rfl
theorem dX1_owlsWithRoad_0 : decode cX1_owlsWithRoad 0 = .ok (.iload_n 1, 1) := dk_27 (dk_at dksX1_owlsWithRoad_0 0 rfl rfl)
theorem dX1_owlsWithRoad_1 : decode cX1_owlsWithRoad 1 = .ok (.iconst 0, 1) := dk_3 (dk_at dksX1_owlsWithRoad_0 1 rfl rfl)
theorem dX1_owlsWithRoad_2 : decode cX1_owlsWithRoad 2 = .ok (.bipush 7, 2) := dk_16 7 (dk_at dksX1_owlsWithRoad_0 2 rfl rfl)
theorem dX1_owlsWithRoad_4 : decode cX1_owlsWithRoad 4 = .ok (.invokestatic 20, 3) := dk_184 0 20 (dk_at dksX1_owlsWithRoad_0 4 rfl rfl)
theorem dX1_owlsWithRoad_7 : decode cX1_owlsWithRoad 7 = .ok (.iload_n 3, 1) := dk_29 (dk_at dksX1_owlsWithRoad_0 7 rfl rfl)
theorem dX1_owlsWithRoad_8 : decode cX1_owlsWithRoad 8 = .ok (.iconst 1, 1) := dk_4 (dk_at dksX1_owlsWithRoad_0 8 rfl rfl)
theorem dX1_owlsWithRoad_9 : decode cX1_owlsWithRoad 9 = .ok (.bipush 20, 2) := dk_16 20 (dk_at dksX1_owlsWithRoad_0 9 rfl rfl)
theorem dX1_owlsWithRoad_11 : decode cX1_owlsWithRoad 11 = .ok (.invokestatic 20, 3) := dk_184 0 20 (dk_at dksX1_owlsWithRoad_0 11 rfl rfl)
theorem dX1_owlsWithRoad_14 : decode cX1_owlsWithRoad 14 = .ok (.aload_n 0, 1) := dk_42 (dk_at dksX1_owlsWithRoad_0 14 rfl rfl)
theorem dX1_owlsWithRoad_15 : decode cX1_owlsWithRoad 15 = .ok (.getfield 43, 3) := dk_180 0 43 (dk_at dksX1_owlsWithRoad_0 15 rfl rfl)
theorem dX1_owlsWithRoad_18 : decode cX1_owlsWithRoad 18 = .ok (.iload_n 1, 1) := dk_27 (dk_at dksX1_owlsWithRoad_0 18 rfl rfl)
theorem dX1_owlsWithRoad_19 : decode cX1_owlsWithRoad 19 = .ok (.iload_n 2, 1) := dk_28 (dk_at dksX1_owlsWithRoad_0 19 rfl rfl)
theorem dX1_owlsWithRoad_20 : decode cX1_owlsWithRoad 20 = .ok (.iload_n 3, 1) := dk_29 (dk_at dksX1_owlsWithRoad_0 20 rfl rfl)
theorem dX1_owlsWithRoad_21 : decode cX1_owlsWithRoad 21 = .ok (.invokevirtual 321, 3) := dk_182 1 65 (dk_at dksX1_owlsWithRoad_0 21 rfl rfl)
theorem dX1_owlsWithRoad_24 : decode cX1_owlsWithRoad 24 = .ok (.ireturn, 1) := dk_172 (dk_at dksX1_owlsWithRoad_1 0 rfl rfl)
abbrev cX1_goBack : ByteArray := prog_1_method_16_code
def yX1_goBack : MethodName := ⟨RX1, "goBack", "()I"⟩
def dkwX1_goBack_1 : List UInt8 := [42, 180, 0, 91, 182, 0, 75, 181, 0, 43, 42, 180, 0, 43, 180, 0, 94, 172]
abbrev dktX1_goBack_1 : List UInt8 := dkwX1_goBack_1 ++ []
def dkwX1_goBack_0 : List UInt8 := [42, 180, 0, 91, 198, 0, 7, 4, 167, 0, 4, 3, 184, 0, 87, 42, 42, 180, 0, 43, 182, 0, 79, 42]
abbrev dktX1_goBack_0 : List UInt8 := dkwX1_goBack_0 ++ dktX1_goBack_1
theorem dksX1_goBack_0 : cX1_goBack.data.toList.drop 0 = dktX1_goBack_0 := by decide +kernel
theorem dksX1_goBack_1 : cX1_goBack.data.toList.drop 24 = dktX1_goBack_1 := dk_seg dksX1_goBack_0 24 rfl rfl
theorem dX1_goBack_0 : decode cX1_goBack 0 = .ok (.aload_n 0, 1) := dk_42 (dk_at dksX1_goBack_0 0 rfl rfl)
theorem dX1_goBack_1 : decode cX1_goBack 1 = .ok (.getfield 91, 3) := dk_180 0 91 (dk_at dksX1_goBack_0 1 rfl rfl)
theorem dX1_goBack_4 : decode cX1_goBack 4 = .ok (.ifnull 7, 3) := dk_198 0 7 (dk_at dksX1_goBack_0 4 rfl rfl)
theorem dX1_goBack_7 : decode cX1_goBack 7 = .ok (.iconst 1, 1) := dk_4 (dk_at dksX1_goBack_0 7 rfl rfl)
theorem dX1_goBack_8 : decode cX1_goBack 8 = .ok (.goto 4, 3) := dk_167 0 4 (dk_at dksX1_goBack_0 8 rfl rfl)
theorem dX1_goBack_11 : decode cX1_goBack 11 = .ok (.iconst 0, 1) := dk_3 (dk_at dksX1_goBack_0 11 rfl rfl)
theorem dX1_goBack_12 : decode cX1_goBack 12 = .ok (.invokestatic 87, 3) := dk_184 0 87 (dk_at dksX1_goBack_0 12 rfl rfl)
theorem dX1_goBack_15 : decode cX1_goBack 15 = .ok (.aload_n 0, 1) := dk_42 (dk_at dksX1_goBack_0 15 rfl rfl)
theorem dX1_goBack_16 : decode cX1_goBack 16 = .ok (.aload_n 0, 1) := dk_42 (dk_at dksX1_goBack_0 16 rfl rfl)
theorem dX1_goBack_17 : decode cX1_goBack 17 = .ok (.getfield 43, 3) := dk_180 0 43 (dk_at dksX1_goBack_0 17 rfl rfl)
theorem dX1_goBack_20 : decode cX1_goBack 20 = .ok (.invokevirtual 79, 3) := dk_182 0 79 (dk_at dksX1_goBack_0 20 rfl rfl)
theorem dX1_goBack_23 : decode cX1_goBack 23 = .ok (.aload_n 0, 1) := dk_42 (dk_at dksX1_goBack_0 23 rfl rfl)
theorem dX1_goBack_24 : decode cX1_goBack 24 = .ok (.aload_n 0, 1) := dk_42 (dk_at dksX1_goBack_1 0 rfl rfl)
theorem dX1_goBack_25 : decode cX1_goBack 25 = .ok (.getfield 91, 3) := dk_180 0 91 (dk_at dksX1_goBack_1 1 rfl rfl)
theorem dX1_goBack_28 : decode cX1_goBack 28 = .ok (.invokevirtual 75, 3) := dk_182 0 75 (dk_at dksX1_goBack_1 4 rfl rfl)
theorem dX1_goBack_31 : decode cX1_goBack 31 = .ok (.putfield 43, 3) := dk_181 0 43 (dk_at dksX1_goBack_1 7 rfl rfl)
theorem dX1_goBack_34 : decode cX1_goBack 34 = .ok (.aload_n 0, 1) := dk_42 (dk_at dksX1_goBack_1 10 rfl rfl)
theorem dX1_goBack_35 : decode cX1_goBack 35 = .ok (.getfield 43, 3) := dk_180 0 43 (dk_at dksX1_goBack_1 11 rfl rfl)
theorem dX1_goBack_38 : decode cX1_goBack 38 = .ok (.getfield 94, 3) := dk_180 0 94 (dk_at dksX1_goBack_1 14 rfl rfl)
theorem dX1_goBack_41 : decode cX1_goBack 41 = .ok (.ireturn, 1) := dk_172 (dk_at dksX1_goBack_1 17 rfl rfl)
abbrev cX1_append : ByteArray := prog_1_method_83_code
def yX1_append : MethodName := ⟨RX1, "append", "(I)I"⟩
def dkwX1_append_1 : List UInt8 := [3, 184, 0, 87, 42, 180, 0, 59, 27, 146, 182, 1, 78, 87, 42, 180, 0, 59, 182, 1, 75, 172]
abbrev dktX1_append_1 : List UInt8 := dkwX1_append_1 ++ []
def dkwX1_append_0 : List UInt8 := [27, 16, 33, 16, 126, 184, 0, 20, 42, 180, 0, 59, 182, 1, 75, 16, 60, 162, 0, 7, 4, 167, 0, 4]
abbrev dktX1_append_0 : List UInt8 := dkwX1_append_0 ++ dktX1_append_1
theorem dksX1_append_0 : cX1_append.data.toList.drop 0 = dktX1_append_0 := by decide +kernel
theorem dksX1_append_1 : cX1_append.data.toList.drop 24 = dktX1_append_1 := dk_seg dksX1_append_0 24 rfl rfl
theorem dX1_append_0 : decode cX1_append 0 = .ok (.iload_n 1, 1) := dk_27 (dk_at dksX1_append_0 0 rfl rfl)
theorem dX1_append_1 : decode cX1_append 1 = .ok (.bipush 33, 2) := dk_16 33 (dk_at dksX1_append_0 1 rfl rfl)
theorem dX1_append_3 : decode cX1_append 3 = .ok (.bipush 126, 2) := dk_16 126 (dk_at dksX1_append_0 3 rfl rfl)
theorem dX1_append_5 : decode cX1_append 5 = .ok (.invokestatic 20, 3) := dk_184 0 20 (dk_at dksX1_append_0 5 rfl rfl)
theorem dX1_append_8 : decode cX1_append 8 = .ok (.aload_n 0, 1) := dk_42 (dk_at dksX1_append_0 8 rfl rfl)
theorem dX1_append_9 : decode cX1_append 9 = .ok (.getfield 59, 3) := dk_180 0 59 (dk_at dksX1_append_0 9 rfl rfl)
theorem dX1_append_12 : decode cX1_append 12 = .ok (.invokevirtual 331, 3) := dk_182 1 75 (dk_at dksX1_append_0 12 rfl rfl)
theorem dX1_append_15 : decode cX1_append 15 = .ok (.bipush 60, 2) := dk_16 60 (dk_at dksX1_append_0 15 rfl rfl)
theorem dX1_append_17 : decode cX1_append 17 = .ok (.if_icmp .ge 7, 3) := dk_162 0 7 (dk_at dksX1_append_0 17 rfl rfl)
theorem dX1_append_20 : decode cX1_append 20 = .ok (.iconst 1, 1) := dk_4 (dk_at dksX1_append_0 20 rfl rfl)
theorem dX1_append_21 : decode cX1_append 21 = .ok (.goto 4, 3) := dk_167 0 4 (dk_at dksX1_append_0 21 rfl rfl)
theorem dX1_append_24 : decode cX1_append 24 = .ok (.iconst 0, 1) := dk_3 (dk_at dksX1_append_1 0 rfl rfl)
theorem dX1_append_25 : decode cX1_append 25 = .ok (.invokestatic 87, 3) := dk_184 0 87 (dk_at dksX1_append_1 1 rfl rfl)
theorem dX1_append_28 : decode cX1_append 28 = .ok (.aload_n 0, 1) := dk_42 (dk_at dksX1_append_1 4 rfl rfl)
theorem dX1_append_29 : decode cX1_append 29 = .ok (.getfield 59, 3) := dk_180 0 59 (dk_at dksX1_append_1 5 rfl rfl)
theorem dX1_append_32 : decode cX1_append 32 = .ok (.iload_n 1, 1) := dk_27 (dk_at dksX1_append_1 8 rfl rfl)
theorem dX1_append_33 : decode cX1_append 33 = .ok (.i2c, 1) := dk_146 (dk_at dksX1_append_1 9 rfl rfl)
theorem dX1_append_34 : decode cX1_append 34 = .ok (.invokevirtual 334, 3) := dk_182 1 78 (dk_at dksX1_append_1 10 rfl rfl)
theorem dX1_append_37 : decode cX1_append 37 = .ok (.pop, 1) := dk_87 (dk_at dksX1_append_1 13 rfl rfl)
theorem dX1_append_38 : decode cX1_append 38 = .ok (.aload_n 0, 1) := dk_42 (dk_at dksX1_append_1 14 rfl rfl)
theorem dX1_append_39 : decode cX1_append 39 = .ok (.getfield 59, 3) := dk_180 0 59 (dk_at dksX1_append_1 15 rfl rfl)
theorem dX1_append_42 : decode cX1_append 42 = .ok (.invokevirtual 331, 3) := dk_182 1 75 (dk_at dksX1_append_1 18 rfl rfl)
theorem dX1_append_45 : decode cX1_append 45 = .ok (.ireturn, 1) := dk_172 (dk_at dksX1_append_1 21 rfl rfl)
abbrev cX1_doWorks : ByteArray := prog_1_method_89_code
def yX1_doWorks : MethodName := ⟨RX1, "doWorks", "()I"⟩
def dkwX1_doWorks_4 : List UInt8 := [29, 172]
abbrev dktX1_doWorks_4 : List UInt8 := dkwX1_doWorks_4 ++ []
def dkwX1_doWorks_3 : List UInt8 := [153, 0, 24, 42, 43, 180, 1, 109, 29, 182, 0, 252, 192, 1, 94, 182, 1, 116, 132, 3, 1, 167, 255, 215]
abbrev dktX1_doWorks_3 : List UInt8 := dkwX1_doWorks_3 ++ dktX1_doWorks_4
def dkwX1_doWorks_2 : List UInt8 := [3, 62, 29, 28, 162, 0, 42, 42, 43, 180, 1, 109, 29, 182, 0, 252, 192, 1, 94, 182, 1, 112]
abbrev dktX1_doWorks_2 : List UInt8 := dkwX1_doWorks_2 ++ dktX1_doWorks_3
def dkwX1_doWorks_1 : List UInt8 := [3, 184, 0, 87, 42, 182, 0, 132, 42, 180, 0, 59, 3, 182, 1, 82, 43, 180, 1, 109, 182, 0, 63, 61]
abbrev dktX1_doWorks_1 : List UInt8 := dkwX1_doWorks_1 ++ dktX1_doWorks_2
def dkwX1_doWorks_0 : List UInt8 := [187, 1, 85, 89, 42, 180, 0, 59, 183, 1, 87, 76, 43, 182, 1, 90, 2, 160, 0, 7, 4, 167, 0, 4]
abbrev dktX1_doWorks_0 : List UInt8 := dkwX1_doWorks_0 ++ dktX1_doWorks_1
theorem dksX1_doWorks_0 : cX1_doWorks.data.toList.drop 0 = dktX1_doWorks_0 := by decide +kernel
theorem dksX1_doWorks_1 : cX1_doWorks.data.toList.drop 24 = dktX1_doWorks_1 := dk_seg dksX1_doWorks_0 24 rfl rfl
theorem dksX1_doWorks_2 : cX1_doWorks.data.toList.drop 48 = dktX1_doWorks_2 := dk_seg dksX1_doWorks_1 24 rfl rfl
theorem dksX1_doWorks_3 : cX1_doWorks.data.toList.drop 70 = dktX1_doWorks_3 := dk_seg dksX1_doWorks_2 22 rfl rfl
theorem dksX1_doWorks_4 : cX1_doWorks.data.toList.drop 94 = dktX1_doWorks_4 := dk_seg dksX1_doWorks_3 24 rfl rfl
theorem dX1_doWorks_0 : decode cX1_doWorks 0 = .ok (.new 341, 3) := dk_187 1 85 (dk_at dksX1_doWorks_0 0 rfl rfl)
theorem dX1_doWorks_3 : decode cX1_doWorks 3 = .ok (.dup, 1) := dk_89 (dk_at dksX1_doWorks_0 3 rfl rfl)
theorem dX1_doWorks_4 : decode cX1_doWorks 4 = .ok (.aload_n 0, 1) := dk_42 (dk_at dksX1_doWorks_0 4 rfl rfl)
theorem dX1_doWorks_5 : decode cX1_doWorks 5 = .ok (.getfield 59, 3) := dk_180 0 59 (dk_at dksX1_doWorks_0 5 rfl rfl)
theorem dX1_doWorks_8 : decode cX1_doWorks 8 = .ok (.invokespecial 343, 3) := dk_183 1 87 (dk_at dksX1_doWorks_0 8 rfl rfl)
theorem dX1_doWorks_11 : decode cX1_doWorks 11 = .ok (.astore_n 1, 1) := dk_76 (dk_at dksX1_doWorks_0 11 rfl rfl)
theorem dX1_doWorks_12 : decode cX1_doWorks 12 = .ok (.aload_n 1, 1) := dk_43 (dk_at dksX1_doWorks_0 12 rfl rfl)
theorem dX1_doWorks_13 : decode cX1_doWorks 13 = .ok (.invokevirtual 346, 3) := dk_182 1 90 (dk_at dksX1_doWorks_0 13 rfl rfl)
theorem dX1_doWorks_16 : decode cX1_doWorks 16 = .ok (.iconst (-1), 1) := dk_2 (dk_at dksX1_doWorks_0 16 rfl rfl)
theorem dX1_doWorks_17 : decode cX1_doWorks 17 = .ok (.if_icmp .ne 7, 3) := dk_160 0 7 (dk_at dksX1_doWorks_0 17 rfl rfl)
theorem dX1_doWorks_20 : decode cX1_doWorks 20 = .ok (.iconst 1, 1) := dk_4 (dk_at dksX1_doWorks_0 20 rfl rfl)
theorem dX1_doWorks_21 : decode cX1_doWorks 21 = .ok (.goto 4, 3) := dk_167 0 4 (dk_at dksX1_doWorks_0 21 rfl rfl)
theorem dX1_doWorks_24 : decode cX1_doWorks 24 = .ok (.iconst 0, 1) := dk_3 (dk_at dksX1_doWorks_1 0 rfl rfl)
theorem dX1_doWorks_25 : decode cX1_doWorks 25 = .ok (.invokestatic 87, 3) := dk_184 0 87 (dk_at dksX1_doWorks_1 1 rfl rfl)
theorem dX1_doWorks_28 : decode cX1_doWorks 28 = .ok (.aload_n 0, 1) := dk_42 (dk_at dksX1_doWorks_1 4 rfl rfl)
theorem dX1_doWorks_29 : decode cX1_doWorks 29 = .ok (.invokevirtual 132, 3) := dk_182 0 132 (dk_at dksX1_doWorks_1 5 rfl rfl)
theorem dX1_doWorks_32 : decode cX1_doWorks 32 = .ok (.aload_n 0, 1) := dk_42 (dk_at dksX1_doWorks_1 8 rfl rfl)
theorem dX1_doWorks_33 : decode cX1_doWorks 33 = .ok (.getfield 59, 3) := dk_180 0 59 (dk_at dksX1_doWorks_1 9 rfl rfl)
theorem dX1_doWorks_36 : decode cX1_doWorks 36 = .ok (.iconst 0, 1) := dk_3 (dk_at dksX1_doWorks_1 12 rfl rfl)
theorem dX1_doWorks_37 : decode cX1_doWorks 37 = .ok (.invokevirtual 338, 3) := dk_182 1 82 (dk_at dksX1_doWorks_1 13 rfl rfl)
theorem dX1_doWorks_40 : decode cX1_doWorks 40 = .ok (.aload_n 1, 1) := dk_43 (dk_at dksX1_doWorks_1 16 rfl rfl)
theorem dX1_doWorks_41 : decode cX1_doWorks 41 = .ok (.getfield 365, 3) := dk_180 1 109 (dk_at dksX1_doWorks_1 17 rfl rfl)
theorem dX1_doWorks_44 : decode cX1_doWorks 44 = .ok (.invokevirtual 63, 3) := dk_182 0 63 (dk_at dksX1_doWorks_1 20 rfl rfl)
theorem dX1_doWorks_47 : decode cX1_doWorks 47 = .ok (.istore_n 2, 1) := dk_61 (dk_at dksX1_doWorks_1 23 rfl rfl)
theorem dX1_doWorks_48 : decode cX1_doWorks 48 = .ok (.iconst 0, 1) := dk_3 (dk_at dksX1_doWorks_2 0 rfl rfl)
theorem dX1_doWorks_49 : decode cX1_doWorks 49 = .ok (.istore_n 3, 1) := dk_62 (dk_at dksX1_doWorks_2 1 rfl rfl)
theorem dX1_doWorks_50 : decode cX1_doWorks 50 = .ok (.iload_n 3, 1) := dk_29 (dk_at dksX1_doWorks_2 2 rfl rfl)
theorem dX1_doWorks_51 : decode cX1_doWorks 51 = .ok (.iload_n 2, 1) := dk_28 (dk_at dksX1_doWorks_2 3 rfl rfl)
theorem dX1_doWorks_52 : decode cX1_doWorks 52 = .ok (.if_icmp .ge 42, 3) := dk_162 0 42 (dk_at dksX1_doWorks_2 4 rfl rfl)
theorem dX1_doWorks_55 : decode cX1_doWorks 55 = .ok (.aload_n 0, 1) := dk_42 (dk_at dksX1_doWorks_2 7 rfl rfl)
theorem dX1_doWorks_56 : decode cX1_doWorks 56 = .ok (.aload_n 1, 1) := dk_43 (dk_at dksX1_doWorks_2 8 rfl rfl)
theorem dX1_doWorks_57 : decode cX1_doWorks 57 = .ok (.getfield 365, 3) := dk_180 1 109 (dk_at dksX1_doWorks_2 9 rfl rfl)
theorem dX1_doWorks_60 : decode cX1_doWorks 60 = .ok (.iload_n 3, 1) := dk_29 (dk_at dksX1_doWorks_2 12 rfl rfl)
theorem dX1_doWorks_61 : decode cX1_doWorks 61 = .ok (.invokevirtual 252, 3) := dk_182 0 252 (dk_at dksX1_doWorks_2 13 rfl rfl)
theorem dX1_doWorks_64 : decode cX1_doWorks 64 = .ok (.checkcast 350, 3) := dk_192 1 94 (dk_at dksX1_doWorks_2 16 rfl rfl)
theorem dX1_doWorks_67 : decode cX1_doWorks 67 = .ok (.invokevirtual 368, 3) := dk_182 1 112 (dk_at dksX1_doWorks_2 19 rfl rfl)
theorem dX1_doWorks_70 : decode cX1_doWorks 70 = .ok (.ifCond .eq 24, 3) := dk_153 0 24 (dk_at dksX1_doWorks_3 0 rfl rfl)
theorem dX1_doWorks_73 : decode cX1_doWorks 73 = .ok (.aload_n 0, 1) := dk_42 (dk_at dksX1_doWorks_3 3 rfl rfl)
theorem dX1_doWorks_74 : decode cX1_doWorks 74 = .ok (.aload_n 1, 1) := dk_43 (dk_at dksX1_doWorks_3 4 rfl rfl)
theorem dX1_doWorks_75 : decode cX1_doWorks 75 = .ok (.getfield 365, 3) := dk_180 1 109 (dk_at dksX1_doWorks_3 5 rfl rfl)
theorem dX1_doWorks_78 : decode cX1_doWorks 78 = .ok (.iload_n 3, 1) := dk_29 (dk_at dksX1_doWorks_3 8 rfl rfl)
theorem dX1_doWorks_79 : decode cX1_doWorks 79 = .ok (.invokevirtual 252, 3) := dk_182 0 252 (dk_at dksX1_doWorks_3 9 rfl rfl)
theorem dX1_doWorks_82 : decode cX1_doWorks 82 = .ok (.checkcast 350, 3) := dk_192 1 94 (dk_at dksX1_doWorks_3 12 rfl rfl)
theorem dX1_doWorks_85 : decode cX1_doWorks 85 = .ok (.invokevirtual 372, 3) := dk_182 1 116 (dk_at dksX1_doWorks_3 15 rfl rfl)
theorem dX1_doWorks_88 : decode cX1_doWorks 88 = .ok (.iinc 3 1, 3) := dk_132 3 1 (dk_at dksX1_doWorks_3 18 rfl rfl)
theorem dX1_doWorks_91 : decode cX1_doWorks 91 = .ok (.goto (-41), 3) := dk_167 255 215 (dk_at dksX1_doWorks_3 21 rfl rfl)
theorem dX1_doWorks_94 : decode cX1_doWorks 94 = .ok (.iload_n 3, 1) := dk_29 (dk_at dksX1_doWorks_4 0 rfl rfl)
theorem dX1_doWorks_95 : decode cX1_doWorks 95 = .ok (.ireturn, 1) := dk_172 (dk_at dksX1_doWorks_4 1 rfl rfl)
abbrev cX1_isPossible : ByteArray := prog_1_method_86_code
def yX1_isPossible : MethodName := ⟨RX1, "isPossible", "(LOwlYears$Work;)Z"⟩
def dkwX1_isPossible_4 : List UInt8 := [43, 180, 1, 99, 182, 0, 156, 172, 42, 43, 180, 1, 99, 43, 180, 1, 93, 184, 1, 105, 182, 0, 128, 172]
abbrev dktX1_isPossible_4 : List UInt8 := dkwX1_isPossible_4 ++ []
def dkwX1_isPossible_3 : List UInt8 := [43, 180, 1, 99, 43, 180, 1, 104, 182, 0, 171, 153, 0, 7, 4, 167, 0, 4, 3, 172, 42, 180, 0, 43]
abbrev dktX1_isPossible_3 : List UInt8 := dkwX1_isPossible_3 ++ dktX1_isPossible_4
def dkwX1_isPossible_2 : List UInt8 := [42, 43, 180, 1, 99, 182, 0, 188, 172, 43, 180, 1, 99, 42, 182, 1, 102, 162, 0, 25, 42, 180, 0, 43]
abbrev dktX1_isPossible_2 : List UInt8 := dkwX1_isPossible_2 ++ dktX1_isPossible_3
def dkwX1_isPossible_1 : List UInt8 := [171, 0, 0, 0, 0, 0, 0, 92, 0, 0, 0, 3, 0, 0, 0, 98, 0, 0, 0, 80, 0, 0, 0, 111, 0, 0, 0, 45, 0, 0, 0, 121, 0, 0, 0, 36]
abbrev dktX1_isPossible_1 : List UInt8 := dkwX1_isPossible_1 ++ dktX1_isPossible_2
def dkwX1_isPossible_0 : List UInt8 := [43, 180, 1, 93]
abbrev dktX1_isPossible_0 : List UInt8 := dkwX1_isPossible_0 ++ dktX1_isPossible_1
theorem dksX1_isPossible_0 : cX1_isPossible.data.toList.drop 0 = dktX1_isPossible_0 := by decide +kernel
theorem dksX1_isPossible_1 : cX1_isPossible.data.toList.drop 4 = dktX1_isPossible_1 := dk_seg dksX1_isPossible_0 4 rfl rfl
theorem dksX1_isPossible_2 : cX1_isPossible.data.toList.drop 40 = dktX1_isPossible_2 := dk_seg dksX1_isPossible_1 36 rfl rfl
theorem dksX1_isPossible_3 : cX1_isPossible.data.toList.drop 64 = dktX1_isPossible_3 := dk_seg dksX1_isPossible_2 24 rfl rfl
theorem dksX1_isPossible_4 : cX1_isPossible.data.toList.drop 88 = dktX1_isPossible_4 := dk_seg dksX1_isPossible_3 24 rfl rfl
theorem dX1_isPossible_0 : decode cX1_isPossible 0 = .ok (.aload_n 1, 1) := dk_43 (dk_at dksX1_isPossible_0 0 rfl rfl)
theorem dX1_isPossible_1 : decode cX1_isPossible 1 = .ok (.getfield 349, 3) := dk_180 1 93 (dk_at dksX1_isPossible_0 1 rfl rfl)
theorem dX1_isPossible_4 : decode cX1_isPossible 4 = .ok (.lookupswitch 92 #[(98, 80), (111, 45), (121, 36)], 36) := by decide +kernel
theorem dX1_isPossible_40 : decode cX1_isPossible 40 = .ok (.aload_n 0, 1) := dk_42 (dk_at dksX1_isPossible_2 0 rfl rfl)
theorem dX1_isPossible_41 : decode cX1_isPossible 41 = .ok (.aload_n 1, 1) := dk_43 (dk_at dksX1_isPossible_2 1 rfl rfl)
theorem dX1_isPossible_42 : decode cX1_isPossible 42 = .ok (.getfield 355, 3) := dk_180 1 99 (dk_at dksX1_isPossible_2 2 rfl rfl)
theorem dX1_isPossible_45 : decode cX1_isPossible 45 = .ok (.invokevirtual 188, 3) := dk_182 0 188 (dk_at dksX1_isPossible_2 5 rfl rfl)
theorem dX1_isPossible_48 : decode cX1_isPossible 48 = .ok (.ireturn, 1) := dk_172 (dk_at dksX1_isPossible_2 8 rfl rfl)
theorem dX1_isPossible_49 : decode cX1_isPossible 49 = .ok (.aload_n 1, 1) := dk_43 (dk_at dksX1_isPossible_2 9 rfl rfl)
theorem dX1_isPossible_50 : decode cX1_isPossible 50 = .ok (.getfield 355, 3) := dk_180 1 99 (dk_at dksX1_isPossible_2 10 rfl rfl)
theorem dX1_isPossible_53 : decode cX1_isPossible 53 = .ok (.aload_n 0, 1) := dk_42 (dk_at dksX1_isPossible_2 13 rfl rfl)
theorem dX1_isPossible_54 : decode cX1_isPossible 54 = .ok (.invokevirtual 358, 3) := dk_182 1 102 (dk_at dksX1_isPossible_2 14 rfl rfl)
theorem dX1_isPossible_57 : decode cX1_isPossible 57 = .ok (.if_icmp .ge 25, 3) := dk_162 0 25 (dk_at dksX1_isPossible_2 17 rfl rfl)
theorem dX1_isPossible_60 : decode cX1_isPossible 60 = .ok (.aload_n 0, 1) := dk_42 (dk_at dksX1_isPossible_2 20 rfl rfl)
theorem dX1_isPossible_61 : decode cX1_isPossible 61 = .ok (.getfield 43, 3) := dk_180 0 43 (dk_at dksX1_isPossible_2 21 rfl rfl)
theorem dX1_isPossible_64 : decode cX1_isPossible 64 = .ok (.aload_n 1, 1) := dk_43 (dk_at dksX1_isPossible_3 0 rfl rfl)
theorem dX1_isPossible_65 : decode cX1_isPossible 65 = .ok (.getfield 355, 3) := dk_180 1 99 (dk_at dksX1_isPossible_3 1 rfl rfl)
theorem dX1_isPossible_68 : decode cX1_isPossible 68 = .ok (.aload_n 1, 1) := dk_43 (dk_at dksX1_isPossible_3 4 rfl rfl)
theorem dX1_isPossible_69 : decode cX1_isPossible 69 = .ok (.getfield 360, 3) := dk_180 1 104 (dk_at dksX1_isPossible_3 5 rfl rfl)
theorem dX1_isPossible_72 : decode cX1_isPossible 72 = .ok (.invokevirtual 171, 3) := dk_182 0 171 (dk_at dksX1_isPossible_3 8 rfl rfl)
theorem dX1_isPossible_75 : decode cX1_isPossible 75 = .ok (.ifCond .eq 7, 3) := dk_153 0 7 (dk_at dksX1_isPossible_3 11 rfl rfl)
theorem dX1_isPossible_78 : decode cX1_isPossible 78 = .ok (.iconst 1, 1) := dk_4 (dk_at dksX1_isPossible_3 14 rfl rfl)
theorem dX1_isPossible_79 : decode cX1_isPossible 79 = .ok (.goto 4, 3) := dk_167 0 4 (dk_at dksX1_isPossible_3 15 rfl rfl)
theorem dX1_isPossible_82 : decode cX1_isPossible 82 = .ok (.iconst 0, 1) := dk_3 (dk_at dksX1_isPossible_3 18 rfl rfl)
theorem dX1_isPossible_83 : decode cX1_isPossible 83 = .ok (.ireturn, 1) := dk_172 (dk_at dksX1_isPossible_3 19 rfl rfl)
theorem dX1_isPossible_84 : decode cX1_isPossible 84 = .ok (.aload_n 0, 1) := dk_42 (dk_at dksX1_isPossible_3 20 rfl rfl)
theorem dX1_isPossible_85 : decode cX1_isPossible 85 = .ok (.getfield 43, 3) := dk_180 0 43 (dk_at dksX1_isPossible_3 21 rfl rfl)
theorem dX1_isPossible_88 : decode cX1_isPossible 88 = .ok (.aload_n 1, 1) := dk_43 (dk_at dksX1_isPossible_4 0 rfl rfl)
theorem dX1_isPossible_89 : decode cX1_isPossible 89 = .ok (.getfield 355, 3) := dk_180 1 99 (dk_at dksX1_isPossible_4 1 rfl rfl)
theorem dX1_isPossible_92 : decode cX1_isPossible 92 = .ok (.invokevirtual 156, 3) := dk_182 0 156 (dk_at dksX1_isPossible_4 4 rfl rfl)
theorem dX1_isPossible_95 : decode cX1_isPossible 95 = .ok (.ireturn, 1) := dk_172 (dk_at dksX1_isPossible_4 7 rfl rfl)
theorem dX1_isPossible_96 : decode cX1_isPossible 96 = .ok (.aload_n 0, 1) := dk_42 (dk_at dksX1_isPossible_4 8 rfl rfl)
theorem dX1_isPossible_97 : decode cX1_isPossible 97 = .ok (.aload_n 1, 1) := dk_43 (dk_at dksX1_isPossible_4 9 rfl rfl)
theorem dX1_isPossible_98 : decode cX1_isPossible 98 = .ok (.getfield 355, 3) := dk_180 1 99 (dk_at dksX1_isPossible_4 10 rfl rfl)
theorem dX1_isPossible_101 : decode cX1_isPossible 101 = .ok (.aload_n 1, 1) := dk_43 (dk_at dksX1_isPossible_4 13 rfl rfl)
theorem dX1_isPossible_102 : decode cX1_isPossible 102 = .ok (.getfield 349, 3) := dk_180 1 93 (dk_at dksX1_isPossible_4 14 rfl rfl)
theorem dX1_isPossible_105 : decode cX1_isPossible 105 = .ok (.invokestatic 361, 3) := dk_184 1 105 (dk_at dksX1_isPossible_4 17 rfl rfl)
theorem dX1_isPossible_108 : decode cX1_isPossible 108 = .ok (.invokevirtual 128, 3) := dk_182 0 128 (dk_at dksX1_isPossible_4 20 rfl rfl)
theorem dX1_isPossible_111 : decode cX1_isPossible 111 = .ok (.ireturn, 1) := dk_172 (dk_at dksX1_isPossible_4 23 rfl rfl)
abbrev cX1_kindBy : ByteArray := prog_1_method_87_code
def yX1_kindBy : MethodName := ⟨RX1, "kindBy", "(C)I"⟩
def dkwX1_kindBy_1 : List UInt8 := [160, 0, 7, 5, 167, 0, 4, 6, 172]
abbrev dktX1_kindBy_1 : List UInt8 := dkwX1_kindBy_1 ++ []
def dkwX1_kindBy_0 : List UInt8 := [26, 16, 102, 160, 0, 7, 3, 167, 0, 24, 26, 16, 119, 160, 0, 7, 4, 167, 0, 14, 26, 16, 109]
abbrev dktX1_kindBy_0 : List UInt8 := dkwX1_kindBy_0 ++ dktX1_kindBy_1
theorem dksX1_kindBy_0 : cX1_kindBy.data.toList.drop 0 = dktX1_kindBy_0 := by decide +kernel
theorem dksX1_kindBy_1 : cX1_kindBy.data.toList.drop 23 = dktX1_kindBy_1 := dk_seg dksX1_kindBy_0 23 rfl rfl
theorem dX1_kindBy_0 : decode cX1_kindBy 0 = .ok (.iload_n 0, 1) := dk_26 (dk_at dksX1_kindBy_0 0 rfl rfl)
theorem dX1_kindBy_1 : decode cX1_kindBy 1 = .ok (.bipush 102, 2) := dk_16 102 (dk_at dksX1_kindBy_0 1 rfl rfl)
theorem dX1_kindBy_3 : decode cX1_kindBy 3 = .ok (.if_icmp .ne 7, 3) := dk_160 0 7 (dk_at dksX1_kindBy_0 3 rfl rfl)
theorem dX1_kindBy_6 : decode cX1_kindBy 6 = .ok (.iconst 0, 1) := dk_3 (dk_at dksX1_kindBy_0 6 rfl rfl)
theorem dX1_kindBy_7 : decode cX1_kindBy 7 = .ok (.goto 24, 3) := dk_167 0 24 (dk_at dksX1_kindBy_0 7 rfl rfl)
theorem dX1_kindBy_10 : decode cX1_kindBy 10 = .ok (.iload_n 0, 1) := dk_26 (dk_at dksX1_kindBy_0 10 rfl rfl)
theorem dX1_kindBy_11 : decode cX1_kindBy 11 = .ok (.bipush 119, 2) := dk_16 119 (dk_at dksX1_kindBy_0 11 rfl rfl)
theorem dX1_kindBy_13 : decode cX1_kindBy 13 = .ok (.if_icmp .ne 7, 3) := dk_160 0 7 (dk_at dksX1_kindBy_0 13 rfl rfl)
theorem dX1_kindBy_16 : decode cX1_kindBy 16 = .ok (.iconst 1, 1) := dk_4 (dk_at dksX1_kindBy_0 16 rfl rfl)
theorem dX1_kindBy_17 : decode cX1_kindBy 17 = .ok (.goto 14, 3) := dk_167 0 14 (dk_at dksX1_kindBy_0 17 rfl rfl)
theorem dX1_kindBy_20 : decode cX1_kindBy 20 = .ok (.iload_n 0, 1) := dk_26 (dk_at dksX1_kindBy_0 20 rfl rfl)
theorem dX1_kindBy_21 : decode cX1_kindBy 21 = .ok (.bipush 109, 2) := dk_16 109 (dk_at dksX1_kindBy_0 21 rfl rfl)
theorem dX1_kindBy_23 : decode cX1_kindBy 23 = .ok (.if_icmp .ne 7, 3) := dk_160 0 7 (dk_at dksX1_kindBy_1 0 rfl rfl)
theorem dX1_kindBy_26 : decode cX1_kindBy 26 = .ok (.iconst 2, 1) := dk_5 (dk_at dksX1_kindBy_1 3 rfl rfl)
theorem dX1_kindBy_27 : decode cX1_kindBy 27 = .ok (.goto 4, 3) := dk_167 0 4 (dk_at dksX1_kindBy_1 4 rfl rfl)
theorem dX1_kindBy_30 : decode cX1_kindBy 30 = .ok (.iconst 3, 1) := dk_6 (dk_at dksX1_kindBy_1 7 rfl rfl)
theorem dX1_kindBy_31 : decode cX1_kindBy 31 = .ok (.ireturn, 1) := dk_172 (dk_at dksX1_kindBy_1 8 rfl rfl)
abbrev cX1_happen : ByteArray := prog_1_method_88_code
def yX1_happen : MethodName := ⟨RX1, "happen", "(LOwlYears$Work;)V"⟩
def dkwX1_happen_4 : List UInt8 := [167, 0, 21, 42, 180, 0, 43, 43, 180, 1, 99, 43, 180, 1, 93, 184, 1, 105, 182, 0, 139, 177]
abbrev dktX1_happen_4 : List UInt8 := dkwX1_happen_4 ++ []
def dkwX1_happen_3 : List UInt8 := [180, 1, 104, 4, 182, 0, 174, 87, 167, 0, 36, 42, 180, 0, 43, 43, 180, 1, 99, 182, 0, 159, 87]
abbrev dktX1_happen_3 : List UInt8 := dkwX1_happen_3 ++ dktX1_happen_4
def dkwX1_happen_2 : List UInt8 := [42, 180, 0, 43, 43, 180, 1, 99, 182, 0, 191, 167, 0, 56, 42, 180, 0, 43, 43, 180, 1, 99, 43]
abbrev dktX1_happen_2 : List UInt8 := dkwX1_happen_2 ++ dktX1_happen_3
def dkwX1_happen_1 : List UInt8 := [171, 0, 0, 0, 0, 0, 0, 85, 0, 0, 0, 3, 0, 0, 0, 98, 0, 0, 0, 70, 0, 0, 0, 111, 0, 0, 0, 50, 0, 0, 0, 121, 0, 0, 0, 36]
abbrev dktX1_happen_1 : List UInt8 := dkwX1_happen_1 ++ dktX1_happen_2
def dkwX1_happen_0 : List UInt8 := [43, 180, 1, 93]
abbrev dktX1_happen_0 : List UInt8 := dkwX1_happen_0 ++ dktX1_happen_1
theorem dksX1_happen_0 : cX1_happen.data.toList.drop 0 = dktX1_happen_0 := by decide +kernel
theorem dksX1_happen_1 : cX1_happen.data.toList.drop 4 = dktX1_happen_1 := dk_seg dksX1_happen_0 4 rfl rfl
theorem dksX1_happen_2 : cX1_happen.data.toList.drop 40 = dktX1_happen_2 := dk_seg dksX1_happen_1 36 rfl rfl
theorem dksX1_happen_3 : cX1_happen.data.toList.drop 63 = dktX1_happen_3 := dk_seg dksX1_happen_2 23 rfl rfl
theorem dksX1_happen_4 : cX1_happen.data.toList.drop 86 = dktX1_happen_4 := dk_seg dksX1_happen_3 23 rfl rfl
theorem dX1_happen_0 : decode cX1_happen 0 = .ok (.aload_n 1, 1) := dk_43 (dk_at dksX1_happen_0 0 rfl rfl)
theorem dX1_happen_1 : decode cX1_happen 1 = .ok (.getfield 349, 3) := dk_180 1 93 (dk_at dksX1_happen_0 1 rfl rfl)
theorem dX1_happen_4 : decode cX1_happen 4 = .ok (.lookupswitch 85 #[(98, 70), (111, 50), (121, 36)], 36) := by decide +kernel
theorem dX1_happen_40 : decode cX1_happen 40 = .ok (.aload_n 0, 1) := dk_42 (dk_at dksX1_happen_2 0 rfl rfl)
theorem dX1_happen_41 : decode cX1_happen 41 = .ok (.getfield 43, 3) := dk_180 0 43 (dk_at dksX1_happen_2 1 rfl rfl)
theorem dX1_happen_44 : decode cX1_happen 44 = .ok (.aload_n 1, 1) := dk_43 (dk_at dksX1_happen_2 4 rfl rfl)
theorem dX1_happen_45 : decode cX1_happen 45 = .ok (.getfield 355, 3) := dk_180 1 99 (dk_at dksX1_happen_2 5 rfl rfl)
theorem dX1_happen_48 : decode cX1_happen 48 = .ok (.invokevirtual 191, 3) := dk_182 0 191 (dk_at dksX1_happen_2 8 rfl rfl)
theorem dX1_happen_51 : decode cX1_happen 51 = .ok (.goto 56, 3) := dk_167 0 56 (dk_at dksX1_happen_2 11 rfl rfl)
theorem dX1_happen_54 : decode cX1_happen 54 = .ok (.aload_n 0, 1) := dk_42 (dk_at dksX1_happen_2 14 rfl rfl)
theorem dX1_happen_55 : decode cX1_happen 55 = .ok (.getfield 43, 3) := dk_180 0 43 (dk_at dksX1_happen_2 15 rfl rfl)
theorem dX1_happen_58 : decode cX1_happen 58 = .ok (.aload_n 1, 1) := dk_43 (dk_at dksX1_happen_2 18 rfl rfl)
theorem dX1_happen_59 : decode cX1_happen 59 = .ok (.getfield 355, 3) := dk_180 1 99 (dk_at dksX1_happen_2 19 rfl rfl)
theorem dX1_happen_62 : decode cX1_happen 62 = .ok (.aload_n 1, 1) := dk_43 (dk_at dksX1_happen_2 22 rfl rfl)
theorem dX1_happen_63 : decode cX1_happen 63 = .ok (.getfield 360, 3) := dk_180 1 104 (dk_at dksX1_happen_3 0 rfl rfl)
theorem dX1_happen_66 : decode cX1_happen 66 = .ok (.iconst 1, 1) := dk_4 (dk_at dksX1_happen_3 3 rfl rfl)
theorem dX1_happen_67 : decode cX1_happen 67 = .ok (.invokevirtual 174, 3) := dk_182 0 174 (dk_at dksX1_happen_3 4 rfl rfl)
theorem dX1_happen_70 : decode cX1_happen 70 = .ok (.pop, 1) := dk_87 (dk_at dksX1_happen_3 7 rfl rfl)
theorem dX1_happen_71 : decode cX1_happen 71 = .ok (.goto 36, 3) := dk_167 0 36 (dk_at dksX1_happen_3 8 rfl rfl)
theorem dX1_happen_74 : decode cX1_happen 74 = .ok (.aload_n 0, 1) := dk_42 (dk_at dksX1_happen_3 11 rfl rfl)
theorem dX1_happen_75 : decode cX1_happen 75 = .ok (.getfield 43, 3) := dk_180 0 43 (dk_at dksX1_happen_3 12 rfl rfl)
theorem dX1_happen_78 : decode cX1_happen 78 = .ok (.aload_n 1, 1) := dk_43 (dk_at dksX1_happen_3 15 rfl rfl)
theorem dX1_happen_79 : decode cX1_happen 79 = .ok (.getfield 355, 3) := dk_180 1 99 (dk_at dksX1_happen_3 16 rfl rfl)
theorem dX1_happen_82 : decode cX1_happen 82 = .ok (.invokevirtual 159, 3) := dk_182 0 159 (dk_at dksX1_happen_3 19 rfl rfl)
theorem dX1_happen_85 : decode cX1_happen 85 = .ok (.pop, 1) := dk_87 (dk_at dksX1_happen_3 22 rfl rfl)
theorem dX1_happen_86 : decode cX1_happen 86 = .ok (.goto 21, 3) := dk_167 0 21 (dk_at dksX1_happen_4 0 rfl rfl)
theorem dX1_happen_89 : decode cX1_happen 89 = .ok (.aload_n 0, 1) := dk_42 (dk_at dksX1_happen_4 3 rfl rfl)
theorem dX1_happen_90 : decode cX1_happen 90 = .ok (.getfield 43, 3) := dk_180 0 43 (dk_at dksX1_happen_4 4 rfl rfl)
theorem dX1_happen_93 : decode cX1_happen 93 = .ok (.aload_n 1, 1) := dk_43 (dk_at dksX1_happen_4 7 rfl rfl)
theorem dX1_happen_94 : decode cX1_happen 94 = .ok (.getfield 355, 3) := dk_180 1 99 (dk_at dksX1_happen_4 8 rfl rfl)
theorem dX1_happen_97 : decode cX1_happen 97 = .ok (.aload_n 1, 1) := dk_43 (dk_at dksX1_happen_4 11 rfl rfl)
theorem dX1_happen_98 : decode cX1_happen 98 = .ok (.getfield 349, 3) := dk_180 1 93 (dk_at dksX1_happen_4 12 rfl rfl)
theorem dX1_happen_101 : decode cX1_happen 101 = .ok (.invokestatic 361, 3) := dk_184 1 105 (dk_at dksX1_happen_4 15 rfl rfl)
theorem dX1_happen_104 : decode cX1_happen 104 = .ok (.invokevirtual 139, 3) := dk_182 0 139 (dk_at dksX1_happen_4 18 rfl rfl)
theorem dX1_happen_107 : decode cX1_happen 107 = .ok (.return_, 1) := dk_177 (dk_at dksX1_happen_4 21 rfl rfl)
abbrev cX1_undo : ByteArray := prog_1_method_14_code
def yX1_undo : MethodName := ⟨RX1, "undo", "()I"⟩
def dkwX1_undo_2 : List UInt8 := [172]
abbrev dktX1_undo_2 : List UInt8 := dkwX1_undo_2 ++ []
def dkwX1_undo_1 : List UInt8 := [180, 0, 50, 182, 0, 63, 4, 100, 182, 0, 67, 192, 0, 40, 181, 0, 43, 42, 180, 0, 50, 182, 0, 63]
abbrev dktX1_undo_1 : List UInt8 := dkwX1_undo_1 ++ dktX1_undo_2
def dkwX1_undo_0 : List UInt8 := [42, 180, 0, 50, 182, 0, 83, 154, 0, 7, 4, 167, 0, 4, 3, 184, 0, 87, 42, 42, 180, 0, 50, 42]
abbrev dktX1_undo_0 : List UInt8 := dkwX1_undo_0 ++ dktX1_undo_1
theorem dksX1_undo_0 : cX1_undo.data.toList.drop 0 = dktX1_undo_0 := by decide +kernel
theorem dksX1_undo_1 : cX1_undo.data.toList.drop 24 = dktX1_undo_1 := dk_seg dksX1_undo_0 24 rfl rfl
theorem dksX1_undo_2 : cX1_undo.data.toList.drop 48 = dktX1_undo_2 := dk_seg dksX1_undo_1 24 rfl rfl
theorem dX1_undo_0 : decode cX1_undo 0 = .ok (.aload_n 0, 1) := dk_42 (dk_at dksX1_undo_0 0 rfl rfl)
theorem dX1_undo_1 : decode cX1_undo 1 = .ok (.getfield 50, 3) := dk_180 0 50 (dk_at dksX1_undo_0 1 rfl rfl)
theorem dX1_undo_4 : decode cX1_undo 4 = .ok (.invokevirtual 83, 3) := dk_182 0 83 (dk_at dksX1_undo_0 4 rfl rfl)
theorem dX1_undo_7 : decode cX1_undo 7 = .ok (.ifCond .ne 7, 3) := dk_154 0 7 (dk_at dksX1_undo_0 7 rfl rfl)
theorem dX1_undo_10 : decode cX1_undo 10 = .ok (.iconst 1, 1) := dk_4 (dk_at dksX1_undo_0 10 rfl rfl)
theorem dX1_undo_11 : decode cX1_undo 11 = .ok (.goto 4, 3) := dk_167 0 4 (dk_at dksX1_undo_0 11 rfl rfl)
theorem dX1_undo_14 : decode cX1_undo 14 = .ok (.iconst 0, 1) := dk_3 (dk_at dksX1_undo_0 14 rfl rfl)
theorem dX1_undo_15 : decode cX1_undo 15 = .ok (.invokestatic 87, 3) := dk_184 0 87 (dk_at dksX1_undo_0 15 rfl rfl)
theorem dX1_undo_18 : decode cX1_undo 18 = .ok (.aload_n 0, 1) := dk_42 (dk_at dksX1_undo_0 18 rfl rfl)
theorem dX1_undo_19 : decode cX1_undo 19 = .ok (.aload_n 0, 1) := dk_42 (dk_at dksX1_undo_0 19 rfl rfl)
theorem dX1_undo_20 : decode cX1_undo 20 = .ok (.getfield 50, 3) := dk_180 0 50 (dk_at dksX1_undo_0 20 rfl rfl)
theorem dX1_undo_23 : decode cX1_undo 23 = .ok (.aload_n 0, 1) := dk_42 (dk_at dksX1_undo_0 23 rfl rfl)
theorem dX1_undo_24 : decode cX1_undo 24 = .ok (.getfield 50, 3) := dk_180 0 50 (dk_at dksX1_undo_1 0 rfl rfl)
theorem dX1_undo_27 : decode cX1_undo 27 = .ok (.invokevirtual 63, 3) := dk_182 0 63 (dk_at dksX1_undo_1 3 rfl rfl)
theorem dX1_undo_30 : decode cX1_undo 30 = .ok (.iconst 1, 1) := dk_4 (dk_at dksX1_undo_1 6 rfl rfl)
theorem dX1_undo_31 : decode cX1_undo 31 = .ok (.isub, 1) := dk_100 (dk_at dksX1_undo_1 7 rfl rfl)
theorem dX1_undo_32 : decode cX1_undo 32 = .ok (.invokevirtual 67, 3) := dk_182 0 67 (dk_at dksX1_undo_1 8 rfl rfl)
theorem dX1_undo_35 : decode cX1_undo 35 = .ok (.checkcast 40, 3) := dk_192 0 40 (dk_at dksX1_undo_1 11 rfl rfl)
theorem dX1_undo_38 : decode cX1_undo 38 = .ok (.putfield 43, 3) := dk_181 0 43 (dk_at dksX1_undo_1 14 rfl rfl)
theorem dX1_undo_41 : decode cX1_undo 41 = .ok (.aload_n 0, 1) := dk_42 (dk_at dksX1_undo_1 17 rfl rfl)
theorem dX1_undo_42 : decode cX1_undo 42 = .ok (.getfield 50, 3) := dk_180 0 50 (dk_at dksX1_undo_1 18 rfl rfl)
theorem dX1_undo_45 : decode cX1_undo 45 = .ok (.invokevirtual 63, 3) := dk_182 0 63 (dk_at dksX1_undo_1 21 rfl rfl)
theorem dX1_undo_48 : decode cX1_undo 48 = .ok (.ireturn, 1) := dk_172 (dk_at dksX1_undo_2 0 rfl rfl)
theorem q119 : (Jvm.Cond.initialized "OwlYears") ∈ lw_all := lw_g (lw_at lw_m1 1 rfl) rfl
theorem q160 : (Jvm.Cond.instantiable "OwlYears" (4 : Nat)) ∈ lw_all := lw_g (lw_at lw_m1 42 rfl) rfl
theorem q162 : (Jvm.Cond.instanceMethod ({ cls := "OwlYears", name := "<init>", desc := "()V" } : Jvm.MethodName)) ∈ lw_all := lw_g (lw_at lw_m1 44 rfl) rfl
theorem q163 : (Jvm.Cond.code ({ cls := "OwlYears", name := "<init>", desc := "()V" } : Jvm.MethodName) prog_1_method_11_code (1 : Nat) (Option.none : Option Jvm.ClassFile.FieldType)) ∈ lw_all := lw_g (lw_at lw_m1 45 rfl) rfl
theorem q164 : (Jvm.Cond.methodLink "OwlYears" (37 : Nat) ({ cls := "java/lang/Object", name := "<init>", desc := "()V" } : Jvm.MethodName)) ∈ lw_all := lw_g (lw_at lw_m1 46 rfl) rfl
theorem q167 : (Jvm.Cond.classLink "OwlYears" (40 : Nat) "OwlYears$Land") ∈ lw_all := lw_g (lw_at lw_m1 49 rfl) rfl
theorem q169 : (Jvm.Cond.methodLink "OwlYears" (42 : Nat) ({ cls := "OwlYears$Land", name := "<init>", desc := "()V" } : Jvm.MethodName)) ∈ lw_all := lw_g (lw_at lw_m1 51 rfl) rfl
theorem q233 : (Jvm.Cond.fieldLinkNest "OwlYears" (135 : Nat) "OwlYears$Land" "kinds" "[I" "OwlYears") ∈ lw_tbl := lw_at lw_m1 115 rfl
theorem q235 : (Jvm.Cond.fieldLinkNest "OwlYears" (149 : Nat) "OwlYears$Land" "voles" "[I" "OwlYears") ∈ lw_tbl := lw_at lw_m1 117 rfl
theorem q238 : (Jvm.Cond.fieldLinkNest "OwlYears" (98 : Nat) "OwlYears$Land" "boxes" "Ljava/util/ArrayList;" "OwlYears") ∈ lw_tbl := lw_at lw_m1 120 rfl
theorem q241 : (Jvm.Cond.fieldLinkNest "OwlYears" (249 : Nat) "OwlYears$Land" "owls" "Ljava/util/ArrayList;" "OwlYears") ∈ lw_tbl := lw_at lw_m1 123 rfl
theorem q243 : (Jvm.Cond.fieldLinkNest "OwlYears" (309 : Nat) "OwlYears$Land" "log" "[I" "OwlYears") ∈ lw_tbl := lw_at lw_m1 125 rfl
theorem q245 : (Jvm.Cond.fieldLinkNest "OwlYears" (294 : Nat) "OwlYears$Land" "died" "[I" "OwlYears") ∈ lw_tbl := lw_at lw_m1 127 rfl
theorem q247 : (Jvm.Cond.fieldLinkNest "OwlYears" (306 : Nat) "OwlYears$Land" "logged" "I" "OwlYears") ∈ lw_tbl := lw_at lw_m1 129 rfl
theorem q249 : (Jvm.Cond.fieldLinkNest "OwlYears" (94 : Nat) "OwlYears$Land" "year" "I" "OwlYears") ∈ lw_tbl := lw_at lw_m1 131 rfl
theorem q251 : (Jvm.Cond.fieldLinkNest "OwlYears" (153 : Nat) "OwlYears$Land" "chances" "I" "OwlYears") ∈ lw_tbl := lw_at lw_m1 133 rfl
theorem q253 : (Jvm.Cond.fieldLinkNest "OwlYears" (258 : Nat) "OwlYears$Land" "rings" "I" "OwlYears") ∈ lw_tbl := lw_at lw_m1 135 rfl
theorem q255 : (Jvm.Cond.fieldLinkNest "OwlYears" (194 : Nat) "OwlYears$Land" "alive" "I" "OwlYears") ∈ lw_tbl := lw_at lw_m1 137 rfl
theorem q258 : (Jvm.Cond.fieldLinkNest "OwlYears" (291 : Nat) "OwlYears$Land" "born" "I" "OwlYears") ∈ lw_tbl := lw_at lw_m1 140 rfl
theorem q260 : (Jvm.Cond.fieldLinkNest "OwlYears" (297 : Nat) "OwlYears$Land" "takenOut" "I" "OwlYears") ∈ lw_tbl := lw_at lw_m1 142 rfl
theorem q262 : (Jvm.Cond.fieldLinkNest "OwlYears" (300 : Nat) "OwlYears$Land" "eaten" "I" "OwlYears") ∈ lw_tbl := lw_at lw_m1 144 rfl
theorem q264 : (Jvm.Cond.fieldLinkNest "OwlYears" (303 : Nat) "OwlYears$Land" "most" "I" "OwlYears") ∈ lw_tbl := lw_at lw_m1 146 rfl
theorem q302 : (Jvm.Cond.classLink "OwlYears" (47 : Nat) "java/util/ArrayList") ∈ lw_all := lw_g (lw_at lw_m1 184 rfl) rfl
theorem q303 : (Jvm.Cond.methodLink "OwlYears" (49 : Nat) ({ cls := "java/util/ArrayList", name := "<init>", desc := "()V" } : Jvm.MethodName)) ∈ lw_all := lw_g (lw_at lw_m1 185 rfl) rfl
theorem q304 : (Jvm.Cond.classLink "OwlYears" (54 : Nat) "java/lang/StringBuilder") ∈ lw_all := lw_g (lw_at lw_m1 186 rfl) rfl
theorem q306 : (Jvm.Cond.methodLink "OwlYears" (56 : Nat) ({ cls := "java/lang/StringBuilder", name := "<init>", desc := "(I)V" } : Jvm.MethodName)) ∈ lw_all := lw_g (lw_at lw_m1 188 rfl) rfl
theorem q337 : (Jvm.Cond.fieldLink "OwlYears" (43 : Nat) "OwlYears" "land" "LOwlYears$Land;") ∈ lw_all := lw_g (lw_at lw_m1 219 rfl) rfl
theorem q338 : (Jvm.Cond.fieldLink "OwlYears" (91 : Nat) "OwlYears" "kept" "LOwlYears$Land;") ∈ lw_all := lw_g (lw_at lw_m1 220 rfl) rfl
theorem q339 : (Jvm.Cond.fieldLink "OwlYears" (50 : Nat) "OwlYears" "saved" "Ljava/util/ArrayList;") ∈ lw_all := lw_g (lw_at lw_m1 221 rfl) rfl
theorem q340 : (Jvm.Cond.fieldLink "OwlYears" (59 : Nat) "OwlYears" "text" "Ljava/lang/StringBuilder;") ∈ lw_all := lw_g (lw_at lw_m1 222 rfl) rfl
theorem q341 : (Jvm.Cond.lays "OwlYears" "OwlYears" "land" "LOwlYears$Land;") ∈ lw_all := lw_g (lw_at lw_m1 223 rfl) rfl
theorem q342 : (Jvm.Cond.soleField "OwlYears" "land") ∈ lw_all := lw_g (lw_at lw_m1 224 rfl) rfl
theorem q343 : (Jvm.Cond.lays "OwlYears" "OwlYears" "kept" "LOwlYears$Land;") ∈ lw_all := lw_g (lw_at lw_m1 225 rfl) rfl
theorem q344 : (Jvm.Cond.soleField "OwlYears" "kept") ∈ lw_all := lw_g (lw_at lw_m1 226 rfl) rfl
theorem q345 : (Jvm.Cond.laysFinal "OwlYears" "OwlYears" "saved" "Ljava/util/ArrayList;") ∈ lw_all := lw_g (lw_at lw_m1 227 rfl) rfl
theorem q346 : (Jvm.Cond.soleField "OwlYears" "saved") ∈ lw_all := lw_g (lw_at lw_m1 228 rfl) rfl
theorem q347 : (Jvm.Cond.laysFinal "OwlYears" "OwlYears" "text" "Ljava/lang/StringBuilder;") ∈ lw_all := lw_g (lw_at lw_m1 229 rfl) rfl
theorem q348 : (Jvm.Cond.soleField "OwlYears" "text") ∈ lw_all := lw_g (lw_at lw_m1 230 rfl) rfl
theorem q349 : (Jvm.Cond.superclass "OwlYears" "java/lang/Object") ∈ lw_all := lw_g (lw_at lw_m1 231 rfl) rfl
theorem q351 : (Jvm.Cond.instanceMethod ({ cls := "OwlYears", name := "keep", desc := "()I" } : Jvm.MethodName)) ∈ lw_all := lw_g (lw_at lw_m1 233 rfl) rfl
theorem q352 : (Jvm.Cond.selects "OwlYears" ({ cls := "OwlYears", name := "keep", desc := "()I" } : Jvm.MethodName) ({ cls := "OwlYears", name := "keep", desc := "()I" } : Jvm.MethodName)) ∈ lw_all := lw_g (lw_at lw_m1 234 rfl) rfl
theorem q353 : (Jvm.Cond.code ({ cls := "OwlYears", name := "keep", desc := "()I" } : Jvm.MethodName) prog_1_method_15_code (1 : Nat) (Option.some Jvm.ClassFile.FieldType.int)) ∈ lw_all := lw_g (lw_at lw_m1 235 rfl) rfl
theorem q354 : (Jvm.Cond.methodLink "OwlYears" (75 : Nat) ({ cls := "OwlYears$Land", name := "copy", desc := "()LOwlYears$Land;" } : Jvm.MethodName)) ∈ lw_all := lw_g (lw_at lw_m1 236 rfl) rfl
theorem q391 : (Jvm.Cond.fieldLinkNest "OwlYears" (212 : Nat) "OwlYears$Box" "square" "I" "OwlYears") ∈ lw_tbl := lw_at lw_m2 33 rfl
theorem q394 : (Jvm.Cond.fieldLinkNest "OwlYears" (234 : Nat) "OwlYears$Box" "rings" "[I" "OwlYears") ∈ lw_tbl := lw_at lw_m2 36 rfl
theorem q397 : (Jvm.Cond.fieldLinkNest "OwlYears" (217 : Nat) "OwlYears$Box" "range" "J" "OwlYears") ∈ lw_tbl := lw_at lw_m2 39 rfl
theorem q441 : (Jvm.Cond.selects "OwlYears" ({ cls := "java/lang/Object", name := "getClass", desc := "()Ljava/lang/Class;" } : Jvm.MethodName) ({ cls := "java/lang/Object", name := "getClass", desc := "()Ljava/lang/Class;" } : Jvm.MethodName)) ∈ lw_all := lw_g (lw_at lw_m2 83 rfl) rfl
theorem q501 : (Jvm.Cond.selects "OwlYears" ({ cls := "java/lang/Object", name := "hashCode", desc := "()I" } : Jvm.MethodName) ({ cls := "java/lang/Object", name := "hashCode", desc := "()I" } : Jvm.MethodName)) ∈ lw_all := lw_g (lw_at lw_m2 143 rfl) rfl
theorem q1120 : (Jvm.Cond.selects "OwlYears" ({ cls := "java/lang/Object", name := "equals", desc := "(Ljava/lang/Object;)Z" } : Jvm.MethodName) ({ cls := "java/lang/Object", name := "equals", desc := "(Ljava/lang/Object;)Z" } : Jvm.MethodName)) ∈ lw_all := lw_g (lw_at lw_m5 42 rfl) rfl
theorem q1226 : (Jvm.Cond.fieldLinkNest "OwlYears" (255 : Nat) "OwlYears$Owl" "ring" "I" "OwlYears") ∈ lw_tbl := lw_at lw_m5 148 rfl
theorem q1229 : (Jvm.Cond.fieldLinkNest "OwlYears" (260 : Nat) "OwlYears$Owl" "sex" "I" "OwlYears") ∈ lw_tbl := lw_at lw_m5 151 rfl
theorem q1236 : (Jvm.Cond.fieldLinkNest "OwlYears" (181 : Nat) "OwlYears$Owl" "age" "I" "OwlYears") ∈ lw_tbl := lw_at lw_m5 158 rfl
theorem q1239 : (Jvm.Cond.fieldLinkNest "OwlYears" (263 : Nat) "OwlYears$Owl" "box" "I" "OwlYears") ∈ lw_tbl := lw_at lw_m5 161 rfl
theorem q1241 : (Jvm.Cond.fieldLinkNest "OwlYears" (112 : Nat) "OwlYears$Owl" "alive" "Z" "OwlYears") ∈ lw_tbl := lw_at lw_m5 163 rfl
theorem q1259 : (Jvm.Cond.instanceMethod ({ cls := "OwlYears", name := "year", desc := "()I" } : Jvm.MethodName)) ∈ lw_all := lw_g (lw_at lw_m5 181 rfl) rfl
theorem q1260 : (Jvm.Cond.selects "OwlYears" ({ cls := "OwlYears", name := "year", desc := "()I" } : Jvm.MethodName) ({ cls := "OwlYears", name := "year", desc := "()I" } : Jvm.MethodName)) ∈ lw_all := lw_g (lw_at lw_m5 182 rfl) rfl
theorem q1261 : (Jvm.Cond.code ({ cls := "OwlYears", name := "year", desc := "()I" } : Jvm.MethodName) prog_1_method_31_code (1 : Nat) (Option.some Jvm.ClassFile.FieldType.int)) ∈ lw_all := lw_g (lw_at lw_m5 183 rfl) rfl
theorem q1263 : (Jvm.Cond.instanceMethod ({ cls := "OwlYears", name := "phase", desc := "()I" } : Jvm.MethodName)) ∈ lw_all := lw_g (lw_at lw_m5 185 rfl) rfl
theorem q1264 : (Jvm.Cond.selects "OwlYears" ({ cls := "OwlYears", name := "phase", desc := "()I" } : Jvm.MethodName) ({ cls := "OwlYears", name := "phase", desc := "()I" } : Jvm.MethodName)) ∈ lw_all := lw_g (lw_at lw_m5 186 rfl) rfl
theorem q1265 : (Jvm.Cond.code ({ cls := "OwlYears", name := "phase", desc := "()I" } : Jvm.MethodName) prog_1_method_32_code (1 : Nat) (Option.some Jvm.ClassFile.FieldType.int)) ∈ lw_all := lw_g (lw_at lw_m5 187 rfl) rfl
theorem q1266 : (Jvm.Cond.methodLink "OwlYears" (196 : Nat) ({ cls := "OwlYears$Land", name := "phase", desc := "()I" } : Jvm.MethodName)) ∈ lw_all := lw_g (lw_at lw_m5 188 rfl) rfl
theorem q1271 : (Jvm.Cond.instanceMethod ({ cls := "OwlYears", name := "voles", desc := "()I" } : Jvm.MethodName)) ∈ lw_all := lw_g (lw_at lw_m5 193 rfl) rfl
theorem q1272 : (Jvm.Cond.selects "OwlYears" ({ cls := "OwlYears", name := "voles", desc := "()I" } : Jvm.MethodName) ({ cls := "OwlYears", name := "voles", desc := "()I" } : Jvm.MethodName)) ∈ lw_all := lw_g (lw_at lw_m5 194 rfl) rfl
theorem q1273 : (Jvm.Cond.code ({ cls := "OwlYears", name := "voles", desc := "()I" } : Jvm.MethodName) prog_1_method_36_code (1 : Nat) (Option.some Jvm.ClassFile.FieldType.int)) ∈ lw_all := lw_g (lw_at lw_m5 195 rfl) rfl
theorem q1274 : (Jvm.Cond.methodLink "OwlYears" (203 : Nat) ({ cls := "OwlYears$Land", name := "allVoles", desc := "()I" } : Jvm.MethodName)) ∈ lw_all := lw_g (lw_at lw_m5 196 rfl) rfl
theorem q1279 : (Jvm.Cond.instanceMethod ({ cls := "OwlYears", name := "chances", desc := "()I" } : Jvm.MethodName)) ∈ lw_all := lw_g (lw_at lw_m5 201 rfl) rfl
theorem q1280 : (Jvm.Cond.selects "OwlYears" ({ cls := "OwlYears", name := "chances", desc := "()I" } : Jvm.MethodName) ({ cls := "OwlYears", name := "chances", desc := "()I" } : Jvm.MethodName)) ∈ lw_all := lw_g (lw_at lw_m5 202 rfl) rfl
theorem q1281 : (Jvm.Cond.code ({ cls := "OwlYears", name := "chances", desc := "()I" } : Jvm.MethodName) prog_1_method_39_code (1 : Nat) (Option.some Jvm.ClassFile.FieldType.int)) ∈ lw_all := lw_g (lw_at lw_m5 203 rfl) rfl
theorem q1283 : (Jvm.Cond.instanceMethod ({ cls := "OwlYears", name := "boxes", desc := "()I" } : Jvm.MethodName)) ∈ lw_all := lw_g (lw_at lw_m5 205 rfl) rfl
theorem q1284 : (Jvm.Cond.selects "OwlYears" ({ cls := "OwlYears", name := "boxes", desc := "()I" } : Jvm.MethodName) ({ cls := "OwlYears", name := "boxes", desc := "()I" } : Jvm.MethodName)) ∈ lw_all := lw_g (lw_at lw_m5 206 rfl) rfl
theorem q1285 : (Jvm.Cond.code ({ cls := "OwlYears", name := "boxes", desc := "()I" } : Jvm.MethodName) prog_1_method_40_code (1 : Nat) (Option.some Jvm.ClassFile.FieldType.int)) ∈ lw_all := lw_g (lw_at lw_m5 207 rfl) rfl
theorem q1286 : (Jvm.Cond.methodLink "OwlYears" (63 : Nat) ({ cls := "java/util/ArrayList", name := "size", desc := "()I" } : Jvm.MethodName)) ∈ lw_all := lw_g (lw_at lw_m5 208 rfl) rfl
theorem q1288 : (Jvm.Cond.instanceMethod ({ cls := "OwlYears", name := "owls", desc := "()I" } : Jvm.MethodName)) ∈ lw_all := lw_g (lw_at lw_m5 210 rfl) rfl
theorem q1289 : (Jvm.Cond.selects "OwlYears" ({ cls := "OwlYears", name := "owls", desc := "()I" } : Jvm.MethodName) ({ cls := "OwlYears", name := "owls", desc := "()I" } : Jvm.MethodName)) ∈ lw_all := lw_g (lw_at lw_m5 211 rfl) rfl
theorem q1290 : (Jvm.Cond.code ({ cls := "OwlYears", name := "owls", desc := "()I" } : Jvm.MethodName) prog_1_method_50_code (1 : Nat) (Option.some Jvm.ClassFile.FieldType.int)) ∈ lw_all := lw_g (lw_at lw_m5 212 rfl) rfl
theorem q1292 : (Jvm.Cond.instanceMethod ({ cls := "OwlYears", name := "owlsByAccount", desc := "()I" } : Jvm.MethodName)) ∈ lw_all := lw_g (lw_at lw_m5 214 rfl) rfl
theorem q1293 : (Jvm.Cond.selects "OwlYears" ({ cls := "OwlYears", name := "owlsByAccount", desc := "()I" } : Jvm.MethodName) ({ cls := "OwlYears", name := "owlsByAccount", desc := "()I" } : Jvm.MethodName)) ∈ lw_all := lw_g (lw_at lw_m5 215 rfl) rfl
theorem q1294 : (Jvm.Cond.code ({ cls := "OwlYears", name := "owlsByAccount", desc := "()I" } : Jvm.MethodName) prog_1_method_51_code (1 : Nat) (Option.some Jvm.ClassFile.FieldType.int)) ∈ lw_all := lw_g (lw_at lw_m5 216 rfl) rfl
theorem q1295 : (Jvm.Cond.methodLink "OwlYears" (243 : Nat) ({ cls := "OwlYears$Land", name := "byAccount", desc := "()I" } : Jvm.MethodName)) ∈ lw_all := lw_g (lw_at lw_m5 217 rfl) rfl
theorem q1300 : (Jvm.Cond.instanceMethod ({ cls := "OwlYears", name := "wanderers", desc := "()I" } : Jvm.MethodName)) ∈ lw_all := lw_g (lw_at lw_m5 222 rfl) rfl
theorem q1301 : (Jvm.Cond.selects "OwlYears" ({ cls := "OwlYears", name := "wanderers", desc := "()I" } : Jvm.MethodName) ({ cls := "OwlYears", name := "wanderers", desc := "()I" } : Jvm.MethodName)) ∈ lw_all := lw_g (lw_at lw_m5 223 rfl) rfl
theorem q1302 : (Jvm.Cond.code ({ cls := "OwlYears", name := "wanderers", desc := "()I" } : Jvm.MethodName) prog_1_method_52_code (1 : Nat) (Option.some Jvm.ClassFile.FieldType.int)) ∈ lw_all := lw_g (lw_at lw_m5 224 rfl) rfl
theorem q1303 : (Jvm.Cond.methodLink "OwlYears" (246 : Nat) ({ cls := "OwlYears$Land", name := "wanderers", desc := "()I" } : Jvm.MethodName)) ∈ lw_all := lw_g (lw_at lw_m5 225 rfl) rfl
theorem q1308 : (Jvm.Cond.instanceMethod ({ cls := "OwlYears", name := "rings", desc := "()I" } : Jvm.MethodName)) ∈ lw_all := lw_g (lw_at lw_m5 230 rfl) rfl
theorem q1309 : (Jvm.Cond.selects "OwlYears" ({ cls := "OwlYears", name := "rings", desc := "()I" } : Jvm.MethodName) ({ cls := "OwlYears", name := "rings", desc := "()I" } : Jvm.MethodName)) ∈ lw_all := lw_g (lw_at lw_m5 231 rfl) rfl
theorem q1310 : (Jvm.Cond.code ({ cls := "OwlYears", name := "rings", desc := "()I" } : Jvm.MethodName) prog_1_method_54_code (1 : Nat) (Option.some Jvm.ClassFile.FieldType.int)) ∈ lw_all := lw_g (lw_at lw_m5 232 rfl) rfl
theorem q1312 : (Jvm.Cond.instanceMethod ({ cls := "OwlYears", name := "isAlive", desc := "(I)Z" } : Jvm.MethodName)) ∈ lw_all := lw_g (lw_at lw_m5 234 rfl) rfl
theorem q1313 : (Jvm.Cond.selects "OwlYears" ({ cls := "OwlYears", name := "isAlive", desc := "(I)Z" } : Jvm.MethodName) ({ cls := "OwlYears", name := "isAlive", desc := "(I)Z" } : Jvm.MethodName)) ∈ lw_all := lw_g (lw_at lw_m5 235 rfl) rfl
theorem q1314 : (Jvm.Cond.code ({ cls := "OwlYears", name := "isAlive", desc := "(I)Z" } : Jvm.MethodName) prog_1_method_55_code (3 : Nat) (Option.some Jvm.ClassFile.FieldType.boolean)) ∈ lw_all := lw_g (lw_at lw_m5 236 rfl) rfl
theorem q1315 : (Jvm.Cond.methodLink "OwlYears" (105 : Nat) ({ cls := "OwlYears$Land", name := "known", desc := "(I)LOwlYears$Owl;" } : Jvm.MethodName)) ∈ lw_all := lw_g (lw_at lw_m5 237 rfl) rfl
theorem q1320 : (Jvm.Cond.instanceMethod ({ cls := "OwlYears", name := "oldest", desc := "()I" } : Jvm.MethodName)) ∈ lw_all := lw_g (lw_at lw_m6 2 rfl) rfl
theorem q1321 : (Jvm.Cond.selects "OwlYears" ({ cls := "OwlYears", name := "oldest", desc := "()I" } : Jvm.MethodName) ({ cls := "OwlYears", name := "oldest", desc := "()I" } : Jvm.MethodName)) ∈ lw_all := lw_g (lw_at lw_m6 3 rfl) rfl
theorem q1322 : (Jvm.Cond.code ({ cls := "OwlYears", name := "oldest", desc := "()I" } : Jvm.MethodName) prog_1_method_59_code (2 : Nat) (Option.some Jvm.ClassFile.FieldType.int)) ∈ lw_all := lw_g (lw_at lw_m6 4 rfl) rfl
theorem q1323 : (Jvm.Cond.methodLink "OwlYears" (265 : Nat) ({ cls := "OwlYears$Land", name := "oldest", desc := "()LOwlYears$Owl;" } : Jvm.MethodName)) ∈ lw_all := lw_g (lw_at lw_m6 5 rfl) rfl
theorem q1328 : (Jvm.Cond.instanceMethod ({ cls := "OwlYears", name := "meanAge", desc := "()D" } : Jvm.MethodName)) ∈ lw_all := lw_g (lw_at lw_m6 10 rfl) rfl
theorem q1329 : (Jvm.Cond.selects "OwlYears" ({ cls := "OwlYears", name := "meanAge", desc := "()D" } : Jvm.MethodName) ({ cls := "OwlYears", name := "meanAge", desc := "()D" } : Jvm.MethodName)) ∈ lw_all := lw_g (lw_at lw_m6 11 rfl) rfl
theorem q1330 : (Jvm.Cond.code ({ cls := "OwlYears", name := "meanAge", desc := "()D" } : Jvm.MethodName) prog_1_method_60_code (4 : Nat) (Option.some Jvm.ClassFile.FieldType.double)) ∈ lw_all := lw_g (lw_at lw_m6 12 rfl) rfl
theorem q1331 : (Jvm.Cond.methodLink "OwlYears" (252 : Nat) ({ cls := "java/util/ArrayList", name := "get", desc := "(I)Ljava/lang/Object;" } : Jvm.MethodName)) ∈ lw_all := lw_g (lw_at lw_m6 13 rfl) rfl
theorem q1332 : (Jvm.Cond.classLink "OwlYears" (113 : Nat) "OwlYears$Owl") ∈ lw_all := lw_g (lw_at lw_m6 14 rfl) rfl
theorem q1334 : (Jvm.Cond.instanceMethod ({ cls := "OwlYears", name := "kinPairs", desc := "()I" } : Jvm.MethodName)) ∈ lw_all := lw_g (lw_at lw_m6 16 rfl) rfl
theorem q1335 : (Jvm.Cond.selects "OwlYears" ({ cls := "OwlYears", name := "kinPairs", desc := "()I" } : Jvm.MethodName) ({ cls := "OwlYears", name := "kinPairs", desc := "()I" } : Jvm.MethodName)) ∈ lw_all := lw_g (lw_at lw_m6 17 rfl) rfl
theorem q1336 : (Jvm.Cond.code ({ cls := "OwlYears", name := "kinPairs", desc := "()I" } : Jvm.MethodName) prog_1_method_67_code (1 : Nat) (Option.some Jvm.ClassFile.FieldType.int)) ∈ lw_all := lw_g (lw_at lw_m6 18 rfl) rfl
theorem q1337 : (Jvm.Cond.methodLink "OwlYears" (288 : Nat) ({ cls := "OwlYears$Land", name := "kinPairs", desc := "()I" } : Jvm.MethodName)) ∈ lw_all := lw_g (lw_at lw_m6 19 rfl) rfl
theorem q1363 : (Jvm.Cond.instanceMethod ({ cls := "OwlYears", name := "born", desc := "()I" } : Jvm.MethodName)) ∈ lw_all := lw_g (lw_at lw_m6 45 rfl) rfl
theorem q1364 : (Jvm.Cond.selects "OwlYears" ({ cls := "OwlYears", name := "born", desc := "()I" } : Jvm.MethodName) ({ cls := "OwlYears", name := "born", desc := "()I" } : Jvm.MethodName)) ∈ lw_all := lw_g (lw_at lw_m6 46 rfl) rfl
theorem q1365 : (Jvm.Cond.code ({ cls := "OwlYears", name := "born", desc := "()I" } : Jvm.MethodName) prog_1_method_68_code (1 : Nat) (Option.some Jvm.ClassFile.FieldType.int)) ∈ lw_all := lw_g (lw_at lw_m6 47 rfl) rfl
theorem q1367 : (Jvm.Cond.instanceMethod ({ cls := "OwlYears", name := "takenOut", desc := "()I" } : Jvm.MethodName)) ∈ lw_all := lw_g (lw_at lw_m6 49 rfl) rfl
theorem q1368 : (Jvm.Cond.selects "OwlYears" ({ cls := "OwlYears", name := "takenOut", desc := "()I" } : Jvm.MethodName) ({ cls := "OwlYears", name := "takenOut", desc := "()I" } : Jvm.MethodName)) ∈ lw_all := lw_g (lw_at lw_m6 50 rfl) rfl
theorem q1369 : (Jvm.Cond.code ({ cls := "OwlYears", name := "takenOut", desc := "()I" } : Jvm.MethodName) prog_1_method_70_code (1 : Nat) (Option.some Jvm.ClassFile.FieldType.int)) ∈ lw_all := lw_g (lw_at lw_m6 51 rfl) rfl
theorem q1371 : (Jvm.Cond.instanceMethod ({ cls := "OwlYears", name := "eaten", desc := "()I" } : Jvm.MethodName)) ∈ lw_all := lw_g (lw_at lw_m6 53 rfl) rfl
theorem q1372 : (Jvm.Cond.selects "OwlYears" ({ cls := "OwlYears", name := "eaten", desc := "()I" } : Jvm.MethodName) ({ cls := "OwlYears", name := "eaten", desc := "()I" } : Jvm.MethodName)) ∈ lw_all := lw_g (lw_at lw_m6 54 rfl) rfl
theorem q1373 : (Jvm.Cond.code ({ cls := "OwlYears", name := "eaten", desc := "()I" } : Jvm.MethodName) prog_1_method_71_code (1 : Nat) (Option.some Jvm.ClassFile.FieldType.int)) ∈ lw_all := lw_g (lw_at lw_m6 55 rfl) rfl
theorem q1375 : (Jvm.Cond.instanceMethod ({ cls := "OwlYears", name := "mostOwls", desc := "()I" } : Jvm.MethodName)) ∈ lw_all := lw_g (lw_at lw_m6 57 rfl) rfl
theorem q1376 : (Jvm.Cond.selects "OwlYears" ({ cls := "OwlYears", name := "mostOwls", desc := "()I" } : Jvm.MethodName) ({ cls := "OwlYears", name := "mostOwls", desc := "()I" } : Jvm.MethodName)) ∈ lw_all := lw_g (lw_at lw_m6 58 rfl) rfl
theorem q1377 : (Jvm.Cond.code ({ cls := "OwlYears", name := "mostOwls", desc := "()I" } : Jvm.MethodName) prog_1_method_72_code (1 : Nat) (Option.some Jvm.ClassFile.FieldType.int)) ∈ lw_all := lw_g (lw_at lw_m6 59 rfl) rfl
theorem q1379 : (Jvm.Cond.instanceMethod ({ cls := "OwlYears", name := "deaths", desc := "()I" } : Jvm.MethodName)) ∈ lw_all := lw_g (lw_at lw_m6 61 rfl) rfl
theorem q1380 : (Jvm.Cond.selects "OwlYears" ({ cls := "OwlYears", name := "deaths", desc := "()I" } : Jvm.MethodName) ({ cls := "OwlYears", name := "deaths", desc := "()I" } : Jvm.MethodName)) ∈ lw_all := lw_g (lw_at lw_m6 62 rfl) rfl
theorem q1381 : (Jvm.Cond.code ({ cls := "OwlYears", name := "deaths", desc := "()I" } : Jvm.MethodName) prog_1_method_73_code (1 : Nat) (Option.some Jvm.ClassFile.FieldType.int)) ∈ lw_all := lw_g (lw_at lw_m6 63 rfl) rfl
theorem q1383 : (Jvm.Cond.instanceMethod ({ cls := "OwlYears", name := "bestSquare", desc := "()I" } : Jvm.MethodName)) ∈ lw_all := lw_g (lw_at lw_m6 65 rfl) rfl
theorem q1384 : (Jvm.Cond.selects "OwlYears" ({ cls := "OwlYears", name := "bestSquare", desc := "()I" } : Jvm.MethodName) ({ cls := "OwlYears", name := "bestSquare", desc := "()I" } : Jvm.MethodName)) ∈ lw_all := lw_g (lw_at lw_m6 66 rfl) rfl
theorem q1385 : (Jvm.Cond.code ({ cls := "OwlYears", name := "bestSquare", desc := "()I" } : Jvm.MethodName) prog_1_method_78_code (1 : Nat) (Option.some Jvm.ClassFile.FieldType.int)) ∈ lw_all := lw_g (lw_at lw_m6 67 rfl) rfl
theorem q1386 : (Jvm.Cond.methodLink "OwlYears" (315 : Nat) ({ cls := "OwlYears$Land", name := "bestSquare", desc := "()I" } : Jvm.MethodName)) ∈ lw_all := lw_g (lw_at lw_m6 68 rfl) rfl
theorem q1419 : (Jvm.Cond.static ({ cls := "OwlYears", name := "far", desc := "(II)I" } : Jvm.MethodName)) ∈ lw_all := lw_g (lw_at lw_m6 101 rfl) rfl
theorem q1420 : (Jvm.Cond.code ({ cls := "OwlYears", name := "far", desc := "(II)I" } : Jvm.MethodName) prog_1_method_9_code (2 : Nat) (Option.some Jvm.ClassFile.FieldType.int)) ∈ lw_all := lw_g (lw_at lw_m6 102 rfl) rfl
theorem q1421 : (Jvm.Cond.methodLink "OwlYears" (27 : Nat) ({ cls := "java/lang/Math", name := "abs", desc := "(I)I" } : Jvm.MethodName)) ∈ lw_all := lw_g (lw_at lw_m6 103 rfl) rfl
theorem q1424 : (Jvm.Cond.methodLink "OwlYears" (33 : Nat) ({ cls := "java/lang/Math", name := "max", desc := "(II)I" } : Jvm.MethodName)) ∈ lw_all := lw_g (lw_at lw_m6 106 rfl) rfl
theorem q1426 : (Jvm.Cond.static ({ cls := "OwlYears", name := "has", desc := "(JI)Z" } : Jvm.MethodName)) ∈ lw_all := lw_g (lw_at lw_m6 108 rfl) rfl
theorem q1427 : (Jvm.Cond.code ({ cls := "OwlYears", name := "has", desc := "(JI)Z" } : Jvm.MethodName) prog_1_method_8_code (3 : Nat) (Option.some Jvm.ClassFile.FieldType.boolean)) ∈ lw_all := lw_g (lw_at lw_m6 109 rfl) rfl
theorem q1445 : (Jvm.Cond.instanceMethod ({ cls := "OwlYears", name := "yearsUntilGone", desc := "()I" } : Jvm.MethodName)) ∈ lw_all := lw_g (lw_at lw_m6 127 rfl) rfl
theorem q1446 : (Jvm.Cond.selects "OwlYears" ({ cls := "OwlYears", name := "yearsUntilGone", desc := "()I" } : Jvm.MethodName) ({ cls := "OwlYears", name := "yearsUntilGone", desc := "()I" } : Jvm.MethodName)) ∈ lw_all := lw_g (lw_at lw_m6 128 rfl) rfl
theorem q1447 : (Jvm.Cond.code ({ cls := "OwlYears", name := "yearsUntilGone", desc := "()I" } : Jvm.MethodName) prog_1_method_81_code (1 : Nat) (Option.some Jvm.ClassFile.FieldType.int)) ∈ lw_all := lw_g (lw_at lw_m6 129 rfl) rfl
theorem q1448 : (Jvm.Cond.methodLink "OwlYears" (325 : Nat) ({ cls := "OwlYears$Land", name := "untilGone", desc := "()I" } : Jvm.MethodName)) ∈ lw_all := lw_g (lw_at lw_m6 130 rfl) rfl
theorem q1557 : (Jvm.Cond.instanceMethod ({ cls := "OwlYears", name := "bestRow", desc := "()I" } : Jvm.MethodName)) ∈ lw_all := lw_g (lw_at lw_m6 239 rfl) rfl
theorem q1558 : (Jvm.Cond.selects "OwlYears" ({ cls := "OwlYears", name := "bestRow", desc := "()I" } : Jvm.MethodName) ({ cls := "OwlYears", name := "bestRow", desc := "()I" } : Jvm.MethodName)) ∈ lw_all := lw_g (lw_at lw_m7 0 rfl) rfl
theorem q1559 : (Jvm.Cond.code ({ cls := "OwlYears", name := "bestRow", desc := "()I" } : Jvm.MethodName) prog_1_method_82_code (1 : Nat) (Option.some Jvm.ClassFile.FieldType.int)) ∈ lw_all := lw_g (lw_at lw_m7 1 rfl) rfl
theorem q1560 : (Jvm.Cond.methodLink "OwlYears" (328 : Nat) ({ cls := "OwlYears$Land", name := "bestRow", desc := "()I" } : Jvm.MethodName)) ∈ lw_all := lw_g (lw_at lw_m7 2 rfl) rfl
theorem q1581 : (Jvm.Cond.instanceMethod ({ cls := "OwlYears", name := "clearText", desc := "()I" } : Jvm.MethodName)) ∈ lw_all := lw_g (lw_at lw_m7 23 rfl) rfl
theorem q1582 : (Jvm.Cond.selects "OwlYears" ({ cls := "OwlYears", name := "clearText", desc := "()I" } : Jvm.MethodName) ({ cls := "OwlYears", name := "clearText", desc := "()I" } : Jvm.MethodName)) ∈ lw_all := lw_g (lw_at lw_m7 24 rfl) rfl
theorem q1583 : (Jvm.Cond.code ({ cls := "OwlYears", name := "clearText", desc := "()I" } : Jvm.MethodName) prog_1_method_84_code (2 : Nat) (Option.some Jvm.ClassFile.FieldType.int)) ∈ lw_all := lw_g (lw_at lw_m7 25 rfl) rfl
theorem q1584 : (Jvm.Cond.methodLink "OwlYears" (331 : Nat) ({ cls := "java/lang/StringBuilder", name := "length", desc := "()I" } : Jvm.MethodName)) ∈ lw_all := lw_g (lw_at lw_m7 26 rfl) rfl
theorem q1585 : (Jvm.Cond.methodLink "OwlYears" (338 : Nat) ({ cls := "java/lang/StringBuilder", name := "setLength", desc := "(I)V" } : Jvm.MethodName)) ∈ lw_all := lw_g (lw_at lw_m7 27 rfl) rfl
theorem q1654 : (Jvm.Cond.instanceMethod ({ cls := "OwlYears", name := "firstError", desc := "()I" } : Jvm.MethodName)) ∈ lw_all := lw_g (lw_at lw_m7 96 rfl) rfl
theorem q1655 : (Jvm.Cond.selects "OwlYears" ({ cls := "OwlYears", name := "firstError", desc := "()I" } : Jvm.MethodName) ({ cls := "OwlYears", name := "firstError", desc := "()I" } : Jvm.MethodName)) ∈ lw_all := lw_g (lw_at lw_m7 97 rfl) rfl
theorem q1656 : (Jvm.Cond.code ({ cls := "OwlYears", name := "firstError", desc := "()I" } : Jvm.MethodName) prog_1_method_85_code (1 : Nat) (Option.some Jvm.ClassFile.FieldType.int)) ∈ lw_all := lw_g (lw_at lw_m7 98 rfl) rfl
theorem q1657 : (Jvm.Cond.classLink "OwlYears" (341 : Nat) "OwlYears$Reader") ∈ lw_all := lw_g (lw_at lw_m7 99 rfl) rfl
theorem q1659 : (Jvm.Cond.methodLink "OwlYears" (343 : Nat) ({ cls := "OwlYears$Reader", name := "<init>", desc := "(Ljava/lang/StringBuilder;)V" } : Jvm.MethodName)) ∈ lw_all := lw_g (lw_at lw_m7 101 rfl) rfl
theorem q1667 : (Jvm.Cond.fieldLinkNest "OwlYears" (365 : Nat) "OwlYears$Reader" "works" "Ljava/util/ArrayList;" "OwlYears") ∈ lw_tbl := lw_at lw_m7 109 rfl
theorem q1679 : (Jvm.Cond.methodLink "OwlYears" (346 : Nat) ({ cls := "OwlYears$Reader", name := "read", desc := "()I" } : Jvm.MethodName)) ∈ lw_all := lw_g (lw_at lw_m7 121 rfl) rfl
theorem q1716 : (Jvm.Cond.static ({ cls := "OwlYears", name := "isWithin", desc := "(III)Z" } : Jvm.MethodName)) ∈ lw_all := lw_g (lw_at lw_m7 158 rfl) rfl
theorem q1717 : (Jvm.Cond.code ({ cls := "OwlYears", name := "isWithin", desc := "(III)Z" } : Jvm.MethodName) prog_1_method_1_code (3 : Nat) (Option.some Jvm.ClassFile.FieldType.boolean)) ∈ lw_all := lw_g (lw_at lw_m7 159 rfl) rfl
theorem q1723 : (Jvm.Cond.fieldLinkNest "OwlYears" (349 : Nat) "OwlYears$Work" "sign" "C" "OwlYears") ∈ lw_tbl := lw_at lw_m7 165 rfl
theorem q1725 : (Jvm.Cond.fieldLinkNest "OwlYears" (355 : Nat) "OwlYears$Work" "number" "I" "OwlYears") ∈ lw_tbl := lw_at lw_m7 167 rfl
theorem q1727 : (Jvm.Cond.fieldLinkNest "OwlYears" (360 : Nat) "OwlYears$Work" "sex" "I" "OwlYears") ∈ lw_tbl := lw_at lw_m7 169 rfl
theorem q1737 : (Jvm.Cond.instanceMethod ({ cls := "OwlYears", name := "digest", desc := "()J" } : Jvm.MethodName)) ∈ lw_all := lw_g (lw_at lw_m7 179 rfl) rfl
theorem q1738 : (Jvm.Cond.selects "OwlYears" ({ cls := "OwlYears", name := "digest", desc := "()J" } : Jvm.MethodName) ({ cls := "OwlYears", name := "digest", desc := "()J" } : Jvm.MethodName)) ∈ lw_all := lw_g (lw_at lw_m7 180 rfl) rfl
theorem q1739 : (Jvm.Cond.code ({ cls := "OwlYears", name := "digest", desc := "()J" } : Jvm.MethodName) prog_1_method_93_code (5 : Nat) (Option.some Jvm.ClassFile.FieldType.long)) ∈ lw_all := lw_g (lw_at lw_m7 181 rfl) rfl
theorem q1740 : (Jvm.Cond.constantLong "OwlYears" (381 : Nat) (876 : Int64)) ∈ lw_all := lw_g (lw_at lw_m7 182 rfl) rfl
theorem q1741 : (Jvm.Cond.methodLink "OwlYears" (358 : Nat) ({ cls := "OwlYears", name := "boxes", desc := "()I" } : Jvm.MethodName)) ∈ lw_all := lw_g (lw_at lw_m7 183 rfl) rfl
theorem q1742 : (Jvm.Cond.methodLink "OwlYears" (383 : Nat) ({ cls := "OwlYears", name := "oldest", desc := "()I" } : Jvm.MethodName)) ∈ lw_all := lw_g (lw_at lw_m7 184 rfl) rfl
theorem q1743 : (Jvm.Cond.methodLink "OwlYears" (378 : Nat) ({ cls := "OwlYears", name := "add", desc := "(J[J)J" } : Jvm.MethodName)) ∈ lw_all := lw_g (lw_at lw_m7 185 rfl) rfl
theorem q1744 : (Jvm.Cond.static ({ cls := "OwlYears", name := "add", desc := "(J[J)J" } : Jvm.MethodName)) ∈ lw_all := lw_g (lw_at lw_m7 186 rfl) rfl
theorem q1745 : (Jvm.Cond.code ({ cls := "OwlYears", name := "add", desc := "(J[J)J" } : Jvm.MethodName) prog_1_method_90_code (6 : Nat) (Option.some Jvm.ClassFile.FieldType.long)) ∈ lw_all := lw_g (lw_at lw_m7 187 rfl) rfl
theorem q1746 : (Jvm.Cond.constantLong "OwlYears" (376 : Nat) (31 : Int64)) ∈ lw_all := lw_g (lw_at lw_m7 188 rfl) rfl
theorem q1747 : (Jvm.Cond.methodLink "OwlYears" (199 : Nat) ({ cls := "OwlYears$Land", name := "squares", desc := "(I)J" } : Jvm.MethodName)) ∈ lw_all := lw_g (lw_at lw_m7 189 rfl) rfl
theorem q1751 : (Jvm.Cond.methodLink "OwlYears" (385 : Nat) ({ cls := "OwlYears", name := "addBoxes", desc := "(J)J" } : Jvm.MethodName)) ∈ lw_all := lw_g (lw_at lw_m7 193 rfl) rfl
theorem q1752 : (Jvm.Cond.privateMethod ({ cls := "OwlYears", name := "addBoxes", desc := "(J)J" } : Jvm.MethodName)) ∈ lw_tbl := lw_at lw_m7 194 rfl
theorem q1753 : (Jvm.Cond.instanceMethod ({ cls := "OwlYears", name := "addBoxes", desc := "(J)J" } : Jvm.MethodName)) ∈ lw_all := lw_g (lw_at lw_m7 195 rfl) rfl
theorem q1754 : (Jvm.Cond.code ({ cls := "OwlYears", name := "addBoxes", desc := "(J)J" } : Jvm.MethodName) prog_1_method_91_code (8 : Nat) (Option.some Jvm.ClassFile.FieldType.long)) ∈ lw_all := lw_g (lw_at lw_m7 196 rfl) rfl
theorem q1755 : (Jvm.Cond.methodLink "OwlYears" (101 : Nat) ({ cls := "OwlYears$Land", name := "box", desc := "(I)LOwlYears$Box;" } : Jvm.MethodName)) ∈ lw_all := lw_g (lw_at lw_m7 197 rfl) rfl
theorem q1756 : (Jvm.Cond.methodLink "OwlYears" (224 : Nat) ({ cls := "OwlYears$Land", name := "share", desc := "(LOwlYears$Box;)I" } : Jvm.MethodName)) ∈ lw_all := lw_g (lw_at lw_m7 198 rfl) rfl
theorem q1757 : (Jvm.Cond.methodLink "OwlYears" (231 : Nat) ({ cls := "OwlYears$Land", name := "risk", desc := "(LOwlYears$Box;)I" } : Jvm.MethodName)) ∈ lw_all := lw_g (lw_at lw_m7 199 rfl) rfl
theorem q1758 : (Jvm.Cond.methodLink "OwlYears" (237 : Nat) ({ cls := "OwlYears$Land", name := "whyNoYoung", desc := "(LOwlYears$Box;)I" } : Jvm.MethodName)) ∈ lw_all := lw_g (lw_at lw_m7 200 rfl) rfl
theorem q1759 : (Jvm.Cond.methodLink "OwlYears" (240 : Nat) ({ cls := "OwlYears$Land", name := "young", desc := "(LOwlYears$Box;)I" } : Jvm.MethodName)) ∈ lw_all := lw_g (lw_at lw_m7 201 rfl) rfl
theorem q1760 : (Jvm.Cond.methodLink "OwlYears" (389 : Nat) ({ cls := "OwlYears", name := "addOwls", desc := "(J)J" } : Jvm.MethodName)) ∈ lw_all := lw_g (lw_at lw_m7 202 rfl) rfl
theorem q1761 : (Jvm.Cond.privateMethod ({ cls := "OwlYears", name := "addOwls", desc := "(J)J" } : Jvm.MethodName)) ∈ lw_tbl := lw_at lw_m7 203 rfl
theorem q1762 : (Jvm.Cond.instanceMethod ({ cls := "OwlYears", name := "addOwls", desc := "(J)J" } : Jvm.MethodName)) ∈ lw_all := lw_g (lw_at lw_m7 204 rfl) rfl
theorem q1763 : (Jvm.Cond.code ({ cls := "OwlYears", name := "addOwls", desc := "(J)J" } : Jvm.MethodName) prog_1_method_92_code (8 : Nat) (Option.some Jvm.ClassFile.FieldType.long)) ∈ lw_all := lw_g (lw_at lw_m7 205 rfl) rfl
theorem q1764 : (Jvm.Cond.methodLink "OwlYears" (269 : Nat) ({ cls := "OwlYears$Land", name := "mother", desc := "(LOwlYears$Owl;)I" } : Jvm.MethodName)) ∈ lw_all := lw_g (lw_at lw_m7 206 rfl) rfl
theorem q1772 : (Jvm.Cond.methodLink "OwlYears" (273 : Nat) ({ cls := "OwlYears$Land", name := "father", desc := "(LOwlYears$Owl;)I" } : Jvm.MethodName)) ∈ lw_all := lw_g (lw_at lw_m7 214 rfl) rfl
theorem q1776 : (Jvm.Cond.methodLink "OwlYears" (276 : Nat) ({ cls := "OwlYears$Land", name := "children", desc := "(I)I" } : Jvm.MethodName)) ∈ lw_all := lw_g (lw_at lw_m7 218 rfl) rfl
theorem q1780 : (Jvm.Cond.methodLink "OwlYears" (279 : Nat) ({ cls := "OwlYears$Land", name := "offspring", desc := "(I)I" } : Jvm.MethodName)) ∈ lw_all := lw_g (lw_at lw_m7 222 rfl) rfl
theorem q1784 : (Jvm.Cond.methodLink "OwlYears" (318 : Nat) ({ cls := "OwlYears$Land", name := "owlsIn", desc := "(I)I" } : Jvm.MethodName)) ∈ lw_all := lw_g (lw_at lw_m7 226 rfl) rfl
theorem q1798 : (Jvm.Cond.instanceMethod ({ cls := "OwlYears", name := "setLand", desc := "(II)I" } : Jvm.MethodName)) ∈ lw_all := lw_g (lw_at lw_m8 0 rfl) rfl
theorem q1799 : (Jvm.Cond.selects "OwlYears" ({ cls := "OwlYears", name := "setLand", desc := "(II)I" } : Jvm.MethodName) ({ cls := "OwlYears", name := "setLand", desc := "(II)I" } : Jvm.MethodName)) ∈ lw_all := lw_g (lw_at lw_m8 1 rfl) rfl
theorem q1800 : (Jvm.Cond.code ({ cls := "OwlYears", name := "setLand", desc := "(II)I" } : Jvm.MethodName) prog_1_method_21_code (4 : Nat) (Option.some Jvm.ClassFile.FieldType.int)) ∈ lw_all := lw_g (lw_at lw_m8 2 rfl) rfl
theorem q1801 : (Jvm.Cond.methodLink "OwlYears" (122 : Nat) ({ cls := "OwlYears", name := "checkSquare", desc := "(I)V" } : Jvm.MethodName)) ∈ lw_all := lw_g (lw_at lw_m8 3 rfl) rfl
theorem q1802 : (Jvm.Cond.static ({ cls := "OwlYears", name := "checkSquare", desc := "(I)V" } : Jvm.MethodName)) ∈ lw_all := lw_g (lw_at lw_m8 4 rfl) rfl
theorem q1803 : (Jvm.Cond.code ({ cls := "OwlYears", name := "checkSquare", desc := "(I)V" } : Jvm.MethodName) prog_1_method_4_code (1 : Nat) (Option.none : Option Jvm.ClassFile.FieldType)) ∈ lw_all := lw_g (lw_at lw_m8 5 rfl) rfl
theorem q1804 : (Jvm.Cond.methodLink "OwlYears" (16 : Nat) ({ cls := "OwlYears", name := "checkIndex", desc := "(II)V" } : Jvm.MethodName)) ∈ lw_all := lw_g (lw_at lw_m8 6 rfl) rfl
theorem q1805 : (Jvm.Cond.static ({ cls := "OwlYears", name := "checkIndex", desc := "(II)V" } : Jvm.MethodName)) ∈ lw_all := lw_g (lw_at lw_m8 7 rfl) rfl
theorem q1806 : (Jvm.Cond.code ({ cls := "OwlYears", name := "checkIndex", desc := "(II)V" } : Jvm.MethodName) prog_1_method_3_code (2 : Nat) (Option.none : Option Jvm.ClassFile.FieldType)) ∈ lw_all := lw_g (lw_at lw_m8 8 rfl) rfl
theorem q1807 : (Jvm.Cond.methodLink "OwlYears" (3 : Nat) ({ cls := "OwlYears", name := "isWithin", desc := "(III)Z" } : Jvm.MethodName)) ∈ lw_all := lw_g (lw_at lw_m8 9 rfl) rfl
theorem q1808 : (Jvm.Cond.classLink "OwlYears" (13 : Nat) "java/lang/IndexOutOfBoundsException") ∈ lw_all := lw_g (lw_at lw_m8 10 rfl) rfl
theorem q1817 : (Jvm.Cond.methodLink "OwlYears" (15 : Nat) ({ cls := "java/lang/IndexOutOfBoundsException", name := "<init>", desc := "()V" } : Jvm.MethodName)) ∈ lw_all := lw_g (lw_at lw_m8 19 rfl) rfl
theorem q1829 : (Jvm.Cond.methodLink "OwlYears" (125 : Nat) ({ cls := "OwlYears", name := "checkKind", desc := "(I)V" } : Jvm.MethodName)) ∈ lw_all := lw_g (lw_at lw_m8 31 rfl) rfl
theorem q1830 : (Jvm.Cond.static ({ cls := "OwlYears", name := "checkKind", desc := "(I)V" } : Jvm.MethodName)) ∈ lw_all := lw_g (lw_at lw_m8 32 rfl) rfl
theorem q1831 : (Jvm.Cond.code ({ cls := "OwlYears", name := "checkKind", desc := "(I)V" } : Jvm.MethodName) prog_1_method_5_code (1 : Nat) (Option.none : Option Jvm.ClassFile.FieldType)) ∈ lw_all := lw_g (lw_at lw_m8 33 rfl) rfl
theorem q1832 : (Jvm.Cond.methodLink "OwlYears" (20 : Nat) ({ cls := "OwlYears", name := "checkRange", desc := "(III)V" } : Jvm.MethodName)) ∈ lw_all := lw_g (lw_at lw_m8 34 rfl) rfl
theorem q1833 : (Jvm.Cond.static ({ cls := "OwlYears", name := "checkRange", desc := "(III)V" } : Jvm.MethodName)) ∈ lw_all := lw_g (lw_at lw_m8 35 rfl) rfl
theorem q1834 : (Jvm.Cond.code ({ cls := "OwlYears", name := "checkRange", desc := "(III)V" } : Jvm.MethodName) prog_1_method_2_code (3 : Nat) (Option.none : Option Jvm.ClassFile.FieldType)) ∈ lw_all := lw_g (lw_at lw_m8 36 rfl) rfl
theorem q1835 : (Jvm.Cond.classLink "OwlYears" (7 : Nat) "java/lang/IllegalArgumentException") ∈ lw_all := lw_g (lw_at lw_m8 37 rfl) rfl
theorem q1836 : (Jvm.Cond.methodLink "OwlYears" (9 : Nat) ({ cls := "java/lang/IllegalArgumentException", name := "<init>", desc := "()V" } : Jvm.MethodName)) ∈ lw_all := lw_g (lw_at lw_m8 38 rfl) rfl
theorem q1840 : (Jvm.Cond.methodLink "OwlYears" (128 : Nat) ({ cls := "OwlYears", name := "canBecome", desc := "(II)Z" } : Jvm.MethodName)) ∈ lw_all := lw_g (lw_at lw_m8 42 rfl) rfl
theorem q1841 : (Jvm.Cond.privateMethod ({ cls := "OwlYears", name := "canBecome", desc := "(II)Z" } : Jvm.MethodName)) ∈ lw_tbl := lw_at lw_m8 43 rfl
theorem q1842 : (Jvm.Cond.instanceMethod ({ cls := "OwlYears", name := "canBecome", desc := "(II)Z" } : Jvm.MethodName)) ∈ lw_all := lw_g (lw_at lw_m8 44 rfl) rfl
theorem q1843 : (Jvm.Cond.code ({ cls := "OwlYears", name := "canBecome", desc := "(II)Z" } : Jvm.MethodName) prog_1_method_20_code (3 : Nat) (Option.some Jvm.ClassFile.FieldType.boolean)) ∈ lw_all := lw_g (lw_at lw_m8 45 rfl) rfl
theorem q1844 : (Jvm.Cond.methodLink "OwlYears" (118 : Nat) ({ cls := "OwlYears$Land", name := "hasBox", desc := "(I)Z" } : Jvm.MethodName)) ∈ lw_all := lw_g (lw_at lw_m8 46 rfl) rfl
theorem q1845 : (Jvm.Cond.methodLink "OwlYears" (87 : Nat) ({ cls := "OwlYears", name := "checkState", desc := "(Z)V" } : Jvm.MethodName)) ∈ lw_all := lw_g (lw_at lw_m8 47 rfl) rfl
theorem q1846 : (Jvm.Cond.static ({ cls := "OwlYears", name := "checkState", desc := "(Z)V" } : Jvm.MethodName)) ∈ lw_all := lw_g (lw_at lw_m8 48 rfl) rfl
theorem q1847 : (Jvm.Cond.code ({ cls := "OwlYears", name := "checkState", desc := "(Z)V" } : Jvm.MethodName) prog_1_method_7_code (1 : Nat) (Option.none : Option Jvm.ClassFile.FieldType)) ∈ lw_all := lw_g (lw_at lw_m8 49 rfl) rfl
theorem q1848 : (Jvm.Cond.classLink "OwlYears" (24 : Nat) "java/lang/IllegalStateException") ∈ lw_all := lw_g (lw_at lw_m8 50 rfl) rfl
theorem q1857 : (Jvm.Cond.methodLink "OwlYears" (26 : Nat) ({ cls := "java/lang/IllegalStateException", name := "<init>", desc := "()V" } : Jvm.MethodName)) ∈ lw_all := lw_g (lw_at lw_m8 59 rfl) rfl
theorem q1863 : (Jvm.Cond.methodLink "OwlYears" (132 : Nat) ({ cls := "OwlYears", name := "save", desc := "()V" } : Jvm.MethodName)) ∈ lw_all := lw_g (lw_at lw_m8 65 rfl) rfl
theorem q1864 : (Jvm.Cond.privateMethod ({ cls := "OwlYears", name := "save", desc := "()V" } : Jvm.MethodName)) ∈ lw_tbl := lw_at lw_m8 66 rfl
theorem q1865 : (Jvm.Cond.instanceMethod ({ cls := "OwlYears", name := "save", desc := "()V" } : Jvm.MethodName)) ∈ lw_all := lw_g (lw_at lw_m8 67 rfl) rfl
theorem q1866 : (Jvm.Cond.code ({ cls := "OwlYears", name := "save", desc := "()V" } : Jvm.MethodName) prog_1_method_13_code (1 : Nat) (Option.none : Option Jvm.ClassFile.FieldType)) ∈ lw_all := lw_g (lw_at lw_m8 68 rfl) rfl
theorem q1867 : (Jvm.Cond.methodLink "OwlYears" (79 : Nat) ({ cls := "OwlYears", name := "remember", desc := "(LOwlYears$Land;)V" } : Jvm.MethodName)) ∈ lw_all := lw_g (lw_at lw_m8 69 rfl) rfl
theorem q1868 : (Jvm.Cond.privateMethod ({ cls := "OwlYears", name := "remember", desc := "(LOwlYears$Land;)V" } : Jvm.MethodName)) ∈ lw_tbl := lw_at lw_m8 70 rfl
theorem q1869 : (Jvm.Cond.instanceMethod ({ cls := "OwlYears", name := "remember", desc := "(LOwlYears$Land;)V" } : Jvm.MethodName)) ∈ lw_all := lw_g (lw_at lw_m8 71 rfl) rfl
theorem q1870 : (Jvm.Cond.code ({ cls := "OwlYears", name := "remember", desc := "(LOwlYears$Land;)V" } : Jvm.MethodName) prog_1_method_12_code (2 : Nat) (Option.none : Option Jvm.ClassFile.FieldType)) ∈ lw_all := lw_g (lw_at lw_m8 72 rfl) rfl
theorem q1871 : (Jvm.Cond.methodLink "OwlYears" (67 : Nat) ({ cls := "java/util/ArrayList", name := "remove", desc := "(I)Ljava/lang/Object;" } : Jvm.MethodName)) ∈ lw_all := lw_g (lw_at lw_m8 73 rfl) rfl
theorem q1872 : (Jvm.Cond.methodLink "OwlYears" (71 : Nat) ({ cls := "java/util/ArrayList", name := "add", desc := "(Ljava/lang/Object;)Z" } : Jvm.MethodName)) ∈ lw_all := lw_g (lw_at lw_m8 74 rfl) rfl
theorem q1873 : (Jvm.Cond.methodLink "OwlYears" (139 : Nat) ({ cls := "OwlYears$Land", name := "setLand", desc := "(II)V" } : Jvm.MethodName)) ∈ lw_all := lw_g (lw_at lw_m8 75 rfl) rfl
theorem q1881 : (Jvm.Cond.instanceMethod ({ cls := "OwlYears", name := "buildRoad", desc := "(IZ)I" } : Jvm.MethodName)) ∈ lw_all := lw_g (lw_at lw_m8 83 rfl) rfl
theorem q1882 : (Jvm.Cond.selects "OwlYears" ({ cls := "OwlYears", name := "buildRoad", desc := "(IZ)I" } : Jvm.MethodName) ({ cls := "OwlYears", name := "buildRoad", desc := "(IZ)I" } : Jvm.MethodName)) ∈ lw_all := lw_g (lw_at lw_m8 84 rfl) rfl
theorem q1883 : (Jvm.Cond.code ({ cls := "OwlYears", name := "buildRoad", desc := "(IZ)I" } : Jvm.MethodName) prog_1_method_22_code (3 : Nat) (Option.some Jvm.ClassFile.FieldType.int)) ∈ lw_all := lw_g (lw_at lw_m8 85 rfl) rfl
theorem q1884 : (Jvm.Cond.methodLink "OwlYears" (142 : Nat) ({ cls := "OwlYears$Land", name := "buildRoad", desc := "(IZ)I" } : Jvm.MethodName)) ∈ lw_all := lw_g (lw_at lw_m8 86 rfl) rfl
theorem q1889 : (Jvm.Cond.instanceMethod ({ cls := "OwlYears", name := "setVoles", desc := "(II)I" } : Jvm.MethodName)) ∈ lw_all := lw_g (lw_at lw_m8 91 rfl) rfl
theorem q1890 : (Jvm.Cond.selects "OwlYears" ({ cls := "OwlYears", name := "setVoles", desc := "(II)I" } : Jvm.MethodName) ({ cls := "OwlYears", name := "setVoles", desc := "(II)I" } : Jvm.MethodName)) ∈ lw_all := lw_g (lw_at lw_m8 92 rfl) rfl
theorem q1891 : (Jvm.Cond.code ({ cls := "OwlYears", name := "setVoles", desc := "(II)I" } : Jvm.MethodName) prog_1_method_23_code (4 : Nat) (Option.some Jvm.ClassFile.FieldType.int)) ∈ lw_all := lw_g (lw_at lw_m8 93 rfl) rfl
theorem q1892 : (Jvm.Cond.methodLink "OwlYears" (146 : Nat) ({ cls := "OwlYears$Land", name := "isRoad", desc := "(I)Z" } : Jvm.MethodName)) ∈ lw_all := lw_g (lw_at lw_m8 94 rfl) rfl
theorem q1897 : (Jvm.Cond.instanceMethod ({ cls := "OwlYears", name := "setChances", desc := "(I)I" } : Jvm.MethodName)) ∈ lw_all := lw_g (lw_at lw_m8 99 rfl) rfl
theorem q1898 : (Jvm.Cond.selects "OwlYears" ({ cls := "OwlYears", name := "setChances", desc := "(I)I" } : Jvm.MethodName) ({ cls := "OwlYears", name := "setChances", desc := "(I)I" } : Jvm.MethodName)) ∈ lw_all := lw_g (lw_at lw_m8 100 rfl) rfl
theorem q1899 : (Jvm.Cond.code ({ cls := "OwlYears", name := "setChances", desc := "(I)I" } : Jvm.MethodName) prog_1_method_24_code (3 : Nat) (Option.some Jvm.ClassFile.FieldType.int)) ∈ lw_all := lw_g (lw_at lw_m8 101 rfl) rfl
theorem q1900 : (Jvm.Cond.constant "OwlYears" (152 : Nat) (65536 : Int32)) ∈ lw_all := lw_g (lw_at lw_m8 102 rfl) rfl
theorem q1905 : (Jvm.Cond.instanceMethod ({ cls := "OwlYears", name := "putBox", desc := "(I)I" } : Jvm.MethodName)) ∈ lw_all := lw_g (lw_at lw_m8 107 rfl) rfl
theorem q1906 : (Jvm.Cond.selects "OwlYears" ({ cls := "OwlYears", name := "putBox", desc := "(I)I" } : Jvm.MethodName) ({ cls := "OwlYears", name := "putBox", desc := "(I)I" } : Jvm.MethodName)) ∈ lw_all := lw_g (lw_at lw_m8 108 rfl) rfl
theorem q1907 : (Jvm.Cond.code ({ cls := "OwlYears", name := "putBox", desc := "(I)I" } : Jvm.MethodName) prog_1_method_25_code (2 : Nat) (Option.some Jvm.ClassFile.FieldType.int)) ∈ lw_all := lw_g (lw_at lw_m8 109 rfl) rfl
theorem q1908 : (Jvm.Cond.methodLink "OwlYears" (156 : Nat) ({ cls := "OwlYears$Land", name := "canPut", desc := "(I)Z" } : Jvm.MethodName)) ∈ lw_all := lw_g (lw_at lw_m8 110 rfl) rfl
theorem q1912 : (Jvm.Cond.methodLink "OwlYears" (159 : Nat) ({ cls := "OwlYears$Land", name := "putBox", desc := "(I)I" } : Jvm.MethodName)) ∈ lw_all := lw_g (lw_at lw_m8 114 rfl) rfl
theorem q1921 : (Jvm.Cond.instanceMethod ({ cls := "OwlYears", name := "takeBox", desc := "(I)I" } : Jvm.MethodName)) ∈ lw_all := lw_g (lw_at lw_m8 123 rfl) rfl
theorem q1922 : (Jvm.Cond.selects "OwlYears" ({ cls := "OwlYears", name := "takeBox", desc := "(I)I" } : Jvm.MethodName) ({ cls := "OwlYears", name := "takeBox", desc := "(I)I" } : Jvm.MethodName)) ∈ lw_all := lw_g (lw_at lw_m8 124 rfl) rfl
theorem q1923 : (Jvm.Cond.code ({ cls := "OwlYears", name := "takeBox", desc := "(I)I" } : Jvm.MethodName) prog_1_method_26_code (2 : Nat) (Option.some Jvm.ClassFile.FieldType.int)) ∈ lw_all := lw_g (lw_at lw_m8 125 rfl) rfl
theorem q1924 : (Jvm.Cond.methodLink "OwlYears" (162 : Nat) ({ cls := "OwlYears", name := "checkedBox", desc := "(I)LOwlYears$Box;" } : Jvm.MethodName)) ∈ lw_all := lw_g (lw_at lw_m8 126 rfl) rfl
theorem q1925 : (Jvm.Cond.privateMethod ({ cls := "OwlYears", name := "checkedBox", desc := "(I)LOwlYears$Box;" } : Jvm.MethodName)) ∈ lw_tbl := lw_at lw_m8 127 rfl
theorem q1926 : (Jvm.Cond.instanceMethod ({ cls := "OwlYears", name := "checkedBox", desc := "(I)LOwlYears$Box;" } : Jvm.MethodName)) ∈ lw_all := lw_g (lw_at lw_m8 128 rfl) rfl
theorem q1927 : (Jvm.Cond.code ({ cls := "OwlYears", name := "checkedBox", desc := "(I)LOwlYears$Box;" } : Jvm.MethodName) prog_1_method_17_code (2 : Nat) (Option.some (Jvm.ClassFile.FieldType.object "OwlYears$Box"))) ∈ lw_all := lw_g (lw_at lw_m8 129 rfl) rfl
theorem q1928 : (Jvm.Cond.methodLink "OwlYears" (165 : Nat) ({ cls := "OwlYears$Land", name := "takeBox", desc := "(I)I" } : Jvm.MethodName)) ∈ lw_all := lw_g (lw_at lw_m8 130 rfl) rfl
theorem q1955 : (Jvm.Cond.instanceMethod ({ cls := "OwlYears", name := "letIn", desc := "(III)I" } : Jvm.MethodName)) ∈ lw_all := lw_g (lw_at lw_m8 157 rfl) rfl
theorem q1956 : (Jvm.Cond.selects "OwlYears" ({ cls := "OwlYears", name := "letIn", desc := "(III)I" } : Jvm.MethodName) ({ cls := "OwlYears", name := "letIn", desc := "(III)I" } : Jvm.MethodName)) ∈ lw_all := lw_g (lw_at lw_m8 158 rfl) rfl
theorem q1957 : (Jvm.Cond.code ({ cls := "OwlYears", name := "letIn", desc := "(III)I" } : Jvm.MethodName) prog_1_method_27_code (4 : Nat) (Option.some Jvm.ClassFile.FieldType.int)) ∈ lw_all := lw_g (lw_at lw_m8 159 rfl) rfl
theorem q1958 : (Jvm.Cond.methodLink "OwlYears" (168 : Nat) ({ cls := "OwlYears", name := "checkSex", desc := "(I)V" } : Jvm.MethodName)) ∈ lw_all := lw_g (lw_at lw_m8 160 rfl) rfl
theorem q1959 : (Jvm.Cond.static ({ cls := "OwlYears", name := "checkSex", desc := "(I)V" } : Jvm.MethodName)) ∈ lw_all := lw_g (lw_at lw_m8 161 rfl) rfl
theorem q1960 : (Jvm.Cond.code ({ cls := "OwlYears", name := "checkSex", desc := "(I)V" } : Jvm.MethodName) prog_1_method_6_code (1 : Nat) (Option.none : Option Jvm.ClassFile.FieldType)) ∈ lw_all := lw_g (lw_at lw_m8 162 rfl) rfl
theorem q1961 : (Jvm.Cond.methodLink "OwlYears" (171 : Nat) ({ cls := "OwlYears$Land", name := "canLetIn", desc := "(II)Z" } : Jvm.MethodName)) ∈ lw_all := lw_g (lw_at lw_m8 163 rfl) rfl
theorem q1965 : (Jvm.Cond.methodLink "OwlYears" (174 : Nat) ({ cls := "OwlYears$Land", name := "letIn", desc := "(III)I" } : Jvm.MethodName)) ∈ lw_all := lw_g (lw_at lw_m8 167 rfl) rfl
theorem q1973 : (Jvm.Cond.instanceMethod ({ cls := "OwlYears", name := "takeOut", desc := "(I)I" } : Jvm.MethodName)) ∈ lw_all := lw_g (lw_at lw_m8 175 rfl) rfl
theorem q1974 : (Jvm.Cond.selects "OwlYears" ({ cls := "OwlYears", name := "takeOut", desc := "(I)I" } : Jvm.MethodName) ({ cls := "OwlYears", name := "takeOut", desc := "(I)I" } : Jvm.MethodName)) ∈ lw_all := lw_g (lw_at lw_m8 176 rfl) rfl
theorem q1975 : (Jvm.Cond.code ({ cls := "OwlYears", name := "takeOut", desc := "(I)I" } : Jvm.MethodName) prog_1_method_28_code (4 : Nat) (Option.some Jvm.ClassFile.FieldType.int)) ∈ lw_all := lw_g (lw_at lw_m8 177 rfl) rfl
theorem q1976 : (Jvm.Cond.methodLink "OwlYears" (178 : Nat) ({ cls := "OwlYears", name := "checkedAlive", desc := "(I)LOwlYears$Owl;" } : Jvm.MethodName)) ∈ lw_all := lw_g (lw_at lw_m8 178 rfl) rfl
theorem q1977 : (Jvm.Cond.privateMethod ({ cls := "OwlYears", name := "checkedAlive", desc := "(I)LOwlYears$Owl;" } : Jvm.MethodName)) ∈ lw_tbl := lw_at lw_m8 179 rfl
theorem q1978 : (Jvm.Cond.instanceMethod ({ cls := "OwlYears", name := "checkedAlive", desc := "(I)LOwlYears$Owl;" } : Jvm.MethodName)) ∈ lw_all := lw_g (lw_at lw_m8 180 rfl) rfl
theorem q1979 : (Jvm.Cond.code ({ cls := "OwlYears", name := "checkedAlive", desc := "(I)LOwlYears$Owl;" } : Jvm.MethodName) prog_1_method_19_code (3 : Nat) (Option.some (Jvm.ClassFile.FieldType.object "OwlYears$Owl"))) ∈ lw_all := lw_g (lw_at lw_m8 181 rfl) rfl
theorem q1980 : (Jvm.Cond.methodLink "OwlYears" (109 : Nat) ({ cls := "OwlYears", name := "checkedOwl", desc := "(I)LOwlYears$Owl;" } : Jvm.MethodName)) ∈ lw_all := lw_g (lw_at lw_m8 182 rfl) rfl
theorem q1981 : (Jvm.Cond.privateMethod ({ cls := "OwlYears", name := "checkedOwl", desc := "(I)LOwlYears$Owl;" } : Jvm.MethodName)) ∈ lw_tbl := lw_at lw_m8 183 rfl
theorem q1982 : (Jvm.Cond.instanceMethod ({ cls := "OwlYears", name := "checkedOwl", desc := "(I)LOwlYears$Owl;" } : Jvm.MethodName)) ∈ lw_all := lw_g (lw_at lw_m8 184 rfl) rfl
theorem q1983 : (Jvm.Cond.code ({ cls := "OwlYears", name := "checkedOwl", desc := "(I)LOwlYears$Owl;" } : Jvm.MethodName) prog_1_method_18_code (3 : Nat) (Option.some (Jvm.ClassFile.FieldType.object "OwlYears$Owl"))) ∈ lw_all := lw_g (lw_at lw_m8 185 rfl) rfl
theorem q1984 : (Jvm.Cond.methodLink "OwlYears" (184 : Nat) ({ cls := "OwlYears$Land", name := "takeOut", desc := "(LOwlYears$Owl;)V" } : Jvm.MethodName)) ∈ lw_all := lw_g (lw_at lw_m8 186 rfl) rfl
theorem q1992 : (Jvm.Cond.instanceMethod ({ cls := "OwlYears", name := "pass", desc := "(I)I" } : Jvm.MethodName)) ∈ lw_all := lw_g (lw_at lw_m8 194 rfl) rfl
theorem q1993 : (Jvm.Cond.selects "OwlYears" ({ cls := "OwlYears", name := "pass", desc := "(I)I" } : Jvm.MethodName) ({ cls := "OwlYears", name := "pass", desc := "(I)I" } : Jvm.MethodName)) ∈ lw_all := lw_g (lw_at lw_m8 195 rfl) rfl
theorem q1994 : (Jvm.Cond.code ({ cls := "OwlYears", name := "pass", desc := "(I)I" } : Jvm.MethodName) prog_1_method_30_code (2 : Nat) (Option.some Jvm.ClassFile.FieldType.int)) ∈ lw_all := lw_g (lw_at lw_m8 196 rfl) rfl
theorem q1995 : (Jvm.Cond.methodLink "OwlYears" (188 : Nat) ({ cls := "OwlYears", name := "isInTime", desc := "(I)Z" } : Jvm.MethodName)) ∈ lw_all := lw_g (lw_at lw_m8 197 rfl) rfl
theorem q1996 : (Jvm.Cond.privateMethod ({ cls := "OwlYears", name := "isInTime", desc := "(I)Z" } : Jvm.MethodName)) ∈ lw_tbl := lw_at lw_m8 198 rfl
theorem q1997 : (Jvm.Cond.instanceMethod ({ cls := "OwlYears", name := "isInTime", desc := "(I)Z" } : Jvm.MethodName)) ∈ lw_all := lw_g (lw_at lw_m8 199 rfl) rfl
theorem q1998 : (Jvm.Cond.code ({ cls := "OwlYears", name := "isInTime", desc := "(I)Z" } : Jvm.MethodName) prog_1_method_29_code (2 : Nat) (Option.some Jvm.ClassFile.FieldType.boolean)) ∈ lw_all := lw_g (lw_at lw_m8 200 rfl) rfl
theorem q1999 : (Jvm.Cond.methodLink "OwlYears" (191 : Nat) ({ cls := "OwlYears$Land", name := "pass", desc := "(I)V" } : Jvm.MethodName)) ∈ lw_all := lw_g (lw_at lw_m8 201 rfl) rfl
theorem q2004 : (Jvm.Cond.instanceMethod ({ cls := "OwlYears", name := "landOf", desc := "(I)I" } : Jvm.MethodName)) ∈ lw_all := lw_g (lw_at lw_m8 206 rfl) rfl
theorem q2005 : (Jvm.Cond.selects "OwlYears" ({ cls := "OwlYears", name := "landOf", desc := "(I)I" } : Jvm.MethodName) ({ cls := "OwlYears", name := "landOf", desc := "(I)I" } : Jvm.MethodName)) ∈ lw_all := lw_g (lw_at lw_m8 207 rfl) rfl
theorem q2006 : (Jvm.Cond.code ({ cls := "OwlYears", name := "landOf", desc := "(I)I" } : Jvm.MethodName) prog_1_method_33_code (2 : Nat) (Option.some Jvm.ClassFile.FieldType.int)) ∈ lw_all := lw_g (lw_at lw_m8 208 rfl) rfl
theorem q2011 : (Jvm.Cond.instanceMethod ({ cls := "OwlYears", name := "squaresOf", desc := "(I)J" } : Jvm.MethodName)) ∈ lw_all := lw_g (lw_at lw_m8 213 rfl) rfl
theorem q2012 : (Jvm.Cond.selects "OwlYears" ({ cls := "OwlYears", name := "squaresOf", desc := "(I)J" } : Jvm.MethodName) ({ cls := "OwlYears", name := "squaresOf", desc := "(I)J" } : Jvm.MethodName)) ∈ lw_all := lw_g (lw_at lw_m8 214 rfl) rfl
theorem q2013 : (Jvm.Cond.code ({ cls := "OwlYears", name := "squaresOf", desc := "(I)J" } : Jvm.MethodName) prog_1_method_34_code (2 : Nat) (Option.some Jvm.ClassFile.FieldType.long)) ∈ lw_all := lw_g (lw_at lw_m8 215 rfl) rfl
theorem q2018 : (Jvm.Cond.instanceMethod ({ cls := "OwlYears", name := "volesOf", desc := "(I)I" } : Jvm.MethodName)) ∈ lw_all := lw_g (lw_at lw_m8 220 rfl) rfl
theorem q2019 : (Jvm.Cond.selects "OwlYears" ({ cls := "OwlYears", name := "volesOf", desc := "(I)I" } : Jvm.MethodName) ({ cls := "OwlYears", name := "volesOf", desc := "(I)I" } : Jvm.MethodName)) ∈ lw_all := lw_g (lw_at lw_m8 221 rfl) rfl
theorem q2020 : (Jvm.Cond.code ({ cls := "OwlYears", name := "volesOf", desc := "(I)I" } : Jvm.MethodName) prog_1_method_35_code (2 : Nat) (Option.some Jvm.ClassFile.FieldType.int)) ∈ lw_all := lw_g (lw_at lw_m8 222 rfl) rfl
theorem q2025 : (Jvm.Cond.instanceMethod ({ cls := "OwlYears", name := "volesNext", desc := "(I)I" } : Jvm.MethodName)) ∈ lw_all := lw_g (lw_at lw_m8 227 rfl) rfl
theorem q2026 : (Jvm.Cond.selects "OwlYears" ({ cls := "OwlYears", name := "volesNext", desc := "(I)I" } : Jvm.MethodName) ({ cls := "OwlYears", name := "volesNext", desc := "(I)I" } : Jvm.MethodName)) ∈ lw_all := lw_g (lw_at lw_m8 228 rfl) rfl
theorem q2027 : (Jvm.Cond.code ({ cls := "OwlYears", name := "volesNext", desc := "(I)I" } : Jvm.MethodName) prog_1_method_37_code (2 : Nat) (Option.some Jvm.ClassFile.FieldType.int)) ∈ lw_all := lw_g (lw_at lw_m8 229 rfl) rfl
theorem q2028 : (Jvm.Cond.methodLink "OwlYears" (206 : Nat) ({ cls := "OwlYears$Land", name := "volesNext", desc := "(I)I" } : Jvm.MethodName)) ∈ lw_all := lw_g (lw_at lw_m8 230 rfl) rfl
theorem q2033 : (Jvm.Cond.instanceMethod ({ cls := "OwlYears", name := "distance", desc := "(II)I" } : Jvm.MethodName)) ∈ lw_all := lw_g (lw_at lw_m8 235 rfl) rfl
theorem q2034 : (Jvm.Cond.selects "OwlYears" ({ cls := "OwlYears", name := "distance", desc := "(II)I" } : Jvm.MethodName) ({ cls := "OwlYears", name := "distance", desc := "(II)I" } : Jvm.MethodName)) ∈ lw_all := lw_g (lw_at lw_m8 236 rfl) rfl
theorem q2035 : (Jvm.Cond.code ({ cls := "OwlYears", name := "distance", desc := "(II)I" } : Jvm.MethodName) prog_1_method_38_code (3 : Nat) (Option.some Jvm.ClassFile.FieldType.int)) ∈ lw_all := lw_g (lw_at lw_m8 237 rfl) rfl
theorem q2036 : (Jvm.Cond.methodLink "OwlYears" (209 : Nat) ({ cls := "OwlYears", name := "far", desc := "(II)I" } : Jvm.MethodName)) ∈ lw_all := lw_g (lw_at lw_m8 238 rfl) rfl
theorem q2041 : (Jvm.Cond.instanceMethod ({ cls := "OwlYears", name := "squareOf", desc := "(I)I" } : Jvm.MethodName)) ∈ lw_all := lw_g (lw_at lw_m9 3 rfl) rfl
theorem q2042 : (Jvm.Cond.selects "OwlYears" ({ cls := "OwlYears", name := "squareOf", desc := "(I)I" } : Jvm.MethodName) ({ cls := "OwlYears", name := "squareOf", desc := "(I)I" } : Jvm.MethodName)) ∈ lw_all := lw_g (lw_at lw_m9 4 rfl) rfl
theorem q2043 : (Jvm.Cond.code ({ cls := "OwlYears", name := "squareOf", desc := "(I)I" } : Jvm.MethodName) prog_1_method_41_code (2 : Nat) (Option.some Jvm.ClassFile.FieldType.int)) ∈ lw_all := lw_g (lw_at lw_m9 5 rfl) rfl
theorem q2048 : (Jvm.Cond.instanceMethod ({ cls := "OwlYears", name := "rangeOf", desc := "(I)J" } : Jvm.MethodName)) ∈ lw_all := lw_g (lw_at lw_m9 10 rfl) rfl
theorem q2049 : (Jvm.Cond.selects "OwlYears" ({ cls := "OwlYears", name := "rangeOf", desc := "(I)J" } : Jvm.MethodName) ({ cls := "OwlYears", name := "rangeOf", desc := "(I)J" } : Jvm.MethodName)) ∈ lw_all := lw_g (lw_at lw_m9 11 rfl) rfl
theorem q2050 : (Jvm.Cond.code ({ cls := "OwlYears", name := "rangeOf", desc := "(I)J" } : Jvm.MethodName) prog_1_method_42_code (2 : Nat) (Option.some Jvm.ClassFile.FieldType.long)) ∈ lw_all := lw_g (lw_at lw_m9 12 rfl) rfl
theorem q2055 : (Jvm.Cond.instanceMethod ({ cls := "OwlYears", name := "rangeByJoining", desc := "(I)J" } : Jvm.MethodName)) ∈ lw_all := lw_g (lw_at lw_m9 17 rfl) rfl
theorem q2056 : (Jvm.Cond.selects "OwlYears" ({ cls := "OwlYears", name := "rangeByJoining", desc := "(I)J" } : Jvm.MethodName) ({ cls := "OwlYears", name := "rangeByJoining", desc := "(I)J" } : Jvm.MethodName)) ∈ lw_all := lw_g (lw_at lw_m9 18 rfl) rfl
theorem q2057 : (Jvm.Cond.code ({ cls := "OwlYears", name := "rangeByJoining", desc := "(I)J" } : Jvm.MethodName) prog_1_method_43_code (2 : Nat) (Option.some Jvm.ClassFile.FieldType.long)) ∈ lw_all := lw_g (lw_at lw_m9 19 rfl) rfl
theorem q2058 : (Jvm.Cond.methodLink "OwlYears" (221 : Nat) ({ cls := "OwlYears$Land", name := "rangeByJoining", desc := "(I)J" } : Jvm.MethodName)) ∈ lw_all := lw_g (lw_at lw_m9 20 rfl) rfl
theorem q2063 : (Jvm.Cond.static ({ cls := "OwlYears", name := "areBeside", desc := "(II)Z" } : Jvm.MethodName)) ∈ lw_all := lw_g (lw_at lw_m9 25 rfl) rfl
theorem q2064 : (Jvm.Cond.code ({ cls := "OwlYears", name := "areBeside", desc := "(II)Z" } : Jvm.MethodName) prog_1_method_10_code (2 : Nat) (Option.some Jvm.ClassFile.FieldType.boolean)) ∈ lw_all := lw_g (lw_at lw_m9 26 rfl) rfl
theorem q2072 : (Jvm.Cond.instanceMethod ({ cls := "OwlYears", name := "shareOf", desc := "(I)I" } : Jvm.MethodName)) ∈ lw_all := lw_g (lw_at lw_m9 34 rfl) rfl
theorem q2073 : (Jvm.Cond.selects "OwlYears" ({ cls := "OwlYears", name := "shareOf", desc := "(I)I" } : Jvm.MethodName) ({ cls := "OwlYears", name := "shareOf", desc := "(I)I" } : Jvm.MethodName)) ∈ lw_all := lw_g (lw_at lw_m9 35 rfl) rfl
theorem q2074 : (Jvm.Cond.code ({ cls := "OwlYears", name := "shareOf", desc := "(I)I" } : Jvm.MethodName) prog_1_method_44_code (2 : Nat) (Option.some Jvm.ClassFile.FieldType.int)) ∈ lw_all := lw_g (lw_at lw_m9 36 rfl) rfl
theorem q2079 : (Jvm.Cond.instanceMethod ({ cls := "OwlYears", name := "crowdOf", desc := "(I)I" } : Jvm.MethodName)) ∈ lw_all := lw_g (lw_at lw_m9 41 rfl) rfl
theorem q2080 : (Jvm.Cond.selects "OwlYears" ({ cls := "OwlYears", name := "crowdOf", desc := "(I)I" } : Jvm.MethodName) ({ cls := "OwlYears", name := "crowdOf", desc := "(I)I" } : Jvm.MethodName)) ∈ lw_all := lw_g (lw_at lw_m9 42 rfl) rfl
theorem q2081 : (Jvm.Cond.code ({ cls := "OwlYears", name := "crowdOf", desc := "(I)I" } : Jvm.MethodName) prog_1_method_45_code (2 : Nat) (Option.some Jvm.ClassFile.FieldType.int)) ∈ lw_all := lw_g (lw_at lw_m9 43 rfl) rfl
theorem q2082 : (Jvm.Cond.methodLink "OwlYears" (228 : Nat) ({ cls := "OwlYears$Land", name := "crowd", desc := "(I)I" } : Jvm.MethodName)) ∈ lw_all := lw_g (lw_at lw_m9 44 rfl) rfl
theorem q2087 : (Jvm.Cond.instanceMethod ({ cls := "OwlYears", name := "riskOf", desc := "(I)I" } : Jvm.MethodName)) ∈ lw_all := lw_g (lw_at lw_m9 49 rfl) rfl
theorem q2088 : (Jvm.Cond.selects "OwlYears" ({ cls := "OwlYears", name := "riskOf", desc := "(I)I" } : Jvm.MethodName) ({ cls := "OwlYears", name := "riskOf", desc := "(I)I" } : Jvm.MethodName)) ∈ lw_all := lw_g (lw_at lw_m9 50 rfl) rfl
theorem q2089 : (Jvm.Cond.code ({ cls := "OwlYears", name := "riskOf", desc := "(I)I" } : Jvm.MethodName) prog_1_method_46_code (2 : Nat) (Option.some Jvm.ClassFile.FieldType.int)) ∈ lw_all := lw_g (lw_at lw_m9 51 rfl) rfl
theorem q2094 : (Jvm.Cond.instanceMethod ({ cls := "OwlYears", name := "livesIn", desc := "(II)I" } : Jvm.MethodName)) ∈ lw_all := lw_g (lw_at lw_m9 56 rfl) rfl
theorem q2095 : (Jvm.Cond.selects "OwlYears" ({ cls := "OwlYears", name := "livesIn", desc := "(II)I" } : Jvm.MethodName) ({ cls := "OwlYears", name := "livesIn", desc := "(II)I" } : Jvm.MethodName)) ∈ lw_all := lw_g (lw_at lw_m9 57 rfl) rfl
theorem q2096 : (Jvm.Cond.code ({ cls := "OwlYears", name := "livesIn", desc := "(II)I" } : Jvm.MethodName) prog_1_method_47_code (4 : Nat) (Option.some Jvm.ClassFile.FieldType.int)) ∈ lw_all := lw_g (lw_at lw_m9 58 rfl) rfl
theorem q2101 : (Jvm.Cond.instanceMethod ({ cls := "OwlYears", name := "whyNoYoung", desc := "(I)I" } : Jvm.MethodName)) ∈ lw_all := lw_g (lw_at lw_m9 63 rfl) rfl
theorem q2102 : (Jvm.Cond.selects "OwlYears" ({ cls := "OwlYears", name := "whyNoYoung", desc := "(I)I" } : Jvm.MethodName) ({ cls := "OwlYears", name := "whyNoYoung", desc := "(I)I" } : Jvm.MethodName)) ∈ lw_all := lw_g (lw_at lw_m9 64 rfl) rfl
theorem q2103 : (Jvm.Cond.code ({ cls := "OwlYears", name := "whyNoYoung", desc := "(I)I" } : Jvm.MethodName) prog_1_method_48_code (2 : Nat) (Option.some Jvm.ClassFile.FieldType.int)) ∈ lw_all := lw_g (lw_at lw_m9 65 rfl) rfl
theorem q2108 : (Jvm.Cond.instanceMethod ({ cls := "OwlYears", name := "youngOf", desc := "(I)I" } : Jvm.MethodName)) ∈ lw_all := lw_g (lw_at lw_m9 70 rfl) rfl
theorem q2109 : (Jvm.Cond.selects "OwlYears" ({ cls := "OwlYears", name := "youngOf", desc := "(I)I" } : Jvm.MethodName) ({ cls := "OwlYears", name := "youngOf", desc := "(I)I" } : Jvm.MethodName)) ∈ lw_all := lw_g (lw_at lw_m9 71 rfl) rfl
theorem q2110 : (Jvm.Cond.code ({ cls := "OwlYears", name := "youngOf", desc := "(I)I" } : Jvm.MethodName) prog_1_method_49_code (2 : Nat) (Option.some Jvm.ClassFile.FieldType.int)) ∈ lw_all := lw_g (lw_at lw_m9 72 rfl) rfl
theorem q2115 : (Jvm.Cond.instanceMethod ({ cls := "OwlYears", name := "ringAt", desc := "(I)I" } : Jvm.MethodName)) ∈ lw_all := lw_g (lw_at lw_m9 77 rfl) rfl
theorem q2116 : (Jvm.Cond.selects "OwlYears" ({ cls := "OwlYears", name := "ringAt", desc := "(I)I" } : Jvm.MethodName) ({ cls := "OwlYears", name := "ringAt", desc := "(I)I" } : Jvm.MethodName)) ∈ lw_all := lw_g (lw_at lw_m9 78 rfl) rfl
theorem q2117 : (Jvm.Cond.code ({ cls := "OwlYears", name := "ringAt", desc := "(I)I" } : Jvm.MethodName) prog_1_method_53_code (4 : Nat) (Option.some Jvm.ClassFile.FieldType.int)) ∈ lw_all := lw_g (lw_at lw_m9 79 rfl) rfl
theorem q2122 : (Jvm.Cond.instanceMethod ({ cls := "OwlYears", name := "sexOf", desc := "(I)I" } : Jvm.MethodName)) ∈ lw_all := lw_g (lw_at lw_m9 84 rfl) rfl
theorem q2123 : (Jvm.Cond.selects "OwlYears" ({ cls := "OwlYears", name := "sexOf", desc := "(I)I" } : Jvm.MethodName) ({ cls := "OwlYears", name := "sexOf", desc := "(I)I" } : Jvm.MethodName)) ∈ lw_all := lw_g (lw_at lw_m9 85 rfl) rfl
theorem q2124 : (Jvm.Cond.code ({ cls := "OwlYears", name := "sexOf", desc := "(I)I" } : Jvm.MethodName) prog_1_method_56_code (2 : Nat) (Option.some Jvm.ClassFile.FieldType.int)) ∈ lw_all := lw_g (lw_at lw_m9 86 rfl) rfl
theorem q2129 : (Jvm.Cond.instanceMethod ({ cls := "OwlYears", name := "ageOf", desc := "(I)I" } : Jvm.MethodName)) ∈ lw_all := lw_g (lw_at lw_m9 91 rfl) rfl
theorem q2130 : (Jvm.Cond.selects "OwlYears" ({ cls := "OwlYears", name := "ageOf", desc := "(I)I" } : Jvm.MethodName) ({ cls := "OwlYears", name := "ageOf", desc := "(I)I" } : Jvm.MethodName)) ∈ lw_all := lw_g (lw_at lw_m9 92 rfl) rfl
theorem q2131 : (Jvm.Cond.code ({ cls := "OwlYears", name := "ageOf", desc := "(I)I" } : Jvm.MethodName) prog_1_method_57_code (2 : Nat) (Option.some Jvm.ClassFile.FieldType.int)) ∈ lw_all := lw_g (lw_at lw_m9 93 rfl) rfl
theorem q2136 : (Jvm.Cond.instanceMethod ({ cls := "OwlYears", name := "boxOf", desc := "(I)I" } : Jvm.MethodName)) ∈ lw_all := lw_g (lw_at lw_m9 98 rfl) rfl
theorem q2137 : (Jvm.Cond.selects "OwlYears" ({ cls := "OwlYears", name := "boxOf", desc := "(I)I" } : Jvm.MethodName) ({ cls := "OwlYears", name := "boxOf", desc := "(I)I" } : Jvm.MethodName)) ∈ lw_all := lw_g (lw_at lw_m9 99 rfl) rfl
theorem q2138 : (Jvm.Cond.code ({ cls := "OwlYears", name := "boxOf", desc := "(I)I" } : Jvm.MethodName) prog_1_method_58_code (2 : Nat) (Option.some Jvm.ClassFile.FieldType.int)) ∈ lw_all := lw_g (lw_at lw_m9 100 rfl) rfl
theorem q2143 : (Jvm.Cond.instanceMethod ({ cls := "OwlYears", name := "motherOf", desc := "(I)I" } : Jvm.MethodName)) ∈ lw_all := lw_g (lw_at lw_m9 105 rfl) rfl
theorem q2144 : (Jvm.Cond.selects "OwlYears" ({ cls := "OwlYears", name := "motherOf", desc := "(I)I" } : Jvm.MethodName) ({ cls := "OwlYears", name := "motherOf", desc := "(I)I" } : Jvm.MethodName)) ∈ lw_all := lw_g (lw_at lw_m9 106 rfl) rfl
theorem q2145 : (Jvm.Cond.code ({ cls := "OwlYears", name := "motherOf", desc := "(I)I" } : Jvm.MethodName) prog_1_method_61_code (2 : Nat) (Option.some Jvm.ClassFile.FieldType.int)) ∈ lw_all := lw_g (lw_at lw_m9 107 rfl) rfl
theorem q2150 : (Jvm.Cond.instanceMethod ({ cls := "OwlYears", name := "fatherOf", desc := "(I)I" } : Jvm.MethodName)) ∈ lw_all := lw_g (lw_at lw_m9 112 rfl) rfl
theorem q2151 : (Jvm.Cond.selects "OwlYears" ({ cls := "OwlYears", name := "fatherOf", desc := "(I)I" } : Jvm.MethodName) ({ cls := "OwlYears", name := "fatherOf", desc := "(I)I" } : Jvm.MethodName)) ∈ lw_all := lw_g (lw_at lw_m9 113 rfl) rfl
theorem q2152 : (Jvm.Cond.code ({ cls := "OwlYears", name := "fatherOf", desc := "(I)I" } : Jvm.MethodName) prog_1_method_62_code (2 : Nat) (Option.some Jvm.ClassFile.FieldType.int)) ∈ lw_all := lw_g (lw_at lw_m9 114 rfl) rfl
theorem q2157 : (Jvm.Cond.instanceMethod ({ cls := "OwlYears", name := "childrenOf", desc := "(I)I" } : Jvm.MethodName)) ∈ lw_all := lw_g (lw_at lw_m9 119 rfl) rfl
theorem q2158 : (Jvm.Cond.selects "OwlYears" ({ cls := "OwlYears", name := "childrenOf", desc := "(I)I" } : Jvm.MethodName) ({ cls := "OwlYears", name := "childrenOf", desc := "(I)I" } : Jvm.MethodName)) ∈ lw_all := lw_g (lw_at lw_m9 120 rfl) rfl
theorem q2159 : (Jvm.Cond.code ({ cls := "OwlYears", name := "childrenOf", desc := "(I)I" } : Jvm.MethodName) prog_1_method_63_code (2 : Nat) (Option.some Jvm.ClassFile.FieldType.int)) ∈ lw_all := lw_g (lw_at lw_m9 121 rfl) rfl
theorem q2164 : (Jvm.Cond.instanceMethod ({ cls := "OwlYears", name := "offspringOf", desc := "(I)I" } : Jvm.MethodName)) ∈ lw_all := lw_g (lw_at lw_m9 126 rfl) rfl
theorem q2165 : (Jvm.Cond.selects "OwlYears" ({ cls := "OwlYears", name := "offspringOf", desc := "(I)I" } : Jvm.MethodName) ({ cls := "OwlYears", name := "offspringOf", desc := "(I)I" } : Jvm.MethodName)) ∈ lw_all := lw_g (lw_at lw_m9 127 rfl) rfl
theorem q2166 : (Jvm.Cond.code ({ cls := "OwlYears", name := "offspringOf", desc := "(I)I" } : Jvm.MethodName) prog_1_method_64_code (2 : Nat) (Option.some Jvm.ClassFile.FieldType.int)) ∈ lw_all := lw_g (lw_at lw_m9 128 rfl) rfl
theorem q2171 : (Jvm.Cond.instanceMethod ({ cls := "OwlYears", name := "offspringByParents", desc := "(I)I" } : Jvm.MethodName)) ∈ lw_all := lw_g (lw_at lw_m9 133 rfl) rfl
theorem q2172 : (Jvm.Cond.selects "OwlYears" ({ cls := "OwlYears", name := "offspringByParents", desc := "(I)I" } : Jvm.MethodName) ({ cls := "OwlYears", name := "offspringByParents", desc := "(I)I" } : Jvm.MethodName)) ∈ lw_all := lw_g (lw_at lw_m9 134 rfl) rfl
theorem q2173 : (Jvm.Cond.code ({ cls := "OwlYears", name := "offspringByParents", desc := "(I)I" } : Jvm.MethodName) prog_1_method_65_code (2 : Nat) (Option.some Jvm.ClassFile.FieldType.int)) ∈ lw_all := lw_g (lw_at lw_m9 135 rfl) rfl
theorem q2174 : (Jvm.Cond.methodLink "OwlYears" (282 : Nat) ({ cls := "OwlYears$Land", name := "offspringByParents", desc := "(I)I" } : Jvm.MethodName)) ∈ lw_all := lw_g (lw_at lw_m9 136 rfl) rfl
theorem q2182 : (Jvm.Cond.instanceMethod ({ cls := "OwlYears", name := "areKin", desc := "(II)Z" } : Jvm.MethodName)) ∈ lw_all := lw_g (lw_at lw_m9 144 rfl) rfl
theorem q2183 : (Jvm.Cond.selects "OwlYears" ({ cls := "OwlYears", name := "areKin", desc := "(II)Z" } : Jvm.MethodName) ({ cls := "OwlYears", name := "areKin", desc := "(II)Z" } : Jvm.MethodName)) ∈ lw_all := lw_g (lw_at lw_m9 145 rfl) rfl
theorem q2184 : (Jvm.Cond.code ({ cls := "OwlYears", name := "areKin", desc := "(II)Z" } : Jvm.MethodName) prog_1_method_66_code (3 : Nat) (Option.some Jvm.ClassFile.FieldType.boolean)) ∈ lw_all := lw_g (lw_at lw_m9 146 rfl) rfl
theorem q2185 : (Jvm.Cond.methodLink "OwlYears" (285 : Nat) ({ cls := "OwlYears$Land", name := "areKin", desc := "(II)Z" } : Jvm.MethodName)) ∈ lw_all := lw_g (lw_at lw_m9 147 rfl) rfl
theorem q2190 : (Jvm.Cond.instanceMethod ({ cls := "OwlYears", name := "died", desc := "(I)I" } : Jvm.MethodName)) ∈ lw_all := lw_g (lw_at lw_m9 152 rfl) rfl
theorem q2191 : (Jvm.Cond.selects "OwlYears" ({ cls := "OwlYears", name := "died", desc := "(I)I" } : Jvm.MethodName) ({ cls := "OwlYears", name := "died", desc := "(I)I" } : Jvm.MethodName)) ∈ lw_all := lw_g (lw_at lw_m9 153 rfl) rfl
theorem q2192 : (Jvm.Cond.code ({ cls := "OwlYears", name := "died", desc := "(I)I" } : Jvm.MethodName) prog_1_method_69_code (2 : Nat) (Option.some Jvm.ClassFile.FieldType.int)) ∈ lw_all := lw_g (lw_at lw_m9 154 rfl) rfl
theorem q2197 : (Jvm.Cond.instanceMethod ({ cls := "OwlYears", name := "deathRing", desc := "(I)I" } : Jvm.MethodName)) ∈ lw_all := lw_g (lw_at lw_m9 159 rfl) rfl
theorem q2198 : (Jvm.Cond.selects "OwlYears" ({ cls := "OwlYears", name := "deathRing", desc := "(I)I" } : Jvm.MethodName) ({ cls := "OwlYears", name := "deathRing", desc := "(I)I" } : Jvm.MethodName)) ∈ lw_all := lw_g (lw_at lw_m9 160 rfl) rfl
theorem q2199 : (Jvm.Cond.code ({ cls := "OwlYears", name := "deathRing", desc := "(I)I" } : Jvm.MethodName) prog_1_method_75_code (2 : Nat) (Option.some Jvm.ClassFile.FieldType.int)) ∈ lw_all := lw_g (lw_at lw_m9 161 rfl) rfl
theorem q2200 : (Jvm.Cond.methodLink "OwlYears" (312 : Nat) ({ cls := "OwlYears", name := "death", desc := "(II)I" } : Jvm.MethodName)) ∈ lw_all := lw_g (lw_at lw_m9 162 rfl) rfl
theorem q2201 : (Jvm.Cond.privateMethod ({ cls := "OwlYears", name := "death", desc := "(II)I" } : Jvm.MethodName)) ∈ lw_tbl := lw_at lw_m9 163 rfl
theorem q2202 : (Jvm.Cond.instanceMethod ({ cls := "OwlYears", name := "death", desc := "(II)I" } : Jvm.MethodName)) ∈ lw_all := lw_g (lw_at lw_m9 164 rfl) rfl
theorem q2203 : (Jvm.Cond.code ({ cls := "OwlYears", name := "death", desc := "(II)I" } : Jvm.MethodName) prog_1_method_74_code (3 : Nat) (Option.some Jvm.ClassFile.FieldType.int)) ∈ lw_all := lw_g (lw_at lw_m9 165 rfl) rfl
theorem q2208 : (Jvm.Cond.instanceMethod ({ cls := "OwlYears", name := "deathCause", desc := "(I)I" } : Jvm.MethodName)) ∈ lw_all := lw_g (lw_at lw_m9 170 rfl) rfl
theorem q2209 : (Jvm.Cond.selects "OwlYears" ({ cls := "OwlYears", name := "deathCause", desc := "(I)I" } : Jvm.MethodName) ({ cls := "OwlYears", name := "deathCause", desc := "(I)I" } : Jvm.MethodName)) ∈ lw_all := lw_g (lw_at lw_m9 171 rfl) rfl
theorem q2210 : (Jvm.Cond.code ({ cls := "OwlYears", name := "deathCause", desc := "(I)I" } : Jvm.MethodName) prog_1_method_76_code (2 : Nat) (Option.some Jvm.ClassFile.FieldType.int)) ∈ lw_all := lw_g (lw_at lw_m9 172 rfl) rfl
theorem q2215 : (Jvm.Cond.instanceMethod ({ cls := "OwlYears", name := "deathYear", desc := "(I)I" } : Jvm.MethodName)) ∈ lw_all := lw_g (lw_at lw_m9 177 rfl) rfl
theorem q2216 : (Jvm.Cond.selects "OwlYears" ({ cls := "OwlYears", name := "deathYear", desc := "(I)I" } : Jvm.MethodName) ({ cls := "OwlYears", name := "deathYear", desc := "(I)I" } : Jvm.MethodName)) ∈ lw_all := lw_g (lw_at lw_m9 178 rfl) rfl
theorem q2217 : (Jvm.Cond.code ({ cls := "OwlYears", name := "deathYear", desc := "(I)I" } : Jvm.MethodName) prog_1_method_77_code (2 : Nat) (Option.some Jvm.ClassFile.FieldType.int)) ∈ lw_all := lw_g (lw_at lw_m9 179 rfl) rfl
theorem q2222 : (Jvm.Cond.instanceMethod ({ cls := "OwlYears", name := "owlsIn", desc := "(I)I" } : Jvm.MethodName)) ∈ lw_all := lw_g (lw_at lw_m9 184 rfl) rfl
theorem q2223 : (Jvm.Cond.selects "OwlYears" ({ cls := "OwlYears", name := "owlsIn", desc := "(I)I" } : Jvm.MethodName) ({ cls := "OwlYears", name := "owlsIn", desc := "(I)I" } : Jvm.MethodName)) ∈ lw_all := lw_g (lw_at lw_m9 185 rfl) rfl
theorem q2224 : (Jvm.Cond.code ({ cls := "OwlYears", name := "owlsIn", desc := "(I)I" } : Jvm.MethodName) prog_1_method_79_code (2 : Nat) (Option.some Jvm.ClassFile.FieldType.int)) ∈ lw_all := lw_g (lw_at lw_m9 186 rfl) rfl
theorem q2229 : (Jvm.Cond.instanceMethod ({ cls := "OwlYears", name := "owlsWithRoad", desc := "(IZI)I" } : Jvm.MethodName)) ∈ lw_all := lw_g (lw_at lw_m9 191 rfl) rfl
theorem q2230 : (Jvm.Cond.selects "OwlYears" ({ cls := "OwlYears", name := "owlsWithRoad", desc := "(IZI)I" } : Jvm.MethodName) ({ cls := "OwlYears", name := "owlsWithRoad", desc := "(IZI)I" } : Jvm.MethodName)) ∈ lw_all := lw_g (lw_at lw_m9 192 rfl) rfl
theorem q2231 : (Jvm.Cond.code ({ cls := "OwlYears", name := "owlsWithRoad", desc := "(IZI)I" } : Jvm.MethodName) prog_1_method_80_code (4 : Nat) (Option.some Jvm.ClassFile.FieldType.int)) ∈ lw_all := lw_g (lw_at lw_m9 193 rfl) rfl
theorem q2232 : (Jvm.Cond.methodLink "OwlYears" (321 : Nat) ({ cls := "OwlYears$Land", name := "owlsWithRoad", desc := "(IZI)I" } : Jvm.MethodName)) ∈ lw_all := lw_g (lw_at lw_m9 194 rfl) rfl
theorem q2237 : (Jvm.Cond.instanceMethod ({ cls := "OwlYears", name := "goBack", desc := "()I" } : Jvm.MethodName)) ∈ lw_all := lw_g (lw_at lw_m9 199 rfl) rfl
theorem q2238 : (Jvm.Cond.selects "OwlYears" ({ cls := "OwlYears", name := "goBack", desc := "()I" } : Jvm.MethodName) ({ cls := "OwlYears", name := "goBack", desc := "()I" } : Jvm.MethodName)) ∈ lw_all := lw_g (lw_at lw_m9 200 rfl) rfl
theorem q2239 : (Jvm.Cond.code ({ cls := "OwlYears", name := "goBack", desc := "()I" } : Jvm.MethodName) prog_1_method_16_code (1 : Nat) (Option.some Jvm.ClassFile.FieldType.int)) ∈ lw_all := lw_g (lw_at lw_m9 201 rfl) rfl
theorem q2244 : (Jvm.Cond.instanceMethod ({ cls := "OwlYears", name := "append", desc := "(I)I" } : Jvm.MethodName)) ∈ lw_all := lw_g (lw_at lw_m9 206 rfl) rfl
theorem q2245 : (Jvm.Cond.selects "OwlYears" ({ cls := "OwlYears", name := "append", desc := "(I)I" } : Jvm.MethodName) ({ cls := "OwlYears", name := "append", desc := "(I)I" } : Jvm.MethodName)) ∈ lw_all := lw_g (lw_at lw_m9 207 rfl) rfl
theorem q2246 : (Jvm.Cond.code ({ cls := "OwlYears", name := "append", desc := "(I)I" } : Jvm.MethodName) prog_1_method_83_code (2 : Nat) (Option.some Jvm.ClassFile.FieldType.int)) ∈ lw_all := lw_g (lw_at lw_m9 208 rfl) rfl
theorem q2247 : (Jvm.Cond.methodLink "OwlYears" (334 : Nat) ({ cls := "java/lang/StringBuilder", name := "append", desc := "(C)Ljava/lang/StringBuilder;" } : Jvm.MethodName)) ∈ lw_all := lw_g (lw_at lw_m9 209 rfl) rfl
theorem q2268 : (Jvm.Cond.instanceMethod ({ cls := "OwlYears", name := "doWorks", desc := "()I" } : Jvm.MethodName)) ∈ lw_all := lw_g (lw_at lw_m9 230 rfl) rfl
theorem q2269 : (Jvm.Cond.selects "OwlYears" ({ cls := "OwlYears", name := "doWorks", desc := "()I" } : Jvm.MethodName) ({ cls := "OwlYears", name := "doWorks", desc := "()I" } : Jvm.MethodName)) ∈ lw_all := lw_g (lw_at lw_m9 231 rfl) rfl
theorem q2270 : (Jvm.Cond.code ({ cls := "OwlYears", name := "doWorks", desc := "()I" } : Jvm.MethodName) prog_1_method_89_code (4 : Nat) (Option.some Jvm.ClassFile.FieldType.int)) ∈ lw_all := lw_g (lw_at lw_m9 232 rfl) rfl
theorem q2271 : (Jvm.Cond.classLink "OwlYears" (350 : Nat) "OwlYears$Work") ∈ lw_all := lw_g (lw_at lw_m9 233 rfl) rfl
theorem q2272 : (Jvm.Cond.methodLink "OwlYears" (368 : Nat) ({ cls := "OwlYears", name := "isPossible", desc := "(LOwlYears$Work;)Z" } : Jvm.MethodName)) ∈ lw_all := lw_g (lw_at lw_m9 234 rfl) rfl
theorem q2273 : (Jvm.Cond.privateMethod ({ cls := "OwlYears", name := "isPossible", desc := "(LOwlYears$Work;)Z" } : Jvm.MethodName)) ∈ lw_tbl := lw_at lw_m9 235 rfl
theorem q2274 : (Jvm.Cond.instanceMethod ({ cls := "OwlYears", name := "isPossible", desc := "(LOwlYears$Work;)Z" } : Jvm.MethodName)) ∈ lw_all := lw_g (lw_at lw_m9 236 rfl) rfl
theorem q2275 : (Jvm.Cond.code ({ cls := "OwlYears", name := "isPossible", desc := "(LOwlYears$Work;)Z" } : Jvm.MethodName) prog_1_method_86_code (2 : Nat) (Option.some Jvm.ClassFile.FieldType.boolean)) ∈ lw_all := lw_g (lw_at lw_m9 237 rfl) rfl
theorem q2276 : (Jvm.Cond.methodLink "OwlYears" (361 : Nat) ({ cls := "OwlYears", name := "kindBy", desc := "(C)I" } : Jvm.MethodName)) ∈ lw_all := lw_g (lw_at lw_m9 238 rfl) rfl
theorem q2277 : (Jvm.Cond.static ({ cls := "OwlYears", name := "kindBy", desc := "(C)I" } : Jvm.MethodName)) ∈ lw_all := lw_g (lw_at lw_m9 239 rfl) rfl
theorem q2278 : (Jvm.Cond.code ({ cls := "OwlYears", name := "kindBy", desc := "(C)I" } : Jvm.MethodName) prog_1_method_87_code (1 : Nat) (Option.some Jvm.ClassFile.FieldType.int)) ∈ lw_all := lw_g (lw_at lw_m10 0 rfl) rfl
theorem q2279 : (Jvm.Cond.methodLink "OwlYears" (372 : Nat) ({ cls := "OwlYears", name := "happen", desc := "(LOwlYears$Work;)V" } : Jvm.MethodName)) ∈ lw_all := lw_g (lw_at lw_m10 1 rfl) rfl
theorem q2280 : (Jvm.Cond.privateMethod ({ cls := "OwlYears", name := "happen", desc := "(LOwlYears$Work;)V" } : Jvm.MethodName)) ∈ lw_tbl := lw_at lw_m10 2 rfl
theorem q2281 : (Jvm.Cond.instanceMethod ({ cls := "OwlYears", name := "happen", desc := "(LOwlYears$Work;)V" } : Jvm.MethodName)) ∈ lw_all := lw_g (lw_at lw_m10 3 rfl) rfl
theorem q2282 : (Jvm.Cond.code ({ cls := "OwlYears", name := "happen", desc := "(LOwlYears$Work;)V" } : Jvm.MethodName) prog_1_method_88_code (2 : Nat) (Option.none : Option Jvm.ClassFile.FieldType)) ∈ lw_all := lw_g (lw_at lw_m10 4 rfl) rfl
theorem q2287 : (Jvm.Cond.instanceMethod ({ cls := "OwlYears", name := "undo", desc := "()I" } : Jvm.MethodName)) ∈ lw_all := lw_g (lw_at lw_m10 9 rfl) rfl
theorem q2288 : (Jvm.Cond.selects "OwlYears" ({ cls := "OwlYears", name := "undo", desc := "()I" } : Jvm.MethodName) ({ cls := "OwlYears", name := "undo", desc := "()I" } : Jvm.MethodName)) ∈ lw_all := lw_g (lw_at lw_m10 10 rfl) rfl
theorem q2289 : (Jvm.Cond.code ({ cls := "OwlYears", name := "undo", desc := "()I" } : Jvm.MethodName) prog_1_method_14_code (1 : Nat) (Option.some Jvm.ClassFile.FieldType.int)) ∈ lw_all := lw_g (lw_at lw_m10 11 rfl) rfl
theorem q2290 : (Jvm.Cond.methodLink "OwlYears" (83 : Nat) ({ cls := "java/util/ArrayList", name := "isEmpty", desc := "()Z" } : Jvm.MethodName)) ∈ lw_all := lw_g (lw_at lw_m10 12 rfl) rfl
theorem q2966 : (Jvm.Cond.castable "OwlYears" "java/lang/Object") ∈ lw_tbl := lw_at lw_m12 208 rfl
theorem in_X1 : ∀ w ∈ wsX10, w ∈ lw_all := lw_in wsX10 [341, 343, 345, 347] (by decide +kernel) (by decide +kernel)
