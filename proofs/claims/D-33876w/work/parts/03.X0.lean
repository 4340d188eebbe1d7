/-! OwlYearsLaw -/
set_option maxRecDepth 100000
def RX0 : String := "OwlYearsLaw"
abbrev cX0_setLand : ByteArray := method_3_code
def yX0_setLand : MethodName := ⟨RX0, "setLand", "(LOwlYears;II[J)I"⟩
def dkwX0_setLand_1 : List UInt8 := [172, 3, 172]
abbrev dktX0_setLand_1 : List UInt8 := dkwX0_setLand_1 ++ []
def dkwX0_setLand_0 : List UInt8 := [45, 3, 42, 27, 28, 182, 0, 7, 133, 80, 167, 0, 15, 58, 4, 4, 172, 58, 4, 5, 172, 58, 4, 6]
abbrev dktX0_setLand_0 : List UInt8 := dkwX0_setLand_0 ++ dktX0_setLand_1
theorem dksX0_setLand_0 : cX0_setLand.data.toList.drop 0 = dktX0_setLand_0 := by decide +kernel
theorem dksX0_setLand_1 : cX0_setLand.data.toList.drop 24 = dktX0_setLand_1 := dk_seg dksX0_setLand_0 24 rfl rfl
theorem dX0_setLand_0 : decode cX0_setLand 0 = .ok (.aload_n 3, 1) := dk_45 (dk_at dksX0_setLand_0 0 rfl rfl)
theorem dX0_setLand_1 : decode cX0_setLand 1 = .ok (.iconst 0, 1) := dk_3 (dk_at dksX0_setLand_0 1 rfl rfl)
theorem dX0_setLand_2 : decode cX0_setLand 2 = .ok (.aload_n 0, 1) := dk_42 (dk_at dksX0_setLand_0 2 rfl rfl)
theorem dX0_setLand_3 : decode cX0_setLand 3 = .ok (.iload_n 1, 1) := dk_27 (dk_at dksX0_setLand_0 3 rfl rfl)
theorem dX0_setLand_4 : decode cX0_setLand 4 = .ok (.iload_n 2, 1) := dk_28 (dk_at dksX0_setLand_0 4 rfl rfl)
theorem dX0_setLand_5 : decode cX0_setLand 5 = .ok (.invokevirtual 7, 3) := dk_182 0 7 (dk_at dksX0_setLand_0 5 rfl rfl)
theorem dX0_setLand_8 : decode cX0_setLand 8 = .ok (.i2l, 1) := dk_133 (dk_at dksX0_setLand_0 8 rfl rfl)
theorem dX0_setLand_9 : decode cX0_setLand 9 = .ok (.lastore, 1) := dk_80 (dk_at dksX0_setLand_0 9 rfl rfl)
theorem dX0_setLand_10 : decode cX0_setLand 10 = .ok (.goto 15, 3) := dk_167 0 15 (dk_at dksX0_setLand_0 10 rfl rfl)
theorem dX0_setLand_13 : decode cX0_setLand 13 = .ok (.astore 4, 2) := dk_58 4 (dk_at dksX0_setLand_0 13 rfl rfl)
theorem dX0_setLand_15 : decode cX0_setLand 15 = .ok (.iconst 1, 1) := dk_4 (dk_at dksX0_setLand_0 15 rfl rfl)
theorem dX0_setLand_16 : decode cX0_setLand 16 = .ok (.ireturn, 1) := dk_172 (dk_at dksX0_setLand_0 16 rfl rfl)
theorem dX0_setLand_17 : decode cX0_setLand 17 = .ok (.astore 4, 2) := dk_58 4 (dk_at dksX0_setLand_0 17 rfl rfl)
theorem dX0_setLand_19 : decode cX0_setLand 19 = .ok (.iconst 2, 1) := dk_5 (dk_at dksX0_setLand_0 19 rfl rfl)
theorem dX0_setLand_20 : decode cX0_setLand 20 = .ok (.ireturn, 1) := dk_172 (dk_at dksX0_setLand_0 20 rfl rfl)
theorem dX0_setLand_21 : decode cX0_setLand 21 = .ok (.astore 4, 2) := dk_58 4 (dk_at dksX0_setLand_0 21 rfl rfl)
theorem dX0_setLand_23 : decode cX0_setLand 23 = .ok (.iconst 3, 1) := dk_6 (dk_at dksX0_setLand_0 23 rfl rfl)
theorem dX0_setLand_24 : decode cX0_setLand 24 = .ok (.ireturn, 1) := dk_172 (dk_at dksX0_setLand_1 0 rfl rfl)
theorem dX0_setLand_25 : decode cX0_setLand 25 = .ok (.iconst 0, 1) := dk_3 (dk_at dksX0_setLand_1 1 rfl rfl)
theorem dX0_setLand_26 : decode cX0_setLand 26 = .ok (.ireturn, 1) := dk_172 (dk_at dksX0_setLand_1 2 rfl rfl)
abbrev cX0_buildRoad : ByteArray := method_4_code
def yX0_buildRoad : MethodName := ⟨RX0, "buildRoad", "(LOwlYears;IZ[J)I"⟩
def dkwX0_buildRoad_0 : List UInt8 := [45, 3, 42, 27, 28, 182, 0, 19, 133, 80, 167, 0, 7, 58, 4, 4, 172, 3, 172]
abbrev dktX0_buildRoad_0 : List UInt8 := dkwX0_buildRoad_0 ++ []
theorem dksX0_buildRoad_0 : cX0_buildRoad.data.toList.drop 0 = dktX0_buildRoad_0 := by decide +kernel
theorem dX0_buildRoad_0 : decode cX0_buildRoad 0 = .ok (.aload_n 3, 1) := dk_45 (dk_at dksX0_buildRoad_0 0 rfl rfl)
theorem dX0_buildRoad_1 : decode cX0_buildRoad 1 = .ok (.iconst 0, 1) := dk_3 (dk_at dksX0_buildRoad_0 1 rfl rfl)
theorem dX0_buildRoad_2 : decode cX0_buildRoad 2 = .ok (.aload_n 0, 1) := dk_42 (dk_at dksX0_buildRoad_0 2 rfl rfl)
theorem dX0_buildRoad_3 : decode cX0_buildRoad 3 = .ok (.iload_n 1, 1) := dk_27 (dk_at dksX0_buildRoad_0 3 rfl rfl)
theorem dX0_buildRoad_4 : decode cX0_buildRoad 4 = .ok (.iload_n 2, 1) := dk_28 (dk_at dksX0_buildRoad_0 4 rfl rfl)
theorem dX0_buildRoad_5 : decode cX0_buildRoad 5 = .ok (.invokevirtual 19, 3) := dk_182 0 19 (dk_at dksX0_buildRoad_0 5 rfl rfl)
theorem dX0_buildRoad_8 : decode cX0_buildRoad 8 = .ok (.i2l, 1) := dk_133 (dk_at dksX0_buildRoad_0 8 rfl rfl)
theorem dX0_buildRoad_9 : decode cX0_buildRoad 9 = .ok (.lastore, 1) := dk_80 (dk_at dksX0_buildRoad_0 9 rfl rfl)
theorem dX0_buildRoad_10 : decode cX0_buildRoad 10 = .ok (.goto 7, 3) := dk_167 0 7 (dk_at dksX0_buildRoad_0 10 rfl rfl)
theorem dX0_buildRoad_13 : decode cX0_buildRoad 13 = .ok (.astore 4, 2) := dk_58 4 (dk_at dksX0_buildRoad_0 13 rfl rfl)
theorem dX0_buildRoad_15 : decode cX0_buildRoad 15 = .ok (.iconst 1, 1) := dk_4 (dk_at dksX0_buildRoad_0 15 rfl rfl)
theorem dX0_buildRoad_16 : decode cX0_buildRoad 16 = .ok (.ireturn, 1) := dk_172 (dk_at dksX0_buildRoad_0 16 rfl rfl)
theorem dX0_buildRoad_17 : decode cX0_buildRoad 17 = .ok (.iconst 0, 1) := dk_3 (dk_at dksX0_buildRoad_0 17 rfl rfl)
theorem dX0_buildRoad_18 : decode cX0_buildRoad 18 = .ok (.ireturn, 1) := dk_172 (dk_at dksX0_buildRoad_0 18 rfl rfl)
abbrev cX0_setVoles : ByteArray := method_5_code
def yX0_setVoles : MethodName := ⟨RX0, "setVoles", "(LOwlYears;II[J)I"⟩
def dkwX0_setVoles_1 : List UInt8 := [172, 3, 172]
abbrev dktX0_setVoles_1 : List UInt8 := dkwX0_setVoles_1 ++ []
def dkwX0_setVoles_0 : List UInt8 := [45, 3, 42, 27, 28, 182, 0, 23, 133, 80, 167, 0, 15, 58, 4, 4, 172, 58, 4, 5, 172, 58, 4, 6]
abbrev dktX0_setVoles_0 : List UInt8 := dkwX0_setVoles_0 ++ dktX0_setVoles_1
theorem dksX0_setVoles_0 : cX0_setVoles.data.toList.drop 0 = dktX0_setVoles_0 := by decide +kernel
theorem dksX0_setVoles_1 : cX0_setVoles.data.toList.drop 24 = dktX0_setVoles_1 := dk_seg dksX0_setVoles_0 24 rfl rfl
theorem dX0_setVoles_0 : decode cX0_setVoles 0 = .ok (.aload_n 3, 1) := dk_45 (dk_at dksX0_setVoles_0 0 rfl rfl)
theorem dX0_setVoles_1 : decode cX0_setVoles 1 = .ok (.iconst 0, 1) := dk_3 (dk_at dksX0_setVoles_0 1 rfl rfl)
theorem dX0_setVoles_2 : decode cX0_setVoles 2 = .ok (.aload_n 0, 1) := dk_42 (dk_at dksX0_setVoles_0 2 rfl rfl)
theorem dX0_setVoles_3 : decode cX0_setVoles 3 = .ok (.iload_n 1, 1) := dk_27 (dk_at dksX0_setVoles_0 3 rfl rfl)
theorem dX0_setVoles_4 : decode cX0_setVoles 4 = .ok (.iload_n 2, 1) := dk_28 (dk_at dksX0_setVoles_0 4 rfl rfl)
theorem dX0_setVoles_5 : decode cX0_setVoles 5 = .ok (.invokevirtual 23, 3) := dk_182 0 23 (dk_at dksX0_setVoles_0 5 rfl rfl)
theorem dX0_setVoles_8 : decode cX0_setVoles 8 = .ok (.i2l, 1) := dk_133 (dk_at dksX0_setVoles_0 8 rfl rfl)
theorem dX0_setVoles_9 : decode cX0_setVoles 9 = .ok (.lastore, 1) := dk_80 (dk_at dksX0_setVoles_0 9 rfl rfl)
theorem dX0_setVoles_10 : decode cX0_setVoles 10 = .ok (.goto 15, 3) := dk_167 0 15 (dk_at dksX0_setVoles_0 10 rfl rfl)
theorem dX0_setVoles_13 : decode cX0_setVoles 13 = .ok (.astore 4, 2) := dk_58 4 (dk_at dksX0_setVoles_0 13 rfl rfl)
theorem dX0_setVoles_15 : decode cX0_setVoles 15 = .ok (.iconst 1, 1) := dk_4 (dk_at dksX0_setVoles_0 15 rfl rfl)
theorem dX0_setVoles_16 : decode cX0_setVoles 16 = .ok (.ireturn, 1) := dk_172 (dk_at dksX0_setVoles_0 16 rfl rfl)
theorem dX0_setVoles_17 : decode cX0_setVoles 17 = .ok (.astore 4, 2) := dk_58 4 (dk_at dksX0_setVoles_0 17 rfl rfl)
theorem dX0_setVoles_19 : decode cX0_setVoles 19 = .ok (.iconst 2, 1) := dk_5 (dk_at dksX0_setVoles_0 19 rfl rfl)
theorem dX0_setVoles_20 : decode cX0_setVoles 20 = .ok (.ireturn, 1) := dk_172 (dk_at dksX0_setVoles_0 20 rfl rfl)
theorem dX0_setVoles_21 : decode cX0_setVoles 21 = .ok (.astore 4, 2) := dk_58 4 (dk_at dksX0_setVoles_0 21 rfl rfl)
theorem dX0_setVoles_23 : decode cX0_setVoles 23 = .ok (.iconst 3, 1) := dk_6 (dk_at dksX0_setVoles_0 23 rfl rfl)
theorem dX0_setVoles_24 : decode cX0_setVoles 24 = .ok (.ireturn, 1) := dk_172 (dk_at dksX0_setVoles_1 0 rfl rfl)
theorem dX0_setVoles_25 : decode cX0_setVoles 25 = .ok (.iconst 0, 1) := dk_3 (dk_at dksX0_setVoles_1 1 rfl rfl)
theorem dX0_setVoles_26 : decode cX0_setVoles 26 = .ok (.ireturn, 1) := dk_172 (dk_at dksX0_setVoles_1 2 rfl rfl)
abbrev cX0_setChances : ByteArray := method_6_code
def yX0_setChances : MethodName := ⟨RX0, "setChances", "(LOwlYears;I[J)I"⟩
def dkwX0_setChances_0 : List UInt8 := [44, 3, 42, 27, 182, 0, 26, 133, 80, 167, 0, 6, 78, 4, 172, 3, 172]
abbrev dktX0_setChances_0 : List UInt8 := dkwX0_setChances_0 ++ []
theorem dksX0_setChances_0 : cX0_setChances.data.toList.drop 0 = dktX0_setChances_0 := by decide +kernel
theorem dX0_setChances_0 : decode cX0_setChances 0 = .ok (.aload_n 2, 1) := dk_44 (dk_at dksX0_setChances_0 0 rfl rfl)
theorem dX0_setChances_1 : decode cX0_setChances 1 = .ok (.iconst 0, 1) := dk_3 (dk_at dksX0_setChances_0 1 rfl rfl)
theorem dX0_setChances_2 : decode cX0_setChances 2 = .ok (.aload_n 0, 1) := dk_42 (dk_at dksX0_setChances_0 2 rfl rfl)
theorem dX0_setChances_3 : decode cX0_setChances 3 = .ok (.iload_n 1, 1) := dk_27 (dk_at dksX0_setChances_0 3 rfl rfl)
theorem dX0_setChances_4 : decode cX0_setChances 4 = .ok (.invokevirtual 26, 3) := dk_182 0 26 (dk_at dksX0_setChances_0 4 rfl rfl)
theorem dX0_setChances_7 : decode cX0_setChances 7 = .ok (.i2l, 1) := dk_133 (dk_at dksX0_setChances_0 7 rfl rfl)
theorem dX0_setChances_8 : decode cX0_setChances 8 = .ok (.lastore, 1) := dk_80 (dk_at dksX0_setChances_0 8 rfl rfl)
theorem dX0_setChances_9 : decode cX0_setChances 9 = .ok (.goto 6, 3) := dk_167 0 6 (dk_at dksX0_setChances_0 9 rfl rfl)
theorem dX0_setChances_12 : decode cX0_setChances 12 = .ok (.astore_n 3, 1) := dk_78 (dk_at dksX0_setChances_0 12 rfl rfl)
theorem dX0_setChances_13 : decode cX0_setChances 13 = .ok (.iconst 1, 1) := dk_4 (dk_at dksX0_setChances_0 13 rfl rfl)
theorem dX0_setChances_14 : decode cX0_setChances 14 = .ok (.ireturn, 1) := dk_172 (dk_at dksX0_setChances_0 14 rfl rfl)
theorem dX0_setChances_15 : decode cX0_setChances 15 = .ok (.iconst 0, 1) := dk_3 (dk_at dksX0_setChances_0 15 rfl rfl)
theorem dX0_setChances_16 : decode cX0_setChances 16 = .ok (.ireturn, 1) := dk_172 (dk_at dksX0_setChances_0 16 rfl rfl)
abbrev cX0_putBox : ByteArray := method_7_code
def yX0_putBox : MethodName := ⟨RX0, "putBox", "(LOwlYears;I[J)I"⟩
def dkwX0_putBox_0 : List UInt8 := [44, 3, 42, 27, 182, 0, 30, 133, 80, 167, 0, 9, 78, 4, 172, 78, 5, 172, 3, 172]
abbrev dktX0_putBox_0 : List UInt8 := dkwX0_putBox_0 ++ []
theorem dksX0_putBox_0 : cX0_putBox.data.toList.drop 0 = dktX0_putBox_0 := by decide +kernel
theorem dX0_putBox_0 : decode cX0_putBox 0 = .ok (.aload_n 2, 1) := dk_44 (dk_at dksX0_putBox_0 0 rfl rfl)
theorem dX0_putBox_1 : decode cX0_putBox 1 = .ok (.iconst 0, 1) := dk_3 (dk_at dksX0_putBox_0 1 rfl rfl)
theorem dX0_putBox_2 : decode cX0_putBox 2 = .ok (.aload_n 0, 1) := dk_42 (dk_at dksX0_putBox_0 2 rfl rfl)
theorem dX0_putBox_3 : decode cX0_putBox 3 = .ok (.iload_n 1, 1) := dk_27 (dk_at dksX0_putBox_0 3 rfl rfl)
theorem dX0_putBox_4 : decode cX0_putBox 4 = .ok (.invokevirtual 30, 3) := dk_182 0 30 (dk_at dksX0_putBox_0 4 rfl rfl)
theorem dX0_putBox_7 : decode cX0_putBox 7 = .ok (.i2l, 1) := dk_133 (dk_at dksX0_putBox_0 7 rfl rfl)
theorem dX0_putBox_8 : decode cX0_putBox 8 = .ok (.lastore, 1) := dk_80 (dk_at dksX0_putBox_0 8 rfl rfl)
theorem dX0_putBox_9 : decode cX0_putBox 9 = .ok (.goto 9, 3) := dk_167 0 9 (dk_at dksX0_putBox_0 9 rfl rfl)
theorem dX0_putBox_12 : decode cX0_putBox 12 = .ok (.astore_n 3, 1) := dk_78 (dk_at dksX0_putBox_0 12 rfl rfl)
theorem dX0_putBox_13 : decode cX0_putBox 13 = .ok (.iconst 1, 1) := dk_4 (dk_at dksX0_putBox_0 13 rfl rfl)
theorem dX0_putBox_14 : decode cX0_putBox 14 = .ok (.ireturn, 1) := dk_172 (dk_at dksX0_putBox_0 14 rfl rfl)
theorem dX0_putBox_15 : decode cX0_putBox 15 = .ok (.astore_n 3, 1) := dk_78 (dk_at dksX0_putBox_0 15 rfl rfl)
theorem dX0_putBox_16 : decode cX0_putBox 16 = .ok (.iconst 2, 1) := dk_5 (dk_at dksX0_putBox_0 16 rfl rfl)
theorem dX0_putBox_17 : decode cX0_putBox 17 = .ok (.ireturn, 1) := dk_172 (dk_at dksX0_putBox_0 17 rfl rfl)
theorem dX0_putBox_18 : decode cX0_putBox 18 = .ok (.iconst 0, 1) := dk_3 (dk_at dksX0_putBox_0 18 rfl rfl)
theorem dX0_putBox_19 : decode cX0_putBox 19 = .ok (.ireturn, 1) := dk_172 (dk_at dksX0_putBox_0 19 rfl rfl)
abbrev cX0_takeBox : ByteArray := method_8_code
def yX0_takeBox : MethodName := ⟨RX0, "takeBox", "(LOwlYears;I[J)I"⟩
def dkwX0_takeBox_0 : List UInt8 := [44, 3, 42, 27, 182, 0, 33, 133, 80, 167, 0, 6, 78, 4, 172, 3, 172]
abbrev dktX0_takeBox_0 : List UInt8 := dkwX0_takeBox_0 ++ []
theorem dksX0_takeBox_0 : cX0_takeBox.data.toList.drop 0 = dktX0_takeBox_0 := by decide +kernel
theorem dX0_takeBox_0 : decode cX0_takeBox 0 = .ok (.aload_n 2, 1) := dk_44 (dk_at dksX0_takeBox_0 0 rfl rfl)
theorem dX0_takeBox_1 : decode cX0_takeBox 1 = .ok (.iconst 0, 1) := dk_3 (dk_at dksX0_takeBox_0 1 rfl rfl)
theorem dX0_takeBox_2 : decode cX0_takeBox 2 = .ok (.aload_n 0, 1) := dk_42 (dk_at dksX0_takeBox_0 2 rfl rfl)
theorem dX0_takeBox_3 : decode cX0_takeBox 3 = .ok (.iload_n 1, 1) := dk_27 (dk_at dksX0_takeBox_0 3 rfl rfl)
theorem dX0_takeBox_4 : decode cX0_takeBox 4 = .ok (.invokevirtual 33, 3) := dk_182 0 33 (dk_at dksX0_takeBox_0 4 rfl rfl)
theorem dX0_takeBox_7 : decode cX0_takeBox 7 = .ok (.i2l, 1) := dk_133 (dk_at dksX0_takeBox_0 7 rfl rfl)
theorem dX0_takeBox_8 : decode cX0_takeBox 8 = .ok (.lastore, 1) := dk_80 (dk_at dksX0_takeBox_0 8 rfl rfl)
theorem dX0_takeBox_9 : decode cX0_takeBox 9 = .ok (.goto 6, 3) := dk_167 0 6 (dk_at dksX0_takeBox_0 9 rfl rfl)
theorem dX0_takeBox_12 : decode cX0_takeBox 12 = .ok (.astore_n 3, 1) := dk_78 (dk_at dksX0_takeBox_0 12 rfl rfl)
theorem dX0_takeBox_13 : decode cX0_takeBox 13 = .ok (.iconst 1, 1) := dk_4 (dk_at dksX0_takeBox_0 13 rfl rfl)
theorem dX0_takeBox_14 : decode cX0_takeBox 14 = .ok (.ireturn, 1) := dk_172 (dk_at dksX0_takeBox_0 14 rfl rfl)
theorem dX0_takeBox_15 : decode cX0_takeBox 15 = .ok (.iconst 0, 1) := dk_3 (dk_at dksX0_takeBox_0 15 rfl rfl)
theorem dX0_takeBox_16 : decode cX0_takeBox 16 = .ok (.ireturn, 1) := dk_172 (dk_at dksX0_takeBox_0 16 rfl rfl)
abbrev cX0_letIn : ByteArray := method_9_code
def yX0_letIn : MethodName := ⟨RX0, "letIn", "(LOwlYears;III[J)I"⟩
def dkwX0_letIn_1 : List UInt8 := [58, 5, 6, 172, 3, 172]
abbrev dktX0_letIn_1 : List UInt8 := dkwX0_letIn_1 ++ []
def dkwX0_letIn_0 : List UInt8 := [25, 4, 3, 42, 27, 28, 29, 182, 0, 36, 133, 80, 167, 0, 15, 58, 5, 4, 172, 58, 5, 5, 172]
abbrev dktX0_letIn_0 : List UInt8 := dkwX0_letIn_0 ++ dktX0_letIn_1
theorem dksX0_letIn_0 : cX0_letIn.data.toList.drop 0 = dktX0_letIn_0 := by decide +kernel
theorem dksX0_letIn_1 : cX0_letIn.data.toList.drop 23 = dktX0_letIn_1 := dk_seg dksX0_letIn_0 23 rfl rfl
theorem dX0_letIn_0 : decode cX0_letIn 0 = .ok (.aload 4, 2) := dk_25 4 (dk_at dksX0_letIn_0 0 rfl rfl)
theorem dX0_letIn_2 : decode cX0_letIn 2 = .ok (.iconst 0, 1) := dk_3 (dk_at dksX0_letIn_0 2 rfl rfl)
theorem dX0_letIn_3 : decode cX0_letIn 3 = .ok (.aload_n 0, 1) := dk_42 (dk_at dksX0_letIn_0 3 rfl rfl)
theorem dX0_letIn_4 : decode cX0_letIn 4 = .ok (.iload_n 1, 1) := dk_27 (dk_at dksX0_letIn_0 4 rfl rfl)
theorem dX0_letIn_5 : decode cX0_letIn 5 = .ok (.iload_n 2, 1) := dk_28 (dk_at dksX0_letIn_0 5 rfl rfl)
theorem dX0_letIn_6 : decode cX0_letIn 6 = .ok (.iload_n 3, 1) := dk_29 (dk_at dksX0_letIn_0 6 rfl rfl)
theorem dX0_letIn_7 : decode cX0_letIn 7 = .ok (.invokevirtual 36, 3) := dk_182 0 36 (dk_at dksX0_letIn_0 7 rfl rfl)
theorem dX0_letIn_10 : decode cX0_letIn 10 = .ok (.i2l, 1) := dk_133 (dk_at dksX0_letIn_0 10 rfl rfl)
theorem dX0_letIn_11 : decode cX0_letIn 11 = .ok (.lastore, 1) := dk_80 (dk_at dksX0_letIn_0 11 rfl rfl)
theorem dX0_letIn_12 : decode cX0_letIn 12 = .ok (.goto 15, 3) := dk_167 0 15 (dk_at dksX0_letIn_0 12 rfl rfl)
theorem dX0_letIn_15 : decode cX0_letIn 15 = .ok (.astore 5, 2) := dk_58 5 (dk_at dksX0_letIn_0 15 rfl rfl)
theorem dX0_letIn_17 : decode cX0_letIn 17 = .ok (.iconst 1, 1) := dk_4 (dk_at dksX0_letIn_0 17 rfl rfl)
theorem dX0_letIn_18 : decode cX0_letIn 18 = .ok (.ireturn, 1) := dk_172 (dk_at dksX0_letIn_0 18 rfl rfl)
theorem dX0_letIn_19 : decode cX0_letIn 19 = .ok (.astore 5, 2) := dk_58 5 (dk_at dksX0_letIn_0 19 rfl rfl)
theorem dX0_letIn_21 : decode cX0_letIn 21 = .ok (.iconst 2, 1) := dk_5 (dk_at dksX0_letIn_0 21 rfl rfl)
theorem dX0_letIn_22 : decode cX0_letIn 22 = .ok (.ireturn, 1) := dk_172 (dk_at dksX0_letIn_0 22 rfl rfl)
theorem dX0_letIn_23 : decode cX0_letIn 23 = .ok (.astore 5, 2) := dk_58 5 (dk_at dksX0_letIn_1 0 rfl rfl)
theorem dX0_letIn_25 : decode cX0_letIn 25 = .ok (.iconst 3, 1) := dk_6 (dk_at dksX0_letIn_1 2 rfl rfl)
theorem dX0_letIn_26 : decode cX0_letIn 26 = .ok (.ireturn, 1) := dk_172 (dk_at dksX0_letIn_1 3 rfl rfl)
theorem dX0_letIn_27 : decode cX0_letIn 27 = .ok (.iconst 0, 1) := dk_3 (dk_at dksX0_letIn_1 4 rfl rfl)
theorem dX0_letIn_28 : decode cX0_letIn 28 = .ok (.ireturn, 1) := dk_172 (dk_at dksX0_letIn_1 5 rfl rfl)
abbrev cX0_takeOut : ByteArray := method_10_code
def yX0_takeOut : MethodName := ⟨RX0, "takeOut", "(LOwlYears;I[J)I"⟩
def dkwX0_takeOut_0 : List UInt8 := [44, 3, 42, 27, 182, 0, 40, 133, 80, 167, 0, 6, 78, 4, 172, 3, 172]
abbrev dktX0_takeOut_0 : List UInt8 := dkwX0_takeOut_0 ++ []
theorem dksX0_takeOut_0 : cX0_takeOut.data.toList.drop 0 = dktX0_takeOut_0 := by decide +kernel
theorem dX0_takeOut_0 : decode cX0_takeOut 0 = .ok (.aload_n 2, 1) := dk_44 (dk_at dksX0_takeOut_0 0 rfl rfl)
theorem dX0_takeOut_1 : decode cX0_takeOut 1 = .ok (.iconst 0, 1) := dk_3 (dk_at dksX0_takeOut_0 1 rfl rfl)
theorem dX0_takeOut_2 : decode cX0_takeOut 2 = .ok (.aload_n 0, 1) := dk_42 (dk_at dksX0_takeOut_0 2 rfl rfl)
theorem dX0_takeOut_3 : decode cX0_takeOut 3 = .ok (.iload_n 1, 1) := dk_27 (dk_at dksX0_takeOut_0 3 rfl rfl)
theorem dX0_takeOut_4 : decode cX0_takeOut 4 = .ok (.invokevirtual 40, 3) := dk_182 0 40 (dk_at dksX0_takeOut_0 4 rfl rfl)
theorem dX0_takeOut_7 : decode cX0_takeOut 7 = .ok (.i2l, 1) := dk_133 (dk_at dksX0_takeOut_0 7 rfl rfl)
theorem dX0_takeOut_8 : decode cX0_takeOut 8 = .ok (.lastore, 1) := dk_80 (dk_at dksX0_takeOut_0 8 rfl rfl)
theorem dX0_takeOut_9 : decode cX0_takeOut 9 = .ok (.goto 6, 3) := dk_167 0 6 (dk_at dksX0_takeOut_0 9 rfl rfl)
theorem dX0_takeOut_12 : decode cX0_takeOut 12 = .ok (.astore_n 3, 1) := dk_78 (dk_at dksX0_takeOut_0 12 rfl rfl)
theorem dX0_takeOut_13 : decode cX0_takeOut 13 = .ok (.iconst 1, 1) := dk_4 (dk_at dksX0_takeOut_0 13 rfl rfl)
theorem dX0_takeOut_14 : decode cX0_takeOut 14 = .ok (.ireturn, 1) := dk_172 (dk_at dksX0_takeOut_0 14 rfl rfl)
theorem dX0_takeOut_15 : decode cX0_takeOut 15 = .ok (.iconst 0, 1) := dk_3 (dk_at dksX0_takeOut_0 15 rfl rfl)
theorem dX0_takeOut_16 : decode cX0_takeOut 16 = .ok (.ireturn, 1) := dk_172 (dk_at dksX0_takeOut_0 16 rfl rfl)
abbrev cX0_pass : ByteArray := method_11_code
def yX0_pass : MethodName := ⟨RX0, "pass", "(LOwlYears;I[J)I"⟩
def dkwX0_pass_0 : List UInt8 := [44, 3, 42, 27, 182, 0, 43, 133, 80, 167, 0, 9, 78, 4, 172, 78, 5, 172, 3, 172]
abbrev dktX0_pass_0 : List UInt8 := dkwX0_pass_0 ++ []
theorem dksX0_pass_0 : cX0_pass.data.toList.drop 0 = dktX0_pass_0 := by decide +kernel
theorem dX0_pass_0 : decode cX0_pass 0 = .ok (.aload_n 2, 1) := dk_44 (dk_at dksX0_pass_0 0 rfl rfl)
theorem dX0_pass_1 : decode cX0_pass 1 = .ok (.iconst 0, 1) := dk_3 (dk_at dksX0_pass_0 1 rfl rfl)
theorem dX0_pass_2 : decode cX0_pass 2 = .ok (.aload_n 0, 1) := dk_42 (dk_at dksX0_pass_0 2 rfl rfl)
theorem dX0_pass_3 : decode cX0_pass 3 = .ok (.iload_n 1, 1) := dk_27 (dk_at dksX0_pass_0 3 rfl rfl)
theorem dX0_pass_4 : decode cX0_pass 4 = .ok (.invokevirtual 43, 3) := dk_182 0 43 (dk_at dksX0_pass_0 4 rfl rfl)
theorem dX0_pass_7 : decode cX0_pass 7 = .ok (.i2l, 1) := dk_133 (dk_at dksX0_pass_0 7 rfl rfl)
theorem dX0_pass_8 : decode cX0_pass 8 = .ok (.lastore, 1) := dk_80 (dk_at dksX0_pass_0 8 rfl rfl)
theorem dX0_pass_9 : decode cX0_pass 9 = .ok (.goto 9, 3) := dk_167 0 9 (dk_at dksX0_pass_0 9 rfl rfl)
theorem dX0_pass_12 : decode cX0_pass 12 = .ok (.astore_n 3, 1) := dk_78 (dk_at dksX0_pass_0 12 rfl rfl)
theorem dX0_pass_13 : decode cX0_pass 13 = .ok (.iconst 1, 1) := dk_4 (dk_at dksX0_pass_0 13 rfl rfl)
theorem dX0_pass_14 : decode cX0_pass 14 = .ok (.ireturn, 1) := dk_172 (dk_at dksX0_pass_0 14 rfl rfl)
theorem dX0_pass_15 : decode cX0_pass 15 = .ok (.astore_n 3, 1) := dk_78 (dk_at dksX0_pass_0 15 rfl rfl)
theorem dX0_pass_16 : decode cX0_pass 16 = .ok (.iconst 2, 1) := dk_5 (dk_at dksX0_pass_0 16 rfl rfl)
theorem dX0_pass_17 : decode cX0_pass 17 = .ok (.ireturn, 1) := dk_172 (dk_at dksX0_pass_0 17 rfl rfl)
theorem dX0_pass_18 : decode cX0_pass 18 = .ok (.iconst 0, 1) := dk_3 (dk_at dksX0_pass_0 18 rfl rfl)
theorem dX0_pass_19 : decode cX0_pass 19 = .ok (.ireturn, 1) := dk_172 (dk_at dksX0_pass_0 19 rfl rfl)
abbrev cX0_landOf : ByteArray := method_12_code
def yX0_landOf : MethodName := ⟨RX0, "landOf", "(LOwlYears;I[J)I"⟩
def dkwX0_landOf_0 : List UInt8 := [44, 3, 42, 27, 182, 0, 46, 133, 80, 167, 0, 6, 78, 4, 172, 3, 172]
abbrev dktX0_landOf_0 : List UInt8 := dkwX0_landOf_0 ++ []
theorem dksX0_landOf_0 : cX0_landOf.data.toList.drop 0 = dktX0_landOf_0 := by decide +kernel
theorem dX0_landOf_0 : decode cX0_landOf 0 = .ok (.aload_n 2, 1) := dk_44 (dk_at dksX0_landOf_0 0 rfl rfl)
theorem dX0_landOf_1 : decode cX0_landOf 1 = .ok (.iconst 0, 1) := dk_3 (dk_at dksX0_landOf_0 1 rfl rfl)
theorem dX0_landOf_2 : decode cX0_landOf 2 = .ok (.aload_n 0, 1) := dk_42 (dk_at dksX0_landOf_0 2 rfl rfl)
theorem dX0_landOf_3 : decode cX0_landOf 3 = .ok (.iload_n 1, 1) := dk_27 (dk_at dksX0_landOf_0 3 rfl rfl)
theorem dX0_landOf_4 : decode cX0_landOf 4 = .ok (.invokevirtual 46, 3) := dk_182 0 46 (dk_at dksX0_landOf_0 4 rfl rfl)
theorem dX0_landOf_7 : decode cX0_landOf 7 = .ok (.i2l, 1) := dk_133 (dk_at dksX0_landOf_0 7 rfl rfl)
theorem dX0_landOf_8 : decode cX0_landOf 8 = .ok (.lastore, 1) := dk_80 (dk_at dksX0_landOf_0 8 rfl rfl)
theorem dX0_landOf_9 : decode cX0_landOf 9 = .ok (.goto 6, 3) := dk_167 0 6 (dk_at dksX0_landOf_0 9 rfl rfl)
theorem dX0_landOf_12 : decode cX0_landOf 12 = .ok (.astore_n 3, 1) := dk_78 (dk_at dksX0_landOf_0 12 rfl rfl)
theorem dX0_landOf_13 : decode cX0_landOf 13 = .ok (.iconst 1, 1) := dk_4 (dk_at dksX0_landOf_0 13 rfl rfl)
theorem dX0_landOf_14 : decode cX0_landOf 14 = .ok (.ireturn, 1) := dk_172 (dk_at dksX0_landOf_0 14 rfl rfl)
theorem dX0_landOf_15 : decode cX0_landOf 15 = .ok (.iconst 0, 1) := dk_3 (dk_at dksX0_landOf_0 15 rfl rfl)
theorem dX0_landOf_16 : decode cX0_landOf 16 = .ok (.ireturn, 1) := dk_172 (dk_at dksX0_landOf_0 16 rfl rfl)
abbrev cX0_squaresOf : ByteArray := method_13_code
def yX0_squaresOf : MethodName := ⟨RX0, "squaresOf", "(LOwlYears;I[J)I"⟩
def dkwX0_squaresOf_0 : List UInt8 := [44, 3, 42, 27, 182, 0, 49, 80, 167, 0, 6, 78, 4, 172, 3, 172]
abbrev dktX0_squaresOf_0 : List UInt8 := dkwX0_squaresOf_0 ++ []
theorem dksX0_squaresOf_0 : cX0_squaresOf.data.toList.drop 0 = dktX0_squaresOf_0 := by decide +kernel
theorem dX0_squaresOf_0 : decode cX0_squaresOf 0 = .ok (.aload_n 2, 1) := dk_44 (dk_at dksX0_squaresOf_0 0 rfl rfl)
theorem dX0_squaresOf_1 : decode cX0_squaresOf 1 = .ok (.iconst 0, 1) := dk_3 (dk_at dksX0_squaresOf_0 1 rfl rfl)
theorem dX0_squaresOf_2 : decode cX0_squaresOf 2 = .ok (.aload_n 0, 1) := dk_42 (dk_at dksX0_squaresOf_0 2 rfl rfl)
theorem dX0_squaresOf_3 : decode cX0_squaresOf 3 = .ok (.iload_n 1, 1) := dk_27 (dk_at dksX0_squaresOf_0 3 rfl rfl)
theorem dX0_squaresOf_4 : decode cX0_squaresOf 4 = .ok (.invokevirtual 49, 3) := dk_182 0 49 (dk_at dksX0_squaresOf_0 4 rfl rfl)
theorem dX0_squaresOf_7 : decode cX0_squaresOf 7 = .ok (.lastore, 1) := dk_80 (dk_at dksX0_squaresOf_0 7 rfl rfl)
theorem dX0_squaresOf_8 : decode cX0_squaresOf 8 = .ok (.goto 6, 3) := dk_167 0 6 (dk_at dksX0_squaresOf_0 8 rfl rfl)
theorem dX0_squaresOf_11 : decode cX0_squaresOf 11 = .ok (.astore_n 3, 1) := dk_78 (dk_at dksX0_squaresOf_0 11 rfl rfl)
theorem dX0_squaresOf_12 : decode cX0_squaresOf 12 = .ok (.iconst 1, 1) := dk_4 (dk_at dksX0_squaresOf_0 12 rfl rfl)
theorem dX0_squaresOf_13 : decode cX0_squaresOf 13 = .ok (.ireturn, 1) := dk_172 (dk_at dksX0_squaresOf_0 13 rfl rfl)
theorem dX0_squaresOf_14 : decode cX0_squaresOf 14 = .ok (.iconst 0, 1) := dk_3 (dk_at dksX0_squaresOf_0 14 rfl rfl)
theorem dX0_squaresOf_15 : decode cX0_squaresOf 15 = .ok (.ireturn, 1) := dk_172 (dk_at dksX0_squaresOf_0 15 rfl rfl)
abbrev cX0_volesOf : ByteArray := method_14_code
def yX0_volesOf : MethodName := ⟨RX0, "volesOf", "(LOwlYears;I[J)I"⟩
def dkwX0_volesOf_0 : List UInt8 := [44, 3, 42, 27, 182, 0, 53, 133, 80, 167, 0, 6, 78, 4, 172, 3, 172]
abbrev dktX0_volesOf_0 : List UInt8 := dkwX0_volesOf_0 ++ []
theorem dksX0_volesOf_0 : cX0_volesOf.data.toList.drop 0 = dktX0_volesOf_0 := by decide +kernel
theorem dX0_volesOf_0 : decode cX0_volesOf 0 = .ok (.aload_n 2, 1) := dk_44 (dk_at dksX0_volesOf_0 0 rfl rfl)
theorem dX0_volesOf_1 : decode cX0_volesOf 1 = .ok (.iconst 0, 1) := dk_3 (dk_at dksX0_volesOf_0 1 rfl rfl)
theorem dX0_volesOf_2 : decode cX0_volesOf 2 = .ok (.aload_n 0, 1) := dk_42 (dk_at dksX0_volesOf_0 2 rfl rfl)
theorem dX0_volesOf_3 : decode cX0_volesOf 3 = .ok (.iload_n 1, 1) := dk_27 (dk_at dksX0_volesOf_0 3 rfl rfl)
theorem dX0_volesOf_4 : decode cX0_volesOf 4 = .ok (.invokevirtual 53, 3) := dk_182 0 53 (dk_at dksX0_volesOf_0 4 rfl rfl)
theorem dX0_volesOf_7 : decode cX0_volesOf 7 = .ok (.i2l, 1) := dk_133 (dk_at dksX0_volesOf_0 7 rfl rfl)
theorem dX0_volesOf_8 : decode cX0_volesOf 8 = .ok (.lastore, 1) := dk_80 (dk_at dksX0_volesOf_0 8 rfl rfl)
theorem dX0_volesOf_9 : decode cX0_volesOf 9 = .ok (.goto 6, 3) := dk_167 0 6 (dk_at dksX0_volesOf_0 9 rfl rfl)
theorem dX0_volesOf_12 : decode cX0_volesOf 12 = .ok (.astore_n 3, 1) := dk_78 (dk_at dksX0_volesOf_0 12 rfl rfl)
theorem dX0_volesOf_13 : decode cX0_volesOf 13 = .ok (.iconst 1, 1) := dk_4 (dk_at dksX0_volesOf_0 13 rfl rfl)
theorem dX0_volesOf_14 : decode cX0_volesOf 14 = .ok (.ireturn, 1) := dk_172 (dk_at dksX0_volesOf_0 14 rfl rfl)
theorem dX0_volesOf_15 : decode cX0_volesOf 15 = .ok (.iconst 0, 1) := dk_3 (dk_at dksX0_volesOf_0 15 rfl rfl)
theorem dX0_volesOf_16 : decode cX0_volesOf 16 = .ok (.ireturn, 1) := dk_172 (dk_at dksX0_volesOf_0 16 rfl rfl)
abbrev cX0_volesNext : ByteArray := method_15_code
def yX0_volesNext : MethodName := ⟨RX0, "volesNext", "(LOwlYears;I[J)I"⟩
def dkwX0_volesNext_0 : List UInt8 := [44, 3, 42, 27, 182, 0, 56, 133, 80, 167, 0, 6, 78, 4, 172, 3, 172]
abbrev dktX0_volesNext_0 : List UInt8 := dkwX0_volesNext_0 ++ []
theorem dksX0_volesNext_0 : cX0_volesNext.data.toList.drop 0 = dktX0_volesNext_0 := by decide +kernel
theorem dX0_volesNext_0 : decode cX0_volesNext 0 = .ok (.aload_n 2, 1) := dk_44 (dk_at dksX0_volesNext_0 0 rfl rfl)
theorem dX0_volesNext_1 : decode cX0_volesNext 1 = .ok (.iconst 0, 1) := dk_3 (dk_at dksX0_volesNext_0 1 rfl rfl)
theorem dX0_volesNext_2 : decode cX0_volesNext 2 = .ok (.aload_n 0, 1) := dk_42 (dk_at dksX0_volesNext_0 2 rfl rfl)
theorem dX0_volesNext_3 : decode cX0_volesNext 3 = .ok (.iload_n 1, 1) := dk_27 (dk_at dksX0_volesNext_0 3 rfl rfl)
theorem dX0_volesNext_4 : decode cX0_volesNext 4 = .ok (.invokevirtual 56, 3) := dk_182 0 56 (dk_at dksX0_volesNext_0 4 rfl rfl)
theorem dX0_volesNext_7 : decode cX0_volesNext 7 = .ok (.i2l, 1) := dk_133 (dk_at dksX0_volesNext_0 7 rfl rfl)
theorem dX0_volesNext_8 : decode cX0_volesNext 8 = .ok (.lastore, 1) := dk_80 (dk_at dksX0_volesNext_0 8 rfl rfl)
theorem dX0_volesNext_9 : decode cX0_volesNext 9 = .ok (.goto 6, 3) := dk_167 0 6 (dk_at dksX0_volesNext_0 9 rfl rfl)
theorem dX0_volesNext_12 : decode cX0_volesNext 12 = .ok (.astore_n 3, 1) := dk_78 (dk_at dksX0_volesNext_0 12 rfl rfl)
theorem dX0_volesNext_13 : decode cX0_volesNext 13 = .ok (.iconst 1, 1) := dk_4 (dk_at dksX0_volesNext_0 13 rfl rfl)
theorem dX0_volesNext_14 : decode cX0_volesNext 14 = .ok (.ireturn, 1) := dk_172 (dk_at dksX0_volesNext_0 14 rfl rfl)
theorem dX0_volesNext_15 : decode cX0_volesNext 15 = .ok (.iconst 0, 1) := dk_3 (dk_at dksX0_volesNext_0 15 rfl rfl)
theorem dX0_volesNext_16 : decode cX0_volesNext 16 = .ok (.ireturn, 1) := dk_172 (dk_at dksX0_volesNext_0 16 rfl rfl)
abbrev cX0_distance : ByteArray := method_16_code
def yX0_distance : MethodName := ⟨RX0, "distance", "(LOwlYears;II[J)I"⟩
def dkwX0_distance_0 : List UInt8 := [45, 3, 42, 27, 28, 182, 0, 59, 133, 80, 167, 0, 7, 58, 4, 4, 172, 3, 172]
abbrev dktX0_distance_0 : List UInt8 := dkwX0_distance_0 ++ []
theorem dksX0_distance_0 : cX0_distance.data.toList.drop 0 = dktX0_distance_0 := by decide +kernel
theorem dX0_distance_0 : decode cX0_distance 0 = .ok (.aload_n 3, 1) := dk_45 (dk_at dksX0_distance_0 0 rfl rfl)
theorem dX0_distance_1 : decode cX0_distance 1 = .ok (.iconst 0, 1) := dk_3 (dk_at dksX0_distance_0 1 rfl rfl)
theorem dX0_distance_2 : decode cX0_distance 2 = .ok (.aload_n 0, 1) := dk_42 (dk_at dksX0_distance_0 2 rfl rfl)
theorem dX0_distance_3 : decode cX0_distance 3 = .ok (.iload_n 1, 1) := dk_27 (dk_at dksX0_distance_0 3 rfl rfl)
theorem dX0_distance_4 : decode cX0_distance 4 = .ok (.iload_n 2, 1) := dk_28 (dk_at dksX0_distance_0 4 rfl rfl)
theorem dX0_distance_5 : decode cX0_distance 5 = .ok (.invokevirtual 59, 3) := dk_182 0 59 (dk_at dksX0_distance_0 5 rfl rfl)
theorem dX0_distance_8 : decode cX0_distance 8 = .ok (.i2l, 1) := dk_133 (dk_at dksX0_distance_0 8 rfl rfl)
theorem dX0_distance_9 : decode cX0_distance 9 = .ok (.lastore, 1) := dk_80 (dk_at dksX0_distance_0 9 rfl rfl)
theorem dX0_distance_10 : decode cX0_distance 10 = .ok (.goto 7, 3) := dk_167 0 7 (dk_at dksX0_distance_0 10 rfl rfl)
theorem dX0_distance_13 : decode cX0_distance 13 = .ok (.astore 4, 2) := dk_58 4 (dk_at dksX0_distance_0 13 rfl rfl)
theorem dX0_distance_15 : decode cX0_distance 15 = .ok (.iconst 1, 1) := dk_4 (dk_at dksX0_distance_0 15 rfl rfl)
theorem dX0_distance_16 : decode cX0_distance 16 = .ok (.ireturn, 1) := dk_172 (dk_at dksX0_distance_0 16 rfl rfl)
theorem dX0_distance_17 : decode cX0_distance 17 = .ok (.iconst 0, 1) := dk_3 (dk_at dksX0_distance_0 17 rfl rfl)
theorem dX0_distance_18 : decode cX0_distance 18 = .ok (.ireturn, 1) := dk_172 (dk_at dksX0_distance_0 18 rfl rfl)
abbrev cX0_squareOf : ByteArray := method_17_code
def yX0_squareOf : MethodName := ⟨RX0, "squareOf", "(LOwlYears;I[J)I"⟩
def dkwX0_squareOf_0 : List UInt8 := [44, 3, 42, 27, 182, 0, 62, 133, 80, 167, 0, 6, 78, 4, 172, 3, 172]
abbrev dktX0_squareOf_0 : List UInt8 := dkwX0_squareOf_0 ++ []
theorem dksX0_squareOf_0 : cX0_squareOf.data.toList.drop 0 = dktX0_squareOf_0 := by decide +kernel
theorem dX0_squareOf_0 : decode cX0_squareOf 0 = .ok (.aload_n 2, 1) := dk_44 (dk_at dksX0_squareOf_0 0 rfl rfl)
theorem dX0_squareOf_1 : decode cX0_squareOf 1 = .ok (.iconst 0, 1) := dk_3 (dk_at dksX0_squareOf_0 1 rfl rfl)
theorem dX0_squareOf_2 : decode cX0_squareOf 2 = .ok (.aload_n 0, 1) := dk_42 (dk_at dksX0_squareOf_0 2 rfl rfl)
theorem dX0_squareOf_3 : decode cX0_squareOf 3 = .ok (.iload_n 1, 1) := dk_27 (dk_at dksX0_squareOf_0 3 rfl rfl)
theorem dX0_squareOf_4 : decode cX0_squareOf 4 = .ok (.invokevirtual 62, 3) := dk_182 0 62 (dk_at dksX0_squareOf_0 4 rfl rfl)
theorem dX0_squareOf_7 : decode cX0_squareOf 7 = .ok (.i2l, 1) := dk_133 (dk_at dksX0_squareOf_0 7 rfl rfl)
theorem dX0_squareOf_8 : decode cX0_squareOf 8 = .ok (.lastore, 1) := dk_80 (dk_at dksX0_squareOf_0 8 rfl rfl)
theorem dX0_squareOf_9 : decode cX0_squareOf 9 = .ok (.goto 6, 3) := dk_167 0 6 (dk_at dksX0_squareOf_0 9 rfl rfl)
theorem dX0_squareOf_12 : decode cX0_squareOf 12 = .ok (.astore_n 3, 1) := dk_78 (dk_at dksX0_squareOf_0 12 rfl rfl)
theorem dX0_squareOf_13 : decode cX0_squareOf 13 = .ok (.iconst 1, 1) := dk_4 (dk_at dksX0_squareOf_0 13 rfl rfl)
theorem dX0_squareOf_14 : decode cX0_squareOf 14 = .ok (.ireturn, 1) := dk_172 (dk_at dksX0_squareOf_0 14 rfl rfl)
theorem dX0_squareOf_15 : decode cX0_squareOf 15 = .ok (.iconst 0, 1) := dk_3 (dk_at dksX0_squareOf_0 15 rfl rfl)
theorem dX0_squareOf_16 : decode cX0_squareOf 16 = .ok (.ireturn, 1) := dk_172 (dk_at dksX0_squareOf_0 16 rfl rfl)
abbrev cX0_rangeOf : ByteArray := method_18_code
def yX0_rangeOf : MethodName := ⟨RX0, "rangeOf", "(LOwlYears;I[J)I"⟩
def dkwX0_rangeOf_0 : List UInt8 := [44, 3, 42, 27, 182, 0, 65, 80, 167, 0, 6, 78, 4, 172, 3, 172]
abbrev dktX0_rangeOf_0 : List UInt8 := dkwX0_rangeOf_0 ++ []
theorem dksX0_rangeOf_0 : cX0_rangeOf.data.toList.drop 0 = dktX0_rangeOf_0 := by decide +kernel
theorem dX0_rangeOf_0 : decode cX0_rangeOf 0 = .ok (.aload_n 2, 1) := dk_44 (dk_at dksX0_rangeOf_0 0 rfl rfl)
theorem dX0_rangeOf_1 : decode cX0_rangeOf 1 = .ok (.iconst 0, 1) := dk_3 (dk_at dksX0_rangeOf_0 1 rfl rfl)
theorem dX0_rangeOf_2 : decode cX0_rangeOf 2 = .ok (.aload_n 0, 1) := dk_42 (dk_at dksX0_rangeOf_0 2 rfl rfl)
theorem dX0_rangeOf_3 : decode cX0_rangeOf 3 = .ok (.iload_n 1, 1) := dk_27 (dk_at dksX0_rangeOf_0 3 rfl rfl)
theorem dX0_rangeOf_4 : decode cX0_rangeOf 4 = .ok (.invokevirtual 65, 3) := dk_182 0 65 (dk_at dksX0_rangeOf_0 4 rfl rfl)
theorem dX0_rangeOf_7 : decode cX0_rangeOf 7 = .ok (.lastore, 1) := dk_80 (dk_at dksX0_rangeOf_0 7 rfl rfl)
theorem dX0_rangeOf_8 : decode cX0_rangeOf 8 = .ok (.goto 6, 3) := dk_167 0 6 (dk_at dksX0_rangeOf_0 8 rfl rfl)
theorem dX0_rangeOf_11 : decode cX0_rangeOf 11 = .ok (.astore_n 3, 1) := dk_78 (dk_at dksX0_rangeOf_0 11 rfl rfl)
theorem dX0_rangeOf_12 : decode cX0_rangeOf 12 = .ok (.iconst 1, 1) := dk_4 (dk_at dksX0_rangeOf_0 12 rfl rfl)
theorem dX0_rangeOf_13 : decode cX0_rangeOf 13 = .ok (.ireturn, 1) := dk_172 (dk_at dksX0_rangeOf_0 13 rfl rfl)
theorem dX0_rangeOf_14 : decode cX0_rangeOf 14 = .ok (.iconst 0, 1) := dk_3 (dk_at dksX0_rangeOf_0 14 rfl rfl)
theorem dX0_rangeOf_15 : decode cX0_rangeOf 15 = .ok (.ireturn, 1) := dk_172 (dk_at dksX0_rangeOf_0 15 rfl rfl)
abbrev cX0_rangeByJoining : ByteArray := method_19_code
def yX0_rangeByJoining : MethodName := ⟨RX0, "rangeByJoining", "(LOwlYears;I[J)I"⟩
def dkwX0_rangeByJoining_0 : List UInt8 := [44, 3, 42, 27, 182, 0, 68, 80, 167, 0, 6, 78, 4, 172, 3, 172]
abbrev dktX0_rangeByJoining_0 : List UInt8 := dkwX0_rangeByJoining_0 ++ []
theorem dksX0_rangeByJoining_0 : cX0_rangeByJoining.data.toList.drop 0 = dktX0_rangeByJoining_0 := by decide +kernel
theorem dX0_rangeByJoining_0 : decode cX0_rangeByJoining 0 = .ok (.aload_n 2, 1) := dk_44 (dk_at dksX0_rangeByJoining_0 0 rfl rfl)
theorem dX0_rangeByJoining_1 : decode cX0_rangeByJoining 1 = .ok (.iconst 0, 1) := dk_3 (dk_at dksX0_rangeByJoining_0 1 rfl rfl)
theorem dX0_rangeByJoining_2 : decode cX0_rangeByJoining 2 = .ok (.aload_n 0, 1) := dk_42 (dk_at dksX0_rangeByJoining_0 2 rfl rfl)
theorem dX0_rangeByJoining_3 : decode cX0_rangeByJoining 3 = .ok (.iload_n 1, 1) := dk_27 (dk_at dksX0_rangeByJoining_0 3 rfl rfl)
theorem dX0_rangeByJoining_4 : decode cX0_rangeByJoining 4 = .ok (.invokevirtual 68, 3) := dk_182 0 68 (dk_at dksX0_rangeByJoining_0 4 rfl rfl)
theorem dX0_rangeByJoining_7 : decode cX0_rangeByJoining 7 = .ok (.lastore, 1) := dk_80 (dk_at dksX0_rangeByJoining_0 7 rfl rfl)
theorem dX0_rangeByJoining_8 : decode cX0_rangeByJoining 8 = .ok (.goto 6, 3) := dk_167 0 6 (dk_at dksX0_rangeByJoining_0 8 rfl rfl)
theorem dX0_rangeByJoining_11 : decode cX0_rangeByJoining 11 = .ok (.astore_n 3, 1) := dk_78 (dk_at dksX0_rangeByJoining_0 11 rfl rfl)
theorem dX0_rangeByJoining_12 : decode cX0_rangeByJoining 12 = .ok (.iconst 1, 1) := dk_4 (dk_at dksX0_rangeByJoining_0 12 rfl rfl)
theorem dX0_rangeByJoining_13 : decode cX0_rangeByJoining 13 = .ok (.ireturn, 1) := dk_172 (dk_at dksX0_rangeByJoining_0 13 rfl rfl)
theorem dX0_rangeByJoining_14 : decode cX0_rangeByJoining 14 = .ok (.iconst 0, 1) := dk_3 (dk_at dksX0_rangeByJoining_0 14 rfl rfl)
theorem dX0_rangeByJoining_15 : decode cX0_rangeByJoining 15 = .ok (.ireturn, 1) := dk_172 (dk_at dksX0_rangeByJoining_0 15 rfl rfl)
abbrev cX0_shareOf : ByteArray := method_20_code
def yX0_shareOf : MethodName := ⟨RX0, "shareOf", "(LOwlYears;I[J)I"⟩
def dkwX0_shareOf_0 : List UInt8 := [44, 3, 42, 27, 182, 0, 71, 133, 80, 167, 0, 6, 78, 4, 172, 3, 172]
abbrev dktX0_shareOf_0 : List UInt8 := dkwX0_shareOf_0 ++ []
theorem dksX0_shareOf_0 : cX0_shareOf.data.toList.drop 0 = dktX0_shareOf_0 := by decide +kernel
theorem dX0_shareOf_0 : decode cX0_shareOf 0 = .ok (.aload_n 2, 1) := dk_44 (dk_at dksX0_shareOf_0 0 rfl rfl)
theorem dX0_shareOf_1 : decode cX0_shareOf 1 = .ok (.iconst 0, 1) := dk_3 (dk_at dksX0_shareOf_0 1 rfl rfl)
theorem dX0_shareOf_2 : decode cX0_shareOf 2 = .ok (.aload_n 0, 1) := dk_42 (dk_at dksX0_shareOf_0 2 rfl rfl)
theorem dX0_shareOf_3 : decode cX0_shareOf 3 = .ok (.iload_n 1, 1) := dk_27 (dk_at dksX0_shareOf_0 3 rfl rfl)
theorem dX0_shareOf_4 : decode cX0_shareOf 4 = .ok (.invokevirtual 71, 3) := dk_182 0 71 (dk_at dksX0_shareOf_0 4 rfl rfl)
theorem dX0_shareOf_7 : decode cX0_shareOf 7 = .ok (.i2l, 1) := dk_133 (dk_at dksX0_shareOf_0 7 rfl rfl)
theorem dX0_shareOf_8 : decode cX0_shareOf 8 = .ok (.lastore, 1) := dk_80 (dk_at dksX0_shareOf_0 8 rfl rfl)
theorem dX0_shareOf_9 : decode cX0_shareOf 9 = .ok (.goto 6, 3) := dk_167 0 6 (dk_at dksX0_shareOf_0 9 rfl rfl)
theorem dX0_shareOf_12 : decode cX0_shareOf 12 = .ok (.astore_n 3, 1) := dk_78 (dk_at dksX0_shareOf_0 12 rfl rfl)
theorem dX0_shareOf_13 : decode cX0_shareOf 13 = .ok (.iconst 1, 1) := dk_4 (dk_at dksX0_shareOf_0 13 rfl rfl)
theorem dX0_shareOf_14 : decode cX0_shareOf 14 = .ok (.ireturn, 1) := dk_172 (dk_at dksX0_shareOf_0 14 rfl rfl)
theorem dX0_shareOf_15 : decode cX0_shareOf 15 = .ok (.iconst 0, 1) := dk_3 (dk_at dksX0_shareOf_0 15 rfl rfl)
theorem dX0_shareOf_16 : decode cX0_shareOf 16 = .ok (.ireturn, 1) := dk_172 (dk_at dksX0_shareOf_0 16 rfl rfl)
abbrev cX0_crowdOf : ByteArray := method_21_code
def yX0_crowdOf : MethodName := ⟨RX0, "crowdOf", "(LOwlYears;I[J)I"⟩
def dkwX0_crowdOf_0 : List UInt8 := [44, 3, 42, 27, 182, 0, 74, 133, 80, 167, 0, 6, 78, 4, 172, 3, 172]
abbrev dktX0_crowdOf_0 : List UInt8 := dkwX0_crowdOf_0 ++ []
theorem dksX0_crowdOf_0 : cX0_crowdOf.data.toList.drop 0 = dktX0_crowdOf_0 := by decide +kernel
theorem dX0_crowdOf_0 : decode cX0_crowdOf 0 = .ok (.aload_n 2, 1) := dk_44 (dk_at dksX0_crowdOf_0 0 rfl rfl)
theorem dX0_crowdOf_1 : decode cX0_crowdOf 1 = .ok (.iconst 0, 1) := dk_3 (dk_at dksX0_crowdOf_0 1 rfl rfl)
theorem dX0_crowdOf_2 : decode cX0_crowdOf 2 = .ok (.aload_n 0, 1) := dk_42 (dk_at dksX0_crowdOf_0 2 rfl rfl)
theorem dX0_crowdOf_3 : decode cX0_crowdOf 3 = .ok (.iload_n 1, 1) := dk_27 (dk_at dksX0_crowdOf_0 3 rfl rfl)
theorem dX0_crowdOf_4 : decode cX0_crowdOf 4 = .ok (.invokevirtual 74, 3) := dk_182 0 74 (dk_at dksX0_crowdOf_0 4 rfl rfl)
theorem dX0_crowdOf_7 : decode cX0_crowdOf 7 = .ok (.i2l, 1) := dk_133 (dk_at dksX0_crowdOf_0 7 rfl rfl)
theorem dX0_crowdOf_8 : decode cX0_crowdOf 8 = .ok (.lastore, 1) := dk_80 (dk_at dksX0_crowdOf_0 8 rfl rfl)
theorem dX0_crowdOf_9 : decode cX0_crowdOf 9 = .ok (.goto 6, 3) := dk_167 0 6 (dk_at dksX0_crowdOf_0 9 rfl rfl)
theorem dX0_crowdOf_12 : decode cX0_crowdOf 12 = .ok (.astore_n 3, 1) := dk_78 (dk_at dksX0_crowdOf_0 12 rfl rfl)
theorem dX0_crowdOf_13 : decode cX0_crowdOf 13 = .ok (.iconst 1, 1) := dk_4 (dk_at dksX0_crowdOf_0 13 rfl rfl)
theorem dX0_crowdOf_14 : decode cX0_crowdOf 14 = .ok (.ireturn, 1) := dk_172 (dk_at dksX0_crowdOf_0 14 rfl rfl)
theorem dX0_crowdOf_15 : decode cX0_crowdOf 15 = .ok (.iconst 0, 1) := dk_3 (dk_at dksX0_crowdOf_0 15 rfl rfl)
theorem dX0_crowdOf_16 : decode cX0_crowdOf 16 = .ok (.ireturn, 1) := dk_172 (dk_at dksX0_crowdOf_0 16 rfl rfl)
abbrev cX0_riskOf : ByteArray := method_22_code
def yX0_riskOf : MethodName := ⟨RX0, "riskOf", "(LOwlYears;I[J)I"⟩
def dkwX0_riskOf_0 : List UInt8 := [44, 3, 42, 27, 182, 0, 77, 133, 80, 167, 0, 6, 78, 4, 172, 3, 172]
abbrev dktX0_riskOf_0 : List UInt8 := dkwX0_riskOf_0 ++ []
theorem dksX0_riskOf_0 : cX0_riskOf.data.toList.drop 0 = dktX0_riskOf_0 := by decide +kernel
theorem dX0_riskOf_0 : decode cX0_riskOf 0 = .ok (.aload_n 2, 1) := dk_44 (dk_at dksX0_riskOf_0 0 rfl rfl)
theorem dX0_riskOf_1 : decode cX0_riskOf 1 = .ok (.iconst 0, 1) := dk_3 (dk_at dksX0_riskOf_0 1 rfl rfl)
theorem dX0_riskOf_2 : decode cX0_riskOf 2 = .ok (.aload_n 0, 1) := dk_42 (dk_at dksX0_riskOf_0 2 rfl rfl)
theorem dX0_riskOf_3 : decode cX0_riskOf 3 = .ok (.iload_n 1, 1) := dk_27 (dk_at dksX0_riskOf_0 3 rfl rfl)
theorem dX0_riskOf_4 : decode cX0_riskOf 4 = .ok (.invokevirtual 77, 3) := dk_182 0 77 (dk_at dksX0_riskOf_0 4 rfl rfl)
theorem dX0_riskOf_7 : decode cX0_riskOf 7 = .ok (.i2l, 1) := dk_133 (dk_at dksX0_riskOf_0 7 rfl rfl)
theorem dX0_riskOf_8 : decode cX0_riskOf 8 = .ok (.lastore, 1) := dk_80 (dk_at dksX0_riskOf_0 8 rfl rfl)
theorem dX0_riskOf_9 : decode cX0_riskOf 9 = .ok (.goto 6, 3) := dk_167 0 6 (dk_at dksX0_riskOf_0 9 rfl rfl)
theorem dX0_riskOf_12 : decode cX0_riskOf 12 = .ok (.astore_n 3, 1) := dk_78 (dk_at dksX0_riskOf_0 12 rfl rfl)
theorem dX0_riskOf_13 : decode cX0_riskOf 13 = .ok (.iconst 1, 1) := dk_4 (dk_at dksX0_riskOf_0 13 rfl rfl)
theorem dX0_riskOf_14 : decode cX0_riskOf 14 = .ok (.ireturn, 1) := dk_172 (dk_at dksX0_riskOf_0 14 rfl rfl)
theorem dX0_riskOf_15 : decode cX0_riskOf 15 = .ok (.iconst 0, 1) := dk_3 (dk_at dksX0_riskOf_0 15 rfl rfl)
theorem dX0_riskOf_16 : decode cX0_riskOf 16 = .ok (.ireturn, 1) := dk_172 (dk_at dksX0_riskOf_0 16 rfl rfl)
abbrev cX0_livesIn : ByteArray := method_23_code
def yX0_livesIn : MethodName := ⟨RX0, "livesIn", "(LOwlYears;II[J)I"⟩
def dkwX0_livesIn_0 : List UInt8 := [45, 3, 42, 27, 28, 182, 0, 80, 133, 80, 167, 0, 11, 58, 4, 4, 172, 58, 4, 5, 172, 3, 172]
abbrev dktX0_livesIn_0 : List UInt8 := dkwX0_livesIn_0 ++ []
theorem dksX0_livesIn_0 : cX0_livesIn.data.toList.drop 0 = dktX0_livesIn_0 := by decide +kernel
theorem dX0_livesIn_0 : decode cX0_livesIn 0 = .ok (.aload_n 3, 1) := dk_45 (dk_at dksX0_livesIn_0 0 rfl rfl)
theorem dX0_livesIn_1 : decode cX0_livesIn 1 = .ok (.iconst 0, 1) := dk_3 (dk_at dksX0_livesIn_0 1 rfl rfl)
theorem dX0_livesIn_2 : decode cX0_livesIn 2 = .ok (.aload_n 0, 1) := dk_42 (dk_at dksX0_livesIn_0 2 rfl rfl)
theorem dX0_livesIn_3 : decode cX0_livesIn 3 = .ok (.iload_n 1, 1) := dk_27 (dk_at dksX0_livesIn_0 3 rfl rfl)
theorem dX0_livesIn_4 : decode cX0_livesIn 4 = .ok (.iload_n 2, 1) := dk_28 (dk_at dksX0_livesIn_0 4 rfl rfl)
theorem dX0_livesIn_5 : decode cX0_livesIn 5 = .ok (.invokevirtual 80, 3) := dk_182 0 80 (dk_at dksX0_livesIn_0 5 rfl rfl)
theorem dX0_livesIn_8 : decode cX0_livesIn 8 = .ok (.i2l, 1) := dk_133 (dk_at dksX0_livesIn_0 8 rfl rfl)
theorem dX0_livesIn_9 : decode cX0_livesIn 9 = .ok (.lastore, 1) := dk_80 (dk_at dksX0_livesIn_0 9 rfl rfl)
theorem dX0_livesIn_10 : decode cX0_livesIn 10 = .ok (.goto 11, 3) := dk_167 0 11 (dk_at dksX0_livesIn_0 10 rfl rfl)
theorem dX0_livesIn_13 : decode cX0_livesIn 13 = .ok (.astore 4, 2) := dk_58 4 (dk_at dksX0_livesIn_0 13 rfl rfl)
theorem dX0_livesIn_15 : decode cX0_livesIn 15 = .ok (.iconst 1, 1) := dk_4 (dk_at dksX0_livesIn_0 15 rfl rfl)
theorem dX0_livesIn_16 : decode cX0_livesIn 16 = .ok (.ireturn, 1) := dk_172 (dk_at dksX0_livesIn_0 16 rfl rfl)
theorem dX0_livesIn_17 : decode cX0_livesIn 17 = .ok (.astore 4, 2) := dk_58 4 (dk_at dksX0_livesIn_0 17 rfl rfl)
theorem dX0_livesIn_19 : decode cX0_livesIn 19 = .ok (.iconst 2, 1) := dk_5 (dk_at dksX0_livesIn_0 19 rfl rfl)
theorem dX0_livesIn_20 : decode cX0_livesIn 20 = .ok (.ireturn, 1) := dk_172 (dk_at dksX0_livesIn_0 20 rfl rfl)
theorem dX0_livesIn_21 : decode cX0_livesIn 21 = .ok (.iconst 0, 1) := dk_3 (dk_at dksX0_livesIn_0 21 rfl rfl)
theorem dX0_livesIn_22 : decode cX0_livesIn 22 = .ok (.ireturn, 1) := dk_172 (dk_at dksX0_livesIn_0 22 rfl rfl)
abbrev cX0_whyNoYoung : ByteArray := method_24_code
def yX0_whyNoYoung : MethodName := ⟨RX0, "whyNoYoung", "(LOwlYears;I[J)I"⟩
def dkwX0_whyNoYoung_0 : List UInt8 := [44, 3, 42, 27, 182, 0, 83, 133, 80, 167, 0, 6, 78, 4, 172, 3, 172]
abbrev dktX0_whyNoYoung_0 : List UInt8 := dkwX0_whyNoYoung_0 ++ []
theorem dksX0_whyNoYoung_0 : cX0_whyNoYoung.data.toList.drop 0 = dktX0_whyNoYoung_0 := by decide +kernel
theorem dX0_whyNoYoung_0 : decode cX0_whyNoYoung 0 = .ok (.aload_n 2, 1) := dk_44 (dk_at dksX0_whyNoYoung_0 0 rfl rfl)
theorem dX0_whyNoYoung_1 : decode cX0_whyNoYoung 1 = .ok (.iconst 0, 1) := dk_3 (dk_at dksX0_whyNoYoung_0 1 rfl rfl)
theorem dX0_whyNoYoung_2 : decode cX0_whyNoYoung 2 = .ok (.aload_n 0, 1) := dk_42 (dk_at dksX0_whyNoYoung_0 2 rfl rfl)
theorem dX0_whyNoYoung_3 : decode cX0_whyNoYoung 3 = .ok (.iload_n 1, 1) := dk_27 (dk_at dksX0_whyNoYoung_0 3 rfl rfl)
theorem dX0_whyNoYoung_4 : decode cX0_whyNoYoung 4 = .ok (.invokevirtual 83, 3) := dk_182 0 83 (dk_at dksX0_whyNoYoung_0 4 rfl rfl)
theorem dX0_whyNoYoung_7 : decode cX0_whyNoYoung 7 = .ok (.i2l, 1) := dk_133 (dk_at dksX0_whyNoYoung_0 7 rfl rfl)
theorem dX0_whyNoYoung_8 : decode cX0_whyNoYoung 8 = .ok (.lastore, 1) := dk_80 (dk_at dksX0_whyNoYoung_0 8 rfl rfl)
theorem dX0_whyNoYoung_9 : decode cX0_whyNoYoung 9 = .ok (.goto 6, 3) := dk_167 0 6 (dk_at dksX0_whyNoYoung_0 9 rfl rfl)
theorem dX0_whyNoYoung_12 : decode cX0_whyNoYoung 12 = .ok (.astore_n 3, 1) := dk_78 (dk_at dksX0_whyNoYoung_0 12 rfl rfl)
theorem dX0_whyNoYoung_13 : decode cX0_whyNoYoung 13 = .ok (.iconst 1, 1) := dk_4 (dk_at dksX0_whyNoYoung_0 13 rfl rfl)
theorem dX0_whyNoYoung_14 : decode cX0_whyNoYoung 14 = .ok (.ireturn, 1) := dk_172 (dk_at dksX0_whyNoYoung_0 14 rfl rfl)
theorem dX0_whyNoYoung_15 : decode cX0_whyNoYoung 15 = .ok (.iconst 0, 1) := dk_3 (dk_at dksX0_whyNoYoung_0 15 rfl rfl)
theorem dX0_whyNoYoung_16 : decode cX0_whyNoYoung 16 = .ok (.ireturn, 1) := dk_172 (dk_at dksX0_whyNoYoung_0 16 rfl rfl)
abbrev cX0_youngOf : ByteArray := method_25_code
def yX0_youngOf : MethodName := ⟨RX0, "youngOf", "(LOwlYears;I[J)I"⟩
def dkwX0_youngOf_0 : List UInt8 := [44, 3, 42, 27, 182, 0, 86, 133, 80, 167, 0, 6, 78, 4, 172, 3, 172]
abbrev dktX0_youngOf_0 : List UInt8 := dkwX0_youngOf_0 ++ []
theorem dksX0_youngOf_0 : cX0_youngOf.data.toList.drop 0 = dktX0_youngOf_0 := by decide +kernel
theorem dX0_youngOf_0 : decode cX0_youngOf 0 = .ok (.aload_n 2, 1) := dk_44 (dk_at dksX0_youngOf_0 0 rfl rfl)
theorem dX0_youngOf_1 : decode cX0_youngOf 1 = .ok (.iconst 0, 1) := dk_3 (dk_at dksX0_youngOf_0 1 rfl rfl)
theorem dX0_youngOf_2 : decode cX0_youngOf 2 = .ok (.aload_n 0, 1) := dk_42 (dk_at dksX0_youngOf_0 2 rfl rfl)
theorem dX0_youngOf_3 : decode cX0_youngOf 3 = .ok (.iload_n 1, 1) := dk_27 (dk_at dksX0_youngOf_0 3 rfl rfl)
theorem dX0_youngOf_4 : decode cX0_youngOf 4 = .ok (.invokevirtual 86, 3) := dk_182 0 86 (dk_at dksX0_youngOf_0 4 rfl rfl)
theorem dX0_youngOf_7 : decode cX0_youngOf 7 = .ok (.i2l, 1) := dk_133 (dk_at dksX0_youngOf_0 7 rfl rfl)
theorem dX0_youngOf_8 : decode cX0_youngOf 8 = .ok (.lastore, 1) := dk_80 (dk_at dksX0_youngOf_0 8 rfl rfl)
theorem dX0_youngOf_9 : decode cX0_youngOf 9 = .ok (.goto 6, 3) := dk_167 0 6 (dk_at dksX0_youngOf_0 9 rfl rfl)
theorem dX0_youngOf_12 : decode cX0_youngOf 12 = .ok (.astore_n 3, 1) := dk_78 (dk_at dksX0_youngOf_0 12 rfl rfl)
theorem dX0_youngOf_13 : decode cX0_youngOf 13 = .ok (.iconst 1, 1) := dk_4 (dk_at dksX0_youngOf_0 13 rfl rfl)
theorem dX0_youngOf_14 : decode cX0_youngOf 14 = .ok (.ireturn, 1) := dk_172 (dk_at dksX0_youngOf_0 14 rfl rfl)
theorem dX0_youngOf_15 : decode cX0_youngOf 15 = .ok (.iconst 0, 1) := dk_3 (dk_at dksX0_youngOf_0 15 rfl rfl)
theorem dX0_youngOf_16 : decode cX0_youngOf 16 = .ok (.ireturn, 1) := dk_172 (dk_at dksX0_youngOf_0 16 rfl rfl)
abbrev cX0_ringAt : ByteArray := method_26_code
def yX0_ringAt : MethodName := ⟨RX0, "ringAt", "(LOwlYears;I[J)I"⟩
def dkwX0_ringAt_0 : List UInt8 := [44, 3, 42, 27, 182, 0, 89, 133, 80, 167, 0, 6, 78, 4, 172, 3, 172]
abbrev dktX0_ringAt_0 : List UInt8 := dkwX0_ringAt_0 ++ []
theorem dksX0_ringAt_0 : cX0_ringAt.data.toList.drop 0 = dktX0_ringAt_0 := by decide +kernel
theorem dX0_ringAt_0 : decode cX0_ringAt 0 = .ok (.aload_n 2, 1) := dk_44 (dk_at dksX0_ringAt_0 0 rfl rfl)
theorem dX0_ringAt_1 : decode cX0_ringAt 1 = .ok (.iconst 0, 1) := dk_3 (dk_at dksX0_ringAt_0 1 rfl rfl)
theorem dX0_ringAt_2 : decode cX0_ringAt 2 = .ok (.aload_n 0, 1) := dk_42 (dk_at dksX0_ringAt_0 2 rfl rfl)
theorem dX0_ringAt_3 : decode cX0_ringAt 3 = .ok (.iload_n 1, 1) := dk_27 (dk_at dksX0_ringAt_0 3 rfl rfl)
theorem dX0_ringAt_4 : decode cX0_ringAt 4 = .ok (.invokevirtual 89, 3) := dk_182 0 89 (dk_at dksX0_ringAt_0 4 rfl rfl)
theorem dX0_ringAt_7 : decode cX0_ringAt 7 = .ok (.i2l, 1) := dk_133 (dk_at dksX0_ringAt_0 7 rfl rfl)
theorem dX0_ringAt_8 : decode cX0_ringAt 8 = .ok (.lastore, 1) := dk_80 (dk_at dksX0_ringAt_0 8 rfl rfl)
theorem dX0_ringAt_9 : decode cX0_ringAt 9 = .ok (.goto 6, 3) := dk_167 0 6 (dk_at dksX0_ringAt_0 9 rfl rfl)
theorem dX0_ringAt_12 : decode cX0_ringAt 12 = .ok (.astore_n 3, 1) := dk_78 (dk_at dksX0_ringAt_0 12 rfl rfl)
theorem dX0_ringAt_13 : decode cX0_ringAt 13 = .ok (.iconst 1, 1) := dk_4 (dk_at dksX0_ringAt_0 13 rfl rfl)
theorem dX0_ringAt_14 : decode cX0_ringAt 14 = .ok (.ireturn, 1) := dk_172 (dk_at dksX0_ringAt_0 14 rfl rfl)
theorem dX0_ringAt_15 : decode cX0_ringAt 15 = .ok (.iconst 0, 1) := dk_3 (dk_at dksX0_ringAt_0 15 rfl rfl)
theorem dX0_ringAt_16 : decode cX0_ringAt 16 = .ok (.ireturn, 1) := dk_172 (dk_at dksX0_ringAt_0 16 rfl rfl)
abbrev cX0_sexOf : ByteArray := method_27_code
def yX0_sexOf : MethodName := ⟨RX0, "sexOf", "(LOwlYears;I[J)I"⟩
def dkwX0_sexOf_0 : List UInt8 := [44, 3, 42, 27, 182, 0, 92, 133, 80, 167, 0, 6, 78, 4, 172, 3, 172]
abbrev dktX0_sexOf_0 : List UInt8 := dkwX0_sexOf_0 ++ []
theorem dksX0_sexOf_0 : cX0_sexOf.data.toList.drop 0 = dktX0_sexOf_0 := by decide +kernel
theorem dX0_sexOf_0 : decode cX0_sexOf 0 = .ok (.aload_n 2, 1) := dk_44 (dk_at dksX0_sexOf_0 0 rfl rfl)
theorem dX0_sexOf_1 : decode cX0_sexOf 1 = .ok (.iconst 0, 1) := dk_3 (dk_at dksX0_sexOf_0 1 rfl rfl)
theorem dX0_sexOf_2 : decode cX0_sexOf 2 = .ok (.aload_n 0, 1) := dk_42 (dk_at dksX0_sexOf_0 2 rfl rfl)
theorem dX0_sexOf_3 : decode cX0_sexOf 3 = .ok (.iload_n 1, 1) := dk_27 (dk_at dksX0_sexOf_0 3 rfl rfl)
theorem dX0_sexOf_4 : decode cX0_sexOf 4 = .ok (.invokevirtual 92, 3) := dk_182 0 92 (dk_at dksX0_sexOf_0 4 rfl rfl)
theorem dX0_sexOf_7 : decode cX0_sexOf 7 = .ok (.i2l, 1) := dk_133 (dk_at dksX0_sexOf_0 7 rfl rfl)
theorem dX0_sexOf_8 : decode cX0_sexOf 8 = .ok (.lastore, 1) := dk_80 (dk_at dksX0_sexOf_0 8 rfl rfl)
theorem dX0_sexOf_9 : decode cX0_sexOf 9 = .ok (.goto 6, 3) := dk_167 0 6 (dk_at dksX0_sexOf_0 9 rfl rfl)
theorem dX0_sexOf_12 : decode cX0_sexOf 12 = .ok (.astore_n 3, 1) := dk_78 (dk_at dksX0_sexOf_0 12 rfl rfl)
theorem dX0_sexOf_13 : decode cX0_sexOf 13 = .ok (.iconst 1, 1) := dk_4 (dk_at dksX0_sexOf_0 13 rfl rfl)
theorem dX0_sexOf_14 : decode cX0_sexOf 14 = .ok (.ireturn, 1) := dk_172 (dk_at dksX0_sexOf_0 14 rfl rfl)
theorem dX0_sexOf_15 : decode cX0_sexOf 15 = .ok (.iconst 0, 1) := dk_3 (dk_at dksX0_sexOf_0 15 rfl rfl)
theorem dX0_sexOf_16 : decode cX0_sexOf 16 = .ok (.ireturn, 1) := dk_172 (dk_at dksX0_sexOf_0 16 rfl rfl)
abbrev cX0_ageOf : ByteArray := method_28_code
def yX0_ageOf : MethodName := ⟨RX0, "ageOf", "(LOwlYears;I[J)I"⟩
def dkwX0_ageOf_0 : List UInt8 := [44, 3, 42, 27, 182, 0, 95, 133, 80, 167, 0, 6, 78, 4, 172, 3, 172]
abbrev dktX0_ageOf_0 : List UInt8 := dkwX0_ageOf_0 ++ []
theorem dksX0_ageOf_0 : cX0_ageOf.data.toList.drop 0 = dktX0_ageOf_0 := by decide +kernel
theorem dX0_ageOf_0 : decode cX0_ageOf 0 = .ok (.aload_n 2, 1) := dk_44 (dk_at dksX0_ageOf_0 0 rfl rfl)
theorem dX0_ageOf_1 : decode cX0_ageOf 1 = .ok (.iconst 0, 1) := dk_3 (dk_at dksX0_ageOf_0 1 rfl rfl)
theorem dX0_ageOf_2 : decode cX0_ageOf 2 = .ok (.aload_n 0, 1) := dk_42 (dk_at dksX0_ageOf_0 2 rfl rfl)
theorem dX0_ageOf_3 : decode cX0_ageOf 3 = .ok (.iload_n 1, 1) := dk_27 (dk_at dksX0_ageOf_0 3 rfl rfl)
theorem dX0_ageOf_4 : decode cX0_ageOf 4 = .ok (.invokevirtual 95, 3) := dk_182 0 95 (dk_at dksX0_ageOf_0 4 rfl rfl)
theorem dX0_ageOf_7 : decode cX0_ageOf 7 = .ok (.i2l, 1) := dk_133 (dk_at dksX0_ageOf_0 7 rfl rfl)
theorem dX0_ageOf_8 : decode cX0_ageOf 8 = .ok (.lastore, 1) := dk_80 (dk_at dksX0_ageOf_0 8 rfl rfl)
theorem dX0_ageOf_9 : decode cX0_ageOf 9 = .ok (.goto 6, 3) := dk_167 0 6 (dk_at dksX0_ageOf_0 9 rfl rfl)
theorem dX0_ageOf_12 : decode cX0_ageOf 12 = .ok (.astore_n 3, 1) := dk_78 (dk_at dksX0_ageOf_0 12 rfl rfl)
theorem dX0_ageOf_13 : decode cX0_ageOf 13 = .ok (.iconst 1, 1) := dk_4 (dk_at dksX0_ageOf_0 13 rfl rfl)
theorem dX0_ageOf_14 : decode cX0_ageOf 14 = .ok (.ireturn, 1) := dk_172 (dk_at dksX0_ageOf_0 14 rfl rfl)
theorem dX0_ageOf_15 : decode cX0_ageOf 15 = .ok (.iconst 0, 1) := dk_3 (dk_at dksX0_ageOf_0 15 rfl rfl)
theorem dX0_ageOf_16 : decode cX0_ageOf 16 = .ok (.ireturn, 1) := dk_172 (dk_at dksX0_ageOf_0 16 rfl rfl)
abbrev cX0_boxOf : ByteArray := method_29_code
def yX0_boxOf : MethodName := ⟨RX0, "boxOf", "(LOwlYears;I[J)I"⟩
def dkwX0_boxOf_0 : List UInt8 := [44, 3, 42, 27, 182, 0, 98, 133, 80, 167, 0, 6, 78, 4, 172, 3, 172]
abbrev dktX0_boxOf_0 : List UInt8 := dkwX0_boxOf_0 ++ []
theorem dksX0_boxOf_0 : cX0_boxOf.data.toList.drop 0 = dktX0_boxOf_0 := by decide +kernel
theorem dX0_boxOf_0 : decode cX0_boxOf 0 = .ok (.aload_n 2, 1) := dk_44 (dk_at dksX0_boxOf_0 0 rfl rfl)
theorem dX0_boxOf_1 : decode cX0_boxOf 1 = .ok (.iconst 0, 1) := dk_3 (dk_at dksX0_boxOf_0 1 rfl rfl)
theorem dX0_boxOf_2 : decode cX0_boxOf 2 = .ok (.aload_n 0, 1) := dk_42 (dk_at dksX0_boxOf_0 2 rfl rfl)
theorem dX0_boxOf_3 : decode cX0_boxOf 3 = .ok (.iload_n 1, 1) := dk_27 (dk_at dksX0_boxOf_0 3 rfl rfl)
theorem dX0_boxOf_4 : decode cX0_boxOf 4 = .ok (.invokevirtual 98, 3) := dk_182 0 98 (dk_at dksX0_boxOf_0 4 rfl rfl)
theorem dX0_boxOf_7 : decode cX0_boxOf 7 = .ok (.i2l, 1) := dk_133 (dk_at dksX0_boxOf_0 7 rfl rfl)
theorem dX0_boxOf_8 : decode cX0_boxOf 8 = .ok (.lastore, 1) := dk_80 (dk_at dksX0_boxOf_0 8 rfl rfl)
theorem dX0_boxOf_9 : decode cX0_boxOf 9 = .ok (.goto 6, 3) := dk_167 0 6 (dk_at dksX0_boxOf_0 9 rfl rfl)
theorem dX0_boxOf_12 : decode cX0_boxOf 12 = .ok (.astore_n 3, 1) := dk_78 (dk_at dksX0_boxOf_0 12 rfl rfl)
theorem dX0_boxOf_13 : decode cX0_boxOf 13 = .ok (.iconst 1, 1) := dk_4 (dk_at dksX0_boxOf_0 13 rfl rfl)
theorem dX0_boxOf_14 : decode cX0_boxOf 14 = .ok (.ireturn, 1) := dk_172 (dk_at dksX0_boxOf_0 14 rfl rfl)
theorem dX0_boxOf_15 : decode cX0_boxOf 15 = .ok (.iconst 0, 1) := dk_3 (dk_at dksX0_boxOf_0 15 rfl rfl)
theorem dX0_boxOf_16 : decode cX0_boxOf 16 = .ok (.ireturn, 1) := dk_172 (dk_at dksX0_boxOf_0 16 rfl rfl)
abbrev cX0_motherOf : ByteArray := method_30_code
def yX0_motherOf : MethodName := ⟨RX0, "motherOf", "(LOwlYears;I[J)I"⟩
def dkwX0_motherOf_0 : List UInt8 := [44, 3, 42, 27, 182, 0, 101, 133, 80, 167, 0, 6, 78, 4, 172, 3, 172]
abbrev dktX0_motherOf_0 : List UInt8 := dkwX0_motherOf_0 ++ []
theorem dksX0_motherOf_0 : cX0_motherOf.data.toList.drop 0 = dktX0_motherOf_0 := by decide +kernel
theorem dX0_motherOf_0 : decode cX0_motherOf 0 = .ok (.aload_n 2, 1) := dk_44 (dk_at dksX0_motherOf_0 0 rfl rfl)
theorem dX0_motherOf_1 : decode cX0_motherOf 1 = .ok (.iconst 0, 1) := dk_3 (dk_at dksX0_motherOf_0 1 rfl rfl)
theorem dX0_motherOf_2 : decode cX0_motherOf 2 = .ok (.aload_n 0, 1) := dk_42 (dk_at dksX0_motherOf_0 2 rfl rfl)
theorem dX0_motherOf_3 : decode cX0_motherOf 3 = .ok (.iload_n 1, 1) := dk_27 (dk_at dksX0_motherOf_0 3 rfl rfl)
theorem dX0_motherOf_4 : decode cX0_motherOf 4 = .ok (.invokevirtual 101, 3) := dk_182 0 101 (dk_at dksX0_motherOf_0 4 rfl rfl)
theorem dX0_motherOf_7 : decode cX0_motherOf 7 = .ok (.i2l, 1) := dk_133 (dk_at dksX0_motherOf_0 7 rfl rfl)
theorem dX0_motherOf_8 : decode cX0_motherOf 8 = .ok (.lastore, 1) := dk_80 (dk_at dksX0_motherOf_0 8 rfl rfl)
theorem dX0_motherOf_9 : decode cX0_motherOf 9 = .ok (.goto 6, 3) := dk_167 0 6 (dk_at dksX0_motherOf_0 9 rfl rfl)
theorem dX0_motherOf_12 : decode cX0_motherOf 12 = .ok (.astore_n 3, 1) := dk_78 (dk_at dksX0_motherOf_0 12 rfl rfl)
theorem dX0_motherOf_13 : decode cX0_motherOf 13 = .ok (.iconst 1, 1) := dk_4 (dk_at dksX0_motherOf_0 13 rfl rfl)
theorem dX0_motherOf_14 : decode cX0_motherOf 14 = .ok (.ireturn, 1) := dk_172 (dk_at dksX0_motherOf_0 14 rfl rfl)
theorem dX0_motherOf_15 : decode cX0_motherOf 15 = .ok (.iconst 0, 1) := dk_3 (dk_at dksX0_motherOf_0 15 rfl rfl)
theorem dX0_motherOf_16 : decode cX0_motherOf 16 = .ok (.ireturn, 1) := dk_172 (dk_at dksX0_motherOf_0 16 rfl rfl)
abbrev cX0_fatherOf : ByteArray := method_31_code
def yX0_fatherOf : MethodName := ⟨RX0, "fatherOf", "(LOwlYears;I[J)I"⟩
def dkwX0_fatherOf_0 : List UInt8 := [44, 3, 42, 27, 182, 0, 104, 133, 80, 167, 0, 6, 78, 4, 172, 3, 172]
abbrev dktX0_fatherOf_0 : List UInt8 := dkwX0_fatherOf_0 ++ []
theorem dksX0_fatherOf_0 : cX0_fatherOf.data.toList.drop 0 = dktX0_fatherOf_0 := by decide +kernel
theorem dX0_fatherOf_0 : decode cX0_fatherOf 0 = .ok (.aload_n 2, 1) := dk_44 (dk_at dksX0_fatherOf_0 0 rfl rfl)
theorem dX0_fatherOf_1 : decode cX0_fatherOf 1 = .ok (.iconst 0, 1) := dk_3 (dk_at dksX0_fatherOf_0 1 rfl rfl)
theorem dX0_fatherOf_2 : decode cX0_fatherOf 2 = .ok (.aload_n 0, 1) := dk_42 (dk_at dksX0_fatherOf_0 2 rfl rfl)
theorem dX0_fatherOf_3 : decode cX0_fatherOf 3 = .ok (.iload_n 1, 1) := dk_27 (dk_at dksX0_fatherOf_0 3 rfl rfl)
theorem dX0_fatherOf_4 : decode cX0_fatherOf 4 = .ok (.invokevirtual 104, 3) := dk_182 0 104 (dk_at dksX0_fatherOf_0 4 rfl rfl)
theorem dX0_fatherOf_7 : decode cX0_fatherOf 7 = .ok (.i2l, 1) := dk_133 (dk_at dksX0_fatherOf_0 7 rfl rfl)
theorem dX0_fatherOf_8 : decode cX0_fatherOf 8 = .ok (.lastore, 1) := dk_80 (dk_at dksX0_fatherOf_0 8 rfl rfl)
theorem dX0_fatherOf_9 : decode cX0_fatherOf 9 = .ok (.goto 6, 3) := dk_167 0 6 (dk_at dksX0_fatherOf_0 9 rfl rfl)
theorem dX0_fatherOf_12 : decode cX0_fatherOf 12 = .ok (.astore_n 3, 1) := dk_78 (dk_at dksX0_fatherOf_0 12 rfl rfl)
theorem dX0_fatherOf_13 : decode cX0_fatherOf 13 = .ok (.iconst 1, 1) := dk_4 (dk_at dksX0_fatherOf_0 13 rfl rfl)
theorem dX0_fatherOf_14 : decode cX0_fatherOf 14 = .ok (.ireturn, 1) := dk_172 (dk_at dksX0_fatherOf_0 14 rfl rfl)
theorem dX0_fatherOf_15 : decode cX0_fatherOf 15 = .ok (.iconst 0, 1) := dk_3 (dk_at dksX0_fatherOf_0 15 rfl rfl)
theorem dX0_fatherOf_16 : decode cX0_fatherOf 16 = .ok (.ireturn, 1) := dk_172 (dk_at dksX0_fatherOf_0 16 rfl rfl)
abbrev cX0_childrenOf : ByteArray := method_32_code
def yX0_childrenOf : MethodName := ⟨RX0, "childrenOf", "(LOwlYears;I[J)I"⟩
def dkwX0_childrenOf_0 : List UInt8 := [44, 3, 42, 27, 182, 0, 107, 133, 80, 167, 0, 6, 78, 4, 172, 3, 172]
abbrev dktX0_childrenOf_0 : List UInt8 := dkwX0_childrenOf_0 ++ []
theorem dksX0_childrenOf_0 : cX0_childrenOf.data.toList.drop 0 = dktX0_childrenOf_0 := by decide +kernel
theorem dX0_childrenOf_0 : decode cX0_childrenOf 0 = .ok (.aload_n 2, 1) := dk_44 (dk_at dksX0_childrenOf_0 0 rfl rfl)
theorem dX0_childrenOf_1 : decode cX0_childrenOf 1 = .ok (.iconst 0, 1) := dk_3 (dk_at dksX0_childrenOf_0 1 rfl rfl)
theorem dX0_childrenOf_2 : decode cX0_childrenOf 2 = .ok (.aload_n 0, 1) := dk_42 (dk_at dksX0_childrenOf_0 2 rfl rfl)
theorem dX0_childrenOf_3 : decode cX0_childrenOf 3 = .ok (.iload_n 1, 1) := dk_27 (dk_at dksX0_childrenOf_0 3 rfl rfl)
theorem dX0_childrenOf_4 : decode cX0_childrenOf 4 = .ok (.invokevirtual 107, 3) := dk_182 0 107 (dk_at dksX0_childrenOf_0 4 rfl rfl)
theorem dX0_childrenOf_7 : decode cX0_childrenOf 7 = .ok (.i2l, 1) := dk_133 (dk_at dksX0_childrenOf_0 7 rfl rfl)
theorem dX0_childrenOf_8 : decode cX0_childrenOf 8 = .ok (.lastore, 1) := dk_80 (dk_at dksX0_childrenOf_0 8 rfl rfl)
theorem dX0_childrenOf_9 : decode cX0_childrenOf 9 = .ok (.goto 6, 3) := dk_167 0 6 (dk_at dksX0_childrenOf_0 9 rfl rfl)
theorem dX0_childrenOf_12 : decode cX0_childrenOf 12 = .ok (.astore_n 3, 1) := dk_78 (dk_at dksX0_childrenOf_0 12 rfl rfl)
theorem dX0_childrenOf_13 : decode cX0_childrenOf 13 = .ok (.iconst 1, 1) := dk_4 (dk_at dksX0_childrenOf_0 13 rfl rfl)
theorem dX0_childrenOf_14 : decode cX0_childrenOf 14 = .ok (.ireturn, 1) := dk_172 (dk_at dksX0_childrenOf_0 14 rfl rfl)
theorem dX0_childrenOf_15 : decode cX0_childrenOf 15 = .ok (.iconst 0, 1) := dk_3 (dk_at dksX0_childrenOf_0 15 rfl rfl)
theorem dX0_childrenOf_16 : decode cX0_childrenOf 16 = .ok (.ireturn, 1) := dk_172 (dk_at dksX0_childrenOf_0 16 rfl rfl)
abbrev cX0_offspringOf : ByteArray := method_33_code
def yX0_offspringOf : MethodName := ⟨RX0, "offspringOf", "(LOwlYears;I[J)I"⟩
def dkwX0_offspringOf_0 : List UInt8 := [44, 3, 42, 27, 182, 0, 110, 133, 80, 167, 0, 6, 78, 4, 172, 3, 172]
abbrev dktX0_offspringOf_0 : List UInt8 := dkwX0_offspringOf_0 ++ []
theorem dksX0_offspringOf_0 : cX0_offspringOf.data.toList.drop 0 = dktX0_offspringOf_0 := by decide +kernel
theorem dX0_offspringOf_0 : decode cX0_offspringOf 0 = .ok (.aload_n 2, 1) := dk_44 (dk_at dksX0_offspringOf_0 0 rfl rfl)
theorem dX0_offspringOf_1 : decode cX0_offspringOf 1 = .ok (.iconst 0, 1) := dk_3 (dk_at dksX0_offspringOf_0 1 rfl rfl)
theorem dX0_offspringOf_2 : decode cX0_offspringOf 2 = .ok (.aload_n 0, 1) := dk_42 (dk_at dksX0_offspringOf_0 2 rfl rfl)
theorem dX0_offspringOf_3 : decode cX0_offspringOf 3 = .ok (.iload_n 1, 1) := dk_27 (dk_at dksX0_offspringOf_0 3 rfl rfl)
theorem dX0_offspringOf_4 : decode cX0_offspringOf 4 = .ok (.invokevirtual 110, 3) := dk_182 0 110 (dk_at dksX0_offspringOf_0 4 rfl rfl)
theorem dX0_offspringOf_7 : decode cX0_offspringOf 7 = .ok (.i2l, 1) := dk_133 (dk_at dksX0_offspringOf_0 7 rfl rfl)
theorem dX0_offspringOf_8 : decode cX0_offspringOf 8 = .ok (.lastore, 1) := dk_80 (dk_at dksX0_offspringOf_0 8 rfl rfl)
theorem dX0_offspringOf_9 : decode cX0_offspringOf 9 = .ok (.goto 6, 3) := dk_167 0 6 (dk_at dksX0_offspringOf_0 9 rfl rfl)
theorem dX0_offspringOf_12 : decode cX0_offspringOf 12 = .ok (.astore_n 3, 1) := dk_78 (dk_at dksX0_offspringOf_0 12 rfl rfl)
theorem dX0_offspringOf_13 : decode cX0_offspringOf 13 = .ok (.iconst 1, 1) := dk_4 (dk_at dksX0_offspringOf_0 13 rfl rfl)
theorem dX0_offspringOf_14 : decode cX0_offspringOf 14 = .ok (.ireturn, 1) := dk_172 (dk_at dksX0_offspringOf_0 14 rfl rfl)
theorem dX0_offspringOf_15 : decode cX0_offspringOf 15 = .ok (.iconst 0, 1) := dk_3 (dk_at dksX0_offspringOf_0 15 rfl rfl)
theorem dX0_offspringOf_16 : decode cX0_offspringOf 16 = .ok (.ireturn, 1) := dk_172 (dk_at dksX0_offspringOf_0 16 rfl rfl)
abbrev cX0_offspringByParents : ByteArray := method_34_code
def yX0_offspringByParents : MethodName := ⟨RX0, "offspringByParents", "(LOwlYears;I[J)I"⟩
def dkwX0_offspringByParents_0 : List UInt8 := [44, 3, 42, 27, 182, 0, 113, 133, 80, 167, 0, 6, 78, 4, 172, 3, 172]
abbrev dktX0_offspringByParents_0 : List UInt8 := dkwX0_offspringByParents_0 ++ []
theorem dksX0_offspringByParents_0 : cX0_offspringByParents.data.toList.drop 0 = dktX0_offspringByParents_0 := by decide +kernel
theorem dX0_offspringByParents_0 : decode cX0_offspringByParents 0 = .ok (.aload_n 2, 1) := dk_44 (dk_at dksX0_offspringByParents_0 0 rfl rfl)
theorem dX0_offspringByParents_1 : decode cX0_offspringByParents 1 = .ok (.iconst 0, 1) := dk_3 (dk_at dksX0_offspringByParents_0 1 rfl rfl)
theorem dX0_offspringByParents_2 : decode cX0_offspringByParents 2 = .ok (.aload_n 0, 1) := dk_42 (dk_at dksX0_offspringByParents_0 2 rfl rfl)
theorem dX0_offspringByParents_3 : decode cX0_offspringByParents 3 = .ok (.iload_n 1, 1) := dk_27 (dk_at dksX0_offspringByParents_0 3 rfl rfl)
theorem dX0_offspringByParents_4 : decode cX0_offspringByParents 4 = .ok (.invokevirtual 113, 3) := dk_182 0 113 (dk_at dksX0_offspringByParents_0 4 rfl rfl)
theorem dX0_offspringByParents_7 : decode cX0_offspringByParents 7 = .ok (.i2l, 1) := dk_133 (dk_at dksX0_offspringByParents_0 7 rfl rfl)
theorem dX0_offspringByParents_8 : decode cX0_offspringByParents 8 = .ok (.lastore, 1) := dk_80 (dk_at dksX0_offspringByParents_0 8 rfl rfl)
theorem dX0_offspringByParents_9 : decode cX0_offspringByParents 9 = .ok (.goto 6, 3) := dk_167 0 6 (dk_at dksX0_offspringByParents_0 9 rfl rfl)
theorem dX0_offspringByParents_12 : decode cX0_offspringByParents 12 = .ok (.astore_n 3, 1) := dk_78 (dk_at dksX0_offspringByParents_0 12 rfl rfl)
theorem dX0_offspringByParents_13 : decode cX0_offspringByParents 13 = .ok (.iconst 1, 1) := dk_4 (dk_at dksX0_offspringByParents_0 13 rfl rfl)
theorem dX0_offspringByParents_14 : decode cX0_offspringByParents 14 = .ok (.ireturn, 1) := dk_172 (dk_at dksX0_offspringByParents_0 14 rfl rfl)
theorem dX0_offspringByParents_15 : decode cX0_offspringByParents 15 = .ok (.iconst 0, 1) := dk_3 (dk_at dksX0_offspringByParents_0 15 rfl rfl)
theorem dX0_offspringByParents_16 : decode cX0_offspringByParents 16 = .ok (.ireturn, 1) := dk_172 (dk_at dksX0_offspringByParents_0 16 rfl rfl)
abbrev cX0_areKin : ByteArray := method_35_code
def yX0_areKin : MethodName := ⟨RX0, "areKin", "(LOwlYears;II[J)I"⟩
def dkwX0_areKin_1 : List UInt8 := [3, 172]
abbrev dktX0_areKin_1 : List UInt8 := dkwX0_areKin_1 ++ []
def dkwX0_areKin_0 : List UInt8 := [45, 3, 42, 27, 28, 182, 0, 116, 153, 0, 7, 10, 167, 0, 4, 9, 80, 167, 0, 7, 58, 4, 4, 172]
abbrev dktX0_areKin_0 : List UInt8 := dkwX0_areKin_0 ++ dktX0_areKin_1
theorem dksX0_areKin_0 : cX0_areKin.data.toList.drop 0 = dktX0_areKin_0 := by decide +kernel
theorem dksX0_areKin_1 : cX0_areKin.data.toList.drop 24 = dktX0_areKin_1 := dk_seg dksX0_areKin_0 24 rfl rfl
theorem dX0_areKin_0 : decode cX0_areKin 0 = .ok (.aload_n 3, 1) := dk_45 (dk_at dksX0_areKin_0 0 rfl rfl)
theorem dX0_areKin_1 : decode cX0_areKin 1 = .ok (.iconst 0, 1) := dk_3 (dk_at dksX0_areKin_0 1 rfl rfl)
theorem dX0_areKin_2 : decode cX0_areKin 2 = .ok (.aload_n 0, 1) := dk_42 (dk_at dksX0_areKin_0 2 rfl rfl)
theorem dX0_areKin_3 : decode cX0_areKin 3 = .ok (.iload_n 1, 1) := dk_27 (dk_at dksX0_areKin_0 3 rfl rfl)
theorem dX0_areKin_4 : decode cX0_areKin 4 = .ok (.iload_n 2, 1) := dk_28 (dk_at dksX0_areKin_0 4 rfl rfl)
theorem dX0_areKin_5 : decode cX0_areKin 5 = .ok (.invokevirtual 116, 3) := dk_182 0 116 (dk_at dksX0_areKin_0 5 rfl rfl)
theorem dX0_areKin_8 : decode cX0_areKin 8 = .ok (.ifCond .eq 7, 3) := dk_153 0 7 (dk_at dksX0_areKin_0 8 rfl rfl)
theorem dX0_areKin_11 : decode cX0_areKin 11 = .ok (.lconst 1, 1) := dk_10 (dk_at dksX0_areKin_0 11 rfl rfl)
theorem dX0_areKin_12 : decode cX0_areKin 12 = .ok (.goto 4, 3) := dk_167 0 4 (dk_at dksX0_areKin_0 12 rfl rfl)
theorem dX0_areKin_15 : decode cX0_areKin 15 = .ok (.lconst 0, 1) := dk_9 (dk_at dksX0_areKin_0 15 rfl rfl)
theorem dX0_areKin_16 : decode cX0_areKin 16 = .ok (.lastore, 1) := dk_80 (dk_at dksX0_areKin_0 16 rfl rfl)
theorem dX0_areKin_17 : decode cX0_areKin 17 = .ok (.goto 7, 3) := dk_167 0 7 (dk_at dksX0_areKin_0 17 rfl rfl)
theorem dX0_areKin_20 : decode cX0_areKin 20 = .ok (.astore 4, 2) := dk_58 4 (dk_at dksX0_areKin_0 20 rfl rfl)
theorem dX0_areKin_22 : decode cX0_areKin 22 = .ok (.iconst 1, 1) := dk_4 (dk_at dksX0_areKin_0 22 rfl rfl)
theorem dX0_areKin_23 : decode cX0_areKin 23 = .ok (.ireturn, 1) := dk_172 (dk_at dksX0_areKin_0 23 rfl rfl)
theorem dX0_areKin_24 : decode cX0_areKin 24 = .ok (.iconst 0, 1) := dk_3 (dk_at dksX0_areKin_1 0 rfl rfl)
theorem dX0_areKin_25 : decode cX0_areKin 25 = .ok (.ireturn, 1) := dk_172 (dk_at dksX0_areKin_1 1 rfl rfl)
abbrev cX0_died : ByteArray := method_36_code
def yX0_died : MethodName := ⟨RX0, "died", "(LOwlYears;I[J)I"⟩
def dkwX0_died_0 : List UInt8 := [44, 3, 42, 27, 182, 0, 120, 133, 80, 167, 0, 6, 78, 4, 172, 3, 172]
abbrev dktX0_died_0 : List UInt8 := dkwX0_died_0 ++ []
theorem dksX0_died_0 : cX0_died.data.toList.drop 0 = dktX0_died_0 := by decide +kernel
theorem dX0_died_0 : decode cX0_died 0 = .ok (.aload_n 2, 1) := dk_44 (dk_at dksX0_died_0 0 rfl rfl)
theorem dX0_died_1 : decode cX0_died 1 = .ok (.iconst 0, 1) := dk_3 (dk_at dksX0_died_0 1 rfl rfl)
theorem dX0_died_2 : decode cX0_died 2 = .ok (.aload_n 0, 1) := dk_42 (dk_at dksX0_died_0 2 rfl rfl)
theorem dX0_died_3 : decode cX0_died 3 = .ok (.iload_n 1, 1) := dk_27 (dk_at dksX0_died_0 3 rfl rfl)
theorem dX0_died_4 : decode cX0_died 4 = .ok (.invokevirtual 120, 3) := dk_182 0 120 (dk_at dksX0_died_0 4 rfl rfl)
theorem dX0_died_7 : decode cX0_died 7 = .ok (.i2l, 1) := dk_133 (dk_at dksX0_died_0 7 rfl rfl)
theorem dX0_died_8 : decode cX0_died 8 = .ok (.lastore, 1) := dk_80 (dk_at dksX0_died_0 8 rfl rfl)
theorem dX0_died_9 : decode cX0_died 9 = .ok (.goto 6, 3) := dk_167 0 6 (dk_at dksX0_died_0 9 rfl rfl)
theorem dX0_died_12 : decode cX0_died 12 = .ok (.astore_n 3, 1) := dk_78 (dk_at dksX0_died_0 12 rfl rfl)
theorem dX0_died_13 : decode cX0_died 13 = .ok (.iconst 1, 1) := dk_4 (dk_at dksX0_died_0 13 rfl rfl)
theorem dX0_died_14 : decode cX0_died 14 = .ok (.ireturn, 1) := dk_172 (dk_at dksX0_died_0 14 rfl rfl)
theorem dX0_died_15 : decode cX0_died 15 = .ok (.iconst 0, 1) := dk_3 (dk_at dksX0_died_0 15 rfl rfl)
theorem dX0_died_16 : decode cX0_died 16 = .ok (.ireturn, 1) := dk_172 (dk_at dksX0_died_0 16 rfl rfl)
abbrev cX0_deathRing : ByteArray := method_37_code
def yX0_deathRing : MethodName := ⟨RX0, "deathRing", "(LOwlYears;I[J)I"⟩
def dkwX0_deathRing_0 : List UInt8 := [44, 3, 42, 27, 182, 0, 123, 133, 80, 167, 0, 6, 78, 4, 172, 3, 172]
abbrev dktX0_deathRing_0 : List UInt8 := dkwX0_deathRing_0 ++ []
theorem dksX0_deathRing_0 : cX0_deathRing.data.toList.drop 0 = dktX0_deathRing_0 := by decide +kernel
theorem dX0_deathRing_0 : decode cX0_deathRing 0 = .ok (.aload_n 2, 1) := dk_44 (dk_at dksX0_deathRing_0 0 rfl rfl)
theorem dX0_deathRing_1 : decode cX0_deathRing 1 = .ok (.iconst 0, 1) := dk_3 (dk_at dksX0_deathRing_0 1 rfl rfl)
theorem dX0_deathRing_2 : decode cX0_deathRing 2 = .ok (.aload_n 0, 1) := dk_42 (dk_at dksX0_deathRing_0 2 rfl rfl)
theorem dX0_deathRing_3 : decode cX0_deathRing 3 = .ok (.iload_n 1, 1) := dk_27 (dk_at dksX0_deathRing_0 3 rfl rfl)
theorem dX0_deathRing_4 : decode cX0_deathRing 4 = .ok (.invokevirtual 123, 3) := dk_182 0 123 (dk_at dksX0_deathRing_0 4 rfl rfl)
theorem dX0_deathRing_7 : decode cX0_deathRing 7 = .ok (.i2l, 1) := dk_133 (dk_at dksX0_deathRing_0 7 rfl rfl)
theorem dX0_deathRing_8 : decode cX0_deathRing 8 = .ok (.lastore, 1) := dk_80 (dk_at dksX0_deathRing_0 8 rfl rfl)
theorem dX0_deathRing_9 : decode cX0_deathRing 9 = .ok (.goto 6, 3) := dk_167 0 6 (dk_at dksX0_deathRing_0 9 rfl rfl)
theorem dX0_deathRing_12 : decode cX0_deathRing 12 = .ok (.astore_n 3, 1) := dk_78 (dk_at dksX0_deathRing_0 12 rfl rfl)
theorem dX0_deathRing_13 : decode cX0_deathRing 13 = .ok (.iconst 1, 1) := dk_4 (dk_at dksX0_deathRing_0 13 rfl rfl)
theorem dX0_deathRing_14 : decode cX0_deathRing 14 = .ok (.ireturn, 1) := dk_172 (dk_at dksX0_deathRing_0 14 rfl rfl)
theorem dX0_deathRing_15 : decode cX0_deathRing 15 = .ok (.iconst 0, 1) := dk_3 (dk_at dksX0_deathRing_0 15 rfl rfl)
theorem dX0_deathRing_16 : decode cX0_deathRing 16 = .ok (.ireturn, 1) := dk_172 (dk_at dksX0_deathRing_0 16 rfl rfl)
abbrev cX0_deathCause : ByteArray := method_38_code
def yX0_deathCause : MethodName := ⟨RX0, "deathCause", "(LOwlYears;I[J)I"⟩
def dkwX0_deathCause_0 : List UInt8 := [44, 3, 42, 27, 182, 0, 126, 133, 80, 167, 0, 6, 78, 4, 172, 3, 172]
abbrev dktX0_deathCause_0 : List UInt8 := dkwX0_deathCause_0 ++ []
theorem dksX0_deathCause_0 : cX0_deathCause.data.toList.drop 0 = dktX0_deathCause_0 := by decide +kernel
theorem dX0_deathCause_0 : decode cX0_deathCause 0 = .ok (.aload_n 2, 1) := dk_44 (dk_at dksX0_deathCause_0 0 rfl rfl)
theorem dX0_deathCause_1 : decode cX0_deathCause 1 = .ok (.iconst 0, 1) := dk_3 (dk_at dksX0_deathCause_0 1 rfl rfl)
theorem dX0_deathCause_2 : decode cX0_deathCause 2 = .ok (.aload_n 0, 1) := dk_42 (dk_at dksX0_deathCause_0 2 rfl rfl)
theorem dX0_deathCause_3 : decode cX0_deathCause 3 = .ok (.iload_n 1, 1) := dk_27 (dk_at dksX0_deathCause_0 3 rfl rfl)
theorem dX0_deathCause_4 : decode cX0_deathCause 4 = .ok (.invokevirtual 126, 3) := dk_182 0 126 (dk_at dksX0_deathCause_0 4 rfl rfl)
theorem dX0_deathCause_7 : decode cX0_deathCause 7 = .ok (.i2l, 1) := dk_133 (dk_at dksX0_deathCause_0 7 rfl rfl)
theorem dX0_deathCause_8 : decode cX0_deathCause 8 = .ok (.lastore, 1) := dk_80 (dk_at dksX0_deathCause_0 8 rfl rfl)
theorem dX0_deathCause_9 : decode cX0_deathCause 9 = .ok (.goto 6, 3) := dk_167 0 6 (dk_at dksX0_deathCause_0 9 rfl rfl)
theorem dX0_deathCause_12 : decode cX0_deathCause 12 = .ok (.astore_n 3, 1) := dk_78 (dk_at dksX0_deathCause_0 12 rfl rfl)
theorem dX0_deathCause_13 : decode cX0_deathCause 13 = .ok (.iconst 1, 1) := dk_4 (dk_at dksX0_deathCause_0 13 rfl rfl)
theorem dX0_deathCause_14 : decode cX0_deathCause 14 = .ok (.ireturn, 1) := dk_172 (dk_at dksX0_deathCause_0 14 rfl rfl)
theorem dX0_deathCause_15 : decode cX0_deathCause 15 = .ok (.iconst 0, 1) := dk_3 (dk_at dksX0_deathCause_0 15 rfl rfl)
theorem dX0_deathCause_16 : decode cX0_deathCause 16 = .ok (.ireturn, 1) := dk_172 (dk_at dksX0_deathCause_0 16 rfl rfl)
abbrev cX0_deathYear : ByteArray := method_39_code
def yX0_deathYear : MethodName := ⟨RX0, "deathYear", "(LOwlYears;I[J)I"⟩
def dkwX0_deathYear_0 : List UInt8 := [44, 3, 42, 27, 182, 0, 129, 133, 80, 167, 0, 6, 78, 4, 172, 3, 172]
abbrev dktX0_deathYear_0 : List UInt8 := dkwX0_deathYear_0 ++ []
theorem dksX0_deathYear_0 : cX0_deathYear.data.toList.drop 0 = dktX0_deathYear_0 := by decide +kernel
theorem dX0_deathYear_0 : decode cX0_deathYear 0 = .ok (.aload_n 2, 1) := dk_44 (dk_at dksX0_deathYear_0 0 rfl rfl)
theorem dX0_deathYear_1 : decode cX0_deathYear 1 = .ok (.iconst 0, 1) := dk_3 (dk_at dksX0_deathYear_0 1 rfl rfl)
theorem dX0_deathYear_2 : decode cX0_deathYear 2 = .ok (.aload_n 0, 1) := dk_42 (dk_at dksX0_deathYear_0 2 rfl rfl)
theorem dX0_deathYear_3 : decode cX0_deathYear 3 = .ok (.iload_n 1, 1) := dk_27 (dk_at dksX0_deathYear_0 3 rfl rfl)
theorem dX0_deathYear_4 : decode cX0_deathYear 4 = .ok (.invokevirtual 129, 3) := dk_182 0 129 (dk_at dksX0_deathYear_0 4 rfl rfl)
theorem dX0_deathYear_7 : decode cX0_deathYear 7 = .ok (.i2l, 1) := dk_133 (dk_at dksX0_deathYear_0 7 rfl rfl)
theorem dX0_deathYear_8 : decode cX0_deathYear 8 = .ok (.lastore, 1) := dk_80 (dk_at dksX0_deathYear_0 8 rfl rfl)
theorem dX0_deathYear_9 : decode cX0_deathYear 9 = .ok (.goto 6, 3) := dk_167 0 6 (dk_at dksX0_deathYear_0 9 rfl rfl)
theorem dX0_deathYear_12 : decode cX0_deathYear 12 = .ok (.astore_n 3, 1) := dk_78 (dk_at dksX0_deathYear_0 12 rfl rfl)
theorem dX0_deathYear_13 : decode cX0_deathYear 13 = .ok (.iconst 1, 1) := dk_4 (dk_at dksX0_deathYear_0 13 rfl rfl)
theorem dX0_deathYear_14 : decode cX0_deathYear 14 = .ok (.ireturn, 1) := dk_172 (dk_at dksX0_deathYear_0 14 rfl rfl)
theorem dX0_deathYear_15 : decode cX0_deathYear 15 = .ok (.iconst 0, 1) := dk_3 (dk_at dksX0_deathYear_0 15 rfl rfl)
theorem dX0_deathYear_16 : decode cX0_deathYear 16 = .ok (.ireturn, 1) := dk_172 (dk_at dksX0_deathYear_0 16 rfl rfl)
abbrev cX0_owlsIn : ByteArray := method_40_code
def yX0_owlsIn : MethodName := ⟨RX0, "owlsIn", "(LOwlYears;I[J)I"⟩
def dkwX0_owlsIn_0 : List UInt8 := [44, 3, 42, 27, 182, 0, 132, 133, 80, 167, 0, 6, 78, 4, 172, 3, 172]
abbrev dktX0_owlsIn_0 : List UInt8 := dkwX0_owlsIn_0 ++ []
theorem dksX0_owlsIn_0 : cX0_owlsIn.data.toList.drop 0 = dktX0_owlsIn_0 := by decide +kernel
theorem dX0_owlsIn_0 : decode cX0_owlsIn 0 = .ok (.aload_n 2, 1) := dk_44 (dk_at dksX0_owlsIn_0 0 rfl rfl)
theorem dX0_owlsIn_1 : decode cX0_owlsIn 1 = .ok (.iconst 0, 1) := dk_3 (dk_at dksX0_owlsIn_0 1 rfl rfl)
theorem dX0_owlsIn_2 : decode cX0_owlsIn 2 = .ok (.aload_n 0, 1) := dk_42 (dk_at dksX0_owlsIn_0 2 rfl rfl)
theorem dX0_owlsIn_3 : decode cX0_owlsIn 3 = .ok (.iload_n 1, 1) := dk_27 (dk_at dksX0_owlsIn_0 3 rfl rfl)
theorem dX0_owlsIn_4 : decode cX0_owlsIn 4 = .ok (.invokevirtual 132, 3) := dk_182 0 132 (dk_at dksX0_owlsIn_0 4 rfl rfl)
theorem dX0_owlsIn_7 : decode cX0_owlsIn 7 = .ok (.i2l, 1) := dk_133 (dk_at dksX0_owlsIn_0 7 rfl rfl)
theorem dX0_owlsIn_8 : decode cX0_owlsIn 8 = .ok (.lastore, 1) := dk_80 (dk_at dksX0_owlsIn_0 8 rfl rfl)
theorem dX0_owlsIn_9 : decode cX0_owlsIn 9 = .ok (.goto 6, 3) := dk_167 0 6 (dk_at dksX0_owlsIn_0 9 rfl rfl)
theorem dX0_owlsIn_12 : decode cX0_owlsIn 12 = .ok (.astore_n 3, 1) := dk_78 (dk_at dksX0_owlsIn_0 12 rfl rfl)
theorem dX0_owlsIn_13 : decode cX0_owlsIn 13 = .ok (.iconst 1, 1) := dk_4 (dk_at dksX0_owlsIn_0 13 rfl rfl)
theorem dX0_owlsIn_14 : decode cX0_owlsIn 14 = .ok (.ireturn, 1) := dk_172 (dk_at dksX0_owlsIn_0 14 rfl rfl)
theorem dX0_owlsIn_15 : decode cX0_owlsIn 15 = .ok (.iconst 0, 1) := dk_3 (dk_at dksX0_owlsIn_0 15 rfl rfl)
theorem dX0_owlsIn_16 : decode cX0_owlsIn 16 = .ok (.ireturn, 1) := dk_172 (dk_at dksX0_owlsIn_0 16 rfl rfl)
abbrev cX0_owlsWithRoad : ByteArray := method_41_code
def yX0_owlsWithRoad : MethodName := ⟨RX0, "owlsWithRoad", "(LOwlYears;IZI[J)I"⟩
def dkwX0_owlsWithRoad_0 : List UInt8 := [25, 4, 3, 42, 27, 28, 29, 182, 0, 135, 133, 80, 167, 0, 7, 58, 5, 4, 172, 3, 172]
abbrev dktX0_owlsWithRoad_0 : List UInt8 := dkwX0_owlsWithRoad_0 ++ []
theorem dksX0_owlsWithRoad_0 : cX0_owlsWithRoad.data.toList.drop 0 = dktX0_owlsWithRoad_0 := by decide +kernel
theorem dX0_owlsWithRoad_0 : decode cX0_owlsWithRoad 0 = .ok (.aload 4, 2) := dk_25 4 (dk_at dksX0_owlsWithRoad_0 0 rfl rfl)
theorem dX0_owlsWithRoad_2 : decode cX0_owlsWithRoad 2 = .ok (.iconst 0, 1) := dk_3 (dk_at dksX0_owlsWithRoad_0 2 rfl rfl)
theorem dX0_owlsWithRoad_3 : decode cX0_owlsWithRoad 3 = .ok (.aload_n 0, 1) := dk_42 (dk_at dksX0_owlsWithRoad_0 3 rfl rfl)
theorem dX0_owlsWithRoad_4 : decode cX0_owlsWithRoad 4 = .ok (.iload_n 1, 1) := dk_27 (dk_at dksX0_owlsWithRoad_0 4 rfl rfl)
theorem dX0_owlsWithRoad_5 : decode cX0_owlsWithRoad 5 = .ok (.iload_n 2, 1) := dk_28 (dk_at dksX0_owlsWithRoad_0 5 rfl rfl)
theorem dX0_owlsWithRoad_6 : decode cX0_owlsWithRoad 6 = .ok (.iload_n 3, 1) := dk_29 (dk_at dksX0_owlsWithRoad_0 6 rfl rfl)
theorem dX0_owlsWithRoad_7 : decode cX0_owlsWithRoad 7 = .ok (.invokevirtual 135, 3) := dk_182 0 135 (dk_at dksX0_owlsWithRoad_0 7 rfl rfl)
theorem dX0_owlsWithRoad_10 : decode cX0_owlsWithRoad 10 = .ok (.i2l, 1) := dk_133 (dk_at dksX0_owlsWithRoad_0 10 rfl rfl)
theorem dX0_owlsWithRoad_11 : decode cX0_owlsWithRoad 11 = .ok (.lastore, 1) := dk_80 (dk_at dksX0_owlsWithRoad_0 11 rfl rfl)
theorem dX0_owlsWithRoad_12 : decode cX0_owlsWithRoad 12 = .ok (.goto 7, 3) := dk_167 0 7 (dk_at dksX0_owlsWithRoad_0 12 rfl rfl)
theorem dX0_owlsWithRoad_15 : decode cX0_owlsWithRoad 15 = .ok (.astore 5, 2) := dk_58 5 (dk_at dksX0_owlsWithRoad_0 15 rfl rfl)
theorem dX0_owlsWithRoad_17 : decode cX0_owlsWithRoad 17 = .ok (.iconst 1, 1) := dk_4 (dk_at dksX0_owlsWithRoad_0 17 rfl rfl)
theorem dX0_owlsWithRoad_18 : decode cX0_owlsWithRoad 18 = .ok (.ireturn, 1) := dk_172 (dk_at dksX0_owlsWithRoad_0 18 rfl rfl)
theorem dX0_owlsWithRoad_19 : decode cX0_owlsWithRoad 19 = .ok (.iconst 0, 1) := dk_3 (dk_at dksX0_owlsWithRoad_0 19 rfl rfl)
theorem dX0_owlsWithRoad_20 : decode cX0_owlsWithRoad 20 = .ok (.ireturn, 1) := dk_172 (dk_at dksX0_owlsWithRoad_0 20 rfl rfl)
abbrev cX0_goBack : ByteArray := method_42_code
def yX0_goBack : MethodName := ⟨RX0, "goBack", "(LOwlYears;[J)I"⟩
def dkwX0_goBack_0 : List UInt8 := [43, 3, 42, 182, 0, 139, 133, 80, 167, 0, 6, 77, 4, 172, 3, 172]
abbrev dktX0_goBack_0 : List UInt8 := dkwX0_goBack_0 ++ []
theorem dksX0_goBack_0 : cX0_goBack.data.toList.drop 0 = dktX0_goBack_0 := by decide +kernel
theorem dX0_goBack_0 : decode cX0_goBack 0 = .ok (.aload_n 1, 1) := dk_43 (dk_at dksX0_goBack_0 0 rfl rfl)
theorem dX0_goBack_1 : decode cX0_goBack 1 = .ok (.iconst 0, 1) := dk_3 (dk_at dksX0_goBack_0 1 rfl rfl)
theorem dX0_goBack_2 : decode cX0_goBack 2 = .ok (.aload_n 0, 1) := dk_42 (dk_at dksX0_goBack_0 2 rfl rfl)
theorem dX0_goBack_3 : decode cX0_goBack 3 = .ok (.invokevirtual 139, 3) := dk_182 0 139 (dk_at dksX0_goBack_0 3 rfl rfl)
theorem dX0_goBack_6 : decode cX0_goBack 6 = .ok (.i2l, 1) := dk_133 (dk_at dksX0_goBack_0 6 rfl rfl)
theorem dX0_goBack_7 : decode cX0_goBack 7 = .ok (.lastore, 1) := dk_80 (dk_at dksX0_goBack_0 7 rfl rfl)
theorem dX0_goBack_8 : decode cX0_goBack 8 = .ok (.goto 6, 3) := dk_167 0 6 (dk_at dksX0_goBack_0 8 rfl rfl)
theorem dX0_goBack_11 : decode cX0_goBack 11 = .ok (.astore_n 2, 1) := dk_77 (dk_at dksX0_goBack_0 11 rfl rfl)
theorem dX0_goBack_12 : decode cX0_goBack 12 = .ok (.iconst 1, 1) := dk_4 (dk_at dksX0_goBack_0 12 rfl rfl)
theorem dX0_goBack_13 : decode cX0_goBack 13 = .ok (.ireturn, 1) := dk_172 (dk_at dksX0_goBack_0 13 rfl rfl)
theorem dX0_goBack_14 : decode cX0_goBack 14 = .ok (.iconst 0, 1) := dk_3 (dk_at dksX0_goBack_0 14 rfl rfl)
theorem dX0_goBack_15 : decode cX0_goBack 15 = .ok (.ireturn, 1) := dk_172 (dk_at dksX0_goBack_0 15 rfl rfl)
abbrev cX0_append : ByteArray := method_43_code
def yX0_append : MethodName := ⟨RX0, "append", "(LOwlYears;I[J)I"⟩
def dkwX0_append_0 : List UInt8 := [44, 3, 42, 27, 182, 0, 143, 133, 80, 167, 0, 9, 78, 4, 172, 78, 5, 172, 3, 172]
abbrev dktX0_append_0 : List UInt8 := dkwX0_append_0 ++ []
theorem dksX0_append_0 : cX0_append.data.toList.drop 0 = dktX0_append_0 := by decide +kernel
theorem dX0_append_0 : decode cX0_append 0 = .ok (.aload_n 2, 1) := dk_44 (dk_at dksX0_append_0 0 rfl rfl)
theorem dX0_append_1 : decode cX0_append 1 = .ok (.iconst 0, 1) := dk_3 (dk_at dksX0_append_0 1 rfl rfl)
theorem dX0_append_2 : decode cX0_append 2 = .ok (.aload_n 0, 1) := dk_42 (dk_at dksX0_append_0 2 rfl rfl)
theorem dX0_append_3 : decode cX0_append 3 = .ok (.iload_n 1, 1) := dk_27 (dk_at dksX0_append_0 3 rfl rfl)
theorem dX0_append_4 : decode cX0_append 4 = .ok (.invokevirtual 143, 3) := dk_182 0 143 (dk_at dksX0_append_0 4 rfl rfl)
theorem dX0_append_7 : decode cX0_append 7 = .ok (.i2l, 1) := dk_133 (dk_at dksX0_append_0 7 rfl rfl)
theorem dX0_append_8 : decode cX0_append 8 = .ok (.lastore, 1) := dk_80 (dk_at dksX0_append_0 8 rfl rfl)
theorem dX0_append_9 : decode cX0_append 9 = .ok (.goto 9, 3) := dk_167 0 9 (dk_at dksX0_append_0 9 rfl rfl)
theorem dX0_append_12 : decode cX0_append 12 = .ok (.astore_n 3, 1) := dk_78 (dk_at dksX0_append_0 12 rfl rfl)
theorem dX0_append_13 : decode cX0_append 13 = .ok (.iconst 1, 1) := dk_4 (dk_at dksX0_append_0 13 rfl rfl)
theorem dX0_append_14 : decode cX0_append 14 = .ok (.ireturn, 1) := dk_172 (dk_at dksX0_append_0 14 rfl rfl)
theorem dX0_append_15 : decode cX0_append 15 = .ok (.astore_n 3, 1) := dk_78 (dk_at dksX0_append_0 15 rfl rfl)
theorem dX0_append_16 : decode cX0_append 16 = .ok (.iconst 2, 1) := dk_5 (dk_at dksX0_append_0 16 rfl rfl)
theorem dX0_append_17 : decode cX0_append 17 = .ok (.ireturn, 1) := dk_172 (dk_at dksX0_append_0 17 rfl rfl)
theorem dX0_append_18 : decode cX0_append 18 = .ok (.iconst 0, 1) := dk_3 (dk_at dksX0_append_0 18 rfl rfl)
theorem dX0_append_19 : decode cX0_append 19 = .ok (.ireturn, 1) := dk_172 (dk_at dksX0_append_0 19 rfl rfl)
abbrev cX0_doWorks : ByteArray := method_44_code
def yX0_doWorks : MethodName := ⟨RX0, "doWorks", "(LOwlYears;[J)I"⟩
def dkwX0_doWorks_0 : List UInt8 := [43, 3, 42, 182, 0, 146, 133, 80, 167, 0, 6, 77, 4, 172, 3, 172]
abbrev dktX0_doWorks_0 : List UInt8 := dkwX0_doWorks_0 ++ []
theorem dksX0_doWorks_0 : cX0_doWorks.data.toList.drop 0 = dktX0_doWorks_0 := by decide +kernel
theorem dX0_doWorks_0 : decode cX0_doWorks 0 = .ok (.aload_n 1, 1) := dk_43 (dk_at dksX0_doWorks_0 0 rfl rfl)
theorem dX0_doWorks_1 : decode cX0_doWorks 1 = .ok (.iconst 0, 1) := dk_3 (dk_at dksX0_doWorks_0 1 rfl rfl)
theorem dX0_doWorks_2 : decode cX0_doWorks 2 = .ok (.aload_n 0, 1) := dk_42 (dk_at dksX0_doWorks_0 2 rfl rfl)
theorem dX0_doWorks_3 : decode cX0_doWorks 3 = .ok (.invokevirtual 146, 3) := dk_182 0 146 (dk_at dksX0_doWorks_0 3 rfl rfl)
theorem dX0_doWorks_6 : decode cX0_doWorks 6 = .ok (.i2l, 1) := dk_133 (dk_at dksX0_doWorks_0 6 rfl rfl)
theorem dX0_doWorks_7 : decode cX0_doWorks 7 = .ok (.lastore, 1) := dk_80 (dk_at dksX0_doWorks_0 7 rfl rfl)
theorem dX0_doWorks_8 : decode cX0_doWorks 8 = .ok (.goto 6, 3) := dk_167 0 6 (dk_at dksX0_doWorks_0 8 rfl rfl)
theorem dX0_doWorks_11 : decode cX0_doWorks 11 = .ok (.astore_n 2, 1) := dk_77 (dk_at dksX0_doWorks_0 11 rfl rfl)
theorem dX0_doWorks_12 : decode cX0_doWorks 12 = .ok (.iconst 1, 1) := dk_4 (dk_at dksX0_doWorks_0 12 rfl rfl)
theorem dX0_doWorks_13 : decode cX0_doWorks 13 = .ok (.ireturn, 1) := dk_172 (dk_at dksX0_doWorks_0 13 rfl rfl)
theorem dX0_doWorks_14 : decode cX0_doWorks 14 = .ok (.iconst 0, 1) := dk_3 (dk_at dksX0_doWorks_0 14 rfl rfl)
theorem dX0_doWorks_15 : decode cX0_doWorks 15 = .ok (.ireturn, 1) := dk_172 (dk_at dksX0_doWorks_0 15 rfl rfl)
abbrev cX0_undo : ByteArray := method_45_code
def yX0_undo : MethodName := ⟨RX0, "undo", "(LOwlYears;[J)I"⟩
def dkwX0_undo_0 : List UInt8 := [43, 3, 42, 182, 0, 149, 133, 80, 167, 0, 6, 77, 4, 172, 3, 172]
abbrev dktX0_undo_0 : List UInt8 := dkwX0_undo_0 ++ []
theorem dksX0_undo_0 : cX0_undo.data.toList.drop 0 = dktX0_undo_0 := by decide +kernel
theorem dX0_undo_0 : decode cX0_undo 0 = .ok (.aload_n 1, 1) := dk_43 (dk_at dksX0_undo_0 0 rfl rfl)
theorem dX0_undo_1 : decode cX0_undo 1 = .ok (.iconst 0, 1) := dk_3 (dk_at dksX0_undo_0 1 rfl rfl)
theorem dX0_undo_2 : decode cX0_undo 2 = .ok (.aload_n 0, 1) := dk_42 (dk_at dksX0_undo_0 2 rfl rfl)
theorem dX0_undo_3 : decode cX0_undo 3 = .ok (.invokevirtual 149, 3) := dk_182 0 149 (dk_at dksX0_undo_0 3 rfl rfl)
theorem dX0_undo_6 : decode cX0_undo 6 = .ok (.i2l, 1) := dk_133 (dk_at dksX0_undo_0 6 rfl rfl)
theorem dX0_undo_7 : decode cX0_undo 7 = .ok (.lastore, 1) := dk_80 (dk_at dksX0_undo_0 7 rfl rfl)
theorem dX0_undo_8 : decode cX0_undo 8 = .ok (.goto 6, 3) := dk_167 0 6 (dk_at dksX0_undo_0 8 rfl rfl)
theorem dX0_undo_11 : decode cX0_undo 11 = .ok (.astore_n 2, 1) := dk_77 (dk_at dksX0_undo_0 11 rfl rfl)
theorem dX0_undo_12 : decode cX0_undo 12 = .ok (.iconst 1, 1) := dk_4 (dk_at dksX0_undo_0 12 rfl rfl)
theorem dX0_undo_13 : decode cX0_undo 13 = .ok (.ireturn, 1) := dk_172 (dk_at dksX0_undo_0 13 rfl rfl)
theorem dX0_undo_14 : decode cX0_undo 14 = .ok (.iconst 0, 1) := dk_3 (dk_at dksX0_undo_0 14 rfl rfl)
theorem dX0_undo_15 : decode cX0_undo 15 = .ok (.ireturn, 1) := dk_172 (dk_at dksX0_undo_0 15 rfl rfl)
theorem q118 : (Jvm.Cond.initialized "OwlYearsLaw") ∈ lw_all := lw_g (lw_at lw_m1 0 rfl) rfl
theorem q159 : (Jvm.Cond.classLink "OwlYearsLaw" (8 : Nat) "OwlYears") ∈ lw_all := lw_g (lw_at lw_m1 41 rfl) rfl
theorem q161 : (Jvm.Cond.methodLink "OwlYearsLaw" (152 : Nat) ({ cls := "OwlYears", name := "<init>", desc := "()V" } : Jvm.MethodName)) ∈ lw_all := lw_g (lw_at lw_m1 43 rfl) rfl
theorem q350 : (Jvm.Cond.methodLink "OwlYearsLaw" (369 : Nat) ({ cls := "OwlYears", name := "keep", desc := "()I" } : Jvm.MethodName)) ∈ lw_all := lw_g (lw_at lw_m1 232 rfl) rfl
theorem q1258 : (Jvm.Cond.methodLink "OwlYearsLaw" (192 : Nat) ({ cls := "OwlYears", name := "year", desc := "()I" } : Jvm.MethodName)) ∈ lw_all := lw_g (lw_at lw_m5 180 rfl) rfl
theorem q1262 : (Jvm.Cond.methodLink "OwlYearsLaw" (196 : Nat) ({ cls := "OwlYears", name := "phase", desc := "()I" } : Jvm.MethodName)) ∈ lw_all := lw_g (lw_at lw_m5 184 rfl) rfl
theorem q1270 : (Jvm.Cond.methodLink "OwlYearsLaw" (209 : Nat) ({ cls := "OwlYears", name := "voles", desc := "()I" } : Jvm.MethodName)) ∈ lw_all := lw_g (lw_at lw_m5 192 rfl) rfl
theorem q1278 : (Jvm.Cond.methodLink "OwlYearsLaw" (219 : Nat) ({ cls := "OwlYears", name := "chances", desc := "()I" } : Jvm.MethodName)) ∈ lw_all := lw_g (lw_at lw_m5 200 rfl) rfl
theorem q1282 : (Jvm.Cond.methodLink "OwlYearsLaw" (223 : Nat) ({ cls := "OwlYears", name := "boxes", desc := "()I" } : Jvm.MethodName)) ∈ lw_all := lw_g (lw_at lw_m5 204 rfl) rfl
theorem q1287 : (Jvm.Cond.methodLink "OwlYearsLaw" (254 : Nat) ({ cls := "OwlYears", name := "owls", desc := "()I" } : Jvm.MethodName)) ∈ lw_all := lw_g (lw_at lw_m5 209 rfl) rfl
theorem q1291 : (Jvm.Cond.methodLink "OwlYearsLaw" (258 : Nat) ({ cls := "OwlYears", name := "owlsByAccount", desc := "()I" } : Jvm.MethodName)) ∈ lw_all := lw_g (lw_at lw_m5 213 rfl) rfl
theorem q1299 : (Jvm.Cond.methodLink "OwlYearsLaw" (262 : Nat) ({ cls := "OwlYears", name := "wanderers", desc := "()I" } : Jvm.MethodName)) ∈ lw_all := lw_g (lw_at lw_m5 221 rfl) rfl
theorem q1307 : (Jvm.Cond.methodLink "OwlYearsLaw" (269 : Nat) ({ cls := "OwlYears", name := "rings", desc := "()I" } : Jvm.MethodName)) ∈ lw_all := lw_g (lw_at lw_m5 229 rfl) rfl
theorem q1311 : (Jvm.Cond.methodLink "OwlYearsLaw" (273 : Nat) ({ cls := "OwlYears", name := "isAlive", desc := "(I)Z" } : Jvm.MethodName)) ∈ lw_all := lw_g (lw_at lw_m5 233 rfl) rfl
theorem q1319 : (Jvm.Cond.methodLink "OwlYearsLaw" (287 : Nat) ({ cls := "OwlYears", name := "oldest", desc := "()I" } : Jvm.MethodName)) ∈ lw_all := lw_g (lw_at lw_m6 1 rfl) rfl
theorem q1327 : (Jvm.Cond.methodLink "OwlYearsLaw" (291 : Nat) ({ cls := "OwlYears", name := "meanAge", desc := "()D" } : Jvm.MethodName)) ∈ lw_all := lw_g (lw_at lw_m6 9 rfl) rfl
theorem q1333 : (Jvm.Cond.methodLink "OwlYearsLaw" (314 : Nat) ({ cls := "OwlYears", name := "kinPairs", desc := "()I" } : Jvm.MethodName)) ∈ lw_all := lw_g (lw_at lw_m6 15 rfl) rfl
theorem q1362 : (Jvm.Cond.methodLink "OwlYearsLaw" (318 : Nat) ({ cls := "OwlYears", name := "born", desc := "()I" } : Jvm.MethodName)) ∈ lw_all := lw_g (lw_at lw_m6 44 rfl) rfl
theorem q1366 : (Jvm.Cond.methodLink "OwlYearsLaw" (325 : Nat) ({ cls := "OwlYears", name := "takenOut", desc := "()I" } : Jvm.MethodName)) ∈ lw_all := lw_g (lw_at lw_m6 48 rfl) rfl
theorem q1370 : (Jvm.Cond.methodLink "OwlYearsLaw" (329 : Nat) ({ cls := "OwlYears", name := "eaten", desc := "()I" } : Jvm.MethodName)) ∈ lw_all := lw_g (lw_at lw_m6 52 rfl) rfl
theorem q1374 : (Jvm.Cond.methodLink "OwlYearsLaw" (333 : Nat) ({ cls := "OwlYears", name := "mostOwls", desc := "()I" } : Jvm.MethodName)) ∈ lw_all := lw_g (lw_at lw_m6 56 rfl) rfl
theorem q1378 : (Jvm.Cond.methodLink "OwlYearsLaw" (337 : Nat) ({ cls := "OwlYears", name := "deaths", desc := "()I" } : Jvm.MethodName)) ∈ lw_all := lw_g (lw_at lw_m6 60 rfl) rfl
theorem q1382 : (Jvm.Cond.methodLink "OwlYearsLaw" (350 : Nat) ({ cls := "OwlYears", name := "bestSquare", desc := "()I" } : Jvm.MethodName)) ∈ lw_all := lw_g (lw_at lw_m6 64 rfl) rfl
theorem q1444 : (Jvm.Cond.methodLink "OwlYearsLaw" (361 : Nat) ({ cls := "OwlYears", name := "yearsUntilGone", desc := "()I" } : Jvm.MethodName)) ∈ lw_all := lw_g (lw_at lw_m6 126 rfl) rfl
theorem q1556 : (Jvm.Cond.methodLink "OwlYearsLaw" (365 : Nat) ({ cls := "OwlYears", name := "bestRow", desc := "()I" } : Jvm.MethodName)) ∈ lw_all := lw_g (lw_at lw_m6 238 rfl) rfl
theorem q1580 : (Jvm.Cond.methodLink "OwlYearsLaw" (380 : Nat) ({ cls := "OwlYears", name := "clearText", desc := "()I" } : Jvm.MethodName)) ∈ lw_all := lw_g (lw_at lw_m7 22 rfl) rfl
theorem q1653 : (Jvm.Cond.methodLink "OwlYearsLaw" (384 : Nat) ({ cls := "OwlYears", name := "firstError", desc := "()I" } : Jvm.MethodName)) ∈ lw_all := lw_g (lw_at lw_m7 95 rfl) rfl
theorem q1736 : (Jvm.Cond.methodLink "OwlYearsLaw" (394 : Nat) ({ cls := "OwlYears", name := "digest", desc := "()J" } : Jvm.MethodName)) ∈ lw_all := lw_g (lw_at lw_m7 178 rfl) rfl
theorem q1789 : (Jvm.Cond.methodLink "OwlYearsLaw" (156 : Nat) ({ cls := "OwlYearsLaw", name := "setLand", desc := "(LOwlYears;II[J)I" } : Jvm.MethodName)) ∈ lw_all := lw_g (lw_at lw_m7 231 rfl) rfl
theorem q1790 : (Jvm.Cond.static ({ cls := "OwlYearsLaw", name := "setLand", desc := "(LOwlYears;II[J)I" } : Jvm.MethodName)) ∈ lw_all := lw_g (lw_at lw_m7 232 rfl) rfl
theorem q1791 : (Jvm.Cond.codeWith ({ cls := "OwlYearsLaw", name := "setLand", desc := "(LOwlYears;II[J)I" } : Jvm.MethodName) method_3_code (5 : Nat) (Option.some Jvm.ClassFile.FieldType.int) [((0 : Nat), (10 : Nat), (13 : Nat), (13 : Nat)), ((0 : Nat), (10 : Nat), (17 : Nat), (15 : Nat)), ((0 : Nat), (10 : Nat), (21 : Nat), (17 : Nat))]) ∈ lw_all := lw_g (lw_at lw_m7 233 rfl) rfl
theorem q1792 : (Jvm.Cond.classLink "OwlYearsLaw" (13 : Nat) "java/lang/IndexOutOfBoundsException") ∈ lw_all := lw_g (lw_at lw_m7 234 rfl) rfl
theorem q1795 : (Jvm.Cond.classLink "OwlYearsLaw" (15 : Nat) "java/lang/IllegalArgumentException") ∈ lw_all := lw_g (lw_at lw_m7 237 rfl) rfl
theorem q1796 : (Jvm.Cond.classLink "OwlYearsLaw" (17 : Nat) "java/lang/IllegalStateException") ∈ lw_all := lw_g (lw_at lw_m7 238 rfl) rfl
theorem q1797 : (Jvm.Cond.methodLink "OwlYearsLaw" (7 : Nat) ({ cls := "OwlYears", name := "setLand", desc := "(II)I" } : Jvm.MethodName)) ∈ lw_all := lw_g (lw_at lw_m7 239 rfl) rfl
theorem q1877 : (Jvm.Cond.methodLink "OwlYearsLaw" (165 : Nat) ({ cls := "OwlYearsLaw", name := "buildRoad", desc := "(LOwlYears;IZ[J)I" } : Jvm.MethodName)) ∈ lw_all := lw_g (lw_at lw_m8 79 rfl) rfl
theorem q1878 : (Jvm.Cond.static ({ cls := "OwlYearsLaw", name := "buildRoad", desc := "(LOwlYears;IZ[J)I" } : Jvm.MethodName)) ∈ lw_all := lw_g (lw_at lw_m8 80 rfl) rfl
theorem q1879 : (Jvm.Cond.codeWith ({ cls := "OwlYearsLaw", name := "buildRoad", desc := "(LOwlYears;IZ[J)I" } : Jvm.MethodName) method_4_code (5 : Nat) (Option.some Jvm.ClassFile.FieldType.int) [((0 : Nat), (10 : Nat), (13 : Nat), (15 : Nat))]) ∈ lw_all := lw_g (lw_at lw_m8 81 rfl) rfl
theorem q1880 : (Jvm.Cond.methodLink "OwlYearsLaw" (19 : Nat) ({ cls := "OwlYears", name := "buildRoad", desc := "(IZ)I" } : Jvm.MethodName)) ∈ lw_all := lw_g (lw_at lw_m8 82 rfl) rfl
theorem q1885 : (Jvm.Cond.methodLink "OwlYearsLaw" (169 : Nat) ({ cls := "OwlYearsLaw", name := "setVoles", desc := "(LOwlYears;II[J)I" } : Jvm.MethodName)) ∈ lw_all := lw_g (lw_at lw_m8 87 rfl) rfl
theorem q1886 : (Jvm.Cond.static ({ cls := "OwlYearsLaw", name := "setVoles", desc := "(LOwlYears;II[J)I" } : Jvm.MethodName)) ∈ lw_all := lw_g (lw_at lw_m8 88 rfl) rfl
theorem q1887 : (Jvm.Cond.codeWith ({ cls := "OwlYearsLaw", name := "setVoles", desc := "(LOwlYears;II[J)I" } : Jvm.MethodName) method_5_code (5 : Nat) (Option.some Jvm.ClassFile.FieldType.int) [((0 : Nat), (10 : Nat), (13 : Nat), (13 : Nat)), ((0 : Nat), (10 : Nat), (17 : Nat), (15 : Nat)), ((0 : Nat), (10 : Nat), (21 : Nat), (17 : Nat))]) ∈ lw_all := lw_g (lw_at lw_m8 89 rfl) rfl
theorem q1888 : (Jvm.Cond.methodLink "OwlYearsLaw" (23 : Nat) ({ cls := "OwlYears", name := "setVoles", desc := "(II)I" } : Jvm.MethodName)) ∈ lw_all := lw_g (lw_at lw_m8 90 rfl) rfl
theorem q1893 : (Jvm.Cond.methodLink "OwlYearsLaw" (172 : Nat) ({ cls := "OwlYearsLaw", name := "setChances", desc := "(LOwlYears;I[J)I" } : Jvm.MethodName)) ∈ lw_all := lw_g (lw_at lw_m8 95 rfl) rfl
theorem q1894 : (Jvm.Cond.static ({ cls := "OwlYearsLaw", name := "setChances", desc := "(LOwlYears;I[J)I" } : Jvm.MethodName)) ∈ lw_all := lw_g (lw_at lw_m8 96 rfl) rfl
theorem q1895 : (Jvm.Cond.codeWith ({ cls := "OwlYearsLaw", name := "setChances", desc := "(LOwlYears;I[J)I" } : Jvm.MethodName) method_6_code (4 : Nat) (Option.some Jvm.ClassFile.FieldType.int) [((0 : Nat), (9 : Nat), (12 : Nat), (15 : Nat))]) ∈ lw_all := lw_g (lw_at lw_m8 97 rfl) rfl
theorem q1896 : (Jvm.Cond.methodLink "OwlYearsLaw" (26 : Nat) ({ cls := "OwlYears", name := "setChances", desc := "(I)I" } : Jvm.MethodName)) ∈ lw_all := lw_g (lw_at lw_m8 98 rfl) rfl
theorem q1901 : (Jvm.Cond.methodLink "OwlYearsLaw" (176 : Nat) ({ cls := "OwlYearsLaw", name := "putBox", desc := "(LOwlYears;I[J)I" } : Jvm.MethodName)) ∈ lw_all := lw_g (lw_at lw_m8 103 rfl) rfl
theorem q1902 : (Jvm.Cond.static ({ cls := "OwlYearsLaw", name := "putBox", desc := "(LOwlYears;I[J)I" } : Jvm.MethodName)) ∈ lw_all := lw_g (lw_at lw_m8 104 rfl) rfl
theorem q1903 : (Jvm.Cond.codeWith ({ cls := "OwlYearsLaw", name := "putBox", desc := "(LOwlYears;I[J)I" } : Jvm.MethodName) method_7_code (4 : Nat) (Option.some Jvm.ClassFile.FieldType.int) [((0 : Nat), (9 : Nat), (12 : Nat), (13 : Nat)), ((0 : Nat), (9 : Nat), (15 : Nat), (17 : Nat))]) ∈ lw_all := lw_g (lw_at lw_m8 105 rfl) rfl
theorem q1904 : (Jvm.Cond.methodLink "OwlYearsLaw" (30 : Nat) ({ cls := "OwlYears", name := "putBox", desc := "(I)I" } : Jvm.MethodName)) ∈ lw_all := lw_g (lw_at lw_m8 106 rfl) rfl
theorem q1917 : (Jvm.Cond.methodLink "OwlYearsLaw" (179 : Nat) ({ cls := "OwlYearsLaw", name := "takeBox", desc := "(LOwlYears;I[J)I" } : Jvm.MethodName)) ∈ lw_all := lw_g (lw_at lw_m8 119 rfl) rfl
theorem q1918 : (Jvm.Cond.static ({ cls := "OwlYearsLaw", name := "takeBox", desc := "(LOwlYears;I[J)I" } : Jvm.MethodName)) ∈ lw_all := lw_g (lw_at lw_m8 120 rfl) rfl
theorem q1919 : (Jvm.Cond.codeWith ({ cls := "OwlYearsLaw", name := "takeBox", desc := "(LOwlYears;I[J)I" } : Jvm.MethodName) method_8_code (4 : Nat) (Option.some Jvm.ClassFile.FieldType.int) [((0 : Nat), (9 : Nat), (12 : Nat), (13 : Nat))]) ∈ lw_all := lw_g (lw_at lw_m8 121 rfl) rfl
theorem q1920 : (Jvm.Cond.methodLink "OwlYearsLaw" (33 : Nat) ({ cls := "OwlYears", name := "takeBox", desc := "(I)I" } : Jvm.MethodName)) ∈ lw_all := lw_g (lw_at lw_m8 122 rfl) rfl
theorem q1951 : (Jvm.Cond.methodLink "OwlYearsLaw" (182 : Nat) ({ cls := "OwlYearsLaw", name := "letIn", desc := "(LOwlYears;III[J)I" } : Jvm.MethodName)) ∈ lw_all := lw_g (lw_at lw_m8 153 rfl) rfl
theorem q1952 : (Jvm.Cond.static ({ cls := "OwlYearsLaw", name := "letIn", desc := "(LOwlYears;III[J)I" } : Jvm.MethodName)) ∈ lw_all := lw_g (lw_at lw_m8 154 rfl) rfl
theorem q1953 : (Jvm.Cond.codeWith ({ cls := "OwlYearsLaw", name := "letIn", desc := "(LOwlYears;III[J)I" } : Jvm.MethodName) method_9_code (6 : Nat) (Option.some Jvm.ClassFile.FieldType.int) [((0 : Nat), (12 : Nat), (15 : Nat), (13 : Nat)), ((0 : Nat), (12 : Nat), (19 : Nat), (15 : Nat)), ((0 : Nat), (12 : Nat), (23 : Nat), (17 : Nat))]) ∈ lw_all := lw_g (lw_at lw_m8 155 rfl) rfl
theorem q1954 : (Jvm.Cond.methodLink "OwlYearsLaw" (36 : Nat) ({ cls := "OwlYears", name := "letIn", desc := "(III)I" } : Jvm.MethodName)) ∈ lw_all := lw_g (lw_at lw_m8 156 rfl) rfl
theorem q1969 : (Jvm.Cond.methodLink "OwlYearsLaw" (186 : Nat) ({ cls := "OwlYearsLaw", name := "takeOut", desc := "(LOwlYears;I[J)I" } : Jvm.MethodName)) ∈ lw_all := lw_g (lw_at lw_m8 171 rfl) rfl
theorem q1970 : (Jvm.Cond.static ({ cls := "OwlYearsLaw", name := "takeOut", desc := "(LOwlYears;I[J)I" } : Jvm.MethodName)) ∈ lw_all := lw_g (lw_at lw_m8 172 rfl) rfl
theorem q1971 : (Jvm.Cond.codeWith ({ cls := "OwlYearsLaw", name := "takeOut", desc := "(LOwlYears;I[J)I" } : Jvm.MethodName) method_10_code (4 : Nat) (Option.some Jvm.ClassFile.FieldType.int) [((0 : Nat), (9 : Nat), (12 : Nat), (13 : Nat))]) ∈ lw_all := lw_g (lw_at lw_m8 173 rfl) rfl
theorem q1972 : (Jvm.Cond.methodLink "OwlYearsLaw" (40 : Nat) ({ cls := "OwlYears", name := "takeOut", desc := "(I)I" } : Jvm.MethodName)) ∈ lw_all := lw_g (lw_at lw_m8 174 rfl) rfl
theorem q1988 : (Jvm.Cond.methodLink "OwlYearsLaw" (189 : Nat) ({ cls := "OwlYearsLaw", name := "pass", desc := "(LOwlYears;I[J)I" } : Jvm.MethodName)) ∈ lw_all := lw_g (lw_at lw_m8 190 rfl) rfl
theorem q1989 : (Jvm.Cond.static ({ cls := "OwlYearsLaw", name := "pass", desc := "(LOwlYears;I[J)I" } : Jvm.MethodName)) ∈ lw_all := lw_g (lw_at lw_m8 191 rfl) rfl
theorem q1990 : (Jvm.Cond.codeWith ({ cls := "OwlYearsLaw", name := "pass", desc := "(LOwlYears;I[J)I" } : Jvm.MethodName) method_11_code (4 : Nat) (Option.some Jvm.ClassFile.FieldType.int) [((0 : Nat), (9 : Nat), (12 : Nat), (15 : Nat)), ((0 : Nat), (9 : Nat), (15 : Nat), (17 : Nat))]) ∈ lw_all := lw_g (lw_at lw_m8 192 rfl) rfl
theorem q1991 : (Jvm.Cond.methodLink "OwlYearsLaw" (43 : Nat) ({ cls := "OwlYears", name := "pass", desc := "(I)I" } : Jvm.MethodName)) ∈ lw_all := lw_g (lw_at lw_m8 193 rfl) rfl
theorem q2000 : (Jvm.Cond.methodLink "OwlYearsLaw" (200 : Nat) ({ cls := "OwlYearsLaw", name := "landOf", desc := "(LOwlYears;I[J)I" } : Jvm.MethodName)) ∈ lw_all := lw_g (lw_at lw_m8 202 rfl) rfl
theorem q2001 : (Jvm.Cond.static ({ cls := "OwlYearsLaw", name := "landOf", desc := "(LOwlYears;I[J)I" } : Jvm.MethodName)) ∈ lw_all := lw_g (lw_at lw_m8 203 rfl) rfl
theorem q2002 : (Jvm.Cond.codeWith ({ cls := "OwlYearsLaw", name := "landOf", desc := "(LOwlYears;I[J)I" } : Jvm.MethodName) method_12_code (4 : Nat) (Option.some Jvm.ClassFile.FieldType.int) [((0 : Nat), (9 : Nat), (12 : Nat), (13 : Nat))]) ∈ lw_all := lw_g (lw_at lw_m8 204 rfl) rfl
theorem q2003 : (Jvm.Cond.methodLink "OwlYearsLaw" (46 : Nat) ({ cls := "OwlYears", name := "landOf", desc := "(I)I" } : Jvm.MethodName)) ∈ lw_all := lw_g (lw_at lw_m8 205 rfl) rfl
theorem q2007 : (Jvm.Cond.methodLink "OwlYearsLaw" (203 : Nat) ({ cls := "OwlYearsLaw", name := "squaresOf", desc := "(LOwlYears;I[J)I" } : Jvm.MethodName)) ∈ lw_all := lw_g (lw_at lw_m8 209 rfl) rfl
theorem q2008 : (Jvm.Cond.static ({ cls := "OwlYearsLaw", name := "squaresOf", desc := "(LOwlYears;I[J)I" } : Jvm.MethodName)) ∈ lw_all := lw_g (lw_at lw_m8 210 rfl) rfl
theorem q2009 : (Jvm.Cond.codeWith ({ cls := "OwlYearsLaw", name := "squaresOf", desc := "(LOwlYears;I[J)I" } : Jvm.MethodName) method_13_code (4 : Nat) (Option.some Jvm.ClassFile.FieldType.int) [((0 : Nat), (8 : Nat), (11 : Nat), (15 : Nat))]) ∈ lw_all := lw_g (lw_at lw_m8 211 rfl) rfl
theorem q2010 : (Jvm.Cond.methodLink "OwlYearsLaw" (49 : Nat) ({ cls := "OwlYears", name := "squaresOf", desc := "(I)J" } : Jvm.MethodName)) ∈ lw_all := lw_g (lw_at lw_m8 212 rfl) rfl
theorem q2014 : (Jvm.Cond.methodLink "OwlYearsLaw" (206 : Nat) ({ cls := "OwlYearsLaw", name := "volesOf", desc := "(LOwlYears;I[J)I" } : Jvm.MethodName)) ∈ lw_all := lw_g (lw_at lw_m8 216 rfl) rfl
theorem q2015 : (Jvm.Cond.static ({ cls := "OwlYearsLaw", name := "volesOf", desc := "(LOwlYears;I[J)I" } : Jvm.MethodName)) ∈ lw_all := lw_g (lw_at lw_m8 217 rfl) rfl
theorem q2016 : (Jvm.Cond.codeWith ({ cls := "OwlYearsLaw", name := "volesOf", desc := "(LOwlYears;I[J)I" } : Jvm.MethodName) method_14_code (4 : Nat) (Option.some Jvm.ClassFile.FieldType.int) [((0 : Nat), (9 : Nat), (12 : Nat), (13 : Nat))]) ∈ lw_all := lw_g (lw_at lw_m8 218 rfl) rfl
theorem q2017 : (Jvm.Cond.methodLink "OwlYearsLaw" (53 : Nat) ({ cls := "OwlYears", name := "volesOf", desc := "(I)I" } : Jvm.MethodName)) ∈ lw_all := lw_g (lw_at lw_m8 219 rfl) rfl
theorem q2021 : (Jvm.Cond.methodLink "OwlYearsLaw" (213 : Nat) ({ cls := "OwlYearsLaw", name := "volesNext", desc := "(LOwlYears;I[J)I" } : Jvm.MethodName)) ∈ lw_all := lw_g (lw_at lw_m8 223 rfl) rfl
theorem q2022 : (Jvm.Cond.static ({ cls := "OwlYearsLaw", name := "volesNext", desc := "(LOwlYears;I[J)I" } : Jvm.MethodName)) ∈ lw_all := lw_g (lw_at lw_m8 224 rfl) rfl
theorem q2023 : (Jvm.Cond.codeWith ({ cls := "OwlYearsLaw", name := "volesNext", desc := "(LOwlYears;I[J)I" } : Jvm.MethodName) method_15_code (4 : Nat) (Option.some Jvm.ClassFile.FieldType.int) [((0 : Nat), (9 : Nat), (12 : Nat), (13 : Nat))]) ∈ lw_all := lw_g (lw_at lw_m8 225 rfl) rfl
theorem q2024 : (Jvm.Cond.methodLink "OwlYearsLaw" (56 : Nat) ({ cls := "OwlYears", name := "volesNext", desc := "(I)I" } : Jvm.MethodName)) ∈ lw_all := lw_g (lw_at lw_m8 226 rfl) rfl
theorem q2029 : (Jvm.Cond.methodLink "OwlYearsLaw" (216 : Nat) ({ cls := "OwlYearsLaw", name := "distance", desc := "(LOwlYears;II[J)I" } : Jvm.MethodName)) ∈ lw_all := lw_g (lw_at lw_m8 231 rfl) rfl
theorem q2030 : (Jvm.Cond.static ({ cls := "OwlYearsLaw", name := "distance", desc := "(LOwlYears;II[J)I" } : Jvm.MethodName)) ∈ lw_all := lw_g (lw_at lw_m8 232 rfl) rfl
theorem q2031 : (Jvm.Cond.codeWith ({ cls := "OwlYearsLaw", name := "distance", desc := "(LOwlYears;II[J)I" } : Jvm.MethodName) method_16_code (5 : Nat) (Option.some Jvm.ClassFile.FieldType.int) [((0 : Nat), (10 : Nat), (13 : Nat), (13 : Nat))]) ∈ lw_all := lw_g (lw_at lw_m8 233 rfl) rfl
theorem q2032 : (Jvm.Cond.methodLink "OwlYearsLaw" (59 : Nat) ({ cls := "OwlYears", name := "distance", desc := "(II)I" } : Jvm.MethodName)) ∈ lw_all := lw_g (lw_at lw_m8 234 rfl) rfl
theorem q2037 : (Jvm.Cond.methodLink "OwlYearsLaw" (227 : Nat) ({ cls := "OwlYearsLaw", name := "squareOf", desc := "(LOwlYears;I[J)I" } : Jvm.MethodName)) ∈ lw_all := lw_g (lw_at lw_m8 239 rfl) rfl
theorem q2038 : (Jvm.Cond.static ({ cls := "OwlYearsLaw", name := "squareOf", desc := "(LOwlYears;I[J)I" } : Jvm.MethodName)) ∈ lw_all := lw_g (lw_at lw_m9 0 rfl) rfl
theorem q2039 : (Jvm.Cond.codeWith ({ cls := "OwlYearsLaw", name := "squareOf", desc := "(LOwlYears;I[J)I" } : Jvm.MethodName) method_17_code (4 : Nat) (Option.some Jvm.ClassFile.FieldType.int) [((0 : Nat), (9 : Nat), (12 : Nat), (13 : Nat))]) ∈ lw_all := lw_g (lw_at lw_m9 1 rfl) rfl
theorem q2040 : (Jvm.Cond.methodLink "OwlYearsLaw" (62 : Nat) ({ cls := "OwlYears", name := "squareOf", desc := "(I)I" } : Jvm.MethodName)) ∈ lw_all := lw_g (lw_at lw_m9 2 rfl) rfl
theorem q2044 : (Jvm.Cond.methodLink "OwlYearsLaw" (230 : Nat) ({ cls := "OwlYearsLaw", name := "rangeOf", desc := "(LOwlYears;I[J)I" } : Jvm.MethodName)) ∈ lw_all := lw_g (lw_at lw_m9 6 rfl) rfl
theorem q2045 : (Jvm.Cond.static ({ cls := "OwlYearsLaw", name := "rangeOf", desc := "(LOwlYears;I[J)I" } : Jvm.MethodName)) ∈ lw_all := lw_g (lw_at lw_m9 7 rfl) rfl
theorem q2046 : (Jvm.Cond.codeWith ({ cls := "OwlYearsLaw", name := "rangeOf", desc := "(LOwlYears;I[J)I" } : Jvm.MethodName) method_18_code (4 : Nat) (Option.some Jvm.ClassFile.FieldType.int) [((0 : Nat), (8 : Nat), (11 : Nat), (13 : Nat))]) ∈ lw_all := lw_g (lw_at lw_m9 8 rfl) rfl
theorem q2047 : (Jvm.Cond.methodLink "OwlYearsLaw" (65 : Nat) ({ cls := "OwlYears", name := "rangeOf", desc := "(I)J" } : Jvm.MethodName)) ∈ lw_all := lw_g (lw_at lw_m9 9 rfl) rfl
theorem q2051 : (Jvm.Cond.methodLink "OwlYearsLaw" (233 : Nat) ({ cls := "OwlYearsLaw", name := "rangeByJoining", desc := "(LOwlYears;I[J)I" } : Jvm.MethodName)) ∈ lw_all := lw_g (lw_at lw_m9 13 rfl) rfl
theorem q2052 : (Jvm.Cond.static ({ cls := "OwlYearsLaw", name := "rangeByJoining", desc := "(LOwlYears;I[J)I" } : Jvm.MethodName)) ∈ lw_all := lw_g (lw_at lw_m9 14 rfl) rfl
theorem q2053 : (Jvm.Cond.codeWith ({ cls := "OwlYearsLaw", name := "rangeByJoining", desc := "(LOwlYears;I[J)I" } : Jvm.MethodName) method_19_code (4 : Nat) (Option.some Jvm.ClassFile.FieldType.int) [((0 : Nat), (8 : Nat), (11 : Nat), (13 : Nat))]) ∈ lw_all := lw_g (lw_at lw_m9 15 rfl) rfl
theorem q2054 : (Jvm.Cond.methodLink "OwlYearsLaw" (68 : Nat) ({ cls := "OwlYears", name := "rangeByJoining", desc := "(I)J" } : Jvm.MethodName)) ∈ lw_all := lw_g (lw_at lw_m9 16 rfl) rfl
theorem q2068 : (Jvm.Cond.methodLink "OwlYearsLaw" (236 : Nat) ({ cls := "OwlYearsLaw", name := "shareOf", desc := "(LOwlYears;I[J)I" } : Jvm.MethodName)) ∈ lw_all := lw_g (lw_at lw_m9 30 rfl) rfl
theorem q2069 : (Jvm.Cond.static ({ cls := "OwlYearsLaw", name := "shareOf", desc := "(LOwlYears;I[J)I" } : Jvm.MethodName)) ∈ lw_all := lw_g (lw_at lw_m9 31 rfl) rfl
theorem q2070 : (Jvm.Cond.codeWith ({ cls := "OwlYearsLaw", name := "shareOf", desc := "(LOwlYears;I[J)I" } : Jvm.MethodName) method_20_code (4 : Nat) (Option.some Jvm.ClassFile.FieldType.int) [((0 : Nat), (9 : Nat), (12 : Nat), (13 : Nat))]) ∈ lw_all := lw_g (lw_at lw_m9 32 rfl) rfl
theorem q2071 : (Jvm.Cond.methodLink "OwlYearsLaw" (71 : Nat) ({ cls := "OwlYears", name := "shareOf", desc := "(I)I" } : Jvm.MethodName)) ∈ lw_all := lw_g (lw_at lw_m9 33 rfl) rfl
theorem q2075 : (Jvm.Cond.methodLink "OwlYearsLaw" (239 : Nat) ({ cls := "OwlYearsLaw", name := "crowdOf", desc := "(LOwlYears;I[J)I" } : Jvm.MethodName)) ∈ lw_all := lw_g (lw_at lw_m9 37 rfl) rfl
theorem q2076 : (Jvm.Cond.static ({ cls := "OwlYearsLaw", name := "crowdOf", desc := "(LOwlYears;I[J)I" } : Jvm.MethodName)) ∈ lw_all := lw_g (lw_at lw_m9 38 rfl) rfl
theorem q2077 : (Jvm.Cond.codeWith ({ cls := "OwlYearsLaw", name := "crowdOf", desc := "(LOwlYears;I[J)I" } : Jvm.MethodName) method_21_code (4 : Nat) (Option.some Jvm.ClassFile.FieldType.int) [((0 : Nat), (9 : Nat), (12 : Nat), (13 : Nat))]) ∈ lw_all := lw_g (lw_at lw_m9 39 rfl) rfl
theorem q2078 : (Jvm.Cond.methodLink "OwlYearsLaw" (74 : Nat) ({ cls := "OwlYears", name := "crowdOf", desc := "(I)I" } : Jvm.MethodName)) ∈ lw_all := lw_g (lw_at lw_m9 40 rfl) rfl
theorem q2083 : (Jvm.Cond.methodLink "OwlYearsLaw" (242 : Nat) ({ cls := "OwlYearsLaw", name := "riskOf", desc := "(LOwlYears;I[J)I" } : Jvm.MethodName)) ∈ lw_all := lw_g (lw_at lw_m9 45 rfl) rfl
theorem q2084 : (Jvm.Cond.static ({ cls := "OwlYearsLaw", name := "riskOf", desc := "(LOwlYears;I[J)I" } : Jvm.MethodName)) ∈ lw_all := lw_g (lw_at lw_m9 46 rfl) rfl
theorem q2085 : (Jvm.Cond.codeWith ({ cls := "OwlYearsLaw", name := "riskOf", desc := "(LOwlYears;I[J)I" } : Jvm.MethodName) method_22_code (4 : Nat) (Option.some Jvm.ClassFile.FieldType.int) [((0 : Nat), (9 : Nat), (12 : Nat), (13 : Nat))]) ∈ lw_all := lw_g (lw_at lw_m9 47 rfl) rfl
theorem q2086 : (Jvm.Cond.methodLink "OwlYearsLaw" (77 : Nat) ({ cls := "OwlYears", name := "riskOf", desc := "(I)I" } : Jvm.MethodName)) ∈ lw_all := lw_g (lw_at lw_m9 48 rfl) rfl
theorem q2090 : (Jvm.Cond.methodLink "OwlYearsLaw" (245 : Nat) ({ cls := "OwlYearsLaw", name := "livesIn", desc := "(LOwlYears;II[J)I" } : Jvm.MethodName)) ∈ lw_all := lw_g (lw_at lw_m9 52 rfl) rfl
theorem q2091 : (Jvm.Cond.static ({ cls := "OwlYearsLaw", name := "livesIn", desc := "(LOwlYears;II[J)I" } : Jvm.MethodName)) ∈ lw_all := lw_g (lw_at lw_m9 53 rfl) rfl
theorem q2092 : (Jvm.Cond.codeWith ({ cls := "OwlYearsLaw", name := "livesIn", desc := "(LOwlYears;II[J)I" } : Jvm.MethodName) method_23_code (5 : Nat) (Option.some Jvm.ClassFile.FieldType.int) [((0 : Nat), (10 : Nat), (13 : Nat), (13 : Nat)), ((0 : Nat), (10 : Nat), (17 : Nat), (15 : Nat))]) ∈ lw_all := lw_g (lw_at lw_m9 54 rfl) rfl
theorem q2093 : (Jvm.Cond.methodLink "OwlYearsLaw" (80 : Nat) ({ cls := "OwlYears", name := "livesIn", desc := "(II)I" } : Jvm.MethodName)) ∈ lw_all := lw_g (lw_at lw_m9 55 rfl) rfl
theorem q2097 : (Jvm.Cond.methodLink "OwlYearsLaw" (248 : Nat) ({ cls := "OwlYearsLaw", name := "whyNoYoung", desc := "(LOwlYears;I[J)I" } : Jvm.MethodName)) ∈ lw_all := lw_g (lw_at lw_m9 59 rfl) rfl
theorem q2098 : (Jvm.Cond.static ({ cls := "OwlYearsLaw", name := "whyNoYoung", desc := "(LOwlYears;I[J)I" } : Jvm.MethodName)) ∈ lw_all := lw_g (lw_at lw_m9 60 rfl) rfl
theorem q2099 : (Jvm.Cond.codeWith ({ cls := "OwlYearsLaw", name := "whyNoYoung", desc := "(LOwlYears;I[J)I" } : Jvm.MethodName) method_24_code (4 : Nat) (Option.some Jvm.ClassFile.FieldType.int) [((0 : Nat), (9 : Nat), (12 : Nat), (13 : Nat))]) ∈ lw_all := lw_g (lw_at lw_m9 61 rfl) rfl
theorem q2100 : (Jvm.Cond.methodLink "OwlYearsLaw" (83 : Nat) ({ cls := "OwlYears", name := "whyNoYoung", desc := "(I)I" } : Jvm.MethodName)) ∈ lw_all := lw_g (lw_at lw_m9 62 rfl) rfl
theorem q2104 : (Jvm.Cond.methodLink "OwlYearsLaw" (251 : Nat) ({ cls := "OwlYearsLaw", name := "youngOf", desc := "(LOwlYears;I[J)I" } : Jvm.MethodName)) ∈ lw_all := lw_g (lw_at lw_m9 66 rfl) rfl
theorem q2105 : (Jvm.Cond.static ({ cls := "OwlYearsLaw", name := "youngOf", desc := "(LOwlYears;I[J)I" } : Jvm.MethodName)) ∈ lw_all := lw_g (lw_at lw_m9 67 rfl) rfl
theorem q2106 : (Jvm.Cond.codeWith ({ cls := "OwlYearsLaw", name := "youngOf", desc := "(LOwlYears;I[J)I" } : Jvm.MethodName) method_25_code (4 : Nat) (Option.some Jvm.ClassFile.FieldType.int) [((0 : Nat), (9 : Nat), (12 : Nat), (13 : Nat))]) ∈ lw_all := lw_g (lw_at lw_m9 68 rfl) rfl
theorem q2107 : (Jvm.Cond.methodLink "OwlYearsLaw" (86 : Nat) ({ cls := "OwlYears", name := "youngOf", desc := "(I)I" } : Jvm.MethodName)) ∈ lw_all := lw_g (lw_at lw_m9 69 rfl) rfl
theorem q2111 : (Jvm.Cond.methodLink "OwlYearsLaw" (266 : Nat) ({ cls := "OwlYearsLaw", name := "ringAt", desc := "(LOwlYears;I[J)I" } : Jvm.MethodName)) ∈ lw_all := lw_g (lw_at lw_m9 73 rfl) rfl
theorem q2112 : (Jvm.Cond.static ({ cls := "OwlYearsLaw", name := "ringAt", desc := "(LOwlYears;I[J)I" } : Jvm.MethodName)) ∈ lw_all := lw_g (lw_at lw_m9 74 rfl) rfl
theorem q2113 : (Jvm.Cond.codeWith ({ cls := "OwlYearsLaw", name := "ringAt", desc := "(LOwlYears;I[J)I" } : Jvm.MethodName) method_26_code (4 : Nat) (Option.some Jvm.ClassFile.FieldType.int) [((0 : Nat), (9 : Nat), (12 : Nat), (13 : Nat))]) ∈ lw_all := lw_g (lw_at lw_m9 75 rfl) rfl
theorem q2114 : (Jvm.Cond.methodLink "OwlYearsLaw" (89 : Nat) ({ cls := "OwlYears", name := "ringAt", desc := "(I)I" } : Jvm.MethodName)) ∈ lw_all := lw_g (lw_at lw_m9 76 rfl) rfl
theorem q2118 : (Jvm.Cond.methodLink "OwlYearsLaw" (278 : Nat) ({ cls := "OwlYearsLaw", name := "sexOf", desc := "(LOwlYears;I[J)I" } : Jvm.MethodName)) ∈ lw_all := lw_g (lw_at lw_m9 80 rfl) rfl
theorem q2119 : (Jvm.Cond.static ({ cls := "OwlYearsLaw", name := "sexOf", desc := "(LOwlYears;I[J)I" } : Jvm.MethodName)) ∈ lw_all := lw_g (lw_at lw_m9 81 rfl) rfl
theorem q2120 : (Jvm.Cond.codeWith ({ cls := "OwlYearsLaw", name := "sexOf", desc := "(LOwlYears;I[J)I" } : Jvm.MethodName) method_27_code (4 : Nat) (Option.some Jvm.ClassFile.FieldType.int) [((0 : Nat), (9 : Nat), (12 : Nat), (13 : Nat))]) ∈ lw_all := lw_g (lw_at lw_m9 82 rfl) rfl
theorem q2121 : (Jvm.Cond.methodLink "OwlYearsLaw" (92 : Nat) ({ cls := "OwlYears", name := "sexOf", desc := "(I)I" } : Jvm.MethodName)) ∈ lw_all := lw_g (lw_at lw_m9 83 rfl) rfl
theorem q2125 : (Jvm.Cond.methodLink "OwlYearsLaw" (281 : Nat) ({ cls := "OwlYearsLaw", name := "ageOf", desc := "(LOwlYears;I[J)I" } : Jvm.MethodName)) ∈ lw_all := lw_g (lw_at lw_m9 87 rfl) rfl
theorem q2126 : (Jvm.Cond.static ({ cls := "OwlYearsLaw", name := "ageOf", desc := "(LOwlYears;I[J)I" } : Jvm.MethodName)) ∈ lw_all := lw_g (lw_at lw_m9 88 rfl) rfl
theorem q2127 : (Jvm.Cond.codeWith ({ cls := "OwlYearsLaw", name := "ageOf", desc := "(LOwlYears;I[J)I" } : Jvm.MethodName) method_28_code (4 : Nat) (Option.some Jvm.ClassFile.FieldType.int) [((0 : Nat), (9 : Nat), (12 : Nat), (13 : Nat))]) ∈ lw_all := lw_g (lw_at lw_m9 89 rfl) rfl
theorem q2128 : (Jvm.Cond.methodLink "OwlYearsLaw" (95 : Nat) ({ cls := "OwlYears", name := "ageOf", desc := "(I)I" } : Jvm.MethodName)) ∈ lw_all := lw_g (lw_at lw_m9 90 rfl) rfl
theorem q2132 : (Jvm.Cond.methodLink "OwlYearsLaw" (284 : Nat) ({ cls := "OwlYearsLaw", name := "boxOf", desc := "(LOwlYears;I[J)I" } : Jvm.MethodName)) ∈ lw_all := lw_g (lw_at lw_m9 94 rfl) rfl
theorem q2133 : (Jvm.Cond.static ({ cls := "OwlYearsLaw", name := "boxOf", desc := "(LOwlYears;I[J)I" } : Jvm.MethodName)) ∈ lw_all := lw_g (lw_at lw_m9 95 rfl) rfl
theorem q2134 : (Jvm.Cond.codeWith ({ cls := "OwlYearsLaw", name := "boxOf", desc := "(LOwlYears;I[J)I" } : Jvm.MethodName) method_29_code (4 : Nat) (Option.some Jvm.ClassFile.FieldType.int) [((0 : Nat), (9 : Nat), (12 : Nat), (13 : Nat))]) ∈ lw_all := lw_g (lw_at lw_m9 96 rfl) rfl
theorem q2135 : (Jvm.Cond.methodLink "OwlYearsLaw" (98 : Nat) ({ cls := "OwlYears", name := "boxOf", desc := "(I)I" } : Jvm.MethodName)) ∈ lw_all := lw_g (lw_at lw_m9 97 rfl) rfl
theorem q2139 : (Jvm.Cond.methodLink "OwlYearsLaw" (296 : Nat) ({ cls := "OwlYearsLaw", name := "motherOf", desc := "(LOwlYears;I[J)I" } : Jvm.MethodName)) ∈ lw_all := lw_g (lw_at lw_m9 101 rfl) rfl
theorem q2140 : (Jvm.Cond.static ({ cls := "OwlYearsLaw", name := "motherOf", desc := "(LOwlYears;I[J)I" } : Jvm.MethodName)) ∈ lw_all := lw_g (lw_at lw_m9 102 rfl) rfl
theorem q2141 : (Jvm.Cond.codeWith ({ cls := "OwlYearsLaw", name := "motherOf", desc := "(LOwlYears;I[J)I" } : Jvm.MethodName) method_30_code (4 : Nat) (Option.some Jvm.ClassFile.FieldType.int) [((0 : Nat), (9 : Nat), (12 : Nat), (13 : Nat))]) ∈ lw_all := lw_g (lw_at lw_m9 103 rfl) rfl
theorem q2142 : (Jvm.Cond.methodLink "OwlYearsLaw" (101 : Nat) ({ cls := "OwlYears", name := "motherOf", desc := "(I)I" } : Jvm.MethodName)) ∈ lw_all := lw_g (lw_at lw_m9 104 rfl) rfl
theorem q2146 : (Jvm.Cond.methodLink "OwlYearsLaw" (299 : Nat) ({ cls := "OwlYearsLaw", name := "fatherOf", desc := "(LOwlYears;I[J)I" } : Jvm.MethodName)) ∈ lw_all := lw_g (lw_at lw_m9 108 rfl) rfl
theorem q2147 : (Jvm.Cond.static ({ cls := "OwlYearsLaw", name := "fatherOf", desc := "(LOwlYears;I[J)I" } : Jvm.MethodName)) ∈ lw_all := lw_g (lw_at lw_m9 109 rfl) rfl
theorem q2148 : (Jvm.Cond.codeWith ({ cls := "OwlYearsLaw", name := "fatherOf", desc := "(LOwlYears;I[J)I" } : Jvm.MethodName) method_31_code (4 : Nat) (Option.some Jvm.ClassFile.FieldType.int) [((0 : Nat), (9 : Nat), (12 : Nat), (13 : Nat))]) ∈ lw_all := lw_g (lw_at lw_m9 110 rfl) rfl
theorem q2149 : (Jvm.Cond.methodLink "OwlYearsLaw" (104 : Nat) ({ cls := "OwlYears", name := "fatherOf", desc := "(I)I" } : Jvm.MethodName)) ∈ lw_all := lw_g (lw_at lw_m9 111 rfl) rfl
theorem q2153 : (Jvm.Cond.methodLink "OwlYearsLaw" (302 : Nat) ({ cls := "OwlYearsLaw", name := "childrenOf", desc := "(LOwlYears;I[J)I" } : Jvm.MethodName)) ∈ lw_all := lw_g (lw_at lw_m9 115 rfl) rfl
theorem q2154 : (Jvm.Cond.static ({ cls := "OwlYearsLaw", name := "childrenOf", desc := "(LOwlYears;I[J)I" } : Jvm.MethodName)) ∈ lw_all := lw_g (lw_at lw_m9 116 rfl) rfl
theorem q2155 : (Jvm.Cond.codeWith ({ cls := "OwlYearsLaw", name := "childrenOf", desc := "(LOwlYears;I[J)I" } : Jvm.MethodName) method_32_code (4 : Nat) (Option.some Jvm.ClassFile.FieldType.int) [((0 : Nat), (9 : Nat), (12 : Nat), (13 : Nat))]) ∈ lw_all := lw_g (lw_at lw_m9 117 rfl) rfl
theorem q2156 : (Jvm.Cond.methodLink "OwlYearsLaw" (107 : Nat) ({ cls := "OwlYears", name := "childrenOf", desc := "(I)I" } : Jvm.MethodName)) ∈ lw_all := lw_g (lw_at lw_m9 118 rfl) rfl
theorem q2160 : (Jvm.Cond.methodLink "OwlYearsLaw" (305 : Nat) ({ cls := "OwlYearsLaw", name := "offspringOf", desc := "(LOwlYears;I[J)I" } : Jvm.MethodName)) ∈ lw_all := lw_g (lw_at lw_m9 122 rfl) rfl
theorem q2161 : (Jvm.Cond.static ({ cls := "OwlYearsLaw", name := "offspringOf", desc := "(LOwlYears;I[J)I" } : Jvm.MethodName)) ∈ lw_all := lw_g (lw_at lw_m9 123 rfl) rfl
theorem q2162 : (Jvm.Cond.codeWith ({ cls := "OwlYearsLaw", name := "offspringOf", desc := "(LOwlYears;I[J)I" } : Jvm.MethodName) method_33_code (4 : Nat) (Option.some Jvm.ClassFile.FieldType.int) [((0 : Nat), (9 : Nat), (12 : Nat), (13 : Nat))]) ∈ lw_all := lw_g (lw_at lw_m9 124 rfl) rfl
theorem q2163 : (Jvm.Cond.methodLink "OwlYearsLaw" (110 : Nat) ({ cls := "OwlYears", name := "offspringOf", desc := "(I)I" } : Jvm.MethodName)) ∈ lw_all := lw_g (lw_at lw_m9 125 rfl) rfl
theorem q2167 : (Jvm.Cond.methodLink "OwlYearsLaw" (308 : Nat) ({ cls := "OwlYearsLaw", name := "offspringByParents", desc := "(LOwlYears;I[J)I" } : Jvm.MethodName)) ∈ lw_all := lw_g (lw_at lw_m9 129 rfl) rfl
theorem q2168 : (Jvm.Cond.static ({ cls := "OwlYearsLaw", name := "offspringByParents", desc := "(LOwlYears;I[J)I" } : Jvm.MethodName)) ∈ lw_all := lw_g (lw_at lw_m9 130 rfl) rfl
theorem q2169 : (Jvm.Cond.codeWith ({ cls := "OwlYearsLaw", name := "offspringByParents", desc := "(LOwlYears;I[J)I" } : Jvm.MethodName) method_34_code (4 : Nat) (Option.some Jvm.ClassFile.FieldType.int) [((0 : Nat), (9 : Nat), (12 : Nat), (13 : Nat))]) ∈ lw_all := lw_g (lw_at lw_m9 131 rfl) rfl
theorem q2170 : (Jvm.Cond.methodLink "OwlYearsLaw" (113 : Nat) ({ cls := "OwlYears", name := "offspringByParents", desc := "(I)I" } : Jvm.MethodName)) ∈ lw_all := lw_g (lw_at lw_m9 132 rfl) rfl
theorem q2178 : (Jvm.Cond.methodLink "OwlYearsLaw" (311 : Nat) ({ cls := "OwlYearsLaw", name := "areKin", desc := "(LOwlYears;II[J)I" } : Jvm.MethodName)) ∈ lw_all := lw_g (lw_at lw_m9 140 rfl) rfl
theorem q2179 : (Jvm.Cond.static ({ cls := "OwlYearsLaw", name := "areKin", desc := "(LOwlYears;II[J)I" } : Jvm.MethodName)) ∈ lw_all := lw_g (lw_at lw_m9 141 rfl) rfl
theorem q2180 : (Jvm.Cond.codeWith ({ cls := "OwlYearsLaw", name := "areKin", desc := "(LOwlYears;II[J)I" } : Jvm.MethodName) method_35_code (5 : Nat) (Option.some Jvm.ClassFile.FieldType.int) [((0 : Nat), (17 : Nat), (20 : Nat), (13 : Nat))]) ∈ lw_all := lw_g (lw_at lw_m9 142 rfl) rfl
theorem q2181 : (Jvm.Cond.methodLink "OwlYearsLaw" (116 : Nat) ({ cls := "OwlYears", name := "areKin", desc := "(II)Z" } : Jvm.MethodName)) ∈ lw_all := lw_g (lw_at lw_m9 143 rfl) rfl
theorem q2186 : (Jvm.Cond.methodLink "OwlYearsLaw" (322 : Nat) ({ cls := "OwlYearsLaw", name := "died", desc := "(LOwlYears;I[J)I" } : Jvm.MethodName)) ∈ lw_all := lw_g (lw_at lw_m9 148 rfl) rfl
theorem q2187 : (Jvm.Cond.static ({ cls := "OwlYearsLaw", name := "died", desc := "(LOwlYears;I[J)I" } : Jvm.MethodName)) ∈ lw_all := lw_g (lw_at lw_m9 149 rfl) rfl
theorem q2188 : (Jvm.Cond.codeWith ({ cls := "OwlYearsLaw", name := "died", desc := "(LOwlYears;I[J)I" } : Jvm.MethodName) method_36_code (4 : Nat) (Option.some Jvm.ClassFile.FieldType.int) [((0 : Nat), (9 : Nat), (12 : Nat), (15 : Nat))]) ∈ lw_all := lw_g (lw_at lw_m9 150 rfl) rfl
theorem q2189 : (Jvm.Cond.methodLink "OwlYearsLaw" (120 : Nat) ({ cls := "OwlYears", name := "died", desc := "(I)I" } : Jvm.MethodName)) ∈ lw_all := lw_g (lw_at lw_m9 151 rfl) rfl
theorem q2193 : (Jvm.Cond.methodLink "OwlYearsLaw" (341 : Nat) ({ cls := "OwlYearsLaw", name := "deathRing", desc := "(LOwlYears;I[J)I" } : Jvm.MethodName)) ∈ lw_all := lw_g (lw_at lw_m9 155 rfl) rfl
theorem q2194 : (Jvm.Cond.static ({ cls := "OwlYearsLaw", name := "deathRing", desc := "(LOwlYears;I[J)I" } : Jvm.MethodName)) ∈ lw_all := lw_g (lw_at lw_m9 156 rfl) rfl
theorem q2195 : (Jvm.Cond.codeWith ({ cls := "OwlYearsLaw", name := "deathRing", desc := "(LOwlYears;I[J)I" } : Jvm.MethodName) method_37_code (4 : Nat) (Option.some Jvm.ClassFile.FieldType.int) [((0 : Nat), (9 : Nat), (12 : Nat), (13 : Nat))]) ∈ lw_all := lw_g (lw_at lw_m9 157 rfl) rfl
theorem q2196 : (Jvm.Cond.methodLink "OwlYearsLaw" (123 : Nat) ({ cls := "OwlYears", name := "deathRing", desc := "(I)I" } : Jvm.MethodName)) ∈ lw_all := lw_g (lw_at lw_m9 158 rfl) rfl
theorem q2204 : (Jvm.Cond.methodLink "OwlYearsLaw" (344 : Nat) ({ cls := "OwlYearsLaw", name := "deathCause", desc := "(LOwlYears;I[J)I" } : Jvm.MethodName)) ∈ lw_all := lw_g (lw_at lw_m9 166 rfl) rfl
theorem q2205 : (Jvm.Cond.static ({ cls := "OwlYearsLaw", name := "deathCause", desc := "(LOwlYears;I[J)I" } : Jvm.MethodName)) ∈ lw_all := lw_g (lw_at lw_m9 167 rfl) rfl
theorem q2206 : (Jvm.Cond.codeWith ({ cls := "OwlYearsLaw", name := "deathCause", desc := "(LOwlYears;I[J)I" } : Jvm.MethodName) method_38_code (4 : Nat) (Option.some Jvm.ClassFile.FieldType.int) [((0 : Nat), (9 : Nat), (12 : Nat), (13 : Nat))]) ∈ lw_all := lw_g (lw_at lw_m9 168 rfl) rfl
theorem q2207 : (Jvm.Cond.methodLink "OwlYearsLaw" (126 : Nat) ({ cls := "OwlYears", name := "deathCause", desc := "(I)I" } : Jvm.MethodName)) ∈ lw_all := lw_g (lw_at lw_m9 169 rfl) rfl
theorem q2211 : (Jvm.Cond.methodLink "OwlYearsLaw" (347 : Nat) ({ cls := "OwlYearsLaw", name := "deathYear", desc := "(LOwlYears;I[J)I" } : Jvm.MethodName)) ∈ lw_all := lw_g (lw_at lw_m9 173 rfl) rfl
theorem q2212 : (Jvm.Cond.static ({ cls := "OwlYearsLaw", name := "deathYear", desc := "(LOwlYears;I[J)I" } : Jvm.MethodName)) ∈ lw_all := lw_g (lw_at lw_m9 174 rfl) rfl
theorem q2213 : (Jvm.Cond.codeWith ({ cls := "OwlYearsLaw", name := "deathYear", desc := "(LOwlYears;I[J)I" } : Jvm.MethodName) method_39_code (4 : Nat) (Option.some Jvm.ClassFile.FieldType.int) [((0 : Nat), (9 : Nat), (12 : Nat), (13 : Nat))]) ∈ lw_all := lw_g (lw_at lw_m9 175 rfl) rfl
theorem q2214 : (Jvm.Cond.methodLink "OwlYearsLaw" (129 : Nat) ({ cls := "OwlYears", name := "deathYear", desc := "(I)I" } : Jvm.MethodName)) ∈ lw_all := lw_g (lw_at lw_m9 176 rfl) rfl
theorem q2218 : (Jvm.Cond.methodLink "OwlYearsLaw" (354 : Nat) ({ cls := "OwlYearsLaw", name := "owlsIn", desc := "(LOwlYears;I[J)I" } : Jvm.MethodName)) ∈ lw_all := lw_g (lw_at lw_m9 180 rfl) rfl
theorem q2219 : (Jvm.Cond.static ({ cls := "OwlYearsLaw", name := "owlsIn", desc := "(LOwlYears;I[J)I" } : Jvm.MethodName)) ∈ lw_all := lw_g (lw_at lw_m9 181 rfl) rfl
theorem q2220 : (Jvm.Cond.codeWith ({ cls := "OwlYearsLaw", name := "owlsIn", desc := "(LOwlYears;I[J)I" } : Jvm.MethodName) method_40_code (4 : Nat) (Option.some Jvm.ClassFile.FieldType.int) [((0 : Nat), (9 : Nat), (12 : Nat), (15 : Nat))]) ∈ lw_all := lw_g (lw_at lw_m9 182 rfl) rfl
theorem q2221 : (Jvm.Cond.methodLink "OwlYearsLaw" (132 : Nat) ({ cls := "OwlYears", name := "owlsIn", desc := "(I)I" } : Jvm.MethodName)) ∈ lw_all := lw_g (lw_at lw_m9 183 rfl) rfl
theorem q2225 : (Jvm.Cond.methodLink "OwlYearsLaw" (357 : Nat) ({ cls := "OwlYearsLaw", name := "owlsWithRoad", desc := "(LOwlYears;IZI[J)I" } : Jvm.MethodName)) ∈ lw_all := lw_g (lw_at lw_m9 187 rfl) rfl
theorem q2226 : (Jvm.Cond.static ({ cls := "OwlYearsLaw", name := "owlsWithRoad", desc := "(LOwlYears;IZI[J)I" } : Jvm.MethodName)) ∈ lw_all := lw_g (lw_at lw_m9 188 rfl) rfl
theorem q2227 : (Jvm.Cond.codeWith ({ cls := "OwlYearsLaw", name := "owlsWithRoad", desc := "(LOwlYears;IZI[J)I" } : Jvm.MethodName) method_41_code (6 : Nat) (Option.some Jvm.ClassFile.FieldType.int) [((0 : Nat), (12 : Nat), (15 : Nat), (15 : Nat))]) ∈ lw_all := lw_g (lw_at lw_m9 189 rfl) rfl
theorem q2228 : (Jvm.Cond.methodLink "OwlYearsLaw" (135 : Nat) ({ cls := "OwlYears", name := "owlsWithRoad", desc := "(IZI)I" } : Jvm.MethodName)) ∈ lw_all := lw_g (lw_at lw_m9 190 rfl) rfl
theorem q2233 : (Jvm.Cond.methodLink "OwlYearsLaw" (373 : Nat) ({ cls := "OwlYearsLaw", name := "goBack", desc := "(LOwlYears;[J)I" } : Jvm.MethodName)) ∈ lw_all := lw_g (lw_at lw_m9 195 rfl) rfl
theorem q2234 : (Jvm.Cond.static ({ cls := "OwlYearsLaw", name := "goBack", desc := "(LOwlYears;[J)I" } : Jvm.MethodName)) ∈ lw_all := lw_g (lw_at lw_m9 196 rfl) rfl
theorem q2235 : (Jvm.Cond.codeWith ({ cls := "OwlYearsLaw", name := "goBack", desc := "(LOwlYears;[J)I" } : Jvm.MethodName) method_42_code (3 : Nat) (Option.some Jvm.ClassFile.FieldType.int) [((0 : Nat), (8 : Nat), (11 : Nat), (17 : Nat))]) ∈ lw_all := lw_g (lw_at lw_m9 197 rfl) rfl
theorem q2236 : (Jvm.Cond.methodLink "OwlYearsLaw" (139 : Nat) ({ cls := "OwlYears", name := "goBack", desc := "()I" } : Jvm.MethodName)) ∈ lw_all := lw_g (lw_at lw_m9 198 rfl) rfl
theorem q2240 : (Jvm.Cond.methodLink "OwlYearsLaw" (377 : Nat) ({ cls := "OwlYearsLaw", name := "append", desc := "(LOwlYears;I[J)I" } : Jvm.MethodName)) ∈ lw_all := lw_g (lw_at lw_m9 202 rfl) rfl
theorem q2241 : (Jvm.Cond.static ({ cls := "OwlYearsLaw", name := "append", desc := "(LOwlYears;I[J)I" } : Jvm.MethodName)) ∈ lw_all := lw_g (lw_at lw_m9 203 rfl) rfl
theorem q2242 : (Jvm.Cond.codeWith ({ cls := "OwlYearsLaw", name := "append", desc := "(LOwlYears;I[J)I" } : Jvm.MethodName) method_43_code (4 : Nat) (Option.some Jvm.ClassFile.FieldType.int) [((0 : Nat), (9 : Nat), (12 : Nat), (15 : Nat)), ((0 : Nat), (9 : Nat), (15 : Nat), (17 : Nat))]) ∈ lw_all := lw_g (lw_at lw_m9 204 rfl) rfl
theorem q2243 : (Jvm.Cond.methodLink "OwlYearsLaw" (143 : Nat) ({ cls := "OwlYears", name := "append", desc := "(I)I" } : Jvm.MethodName)) ∈ lw_all := lw_g (lw_at lw_m9 205 rfl) rfl
theorem q2264 : (Jvm.Cond.methodLink "OwlYearsLaw" (388 : Nat) ({ cls := "OwlYearsLaw", name := "doWorks", desc := "(LOwlYears;[J)I" } : Jvm.MethodName)) ∈ lw_all := lw_g (lw_at lw_m9 226 rfl) rfl
theorem q2265 : (Jvm.Cond.static ({ cls := "OwlYearsLaw", name := "doWorks", desc := "(LOwlYears;[J)I" } : Jvm.MethodName)) ∈ lw_all := lw_g (lw_at lw_m9 227 rfl) rfl
theorem q2266 : (Jvm.Cond.codeWith ({ cls := "OwlYearsLaw", name := "doWorks", desc := "(LOwlYears;[J)I" } : Jvm.MethodName) method_44_code (3 : Nat) (Option.some Jvm.ClassFile.FieldType.int) [((0 : Nat), (8 : Nat), (11 : Nat), (17 : Nat))]) ∈ lw_all := lw_g (lw_at lw_m9 228 rfl) rfl
theorem q2267 : (Jvm.Cond.methodLink "OwlYearsLaw" (146 : Nat) ({ cls := "OwlYears", name := "doWorks", desc := "()I" } : Jvm.MethodName)) ∈ lw_all := lw_g (lw_at lw_m9 229 rfl) rfl
theorem q2283 : (Jvm.Cond.methodLink "OwlYearsLaw" (391 : Nat) ({ cls := "OwlYearsLaw", name := "undo", desc := "(LOwlYears;[J)I" } : Jvm.MethodName)) ∈ lw_all := lw_g (lw_at lw_m10 5 rfl) rfl
theorem q2284 : (Jvm.Cond.static ({ cls := "OwlYearsLaw", name := "undo", desc := "(LOwlYears;[J)I" } : Jvm.MethodName)) ∈ lw_all := lw_g (lw_at lw_m10 6 rfl) rfl
theorem q2285 : (Jvm.Cond.codeWith ({ cls := "OwlYearsLaw", name := "undo", desc := "(LOwlYears;[J)I" } : Jvm.MethodName) method_45_code (3 : Nat) (Option.some Jvm.ClassFile.FieldType.int) [((0 : Nat), (8 : Nat), (11 : Nat), (17 : Nat))]) ∈ lw_all := lw_g (lw_at lw_m10 7 rfl) rfl
theorem q2286 : (Jvm.Cond.methodLink "OwlYearsLaw" (149 : Nat) ({ cls := "OwlYears", name := "undo", desc := "()I" } : Jvm.MethodName)) ∈ lw_all := lw_g (lw_at lw_m10 8 rfl) rfl
theorem q2294 : (Jvm.Cond.classLink "OwlYearsLaw" (153 : Nat) "OwlYearsModel") ∈ lw_all := lw_g (lw_at lw_m10 16 rfl) rfl
theorem q2296 : (Jvm.Cond.methodLink "OwlYearsLaw" (155 : Nat) ({ cls := "OwlYearsModel", name := "<init>", desc := "()V" } : Jvm.MethodName)) ∈ lw_all := lw_g (lw_at lw_m10 18 rfl) rfl
theorem q2349 : (Jvm.Cond.methodLink "OwlYearsLaw" (162 : Nat) ({ cls := "OwlYearsModel", name := "thrown", desc := "()I" } : Jvm.MethodName)) ∈ lw_all := lw_g (lw_at lw_m10 71 rfl) rfl
theorem q2353 : (Jvm.Cond.methodLink "OwlYearsLaw" (161 : Nat) ({ cls := "OwlYearsModel", name := "setLand", desc := "(II)I" } : Jvm.MethodName)) ∈ lw_all := lw_g (lw_at lw_m10 75 rfl) rfl
theorem q2379 : (Jvm.Cond.methodLink "OwlYearsLaw" (168 : Nat) ({ cls := "OwlYearsModel", name := "buildRoad", desc := "(IZ)I" } : Jvm.MethodName)) ∈ lw_all := lw_g (lw_at lw_m10 101 rfl) rfl
theorem q2394 : (Jvm.Cond.methodLink "OwlYearsLaw" (171 : Nat) ({ cls := "OwlYearsModel", name := "setVoles", desc := "(II)I" } : Jvm.MethodName)) ∈ lw_all := lw_g (lw_at lw_m10 116 rfl) rfl
theorem q2398 : (Jvm.Cond.methodLink "OwlYearsLaw" (175 : Nat) ({ cls := "OwlYearsModel", name := "setChances", desc := "(I)I" } : Jvm.MethodName)) ∈ lw_all := lw_g (lw_at lw_m10 120 rfl) rfl
theorem q2403 : (Jvm.Cond.methodLink "OwlYearsLaw" (178 : Nat) ({ cls := "OwlYearsModel", name := "putBox", desc := "(I)I" } : Jvm.MethodName)) ∈ lw_all := lw_g (lw_at lw_m10 125 rfl) rfl
theorem q2415 : (Jvm.Cond.methodLink "OwlYearsLaw" (181 : Nat) ({ cls := "OwlYearsModel", name := "takeBox", desc := "(I)I" } : Jvm.MethodName)) ∈ lw_all := lw_g (lw_at lw_m10 137 rfl) rfl
theorem q2443 : (Jvm.Cond.methodLink "OwlYearsLaw" (185 : Nat) ({ cls := "OwlYearsModel", name := "letIn", desc := "(III)I" } : Jvm.MethodName)) ∈ lw_all := lw_g (lw_at lw_m10 165 rfl) rfl
theorem q2462 : (Jvm.Cond.methodLink "OwlYearsLaw" (188 : Nat) ({ cls := "OwlYearsModel", name := "takeOut", desc := "(I)I" } : Jvm.MethodName)) ∈ lw_all := lw_g (lw_at lw_m10 184 rfl) rfl
theorem q2474 : (Jvm.Cond.methodLink "OwlYearsLaw" (191 : Nat) ({ cls := "OwlYearsModel", name := "pass", desc := "(I)I" } : Jvm.MethodName)) ∈ lw_all := lw_g (lw_at lw_m10 196 rfl) rfl
theorem q2566 : (Jvm.Cond.methodLink "OwlYearsLaw" (195 : Nat) ({ cls := "OwlYearsModel", name := "year", desc := "()I" } : Jvm.MethodName)) ∈ lw_all := lw_g (lw_at lw_m11 48 rfl) rfl
theorem q2574 : (Jvm.Cond.methodLink "OwlYearsLaw" (199 : Nat) ({ cls := "OwlYearsModel", name := "phase", desc := "()I" } : Jvm.MethodName)) ∈ lw_all := lw_g (lw_at lw_m11 56 rfl) rfl
theorem q2578 : (Jvm.Cond.methodLink "OwlYearsLaw" (202 : Nat) ({ cls := "OwlYearsModel", name := "landOf", desc := "(I)I" } : Jvm.MethodName)) ∈ lw_all := lw_g (lw_at lw_m11 60 rfl) rfl
theorem q2586 : (Jvm.Cond.methodLink "OwlYearsLaw" (205 : Nat) ({ cls := "OwlYearsModel", name := "squaresOf", desc := "(I)J" } : Jvm.MethodName)) ∈ lw_all := lw_g (lw_at lw_m11 68 rfl) rfl
theorem q2594 : (Jvm.Cond.methodLink "OwlYearsLaw" (208 : Nat) ({ cls := "OwlYearsModel", name := "volesOf", desc := "(I)I" } : Jvm.MethodName)) ∈ lw_all := lw_g (lw_at lw_m11 76 rfl) rfl
theorem q2598 : (Jvm.Cond.methodLink "OwlYearsLaw" (212 : Nat) ({ cls := "OwlYearsModel", name := "voles", desc := "()I" } : Jvm.MethodName)) ∈ lw_all := lw_g (lw_at lw_m11 80 rfl) rfl
theorem q2606 : (Jvm.Cond.methodLink "OwlYearsLaw" (215 : Nat) ({ cls := "OwlYearsModel", name := "volesNext", desc := "(I)I" } : Jvm.MethodName)) ∈ lw_all := lw_g (lw_at lw_m11 88 rfl) rfl
theorem q2610 : (Jvm.Cond.methodLink "OwlYearsLaw" (218 : Nat) ({ cls := "OwlYearsModel", name := "distance", desc := "(II)I" } : Jvm.MethodName)) ∈ lw_all := lw_g (lw_at lw_m11 92 rfl) rfl
theorem q2614 : (Jvm.Cond.methodLink "OwlYearsLaw" (222 : Nat) ({ cls := "OwlYearsModel", name := "chances", desc := "()I" } : Jvm.MethodName)) ∈ lw_all := lw_g (lw_at lw_m11 96 rfl) rfl
theorem q2618 : (Jvm.Cond.methodLink "OwlYearsLaw" (226 : Nat) ({ cls := "OwlYearsModel", name := "boxes", desc := "()I" } : Jvm.MethodName)) ∈ lw_all := lw_g (lw_at lw_m11 100 rfl) rfl
theorem q2622 : (Jvm.Cond.methodLink "OwlYearsLaw" (229 : Nat) ({ cls := "OwlYearsModel", name := "squareOf", desc := "(I)I" } : Jvm.MethodName)) ∈ lw_all := lw_g (lw_at lw_m11 104 rfl) rfl
theorem q2626 : (Jvm.Cond.methodLink "OwlYearsLaw" (232 : Nat) ({ cls := "OwlYearsModel", name := "rangeOf", desc := "(I)J" } : Jvm.MethodName)) ∈ lw_all := lw_g (lw_at lw_m11 108 rfl) rfl
theorem q2630 : (Jvm.Cond.methodLink "OwlYearsLaw" (235 : Nat) ({ cls := "OwlYearsModel", name := "rangeByJoining", desc := "(I)J" } : Jvm.MethodName)) ∈ lw_all := lw_g (lw_at lw_m11 112 rfl) rfl
theorem q2634 : (Jvm.Cond.methodLink "OwlYearsLaw" (238 : Nat) ({ cls := "OwlYearsModel", name := "shareOf", desc := "(I)I" } : Jvm.MethodName)) ∈ lw_all := lw_g (lw_at lw_m11 116 rfl) rfl
theorem q2638 : (Jvm.Cond.methodLink "OwlYearsLaw" (241 : Nat) ({ cls := "OwlYearsModel", name := "crowdOf", desc := "(I)I" } : Jvm.MethodName)) ∈ lw_all := lw_g (lw_at lw_m11 120 rfl) rfl
theorem q2642 : (Jvm.Cond.methodLink "OwlYearsLaw" (244 : Nat) ({ cls := "OwlYearsModel", name := "riskOf", desc := "(I)I" } : Jvm.MethodName)) ∈ lw_all := lw_g (lw_at lw_m11 124 rfl) rfl
theorem q2646 : (Jvm.Cond.methodLink "OwlYearsLaw" (247 : Nat) ({ cls := "OwlYearsModel", name := "livesIn", desc := "(II)I" } : Jvm.MethodName)) ∈ lw_all := lw_g (lw_at lw_m11 128 rfl) rfl
theorem q2654 : (Jvm.Cond.methodLink "OwlYearsLaw" (250 : Nat) ({ cls := "OwlYearsModel", name := "whyNoYoung", desc := "(I)I" } : Jvm.MethodName)) ∈ lw_all := lw_g (lw_at lw_m11 136 rfl) rfl
theorem q2658 : (Jvm.Cond.methodLink "OwlYearsLaw" (253 : Nat) ({ cls := "OwlYearsModel", name := "youngOf", desc := "(I)I" } : Jvm.MethodName)) ∈ lw_all := lw_g (lw_at lw_m11 140 rfl) rfl
theorem q2662 : (Jvm.Cond.methodLink "OwlYearsLaw" (257 : Nat) ({ cls := "OwlYearsModel", name := "owls", desc := "()I" } : Jvm.MethodName)) ∈ lw_all := lw_g (lw_at lw_m11 144 rfl) rfl
theorem q2666 : (Jvm.Cond.methodLink "OwlYearsLaw" (261 : Nat) ({ cls := "OwlYearsModel", name := "owlsByAccount", desc := "()I" } : Jvm.MethodName)) ∈ lw_all := lw_g (lw_at lw_m11 148 rfl) rfl
theorem q2670 : (Jvm.Cond.methodLink "OwlYearsLaw" (265 : Nat) ({ cls := "OwlYearsModel", name := "wanderers", desc := "()I" } : Jvm.MethodName)) ∈ lw_all := lw_g (lw_at lw_m11 152 rfl) rfl
theorem q2678 : (Jvm.Cond.methodLink "OwlYearsLaw" (268 : Nat) ({ cls := "OwlYearsModel", name := "ringAt", desc := "(I)I" } : Jvm.MethodName)) ∈ lw_all := lw_g (lw_at lw_m11 160 rfl) rfl
theorem q2682 : (Jvm.Cond.methodLink "OwlYearsLaw" (272 : Nat) ({ cls := "OwlYearsModel", name := "rings", desc := "()I" } : Jvm.MethodName)) ∈ lw_all := lw_g (lw_at lw_m11 164 rfl) rfl
theorem q2686 : (Jvm.Cond.methodLink "OwlYearsLaw" (277 : Nat) ({ cls := "OwlYearsModel", name := "isAlive", desc := "(I)Z" } : Jvm.MethodName)) ∈ lw_all := lw_g (lw_at lw_m11 168 rfl) rfl
theorem q2690 : (Jvm.Cond.methodLink "OwlYearsLaw" (280 : Nat) ({ cls := "OwlYearsModel", name := "sexOf", desc := "(I)I" } : Jvm.MethodName)) ∈ lw_all := lw_g (lw_at lw_m11 172 rfl) rfl
theorem q2706 : (Jvm.Cond.methodLink "OwlYearsLaw" (283 : Nat) ({ cls := "OwlYearsModel", name := "ageOf", desc := "(I)I" } : Jvm.MethodName)) ∈ lw_all := lw_g (lw_at lw_m11 188 rfl) rfl
theorem q2710 : (Jvm.Cond.methodLink "OwlYearsLaw" (286 : Nat) ({ cls := "OwlYearsModel", name := "boxOf", desc := "(I)I" } : Jvm.MethodName)) ∈ lw_all := lw_g (lw_at lw_m11 192 rfl) rfl
theorem q2714 : (Jvm.Cond.methodLink "OwlYearsLaw" (290 : Nat) ({ cls := "OwlYearsModel", name := "oldest", desc := "()I" } : Jvm.MethodName)) ∈ lw_all := lw_g (lw_at lw_m11 196 rfl) rfl
theorem q2722 : (Jvm.Cond.methodLink "OwlYearsLaw" (295 : Nat) ({ cls := "OwlYearsModel", name := "meanAge", desc := "()D" } : Jvm.MethodName)) ∈ lw_all := lw_g (lw_at lw_m11 204 rfl) rfl
theorem q2726 : (Jvm.Cond.methodLink "OwlYearsLaw" (298 : Nat) ({ cls := "OwlYearsModel", name := "motherOf", desc := "(I)I" } : Jvm.MethodName)) ∈ lw_all := lw_g (lw_at lw_m11 208 rfl) rfl
theorem q2742 : (Jvm.Cond.methodLink "OwlYearsLaw" (301 : Nat) ({ cls := "OwlYearsModel", name := "fatherOf", desc := "(I)I" } : Jvm.MethodName)) ∈ lw_all := lw_g (lw_at lw_m11 224 rfl) rfl
theorem q2746 : (Jvm.Cond.methodLink "OwlYearsLaw" (304 : Nat) ({ cls := "OwlYearsModel", name := "childrenOf", desc := "(I)I" } : Jvm.MethodName)) ∈ lw_all := lw_g (lw_at lw_m11 228 rfl) rfl
theorem q2758 : (Jvm.Cond.methodLink "OwlYearsLaw" (307 : Nat) ({ cls := "OwlYearsModel", name := "offspringOf", desc := "(I)I" } : Jvm.MethodName)) ∈ lw_all := lw_g (lw_at lw_m12 0 rfl) rfl
theorem q2774 : (Jvm.Cond.methodLink "OwlYearsLaw" (310 : Nat) ({ cls := "OwlYearsModel", name := "offspringByParents", desc := "(I)I" } : Jvm.MethodName)) ∈ lw_all := lw_g (lw_at lw_m12 16 rfl) rfl
theorem q2778 : (Jvm.Cond.methodLink "OwlYearsLaw" (313 : Nat) ({ cls := "OwlYearsModel", name := "areKin", desc := "(II)Z" } : Jvm.MethodName)) ∈ lw_all := lw_g (lw_at lw_m12 20 rfl) rfl
theorem q2790 : (Jvm.Cond.methodLink "OwlYearsLaw" (317 : Nat) ({ cls := "OwlYearsModel", name := "kinPairs", desc := "()I" } : Jvm.MethodName)) ∈ lw_all := lw_g (lw_at lw_m12 32 rfl) rfl
theorem q2798 : (Jvm.Cond.methodLink "OwlYearsLaw" (321 : Nat) ({ cls := "OwlYearsModel", name := "born", desc := "()I" } : Jvm.MethodName)) ∈ lw_all := lw_g (lw_at lw_m12 40 rfl) rfl
theorem q2802 : (Jvm.Cond.methodLink "OwlYearsLaw" (324 : Nat) ({ cls := "OwlYearsModel", name := "died", desc := "(I)I" } : Jvm.MethodName)) ∈ lw_all := lw_g (lw_at lw_m12 44 rfl) rfl
theorem q2806 : (Jvm.Cond.methodLink "OwlYearsLaw" (328 : Nat) ({ cls := "OwlYearsModel", name := "takenOut", desc := "()I" } : Jvm.MethodName)) ∈ lw_all := lw_g (lw_at lw_m12 48 rfl) rfl
theorem q2810 : (Jvm.Cond.methodLink "OwlYearsLaw" (332 : Nat) ({ cls := "OwlYearsModel", name := "eaten", desc := "()I" } : Jvm.MethodName)) ∈ lw_all := lw_g (lw_at lw_m12 52 rfl) rfl
theorem q2814 : (Jvm.Cond.methodLink "OwlYearsLaw" (336 : Nat) ({ cls := "OwlYearsModel", name := "mostOwls", desc := "()I" } : Jvm.MethodName)) ∈ lw_all := lw_g (lw_at lw_m12 56 rfl) rfl
theorem q2818 : (Jvm.Cond.methodLink "OwlYearsLaw" (340 : Nat) ({ cls := "OwlYearsModel", name := "deaths", desc := "()I" } : Jvm.MethodName)) ∈ lw_all := lw_g (lw_at lw_m12 60 rfl) rfl
theorem q2822 : (Jvm.Cond.methodLink "OwlYearsLaw" (343 : Nat) ({ cls := "OwlYearsModel", name := "deathRing", desc := "(I)I" } : Jvm.MethodName)) ∈ lw_all := lw_g (lw_at lw_m12 64 rfl) rfl
theorem q2834 : (Jvm.Cond.methodLink "OwlYearsLaw" (346 : Nat) ({ cls := "OwlYearsModel", name := "deathCause", desc := "(I)I" } : Jvm.MethodName)) ∈ lw_all := lw_g (lw_at lw_m12 76 rfl) rfl
theorem q2838 : (Jvm.Cond.methodLink "OwlYearsLaw" (349 : Nat) ({ cls := "OwlYearsModel", name := "deathYear", desc := "(I)I" } : Jvm.MethodName)) ∈ lw_all := lw_g (lw_at lw_m12 80 rfl) rfl
theorem q2842 : (Jvm.Cond.methodLink "OwlYearsLaw" (353 : Nat) ({ cls := "OwlYearsModel", name := "bestSquare", desc := "()I" } : Jvm.MethodName)) ∈ lw_all := lw_g (lw_at lw_m12 84 rfl) rfl
theorem q2850 : (Jvm.Cond.methodLink "OwlYearsLaw" (356 : Nat) ({ cls := "OwlYearsModel", name := "owlsIn", desc := "(I)I" } : Jvm.MethodName)) ∈ lw_all := lw_g (lw_at lw_m12 92 rfl) rfl
theorem q2866 : (Jvm.Cond.methodLink "OwlYearsLaw" (360 : Nat) ({ cls := "OwlYearsModel", name := "owlsWithRoad", desc := "(IZI)I" } : Jvm.MethodName)) ∈ lw_all := lw_g (lw_at lw_m12 108 rfl) rfl
theorem q2874 : (Jvm.Cond.methodLink "OwlYearsLaw" (364 : Nat) ({ cls := "OwlYearsModel", name := "yearsUntilGone", desc := "()I" } : Jvm.MethodName)) ∈ lw_all := lw_g (lw_at lw_m12 116 rfl) rfl
theorem q2878 : (Jvm.Cond.methodLink "OwlYearsLaw" (368 : Nat) ({ cls := "OwlYearsModel", name := "bestRow", desc := "()I" } : Jvm.MethodName)) ∈ lw_all := lw_g (lw_at lw_m12 120 rfl) rfl
theorem q2882 : (Jvm.Cond.methodLink "OwlYearsLaw" (372 : Nat) ({ cls := "OwlYearsModel", name := "keep", desc := "()I" } : Jvm.MethodName)) ∈ lw_all := lw_g (lw_at lw_m12 124 rfl) rfl
theorem q2886 : (Jvm.Cond.methodLink "OwlYearsLaw" (376 : Nat) ({ cls := "OwlYearsModel", name := "goBack", desc := "()I" } : Jvm.MethodName)) ∈ lw_all := lw_g (lw_at lw_m12 128 rfl) rfl
theorem q2890 : (Jvm.Cond.methodLink "OwlYearsLaw" (379 : Nat) ({ cls := "OwlYearsModel", name := "append", desc := "(I)I" } : Jvm.MethodName)) ∈ lw_all := lw_g (lw_at lw_m12 132 rfl) rfl
theorem q2894 : (Jvm.Cond.methodLink "OwlYearsLaw" (383 : Nat) ({ cls := "OwlYearsModel", name := "clearText", desc := "()I" } : Jvm.MethodName)) ∈ lw_all := lw_g (lw_at lw_m12 136 rfl) rfl
theorem q2898 : (Jvm.Cond.methodLink "OwlYearsLaw" (387 : Nat) ({ cls := "OwlYearsModel", name := "firstError", desc := "()I" } : Jvm.MethodName)) ∈ lw_all := lw_g (lw_at lw_m12 140 rfl) rfl
theorem q2922 : (Jvm.Cond.methodLink "OwlYearsLaw" (390 : Nat) ({ cls := "OwlYearsModel", name := "doWorks", desc := "()I" } : Jvm.MethodName)) ∈ lw_all := lw_g (lw_at lw_m12 164 rfl) rfl
theorem q2938 : (Jvm.Cond.methodLink "OwlYearsLaw" (393 : Nat) ({ cls := "OwlYearsModel", name := "undo", desc := "()I" } : Jvm.MethodName)) ∈ lw_all := lw_g (lw_at lw_m12 180 rfl) rfl
theorem q2942 : (Jvm.Cond.methodLink "OwlYearsLaw" (398 : Nat) ({ cls := "OwlYearsModel", name := "digest", desc := "()J" } : Jvm.MethodName)) ∈ lw_all := lw_g (lw_at lw_m12 184 rfl) rfl
