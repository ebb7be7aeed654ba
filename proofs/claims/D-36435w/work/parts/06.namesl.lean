/-! SelectoRouteLaw -/
set_option maxRecDepth 100000
def RX0 : String := "SelectoRouteLaw"
abbrev cX0_addDisc : ByteArray := method_3_code
def yX0_addDisc : MethodName := ⟨RX0, "addDisc", "(LSelectoRoute;III[J)I"⟩
def dkwX0_addDisc_1 : List UInt8 := [172]
abbrev dktX0_addDisc_1 : List UInt8 := dkwX0_addDisc_1 ++ []
def dkwX0_addDisc_0 : List UInt8 := [25, 4, 3, 42, 27, 28, 29, 182, 0, 7, 133, 80, 167, 0, 11, 58, 5, 4, 172, 58, 5, 5, 172, 3]
abbrev dktX0_addDisc_0 : List UInt8 := dkwX0_addDisc_0 ++ dktX0_addDisc_1
theorem dksX0_addDisc_0 : cX0_addDisc.data.toList.drop 0 = dktX0_addDisc_0 := by decide +kernel
theorem dksX0_addDisc_1 : cX0_addDisc.data.toList.drop 24 = dktX0_addDisc_1 := dk_seg dksX0_addDisc_0 24 rfl rfl
theorem dX0_addDisc_0 : decode cX0_addDisc 0 = .ok (.aload 4, 2) := dk_25 4 (dk_at dksX0_addDisc_0 0 rfl rfl)
theorem dX0_addDisc_2 : decode cX0_addDisc 2 = .ok (.iconst 0, 1) := dk_3 (dk_at dksX0_addDisc_0 2 rfl rfl)
theorem dX0_addDisc_3 : decode cX0_addDisc 3 = .ok (.aload_n 0, 1) := dk_42 (dk_at dksX0_addDisc_0 3 rfl rfl)
theorem dX0_addDisc_4 : decode cX0_addDisc 4 = .ok (.iload_n 1, 1) := dk_27 (dk_at dksX0_addDisc_0 4 rfl rfl)
theorem dX0_addDisc_5 : decode cX0_addDisc 5 = .ok (.iload_n 2, 1) := dk_28 (dk_at dksX0_addDisc_0 5 rfl rfl)
theorem dX0_addDisc_6 : decode cX0_addDisc 6 = .ok (.iload_n 3, 1) := dk_29 (dk_at dksX0_addDisc_0 6 rfl rfl)
theorem dX0_addDisc_7 : decode cX0_addDisc 7 = .ok (.invokevirtual 7, 3) := dk_182 0 7 (dk_at dksX0_addDisc_0 7 rfl rfl)
theorem dX0_addDisc_10 : decode cX0_addDisc 10 = .ok (.i2l, 1) := dk_133 (dk_at dksX0_addDisc_0 10 rfl rfl)
theorem dX0_addDisc_11 : decode cX0_addDisc 11 = .ok (.lastore, 1) := dk_80 (dk_at dksX0_addDisc_0 11 rfl rfl)
theorem dX0_addDisc_12 : decode cX0_addDisc 12 = .ok (.goto 11, 3) := dk_167 0 11 (dk_at dksX0_addDisc_0 12 rfl rfl)
theorem dX0_addDisc_15 : decode cX0_addDisc 15 = .ok (.astore 5, 2) := dk_58 5 (dk_at dksX0_addDisc_0 15 rfl rfl)
theorem dX0_addDisc_17 : decode cX0_addDisc 17 = .ok (.iconst 1, 1) := dk_4 (dk_at dksX0_addDisc_0 17 rfl rfl)
theorem dX0_addDisc_18 : decode cX0_addDisc 18 = .ok (.ireturn, 1) := dk_172 (dk_at dksX0_addDisc_0 18 rfl rfl)
theorem dX0_addDisc_19 : decode cX0_addDisc 19 = .ok (.astore 5, 2) := dk_58 5 (dk_at dksX0_addDisc_0 19 rfl rfl)
theorem dX0_addDisc_21 : decode cX0_addDisc 21 = .ok (.iconst 2, 1) := dk_5 (dk_at dksX0_addDisc_0 21 rfl rfl)
theorem dX0_addDisc_22 : decode cX0_addDisc 22 = .ok (.ireturn, 1) := dk_172 (dk_at dksX0_addDisc_0 22 rfl rfl)
theorem dX0_addDisc_23 : decode cX0_addDisc 23 = .ok (.iconst 0, 1) := dk_3 (dk_at dksX0_addDisc_0 23 rfl rfl)
theorem dX0_addDisc_24 : decode cX0_addDisc 24 = .ok (.ireturn, 1) := dk_172 (dk_at dksX0_addDisc_1 0 rfl rfl)
abbrev cX0_addBox : ByteArray := method_4_code
def yX0_addBox : MethodName := ⟨RX0, "addBox", "(LSelectoRoute;II[J)I"⟩
def dkwX0_addBox_0 : List UInt8 := [45, 3, 42, 27, 28, 182, 0, 17, 133, 80, 167, 0, 11, 58, 4, 4, 172, 58, 4, 5, 172, 3, 172]
abbrev dktX0_addBox_0 : List UInt8 := dkwX0_addBox_0 ++ []
theorem dksX0_addBox_0 : cX0_addBox.data.toList.drop 0 = dktX0_addBox_0 := by decide +kernel
theorem dX0_addBox_0 : decode cX0_addBox 0 = .ok (.aload_n 3, 1) := dk_45 (dk_at dksX0_addBox_0 0 rfl rfl)
theorem dX0_addBox_1 : decode cX0_addBox 1 = .ok (.iconst 0, 1) := dk_3 (dk_at dksX0_addBox_0 1 rfl rfl)
theorem dX0_addBox_2 : decode cX0_addBox 2 = .ok (.aload_n 0, 1) := dk_42 (dk_at dksX0_addBox_0 2 rfl rfl)
theorem dX0_addBox_3 : decode cX0_addBox 3 = .ok (.iload_n 1, 1) := dk_27 (dk_at dksX0_addBox_0 3 rfl rfl)
theorem dX0_addBox_4 : decode cX0_addBox 4 = .ok (.iload_n 2, 1) := dk_28 (dk_at dksX0_addBox_0 4 rfl rfl)
theorem dX0_addBox_5 : decode cX0_addBox 5 = .ok (.invokevirtual 17, 3) := dk_182 0 17 (dk_at dksX0_addBox_0 5 rfl rfl)
theorem dX0_addBox_8 : decode cX0_addBox 8 = .ok (.i2l, 1) := dk_133 (dk_at dksX0_addBox_0 8 rfl rfl)
theorem dX0_addBox_9 : decode cX0_addBox 9 = .ok (.lastore, 1) := dk_80 (dk_at dksX0_addBox_0 9 rfl rfl)
theorem dX0_addBox_10 : decode cX0_addBox 10 = .ok (.goto 11, 3) := dk_167 0 11 (dk_at dksX0_addBox_0 10 rfl rfl)
theorem dX0_addBox_13 : decode cX0_addBox 13 = .ok (.astore 4, 2) := dk_58 4 (dk_at dksX0_addBox_0 13 rfl rfl)
theorem dX0_addBox_15 : decode cX0_addBox 15 = .ok (.iconst 1, 1) := dk_4 (dk_at dksX0_addBox_0 15 rfl rfl)
theorem dX0_addBox_16 : decode cX0_addBox 16 = .ok (.ireturn, 1) := dk_172 (dk_at dksX0_addBox_0 16 rfl rfl)
theorem dX0_addBox_17 : decode cX0_addBox 17 = .ok (.astore 4, 2) := dk_58 4 (dk_at dksX0_addBox_0 17 rfl rfl)
theorem dX0_addBox_19 : decode cX0_addBox 19 = .ok (.iconst 2, 1) := dk_5 (dk_at dksX0_addBox_0 19 rfl rfl)
theorem dX0_addBox_20 : decode cX0_addBox 20 = .ok (.ireturn, 1) := dk_172 (dk_at dksX0_addBox_0 20 rfl rfl)
theorem dX0_addBox_21 : decode cX0_addBox 21 = .ok (.iconst 0, 1) := dk_3 (dk_at dksX0_addBox_0 21 rfl rfl)
theorem dX0_addBox_22 : decode cX0_addBox 22 = .ok (.ireturn, 1) := dk_172 (dk_at dksX0_addBox_0 22 rfl rfl)
abbrev cX0_setRisk : ByteArray := method_5_code
def yX0_setRisk : MethodName := ⟨RX0, "setRisk", "(LSelectoRoute;II[J)I"⟩
def dkwX0_setRisk_0 : List UInt8 := [45, 3, 42, 27, 28, 182, 0, 21, 133, 80, 167, 0, 11, 58, 4, 4, 172, 58, 4, 5, 172, 3, 172]
abbrev dktX0_setRisk_0 : List UInt8 := dkwX0_setRisk_0 ++ []
theorem dksX0_setRisk_0 : cX0_setRisk.data.toList.drop 0 = dktX0_setRisk_0 := by decide +kernel
theorem dX0_setRisk_0 : decode cX0_setRisk 0 = .ok (.aload_n 3, 1) := dk_45 (dk_at dksX0_setRisk_0 0 rfl rfl)
theorem dX0_setRisk_1 : decode cX0_setRisk 1 = .ok (.iconst 0, 1) := dk_3 (dk_at dksX0_setRisk_0 1 rfl rfl)
theorem dX0_setRisk_2 : decode cX0_setRisk 2 = .ok (.aload_n 0, 1) := dk_42 (dk_at dksX0_setRisk_0 2 rfl rfl)
theorem dX0_setRisk_3 : decode cX0_setRisk 3 = .ok (.iload_n 1, 1) := dk_27 (dk_at dksX0_setRisk_0 3 rfl rfl)
theorem dX0_setRisk_4 : decode cX0_setRisk 4 = .ok (.iload_n 2, 1) := dk_28 (dk_at dksX0_setRisk_0 4 rfl rfl)
theorem dX0_setRisk_5 : decode cX0_setRisk 5 = .ok (.invokevirtual 21, 3) := dk_182 0 21 (dk_at dksX0_setRisk_0 5 rfl rfl)
theorem dX0_setRisk_8 : decode cX0_setRisk 8 = .ok (.i2l, 1) := dk_133 (dk_at dksX0_setRisk_0 8 rfl rfl)
theorem dX0_setRisk_9 : decode cX0_setRisk 9 = .ok (.lastore, 1) := dk_80 (dk_at dksX0_setRisk_0 9 rfl rfl)
theorem dX0_setRisk_10 : decode cX0_setRisk 10 = .ok (.goto 11, 3) := dk_167 0 11 (dk_at dksX0_setRisk_0 10 rfl rfl)
theorem dX0_setRisk_13 : decode cX0_setRisk 13 = .ok (.astore 4, 2) := dk_58 4 (dk_at dksX0_setRisk_0 13 rfl rfl)
theorem dX0_setRisk_15 : decode cX0_setRisk 15 = .ok (.iconst 1, 1) := dk_4 (dk_at dksX0_setRisk_0 15 rfl rfl)
theorem dX0_setRisk_16 : decode cX0_setRisk 16 = .ok (.ireturn, 1) := dk_172 (dk_at dksX0_setRisk_0 16 rfl rfl)
theorem dX0_setRisk_17 : decode cX0_setRisk 17 = .ok (.astore 4, 2) := dk_58 4 (dk_at dksX0_setRisk_0 17 rfl rfl)
theorem dX0_setRisk_19 : decode cX0_setRisk 19 = .ok (.iconst 2, 1) := dk_5 (dk_at dksX0_setRisk_0 19 rfl rfl)
theorem dX0_setRisk_20 : decode cX0_setRisk 20 = .ok (.ireturn, 1) := dk_172 (dk_at dksX0_setRisk_0 20 rfl rfl)
theorem dX0_setRisk_21 : decode cX0_setRisk 21 = .ok (.iconst 0, 1) := dk_3 (dk_at dksX0_setRisk_0 21 rfl rfl)
theorem dX0_setRisk_22 : decode cX0_setRisk 22 = .ok (.ireturn, 1) := dk_172 (dk_at dksX0_setRisk_0 22 rfl rfl)
abbrev cX0_setSeed : ByteArray := method_6_code
def yX0_setSeed : MethodName := ⟨RX0, "setSeed", "(LSelectoRoute;I[J)I"⟩
def dkwX0_setSeed_0 : List UInt8 := [44, 3, 42, 27, 182, 0, 26, 133, 80, 167, 0, 6, 78, 4, 172, 3, 172]
abbrev dktX0_setSeed_0 : List UInt8 := dkwX0_setSeed_0 ++ []
theorem dksX0_setSeed_0 : cX0_setSeed.data.toList.drop 0 = dktX0_setSeed_0 := by decide +kernel
theorem dX0_setSeed_0 : decode cX0_setSeed 0 = .ok (.aload_n 2, 1) := dk_44 (dk_at dksX0_setSeed_0 0 rfl rfl)
theorem dX0_setSeed_1 : decode cX0_setSeed 1 = .ok (.iconst 0, 1) := dk_3 (dk_at dksX0_setSeed_0 1 rfl rfl)
theorem dX0_setSeed_2 : decode cX0_setSeed 2 = .ok (.aload_n 0, 1) := dk_42 (dk_at dksX0_setSeed_0 2 rfl rfl)
theorem dX0_setSeed_3 : decode cX0_setSeed 3 = .ok (.iload_n 1, 1) := dk_27 (dk_at dksX0_setSeed_0 3 rfl rfl)
theorem dX0_setSeed_4 : decode cX0_setSeed 4 = .ok (.invokevirtual 26, 3) := dk_182 0 26 (dk_at dksX0_setSeed_0 4 rfl rfl)
theorem dX0_setSeed_7 : decode cX0_setSeed 7 = .ok (.i2l, 1) := dk_133 (dk_at dksX0_setSeed_0 7 rfl rfl)
theorem dX0_setSeed_8 : decode cX0_setSeed 8 = .ok (.lastore, 1) := dk_80 (dk_at dksX0_setSeed_0 8 rfl rfl)
theorem dX0_setSeed_9 : decode cX0_setSeed 9 = .ok (.goto 6, 3) := dk_167 0 6 (dk_at dksX0_setSeed_0 9 rfl rfl)
theorem dX0_setSeed_12 : decode cX0_setSeed 12 = .ok (.astore_n 3, 1) := dk_78 (dk_at dksX0_setSeed_0 12 rfl rfl)
theorem dX0_setSeed_13 : decode cX0_setSeed 13 = .ok (.iconst 1, 1) := dk_4 (dk_at dksX0_setSeed_0 13 rfl rfl)
theorem dX0_setSeed_14 : decode cX0_setSeed 14 = .ok (.ireturn, 1) := dk_172 (dk_at dksX0_setSeed_0 14 rfl rfl)
theorem dX0_setSeed_15 : decode cX0_setSeed 15 = .ok (.iconst 0, 1) := dk_3 (dk_at dksX0_setSeed_0 15 rfl rfl)
theorem dX0_setSeed_16 : decode cX0_setSeed 16 = .ok (.ireturn, 1) := dk_172 (dk_at dksX0_setSeed_0 16 rfl rfl)
abbrev cX0_insert : ByteArray := method_7_code
def yX0_insert : MethodName := ⟨RX0, "insert", "(LSelectoRoute;IC[J)I"⟩
def dkwX0_insert_1 : List UInt8 := [172, 58, 4, 7, 172, 3, 172]
abbrev dktX0_insert_1 : List UInt8 := dkwX0_insert_1 ++ []
def dkwX0_insert_0 : List UInt8 := [45, 3, 42, 27, 28, 182, 0, 30, 133, 80, 167, 0, 19, 58, 4, 4, 172, 58, 4, 5, 172, 58, 4, 6]
abbrev dktX0_insert_0 : List UInt8 := dkwX0_insert_0 ++ dktX0_insert_1
theorem dksX0_insert_0 : cX0_insert.data.toList.drop 0 = dktX0_insert_0 := by decide +kernel
theorem dksX0_insert_1 : cX0_insert.data.toList.drop 24 = dktX0_insert_1 := dk_seg dksX0_insert_0 24 rfl rfl
theorem dX0_insert_0 : decode cX0_insert 0 = .ok (.aload_n 3, 1) := dk_45 (dk_at dksX0_insert_0 0 rfl rfl)
theorem dX0_insert_1 : decode cX0_insert 1 = .ok (.iconst 0, 1) := dk_3 (dk_at dksX0_insert_0 1 rfl rfl)
theorem dX0_insert_2 : decode cX0_insert 2 = .ok (.aload_n 0, 1) := dk_42 (dk_at dksX0_insert_0 2 rfl rfl)
theorem dX0_insert_3 : decode cX0_insert 3 = .ok (.iload_n 1, 1) := dk_27 (dk_at dksX0_insert_0 3 rfl rfl)
theorem dX0_insert_4 : decode cX0_insert 4 = .ok (.iload_n 2, 1) := dk_28 (dk_at dksX0_insert_0 4 rfl rfl)
theorem dX0_insert_5 : decode cX0_insert 5 = .ok (.invokevirtual 30, 3) := dk_182 0 30 (dk_at dksX0_insert_0 5 rfl rfl)
theorem dX0_insert_8 : decode cX0_insert 8 = .ok (.i2l, 1) := dk_133 (dk_at dksX0_insert_0 8 rfl rfl)
theorem dX0_insert_9 : decode cX0_insert 9 = .ok (.lastore, 1) := dk_80 (dk_at dksX0_insert_0 9 rfl rfl)
theorem dX0_insert_10 : decode cX0_insert 10 = .ok (.goto 19, 3) := dk_167 0 19 (dk_at dksX0_insert_0 10 rfl rfl)
theorem dX0_insert_13 : decode cX0_insert 13 = .ok (.astore 4, 2) := dk_58 4 (dk_at dksX0_insert_0 13 rfl rfl)
theorem dX0_insert_15 : decode cX0_insert 15 = .ok (.iconst 1, 1) := dk_4 (dk_at dksX0_insert_0 15 rfl rfl)
theorem dX0_insert_16 : decode cX0_insert 16 = .ok (.ireturn, 1) := dk_172 (dk_at dksX0_insert_0 16 rfl rfl)
theorem dX0_insert_17 : decode cX0_insert 17 = .ok (.astore 4, 2) := dk_58 4 (dk_at dksX0_insert_0 17 rfl rfl)
theorem dX0_insert_19 : decode cX0_insert 19 = .ok (.iconst 2, 1) := dk_5 (dk_at dksX0_insert_0 19 rfl rfl)
theorem dX0_insert_20 : decode cX0_insert 20 = .ok (.ireturn, 1) := dk_172 (dk_at dksX0_insert_0 20 rfl rfl)
theorem dX0_insert_21 : decode cX0_insert 21 = .ok (.astore 4, 2) := dk_58 4 (dk_at dksX0_insert_0 21 rfl rfl)
theorem dX0_insert_23 : decode cX0_insert 23 = .ok (.iconst 3, 1) := dk_6 (dk_at dksX0_insert_0 23 rfl rfl)
theorem dX0_insert_24 : decode cX0_insert 24 = .ok (.ireturn, 1) := dk_172 (dk_at dksX0_insert_1 0 rfl rfl)
theorem dX0_insert_25 : decode cX0_insert 25 = .ok (.astore 4, 2) := dk_58 4 (dk_at dksX0_insert_1 1 rfl rfl)
theorem dX0_insert_27 : decode cX0_insert 27 = .ok (.iconst 4, 1) := dk_7 (dk_at dksX0_insert_1 3 rfl rfl)
theorem dX0_insert_28 : decode cX0_insert 28 = .ok (.ireturn, 1) := dk_172 (dk_at dksX0_insert_1 4 rfl rfl)
theorem dX0_insert_29 : decode cX0_insert 29 = .ok (.iconst 0, 1) := dk_3 (dk_at dksX0_insert_1 5 rfl rfl)
theorem dX0_insert_30 : decode cX0_insert 30 = .ok (.ireturn, 1) := dk_172 (dk_at dksX0_insert_1 6 rfl rfl)
abbrev cX0_press : ByteArray := method_8_code
def yX0_press : MethodName := ⟨RX0, "press", "(LSelectoRoute;II[J)I"⟩
def dkwX0_press_1 : List UInt8 := [172, 3, 172]
abbrev dktX0_press_1 : List UInt8 := dkwX0_press_1 ++ []
def dkwX0_press_0 : List UInt8 := [45, 3, 42, 27, 28, 182, 0, 36, 133, 80, 167, 0, 15, 58, 4, 4, 172, 58, 4, 5, 172, 58, 4, 6]
abbrev dktX0_press_0 : List UInt8 := dkwX0_press_0 ++ dktX0_press_1
theorem dksX0_press_0 : cX0_press.data.toList.drop 0 = dktX0_press_0 := by decide +kernel
theorem dksX0_press_1 : cX0_press.data.toList.drop 24 = dktX0_press_1 := dk_seg dksX0_press_0 24 rfl rfl
theorem dX0_press_0 : decode cX0_press 0 = .ok (.aload_n 3, 1) := dk_45 (dk_at dksX0_press_0 0 rfl rfl)
theorem dX0_press_1 : decode cX0_press 1 = .ok (.iconst 0, 1) := dk_3 (dk_at dksX0_press_0 1 rfl rfl)
theorem dX0_press_2 : decode cX0_press 2 = .ok (.aload_n 0, 1) := dk_42 (dk_at dksX0_press_0 2 rfl rfl)
theorem dX0_press_3 : decode cX0_press 3 = .ok (.iload_n 1, 1) := dk_27 (dk_at dksX0_press_0 3 rfl rfl)
theorem dX0_press_4 : decode cX0_press 4 = .ok (.iload_n 2, 1) := dk_28 (dk_at dksX0_press_0 4 rfl rfl)
theorem dX0_press_5 : decode cX0_press 5 = .ok (.invokevirtual 36, 3) := dk_182 0 36 (dk_at dksX0_press_0 5 rfl rfl)
theorem dX0_press_8 : decode cX0_press 8 = .ok (.i2l, 1) := dk_133 (dk_at dksX0_press_0 8 rfl rfl)
theorem dX0_press_9 : decode cX0_press 9 = .ok (.lastore, 1) := dk_80 (dk_at dksX0_press_0 9 rfl rfl)
theorem dX0_press_10 : decode cX0_press 10 = .ok (.goto 15, 3) := dk_167 0 15 (dk_at dksX0_press_0 10 rfl rfl)
theorem dX0_press_13 : decode cX0_press 13 = .ok (.astore 4, 2) := dk_58 4 (dk_at dksX0_press_0 13 rfl rfl)
theorem dX0_press_15 : decode cX0_press 15 = .ok (.iconst 1, 1) := dk_4 (dk_at dksX0_press_0 15 rfl rfl)
theorem dX0_press_16 : decode cX0_press 16 = .ok (.ireturn, 1) := dk_172 (dk_at dksX0_press_0 16 rfl rfl)
theorem dX0_press_17 : decode cX0_press 17 = .ok (.astore 4, 2) := dk_58 4 (dk_at dksX0_press_0 17 rfl rfl)
theorem dX0_press_19 : decode cX0_press 19 = .ok (.iconst 2, 1) := dk_5 (dk_at dksX0_press_0 19 rfl rfl)
theorem dX0_press_20 : decode cX0_press 20 = .ok (.ireturn, 1) := dk_172 (dk_at dksX0_press_0 20 rfl rfl)
theorem dX0_press_21 : decode cX0_press 21 = .ok (.astore 4, 2) := dk_58 4 (dk_at dksX0_press_0 21 rfl rfl)
theorem dX0_press_23 : decode cX0_press 23 = .ok (.iconst 3, 1) := dk_6 (dk_at dksX0_press_0 23 rfl rfl)
theorem dX0_press_24 : decode cX0_press 24 = .ok (.ireturn, 1) := dk_172 (dk_at dksX0_press_1 0 rfl rfl)
theorem dX0_press_25 : decode cX0_press 25 = .ok (.iconst 0, 1) := dk_3 (dk_at dksX0_press_1 1 rfl rfl)
theorem dX0_press_26 : decode cX0_press 26 = .ok (.ireturn, 1) := dk_172 (dk_at dksX0_press_1 2 rfl rfl)
abbrev cX0_play : ByteArray := method_9_code
def yX0_play : MethodName := ⟨RX0, "play", "(LSelectoRoute;I[J)I"⟩
def dkwX0_play_0 : List UInt8 := [44, 3, 42, 27, 182, 0, 39, 133, 80, 167, 0, 12, 78, 4, 172, 78, 5, 172, 78, 6, 172, 3, 172]
abbrev dktX0_play_0 : List UInt8 := dkwX0_play_0 ++ []
theorem dksX0_play_0 : cX0_play.data.toList.drop 0 = dktX0_play_0 := by decide +kernel
theorem dX0_play_0 : decode cX0_play 0 = .ok (.aload_n 2, 1) := dk_44 (dk_at dksX0_play_0 0 rfl rfl)
theorem dX0_play_1 : decode cX0_play 1 = .ok (.iconst 0, 1) := dk_3 (dk_at dksX0_play_0 1 rfl rfl)
theorem dX0_play_2 : decode cX0_play 2 = .ok (.aload_n 0, 1) := dk_42 (dk_at dksX0_play_0 2 rfl rfl)
theorem dX0_play_3 : decode cX0_play 3 = .ok (.iload_n 1, 1) := dk_27 (dk_at dksX0_play_0 3 rfl rfl)
theorem dX0_play_4 : decode cX0_play 4 = .ok (.invokevirtual 39, 3) := dk_182 0 39 (dk_at dksX0_play_0 4 rfl rfl)
theorem dX0_play_7 : decode cX0_play 7 = .ok (.i2l, 1) := dk_133 (dk_at dksX0_play_0 7 rfl rfl)
theorem dX0_play_8 : decode cX0_play 8 = .ok (.lastore, 1) := dk_80 (dk_at dksX0_play_0 8 rfl rfl)
theorem dX0_play_9 : decode cX0_play 9 = .ok (.goto 12, 3) := dk_167 0 12 (dk_at dksX0_play_0 9 rfl rfl)
theorem dX0_play_12 : decode cX0_play 12 = .ok (.astore_n 3, 1) := dk_78 (dk_at dksX0_play_0 12 rfl rfl)
theorem dX0_play_13 : decode cX0_play 13 = .ok (.iconst 1, 1) := dk_4 (dk_at dksX0_play_0 13 rfl rfl)
theorem dX0_play_14 : decode cX0_play 14 = .ok (.ireturn, 1) := dk_172 (dk_at dksX0_play_0 14 rfl rfl)
theorem dX0_play_15 : decode cX0_play 15 = .ok (.astore_n 3, 1) := dk_78 (dk_at dksX0_play_0 15 rfl rfl)
theorem dX0_play_16 : decode cX0_play 16 = .ok (.iconst 2, 1) := dk_5 (dk_at dksX0_play_0 16 rfl rfl)
theorem dX0_play_17 : decode cX0_play 17 = .ok (.ireturn, 1) := dk_172 (dk_at dksX0_play_0 17 rfl rfl)
theorem dX0_play_18 : decode cX0_play 18 = .ok (.astore_n 3, 1) := dk_78 (dk_at dksX0_play_0 18 rfl rfl)
theorem dX0_play_19 : decode cX0_play 19 = .ok (.iconst 3, 1) := dk_6 (dk_at dksX0_play_0 19 rfl rfl)
theorem dX0_play_20 : decode cX0_play 20 = .ok (.ireturn, 1) := dk_172 (dk_at dksX0_play_0 20 rfl rfl)
theorem dX0_play_21 : decode cX0_play 21 = .ok (.iconst 0, 1) := dk_3 (dk_at dksX0_play_0 21 rfl rfl)
theorem dX0_play_22 : decode cX0_play 22 = .ok (.ireturn, 1) := dk_172 (dk_at dksX0_play_0 22 rfl rfl)
abbrev cX0_getCredits : ByteArray := method_10_code
def yX0_getCredits : MethodName := ⟨RX0, "getCredits", "(LSelectoRoute;I[J)I"⟩
def dkwX0_getCredits_0 : List UInt8 := [44, 3, 42, 27, 182, 0, 45, 133, 80, 167, 0, 6, 78, 4, 172, 3, 172]
abbrev dktX0_getCredits_0 : List UInt8 := dkwX0_getCredits_0 ++ []
theorem dksX0_getCredits_0 : cX0_getCredits.data.toList.drop 0 = dktX0_getCredits_0 := by decide +kernel
theorem dX0_getCredits_0 : decode cX0_getCredits 0 = .ok (.aload_n 2, 1) := dk_44 (dk_at dksX0_getCredits_0 0 rfl rfl)
theorem dX0_getCredits_1 : decode cX0_getCredits 1 = .ok (.iconst 0, 1) := dk_3 (dk_at dksX0_getCredits_0 1 rfl rfl)
theorem dX0_getCredits_2 : decode cX0_getCredits 2 = .ok (.aload_n 0, 1) := dk_42 (dk_at dksX0_getCredits_0 2 rfl rfl)
theorem dX0_getCredits_3 : decode cX0_getCredits 3 = .ok (.iload_n 1, 1) := dk_27 (dk_at dksX0_getCredits_0 3 rfl rfl)
theorem dX0_getCredits_4 : decode cX0_getCredits 4 = .ok (.invokevirtual 45, 3) := dk_182 0 45 (dk_at dksX0_getCredits_0 4 rfl rfl)
theorem dX0_getCredits_7 : decode cX0_getCredits 7 = .ok (.i2l, 1) := dk_133 (dk_at dksX0_getCredits_0 7 rfl rfl)
theorem dX0_getCredits_8 : decode cX0_getCredits 8 = .ok (.lastore, 1) := dk_80 (dk_at dksX0_getCredits_0 8 rfl rfl)
theorem dX0_getCredits_9 : decode cX0_getCredits 9 = .ok (.goto 6, 3) := dk_167 0 6 (dk_at dksX0_getCredits_0 9 rfl rfl)
theorem dX0_getCredits_12 : decode cX0_getCredits 12 = .ok (.astore_n 3, 1) := dk_78 (dk_at dksX0_getCredits_0 12 rfl rfl)
theorem dX0_getCredits_13 : decode cX0_getCredits 13 = .ok (.iconst 1, 1) := dk_4 (dk_at dksX0_getCredits_0 13 rfl rfl)
theorem dX0_getCredits_14 : decode cX0_getCredits 14 = .ok (.ireturn, 1) := dk_172 (dk_at dksX0_getCredits_0 14 rfl rfl)
theorem dX0_getCredits_15 : decode cX0_getCredits 15 = .ok (.iconst 0, 1) := dk_3 (dk_at dksX0_getCredits_0 15 rfl rfl)
theorem dX0_getCredits_16 : decode cX0_getCredits 16 = .ok (.ireturn, 1) := dk_172 (dk_at dksX0_getCredits_0 16 rfl rfl)
abbrev cX0_getQueued : ByteArray := method_11_code
def yX0_getQueued : MethodName := ⟨RX0, "getQueued", "(LSelectoRoute;I[J)I"⟩
def dkwX0_getQueued_0 : List UInt8 := [44, 3, 42, 27, 182, 0, 48, 133, 80, 167, 0, 6, 78, 4, 172, 3, 172]
abbrev dktX0_getQueued_0 : List UInt8 := dkwX0_getQueued_0 ++ []
theorem dksX0_getQueued_0 : cX0_getQueued.data.toList.drop 0 = dktX0_getQueued_0 := by decide +kernel
theorem dX0_getQueued_0 : decode cX0_getQueued 0 = .ok (.aload_n 2, 1) := dk_44 (dk_at dksX0_getQueued_0 0 rfl rfl)
theorem dX0_getQueued_1 : decode cX0_getQueued 1 = .ok (.iconst 0, 1) := dk_3 (dk_at dksX0_getQueued_0 1 rfl rfl)
theorem dX0_getQueued_2 : decode cX0_getQueued 2 = .ok (.aload_n 0, 1) := dk_42 (dk_at dksX0_getQueued_0 2 rfl rfl)
theorem dX0_getQueued_3 : decode cX0_getQueued 3 = .ok (.iload_n 1, 1) := dk_27 (dk_at dksX0_getQueued_0 3 rfl rfl)
theorem dX0_getQueued_4 : decode cX0_getQueued 4 = .ok (.invokevirtual 48, 3) := dk_182 0 48 (dk_at dksX0_getQueued_0 4 rfl rfl)
theorem dX0_getQueued_7 : decode cX0_getQueued 7 = .ok (.i2l, 1) := dk_133 (dk_at dksX0_getQueued_0 7 rfl rfl)
theorem dX0_getQueued_8 : decode cX0_getQueued 8 = .ok (.lastore, 1) := dk_80 (dk_at dksX0_getQueued_0 8 rfl rfl)
theorem dX0_getQueued_9 : decode cX0_getQueued 9 = .ok (.goto 6, 3) := dk_167 0 6 (dk_at dksX0_getQueued_0 9 rfl rfl)
theorem dX0_getQueued_12 : decode cX0_getQueued 12 = .ok (.astore_n 3, 1) := dk_78 (dk_at dksX0_getQueued_0 12 rfl rfl)
theorem dX0_getQueued_13 : decode cX0_getQueued 13 = .ok (.iconst 1, 1) := dk_4 (dk_at dksX0_getQueued_0 13 rfl rfl)
theorem dX0_getQueued_14 : decode cX0_getQueued 14 = .ok (.ireturn, 1) := dk_172 (dk_at dksX0_getQueued_0 14 rfl rfl)
theorem dX0_getQueued_15 : decode cX0_getQueued 15 = .ok (.iconst 0, 1) := dk_3 (dk_at dksX0_getQueued_0 15 rfl rfl)
theorem dX0_getQueued_16 : decode cX0_getQueued 16 = .ok (.ireturn, 1) := dk_172 (dk_at dksX0_getQueued_0 16 rfl rfl)
abbrev cX0_getCents : ByteArray := method_12_code
def yX0_getCents : MethodName := ⟨RX0, "getCents", "(LSelectoRoute;I[J)I"⟩
def dkwX0_getCents_0 : List UInt8 := [44, 3, 42, 27, 182, 0, 51, 133, 80, 167, 0, 6, 78, 4, 172, 3, 172]
abbrev dktX0_getCents_0 : List UInt8 := dkwX0_getCents_0 ++ []
theorem dksX0_getCents_0 : cX0_getCents.data.toList.drop 0 = dktX0_getCents_0 := by decide +kernel
theorem dX0_getCents_0 : decode cX0_getCents 0 = .ok (.aload_n 2, 1) := dk_44 (dk_at dksX0_getCents_0 0 rfl rfl)
theorem dX0_getCents_1 : decode cX0_getCents 1 = .ok (.iconst 0, 1) := dk_3 (dk_at dksX0_getCents_0 1 rfl rfl)
theorem dX0_getCents_2 : decode cX0_getCents 2 = .ok (.aload_n 0, 1) := dk_42 (dk_at dksX0_getCents_0 2 rfl rfl)
theorem dX0_getCents_3 : decode cX0_getCents 3 = .ok (.iload_n 1, 1) := dk_27 (dk_at dksX0_getCents_0 3 rfl rfl)
theorem dX0_getCents_4 : decode cX0_getCents 4 = .ok (.invokevirtual 51, 3) := dk_182 0 51 (dk_at dksX0_getCents_0 4 rfl rfl)
theorem dX0_getCents_7 : decode cX0_getCents 7 = .ok (.i2l, 1) := dk_133 (dk_at dksX0_getCents_0 7 rfl rfl)
theorem dX0_getCents_8 : decode cX0_getCents 8 = .ok (.lastore, 1) := dk_80 (dk_at dksX0_getCents_0 8 rfl rfl)
theorem dX0_getCents_9 : decode cX0_getCents 9 = .ok (.goto 6, 3) := dk_167 0 6 (dk_at dksX0_getCents_0 9 rfl rfl)
theorem dX0_getCents_12 : decode cX0_getCents 12 = .ok (.astore_n 3, 1) := dk_78 (dk_at dksX0_getCents_0 12 rfl rfl)
theorem dX0_getCents_13 : decode cX0_getCents 13 = .ok (.iconst 1, 1) := dk_4 (dk_at dksX0_getCents_0 13 rfl rfl)
theorem dX0_getCents_14 : decode cX0_getCents 14 = .ok (.ireturn, 1) := dk_172 (dk_at dksX0_getCents_0 14 rfl rfl)
theorem dX0_getCents_15 : decode cX0_getCents 15 = .ok (.iconst 0, 1) := dk_3 (dk_at dksX0_getCents_0 15 rfl rfl)
theorem dX0_getCents_16 : decode cX0_getCents 16 = .ok (.ireturn, 1) := dk_172 (dk_at dksX0_getCents_0 16 rfl rfl)
abbrev cX0_isJammed : ByteArray := method_13_code
def yX0_isJammed : MethodName := ⟨RX0, "isJammed", "(LSelectoRoute;I[J)I"⟩
def dkwX0_isJammed_0 : List UInt8 := [44, 3, 42, 27, 182, 0, 54, 153, 0, 7, 10, 167, 0, 4, 9, 80, 167, 0, 6, 78, 4, 172, 3, 172]
abbrev dktX0_isJammed_0 : List UInt8 := dkwX0_isJammed_0 ++ []
theorem dksX0_isJammed_0 : cX0_isJammed.data.toList.drop 0 = dktX0_isJammed_0 := by decide +kernel
theorem dX0_isJammed_0 : decode cX0_isJammed 0 = .ok (.aload_n 2, 1) := dk_44 (dk_at dksX0_isJammed_0 0 rfl rfl)
theorem dX0_isJammed_1 : decode cX0_isJammed 1 = .ok (.iconst 0, 1) := dk_3 (dk_at dksX0_isJammed_0 1 rfl rfl)
theorem dX0_isJammed_2 : decode cX0_isJammed 2 = .ok (.aload_n 0, 1) := dk_42 (dk_at dksX0_isJammed_0 2 rfl rfl)
theorem dX0_isJammed_3 : decode cX0_isJammed 3 = .ok (.iload_n 1, 1) := dk_27 (dk_at dksX0_isJammed_0 3 rfl rfl)
theorem dX0_isJammed_4 : decode cX0_isJammed 4 = .ok (.invokevirtual 54, 3) := dk_182 0 54 (dk_at dksX0_isJammed_0 4 rfl rfl)
theorem dX0_isJammed_7 : decode cX0_isJammed 7 = .ok (.ifCond .eq 7, 3) := dk_153 0 7 (dk_at dksX0_isJammed_0 7 rfl rfl)
theorem dX0_isJammed_10 : decode cX0_isJammed 10 = .ok (.lconst 1, 1) := dk_10 (dk_at dksX0_isJammed_0 10 rfl rfl)
theorem dX0_isJammed_11 : decode cX0_isJammed 11 = .ok (.goto 4, 3) := dk_167 0 4 (dk_at dksX0_isJammed_0 11 rfl rfl)
theorem dX0_isJammed_14 : decode cX0_isJammed 14 = .ok (.lconst 0, 1) := dk_9 (dk_at dksX0_isJammed_0 14 rfl rfl)
theorem dX0_isJammed_15 : decode cX0_isJammed 15 = .ok (.lastore, 1) := dk_80 (dk_at dksX0_isJammed_0 15 rfl rfl)
theorem dX0_isJammed_16 : decode cX0_isJammed 16 = .ok (.goto 6, 3) := dk_167 0 6 (dk_at dksX0_isJammed_0 16 rfl rfl)
theorem dX0_isJammed_19 : decode cX0_isJammed 19 = .ok (.astore_n 3, 1) := dk_78 (dk_at dksX0_isJammed_0 19 rfl rfl)
theorem dX0_isJammed_20 : decode cX0_isJammed 20 = .ok (.iconst 1, 1) := dk_4 (dk_at dksX0_isJammed_0 20 rfl rfl)
theorem dX0_isJammed_21 : decode cX0_isJammed 21 = .ok (.ireturn, 1) := dk_172 (dk_at dksX0_isJammed_0 21 rfl rfl)
theorem dX0_isJammed_22 : decode cX0_isJammed 22 = .ok (.iconst 0, 1) := dk_3 (dk_at dksX0_isJammed_0 22 rfl rfl)
theorem dX0_isJammed_23 : decode cX0_isJammed 23 = .ok (.ireturn, 1) := dk_172 (dk_at dksX0_isJammed_0 23 rfl rfl)
abbrev cX0_getWheel : ByteArray := method_14_code
def yX0_getWheel : MethodName := ⟨RX0, "getWheel", "(LSelectoRoute;II[J)I"⟩
def dkwX0_getWheel_0 : List UInt8 := [45, 3, 42, 27, 28, 182, 0, 58, 133, 80, 167, 0, 7, 58, 4, 4, 172, 3, 172]
abbrev dktX0_getWheel_0 : List UInt8 := dkwX0_getWheel_0 ++ []
theorem dksX0_getWheel_0 : cX0_getWheel.data.toList.drop 0 = dktX0_getWheel_0 := by decide +kernel
theorem dX0_getWheel_0 : decode cX0_getWheel 0 = .ok (.aload_n 3, 1) := dk_45 (dk_at dksX0_getWheel_0 0 rfl rfl)
theorem dX0_getWheel_1 : decode cX0_getWheel 1 = .ok (.iconst 0, 1) := dk_3 (dk_at dksX0_getWheel_0 1 rfl rfl)
theorem dX0_getWheel_2 : decode cX0_getWheel 2 = .ok (.aload_n 0, 1) := dk_42 (dk_at dksX0_getWheel_0 2 rfl rfl)
theorem dX0_getWheel_3 : decode cX0_getWheel 3 = .ok (.iload_n 1, 1) := dk_27 (dk_at dksX0_getWheel_0 3 rfl rfl)
theorem dX0_getWheel_4 : decode cX0_getWheel 4 = .ok (.iload_n 2, 1) := dk_28 (dk_at dksX0_getWheel_0 4 rfl rfl)
theorem dX0_getWheel_5 : decode cX0_getWheel 5 = .ok (.invokevirtual 58, 3) := dk_182 0 58 (dk_at dksX0_getWheel_0 5 rfl rfl)
theorem dX0_getWheel_8 : decode cX0_getWheel 8 = .ok (.i2l, 1) := dk_133 (dk_at dksX0_getWheel_0 8 rfl rfl)
theorem dX0_getWheel_9 : decode cX0_getWheel 9 = .ok (.lastore, 1) := dk_80 (dk_at dksX0_getWheel_0 9 rfl rfl)
theorem dX0_getWheel_10 : decode cX0_getWheel 10 = .ok (.goto 7, 3) := dk_167 0 7 (dk_at dksX0_getWheel_0 10 rfl rfl)
theorem dX0_getWheel_13 : decode cX0_getWheel 13 = .ok (.astore 4, 2) := dk_58 4 (dk_at dksX0_getWheel_0 13 rfl rfl)
theorem dX0_getWheel_15 : decode cX0_getWheel 15 = .ok (.iconst 1, 1) := dk_4 (dk_at dksX0_getWheel_0 15 rfl rfl)
theorem dX0_getWheel_16 : decode cX0_getWheel 16 = .ok (.ireturn, 1) := dk_172 (dk_at dksX0_getWheel_0 16 rfl rfl)
theorem dX0_getWheel_17 : decode cX0_getWheel 17 = .ok (.iconst 0, 1) := dk_3 (dk_at dksX0_getWheel_0 17 rfl rfl)
theorem dX0_getWheel_18 : decode cX0_getWheel 18 = .ok (.ireturn, 1) := dk_172 (dk_at dksX0_getWheel_0 18 rfl rfl)
abbrev cX0_getNeedle : ByteArray := method_15_code
def yX0_getNeedle : MethodName := ⟨RX0, "getNeedle", "(LSelectoRoute;I[J)I"⟩
def dkwX0_getNeedle_0 : List UInt8 := [44, 3, 42, 27, 182, 0, 61, 133, 80, 167, 0, 6, 78, 4, 172, 3, 172]
abbrev dktX0_getNeedle_0 : List UInt8 := dkwX0_getNeedle_0 ++ []
theorem dksX0_getNeedle_0 : cX0_getNeedle.data.toList.drop 0 = dktX0_getNeedle_0 := by decide +kernel
theorem dX0_getNeedle_0 : decode cX0_getNeedle 0 = .ok (.aload_n 2, 1) := dk_44 (dk_at dksX0_getNeedle_0 0 rfl rfl)
theorem dX0_getNeedle_1 : decode cX0_getNeedle 1 = .ok (.iconst 0, 1) := dk_3 (dk_at dksX0_getNeedle_0 1 rfl rfl)
theorem dX0_getNeedle_2 : decode cX0_getNeedle 2 = .ok (.aload_n 0, 1) := dk_42 (dk_at dksX0_getNeedle_0 2 rfl rfl)
theorem dX0_getNeedle_3 : decode cX0_getNeedle 3 = .ok (.iload_n 1, 1) := dk_27 (dk_at dksX0_getNeedle_0 3 rfl rfl)
theorem dX0_getNeedle_4 : decode cX0_getNeedle 4 = .ok (.invokevirtual 61, 3) := dk_182 0 61 (dk_at dksX0_getNeedle_0 4 rfl rfl)
theorem dX0_getNeedle_7 : decode cX0_getNeedle 7 = .ok (.i2l, 1) := dk_133 (dk_at dksX0_getNeedle_0 7 rfl rfl)
theorem dX0_getNeedle_8 : decode cX0_getNeedle 8 = .ok (.lastore, 1) := dk_80 (dk_at dksX0_getNeedle_0 8 rfl rfl)
theorem dX0_getNeedle_9 : decode cX0_getNeedle 9 = .ok (.goto 6, 3) := dk_167 0 6 (dk_at dksX0_getNeedle_0 9 rfl rfl)
theorem dX0_getNeedle_12 : decode cX0_getNeedle 12 = .ok (.astore_n 3, 1) := dk_78 (dk_at dksX0_getNeedle_0 12 rfl rfl)
theorem dX0_getNeedle_13 : decode cX0_getNeedle 13 = .ok (.iconst 1, 1) := dk_4 (dk_at dksX0_getNeedle_0 13 rfl rfl)
theorem dX0_getNeedle_14 : decode cX0_getNeedle 14 = .ok (.ireturn, 1) := dk_172 (dk_at dksX0_getNeedle_0 14 rfl rfl)
theorem dX0_getNeedle_15 : decode cX0_getNeedle 15 = .ok (.iconst 0, 1) := dk_3 (dk_at dksX0_getNeedle_0 15 rfl rfl)
theorem dX0_getNeedle_16 : decode cX0_getNeedle 16 = .ok (.ireturn, 1) := dk_172 (dk_at dksX0_getNeedle_0 16 rfl rfl)
abbrev cX0_getWear : ByteArray := method_16_code
def yX0_getWear : MethodName := ⟨RX0, "getWear", "(LSelectoRoute;I[J)I"⟩
def dkwX0_getWear_0 : List UInt8 := [44, 3, 42, 27, 182, 0, 64, 133, 80, 167, 0, 6, 78, 4, 172, 3, 172]
abbrev dktX0_getWear_0 : List UInt8 := dkwX0_getWear_0 ++ []
theorem dksX0_getWear_0 : cX0_getWear.data.toList.drop 0 = dktX0_getWear_0 := by decide +kernel
theorem dX0_getWear_0 : decode cX0_getWear 0 = .ok (.aload_n 2, 1) := dk_44 (dk_at dksX0_getWear_0 0 rfl rfl)
theorem dX0_getWear_1 : decode cX0_getWear 1 = .ok (.iconst 0, 1) := dk_3 (dk_at dksX0_getWear_0 1 rfl rfl)
theorem dX0_getWear_2 : decode cX0_getWear 2 = .ok (.aload_n 0, 1) := dk_42 (dk_at dksX0_getWear_0 2 rfl rfl)
theorem dX0_getWear_3 : decode cX0_getWear 3 = .ok (.iload_n 1, 1) := dk_27 (dk_at dksX0_getWear_0 3 rfl rfl)
theorem dX0_getWear_4 : decode cX0_getWear 4 = .ok (.invokevirtual 64, 3) := dk_182 0 64 (dk_at dksX0_getWear_0 4 rfl rfl)
theorem dX0_getWear_7 : decode cX0_getWear 7 = .ok (.i2l, 1) := dk_133 (dk_at dksX0_getWear_0 7 rfl rfl)
theorem dX0_getWear_8 : decode cX0_getWear 8 = .ok (.lastore, 1) := dk_80 (dk_at dksX0_getWear_0 8 rfl rfl)
theorem dX0_getWear_9 : decode cX0_getWear 9 = .ok (.goto 6, 3) := dk_167 0 6 (dk_at dksX0_getWear_0 9 rfl rfl)
theorem dX0_getWear_12 : decode cX0_getWear 12 = .ok (.astore_n 3, 1) := dk_78 (dk_at dksX0_getWear_0 12 rfl rfl)
theorem dX0_getWear_13 : decode cX0_getWear 13 = .ok (.iconst 1, 1) := dk_4 (dk_at dksX0_getWear_0 13 rfl rfl)
theorem dX0_getWear_14 : decode cX0_getWear 14 = .ok (.ireturn, 1) := dk_172 (dk_at dksX0_getWear_0 14 rfl rfl)
theorem dX0_getWear_15 : decode cX0_getWear 15 = .ok (.iconst 0, 1) := dk_3 (dk_at dksX0_getWear_0 15 rfl rfl)
theorem dX0_getWear_16 : decode cX0_getWear 16 = .ok (.ireturn, 1) := dk_172 (dk_at dksX0_getWear_0 16 rfl rfl)
abbrev cX0_getPlace : ByteArray := method_17_code
def yX0_getPlace : MethodName := ⟨RX0, "getPlace", "(LSelectoRoute;I[J)I"⟩
def dkwX0_getPlace_0 : List UInt8 := [44, 3, 42, 27, 182, 0, 67, 133, 80, 167, 0, 6, 78, 4, 172, 3, 172]
abbrev dktX0_getPlace_0 : List UInt8 := dkwX0_getPlace_0 ++ []
theorem dksX0_getPlace_0 : cX0_getPlace.data.toList.drop 0 = dktX0_getPlace_0 := by decide +kernel
theorem dX0_getPlace_0 : decode cX0_getPlace 0 = .ok (.aload_n 2, 1) := dk_44 (dk_at dksX0_getPlace_0 0 rfl rfl)
theorem dX0_getPlace_1 : decode cX0_getPlace 1 = .ok (.iconst 0, 1) := dk_3 (dk_at dksX0_getPlace_0 1 rfl rfl)
theorem dX0_getPlace_2 : decode cX0_getPlace 2 = .ok (.aload_n 0, 1) := dk_42 (dk_at dksX0_getPlace_0 2 rfl rfl)
theorem dX0_getPlace_3 : decode cX0_getPlace 3 = .ok (.iload_n 1, 1) := dk_27 (dk_at dksX0_getPlace_0 3 rfl rfl)
theorem dX0_getPlace_4 : decode cX0_getPlace 4 = .ok (.invokevirtual 67, 3) := dk_182 0 67 (dk_at dksX0_getPlace_0 4 rfl rfl)
theorem dX0_getPlace_7 : decode cX0_getPlace 7 = .ok (.i2l, 1) := dk_133 (dk_at dksX0_getPlace_0 7 rfl rfl)
theorem dX0_getPlace_8 : decode cX0_getPlace 8 = .ok (.lastore, 1) := dk_80 (dk_at dksX0_getPlace_0 8 rfl rfl)
theorem dX0_getPlace_9 : decode cX0_getPlace 9 = .ok (.goto 6, 3) := dk_167 0 6 (dk_at dksX0_getPlace_0 9 rfl rfl)
theorem dX0_getPlace_12 : decode cX0_getPlace 12 = .ok (.astore_n 3, 1) := dk_78 (dk_at dksX0_getPlace_0 12 rfl rfl)
theorem dX0_getPlace_13 : decode cX0_getPlace 13 = .ok (.iconst 1, 1) := dk_4 (dk_at dksX0_getPlace_0 13 rfl rfl)
theorem dX0_getPlace_14 : decode cX0_getPlace 14 = .ok (.ireturn, 1) := dk_172 (dk_at dksX0_getPlace_0 14 rfl rfl)
theorem dX0_getPlace_15 : decode cX0_getPlace 15 = .ok (.iconst 0, 1) := dk_3 (dk_at dksX0_getPlace_0 15 rfl rfl)
theorem dX0_getPlace_16 : decode cX0_getPlace 16 = .ok (.ireturn, 1) := dk_172 (dk_at dksX0_getPlace_0 16 rfl rfl)
abbrev cX0_discAt : ByteArray := method_18_code
def yX0_discAt : MethodName := ⟨RX0, "discAt", "(LSelectoRoute;II[J)I"⟩
def dkwX0_discAt_0 : List UInt8 := [45, 3, 42, 27, 28, 182, 0, 70, 133, 80, 167, 0, 11, 58, 4, 4, 172, 58, 4, 5, 172, 3, 172]
abbrev dktX0_discAt_0 : List UInt8 := dkwX0_discAt_0 ++ []
theorem dksX0_discAt_0 : cX0_discAt.data.toList.drop 0 = dktX0_discAt_0 := by decide +kernel
theorem dX0_discAt_0 : decode cX0_discAt 0 = .ok (.aload_n 3, 1) := dk_45 (dk_at dksX0_discAt_0 0 rfl rfl)
theorem dX0_discAt_1 : decode cX0_discAt 1 = .ok (.iconst 0, 1) := dk_3 (dk_at dksX0_discAt_0 1 rfl rfl)
theorem dX0_discAt_2 : decode cX0_discAt 2 = .ok (.aload_n 0, 1) := dk_42 (dk_at dksX0_discAt_0 2 rfl rfl)
theorem dX0_discAt_3 : decode cX0_discAt 3 = .ok (.iload_n 1, 1) := dk_27 (dk_at dksX0_discAt_0 3 rfl rfl)
theorem dX0_discAt_4 : decode cX0_discAt 4 = .ok (.iload_n 2, 1) := dk_28 (dk_at dksX0_discAt_0 4 rfl rfl)
theorem dX0_discAt_5 : decode cX0_discAt 5 = .ok (.invokevirtual 70, 3) := dk_182 0 70 (dk_at dksX0_discAt_0 5 rfl rfl)
theorem dX0_discAt_8 : decode cX0_discAt 8 = .ok (.i2l, 1) := dk_133 (dk_at dksX0_discAt_0 8 rfl rfl)
theorem dX0_discAt_9 : decode cX0_discAt 9 = .ok (.lastore, 1) := dk_80 (dk_at dksX0_discAt_0 9 rfl rfl)
theorem dX0_discAt_10 : decode cX0_discAt 10 = .ok (.goto 11, 3) := dk_167 0 11 (dk_at dksX0_discAt_0 10 rfl rfl)
theorem dX0_discAt_13 : decode cX0_discAt 13 = .ok (.astore 4, 2) := dk_58 4 (dk_at dksX0_discAt_0 13 rfl rfl)
theorem dX0_discAt_15 : decode cX0_discAt 15 = .ok (.iconst 1, 1) := dk_4 (dk_at dksX0_discAt_0 15 rfl rfl)
theorem dX0_discAt_16 : decode cX0_discAt 16 = .ok (.ireturn, 1) := dk_172 (dk_at dksX0_discAt_0 16 rfl rfl)
theorem dX0_discAt_17 : decode cX0_discAt 17 = .ok (.astore 4, 2) := dk_58 4 (dk_at dksX0_discAt_0 17 rfl rfl)
theorem dX0_discAt_19 : decode cX0_discAt 19 = .ok (.iconst 2, 1) := dk_5 (dk_at dksX0_discAt_0 19 rfl rfl)
theorem dX0_discAt_20 : decode cX0_discAt 20 = .ok (.ireturn, 1) := dk_172 (dk_at dksX0_discAt_0 20 rfl rfl)
theorem dX0_discAt_21 : decode cX0_discAt 21 = .ok (.iconst 0, 1) := dk_3 (dk_at dksX0_discAt_0 21 rfl rfl)
theorem dX0_discAt_22 : decode cX0_discAt 22 = .ok (.ireturn, 1) := dk_172 (dk_at dksX0_discAt_0 22 rfl rfl)
abbrev cX0_pull : ByteArray := method_19_code
def yX0_pull : MethodName := ⟨RX0, "pull", "(LSelectoRoute;I[J)I"⟩
def dkwX0_pull_0 : List UInt8 := [44, 3, 42, 27, 182, 0, 73, 133, 80, 167, 0, 6, 78, 4, 172, 3, 172]
abbrev dktX0_pull_0 : List UInt8 := dkwX0_pull_0 ++ []
theorem dksX0_pull_0 : cX0_pull.data.toList.drop 0 = dktX0_pull_0 := by decide +kernel
theorem dX0_pull_0 : decode cX0_pull 0 = .ok (.aload_n 2, 1) := dk_44 (dk_at dksX0_pull_0 0 rfl rfl)
theorem dX0_pull_1 : decode cX0_pull 1 = .ok (.iconst 0, 1) := dk_3 (dk_at dksX0_pull_0 1 rfl rfl)
theorem dX0_pull_2 : decode cX0_pull 2 = .ok (.aload_n 0, 1) := dk_42 (dk_at dksX0_pull_0 2 rfl rfl)
theorem dX0_pull_3 : decode cX0_pull 3 = .ok (.iload_n 1, 1) := dk_27 (dk_at dksX0_pull_0 3 rfl rfl)
theorem dX0_pull_4 : decode cX0_pull 4 = .ok (.invokevirtual 73, 3) := dk_182 0 73 (dk_at dksX0_pull_0 4 rfl rfl)
theorem dX0_pull_7 : decode cX0_pull 7 = .ok (.i2l, 1) := dk_133 (dk_at dksX0_pull_0 7 rfl rfl)
theorem dX0_pull_8 : decode cX0_pull 8 = .ok (.lastore, 1) := dk_80 (dk_at dksX0_pull_0 8 rfl rfl)
theorem dX0_pull_9 : decode cX0_pull 9 = .ok (.goto 6, 3) := dk_167 0 6 (dk_at dksX0_pull_0 9 rfl rfl)
theorem dX0_pull_12 : decode cX0_pull 12 = .ok (.astore_n 3, 1) := dk_78 (dk_at dksX0_pull_0 12 rfl rfl)
theorem dX0_pull_13 : decode cX0_pull 13 = .ok (.iconst 1, 1) := dk_4 (dk_at dksX0_pull_0 13 rfl rfl)
theorem dX0_pull_14 : decode cX0_pull 14 = .ok (.ireturn, 1) := dk_172 (dk_at dksX0_pull_0 14 rfl rfl)
theorem dX0_pull_15 : decode cX0_pull 15 = .ok (.iconst 0, 1) := dk_3 (dk_at dksX0_pull_0 15 rfl rfl)
theorem dX0_pull_16 : decode cX0_pull 16 = .ok (.ireturn, 1) := dk_172 (dk_at dksX0_pull_0 16 rfl rfl)
abbrev cX0_pullIn : ByteArray := method_20_code
def yX0_pullIn : MethodName := ⟨RX0, "pullIn", "(LSelectoRoute;II[J)I"⟩
def dkwX0_pullIn_0 : List UInt8 := [45, 3, 42, 27, 28, 182, 0, 76, 133, 80, 167, 0, 7, 58, 4, 4, 172, 3, 172]
abbrev dktX0_pullIn_0 : List UInt8 := dkwX0_pullIn_0 ++ []
theorem dksX0_pullIn_0 : cX0_pullIn.data.toList.drop 0 = dktX0_pullIn_0 := by decide +kernel
theorem dX0_pullIn_0 : decode cX0_pullIn 0 = .ok (.aload_n 3, 1) := dk_45 (dk_at dksX0_pullIn_0 0 rfl rfl)
theorem dX0_pullIn_1 : decode cX0_pullIn 1 = .ok (.iconst 0, 1) := dk_3 (dk_at dksX0_pullIn_0 1 rfl rfl)
theorem dX0_pullIn_2 : decode cX0_pullIn 2 = .ok (.aload_n 0, 1) := dk_42 (dk_at dksX0_pullIn_0 2 rfl rfl)
theorem dX0_pullIn_3 : decode cX0_pullIn 3 = .ok (.iload_n 1, 1) := dk_27 (dk_at dksX0_pullIn_0 3 rfl rfl)
theorem dX0_pullIn_4 : decode cX0_pullIn 4 = .ok (.iload_n 2, 1) := dk_28 (dk_at dksX0_pullIn_0 4 rfl rfl)
theorem dX0_pullIn_5 : decode cX0_pullIn 5 = .ok (.invokevirtual 76, 3) := dk_182 0 76 (dk_at dksX0_pullIn_0 5 rfl rfl)
theorem dX0_pullIn_8 : decode cX0_pullIn 8 = .ok (.i2l, 1) := dk_133 (dk_at dksX0_pullIn_0 8 rfl rfl)
theorem dX0_pullIn_9 : decode cX0_pullIn 9 = .ok (.lastore, 1) := dk_80 (dk_at dksX0_pullIn_0 9 rfl rfl)
theorem dX0_pullIn_10 : decode cX0_pullIn 10 = .ok (.goto 7, 3) := dk_167 0 7 (dk_at dksX0_pullIn_0 10 rfl rfl)
theorem dX0_pullIn_13 : decode cX0_pullIn 13 = .ok (.astore 4, 2) := dk_58 4 (dk_at dksX0_pullIn_0 13 rfl rfl)
theorem dX0_pullIn_15 : decode cX0_pullIn 15 = .ok (.iconst 1, 1) := dk_4 (dk_at dksX0_pullIn_0 15 rfl rfl)
theorem dX0_pullIn_16 : decode cX0_pullIn 16 = .ok (.ireturn, 1) := dk_172 (dk_at dksX0_pullIn_0 16 rfl rfl)
theorem dX0_pullIn_17 : decode cX0_pullIn 17 = .ok (.iconst 0, 1) := dk_3 (dk_at dksX0_pullIn_0 17 rfl rfl)
theorem dX0_pullIn_18 : decode cX0_pullIn 18 = .ok (.ireturn, 1) := dk_172 (dk_at dksX0_pullIn_0 18 rfl rfl)
abbrev cX0_pass : ByteArray := method_21_code
def yX0_pass : MethodName := ⟨RX0, "pass", "(LSelectoRoute;[J)I"⟩
def dkwX0_pass_0 : List UInt8 := [43, 3, 42, 182, 0, 79, 133, 80, 167, 0, 6, 77, 4, 172, 3, 172]
abbrev dktX0_pass_0 : List UInt8 := dkwX0_pass_0 ++ []
theorem dksX0_pass_0 : cX0_pass.data.toList.drop 0 = dktX0_pass_0 := by decide +kernel
theorem dX0_pass_0 : decode cX0_pass 0 = .ok (.aload_n 1, 1) := dk_43 (dk_at dksX0_pass_0 0 rfl rfl)
theorem dX0_pass_1 : decode cX0_pass 1 = .ok (.iconst 0, 1) := dk_3 (dk_at dksX0_pass_0 1 rfl rfl)
theorem dX0_pass_2 : decode cX0_pass 2 = .ok (.aload_n 0, 1) := dk_42 (dk_at dksX0_pass_0 2 rfl rfl)
theorem dX0_pass_3 : decode cX0_pass 3 = .ok (.invokevirtual 79, 3) := dk_182 0 79 (dk_at dksX0_pass_0 3 rfl rfl)
theorem dX0_pass_6 : decode cX0_pass 6 = .ok (.i2l, 1) := dk_133 (dk_at dksX0_pass_0 6 rfl rfl)
theorem dX0_pass_7 : decode cX0_pass 7 = .ok (.lastore, 1) := dk_80 (dk_at dksX0_pass_0 7 rfl rfl)
theorem dX0_pass_8 : decode cX0_pass 8 = .ok (.goto 6, 3) := dk_167 0 6 (dk_at dksX0_pass_0 8 rfl rfl)
theorem dX0_pass_11 : decode cX0_pass 11 = .ok (.astore_n 2, 1) := dk_77 (dk_at dksX0_pass_0 11 rfl rfl)
theorem dX0_pass_12 : decode cX0_pass 12 = .ok (.iconst 1, 1) := dk_4 (dk_at dksX0_pass_0 12 rfl rfl)
theorem dX0_pass_13 : decode cX0_pass 13 = .ok (.ireturn, 1) := dk_172 (dk_at dksX0_pass_0 13 rfl rfl)
theorem dX0_pass_14 : decode cX0_pass 14 = .ok (.iconst 0, 1) := dk_3 (dk_at dksX0_pass_0 14 rfl rfl)
theorem dX0_pass_15 : decode cX0_pass 15 = .ok (.ireturn, 1) := dk_172 (dk_at dksX0_pass_0 15 rfl rfl)
abbrev cX0_visit : ByteArray := method_22_code
def yX0_visit : MethodName := ⟨RX0, "visit", "(LSelectoRoute;I[J)I"⟩
def dkwX0_visit_0 : List UInt8 := [44, 3, 42, 27, 182, 0, 83, 133, 80, 167, 0, 9, 78, 4, 172, 78, 5, 172, 3, 172]
abbrev dktX0_visit_0 : List UInt8 := dkwX0_visit_0 ++ []
theorem dksX0_visit_0 : cX0_visit.data.toList.drop 0 = dktX0_visit_0 := by decide +kernel
theorem dX0_visit_0 : decode cX0_visit 0 = .ok (.aload_n 2, 1) := dk_44 (dk_at dksX0_visit_0 0 rfl rfl)
theorem dX0_visit_1 : decode cX0_visit 1 = .ok (.iconst 0, 1) := dk_3 (dk_at dksX0_visit_0 1 rfl rfl)
theorem dX0_visit_2 : decode cX0_visit 2 = .ok (.aload_n 0, 1) := dk_42 (dk_at dksX0_visit_0 2 rfl rfl)
theorem dX0_visit_3 : decode cX0_visit 3 = .ok (.iload_n 1, 1) := dk_27 (dk_at dksX0_visit_0 3 rfl rfl)
theorem dX0_visit_4 : decode cX0_visit 4 = .ok (.invokevirtual 83, 3) := dk_182 0 83 (dk_at dksX0_visit_0 4 rfl rfl)
theorem dX0_visit_7 : decode cX0_visit 7 = .ok (.i2l, 1) := dk_133 (dk_at dksX0_visit_0 7 rfl rfl)
theorem dX0_visit_8 : decode cX0_visit 8 = .ok (.lastore, 1) := dk_80 (dk_at dksX0_visit_0 8 rfl rfl)
theorem dX0_visit_9 : decode cX0_visit 9 = .ok (.goto 9, 3) := dk_167 0 9 (dk_at dksX0_visit_0 9 rfl rfl)
theorem dX0_visit_12 : decode cX0_visit 12 = .ok (.astore_n 3, 1) := dk_78 (dk_at dksX0_visit_0 12 rfl rfl)
theorem dX0_visit_13 : decode cX0_visit 13 = .ok (.iconst 1, 1) := dk_4 (dk_at dksX0_visit_0 13 rfl rfl)
theorem dX0_visit_14 : decode cX0_visit 14 = .ok (.ireturn, 1) := dk_172 (dk_at dksX0_visit_0 14 rfl rfl)
theorem dX0_visit_15 : decode cX0_visit 15 = .ok (.astore_n 3, 1) := dk_78 (dk_at dksX0_visit_0 15 rfl rfl)
theorem dX0_visit_16 : decode cX0_visit 16 = .ok (.iconst 2, 1) := dk_5 (dk_at dksX0_visit_0 16 rfl rfl)
theorem dX0_visit_17 : decode cX0_visit 17 = .ok (.ireturn, 1) := dk_172 (dk_at dksX0_visit_0 17 rfl rfl)
theorem dX0_visit_18 : decode cX0_visit 18 = .ok (.iconst 0, 1) := dk_3 (dk_at dksX0_visit_0 18 rfl rfl)
theorem dX0_visit_19 : decode cX0_visit 19 = .ok (.ireturn, 1) := dk_172 (dk_at dksX0_visit_0 19 rfl rfl)
abbrev cX0_getShort : ByteArray := method_23_code
def yX0_getShort : MethodName := ⟨RX0, "getShort", "(LSelectoRoute;I[J)I"⟩
def dkwX0_getShort_0 : List UInt8 := [44, 3, 42, 27, 182, 0, 86, 133, 80, 167, 0, 6, 78, 4, 172, 3, 172]
abbrev dktX0_getShort_0 : List UInt8 := dkwX0_getShort_0 ++ []
theorem dksX0_getShort_0 : cX0_getShort.data.toList.drop 0 = dktX0_getShort_0 := by decide +kernel
theorem dX0_getShort_0 : decode cX0_getShort 0 = .ok (.aload_n 2, 1) := dk_44 (dk_at dksX0_getShort_0 0 rfl rfl)
theorem dX0_getShort_1 : decode cX0_getShort 1 = .ok (.iconst 0, 1) := dk_3 (dk_at dksX0_getShort_0 1 rfl rfl)
theorem dX0_getShort_2 : decode cX0_getShort 2 = .ok (.aload_n 0, 1) := dk_42 (dk_at dksX0_getShort_0 2 rfl rfl)
theorem dX0_getShort_3 : decode cX0_getShort 3 = .ok (.iload_n 1, 1) := dk_27 (dk_at dksX0_getShort_0 3 rfl rfl)
theorem dX0_getShort_4 : decode cX0_getShort 4 = .ok (.invokevirtual 86, 3) := dk_182 0 86 (dk_at dksX0_getShort_0 4 rfl rfl)
theorem dX0_getShort_7 : decode cX0_getShort 7 = .ok (.i2l, 1) := dk_133 (dk_at dksX0_getShort_0 7 rfl rfl)
theorem dX0_getShort_8 : decode cX0_getShort 8 = .ok (.lastore, 1) := dk_80 (dk_at dksX0_getShort_0 8 rfl rfl)
theorem dX0_getShort_9 : decode cX0_getShort 9 = .ok (.goto 6, 3) := dk_167 0 6 (dk_at dksX0_getShort_0 9 rfl rfl)
theorem dX0_getShort_12 : decode cX0_getShort 12 = .ok (.astore_n 3, 1) := dk_78 (dk_at dksX0_getShort_0 12 rfl rfl)
theorem dX0_getShort_13 : decode cX0_getShort 13 = .ok (.iconst 1, 1) := dk_4 (dk_at dksX0_getShort_0 13 rfl rfl)
theorem dX0_getShort_14 : decode cX0_getShort 14 = .ok (.ireturn, 1) := dk_172 (dk_at dksX0_getShort_0 14 rfl rfl)
theorem dX0_getShort_15 : decode cX0_getShort 15 = .ok (.iconst 0, 1) := dk_3 (dk_at dksX0_getShort_0 15 rfl rfl)
theorem dX0_getShort_16 : decode cX0_getShort 16 = .ok (.ireturn, 1) := dk_172 (dk_at dksX0_getShort_0 16 rfl rfl)
abbrev cX0_getShare : ByteArray := method_24_code
def yX0_getShare : MethodName := ⟨RX0, "getShare", "(LSelectoRoute;I[J)I"⟩
def dkwX0_getShare_0 : List UInt8 := [44, 3, 42, 27, 182, 0, 89, 133, 80, 167, 0, 6, 78, 4, 172, 3, 172]
abbrev dktX0_getShare_0 : List UInt8 := dkwX0_getShare_0 ++ []
theorem dksX0_getShare_0 : cX0_getShare.data.toList.drop 0 = dktX0_getShare_0 := by decide +kernel
theorem dX0_getShare_0 : decode cX0_getShare 0 = .ok (.aload_n 2, 1) := dk_44 (dk_at dksX0_getShare_0 0 rfl rfl)
theorem dX0_getShare_1 : decode cX0_getShare 1 = .ok (.iconst 0, 1) := dk_3 (dk_at dksX0_getShare_0 1 rfl rfl)
theorem dX0_getShare_2 : decode cX0_getShare 2 = .ok (.aload_n 0, 1) := dk_42 (dk_at dksX0_getShare_0 2 rfl rfl)
theorem dX0_getShare_3 : decode cX0_getShare 3 = .ok (.iload_n 1, 1) := dk_27 (dk_at dksX0_getShare_0 3 rfl rfl)
theorem dX0_getShare_4 : decode cX0_getShare 4 = .ok (.invokevirtual 89, 3) := dk_182 0 89 (dk_at dksX0_getShare_0 4 rfl rfl)
theorem dX0_getShare_7 : decode cX0_getShare 7 = .ok (.i2l, 1) := dk_133 (dk_at dksX0_getShare_0 7 rfl rfl)
theorem dX0_getShare_8 : decode cX0_getShare 8 = .ok (.lastore, 1) := dk_80 (dk_at dksX0_getShare_0 8 rfl rfl)
theorem dX0_getShare_9 : decode cX0_getShare 9 = .ok (.goto 6, 3) := dk_167 0 6 (dk_at dksX0_getShare_0 9 rfl rfl)
theorem dX0_getShare_12 : decode cX0_getShare 12 = .ok (.astore_n 3, 1) := dk_78 (dk_at dksX0_getShare_0 12 rfl rfl)
theorem dX0_getShare_13 : decode cX0_getShare 13 = .ok (.iconst 1, 1) := dk_4 (dk_at dksX0_getShare_0 13 rfl rfl)
theorem dX0_getShare_14 : decode cX0_getShare 14 = .ok (.ireturn, 1) := dk_172 (dk_at dksX0_getShare_0 14 rfl rfl)
theorem dX0_getShare_15 : decode cX0_getShare 15 = .ok (.iconst 0, 1) := dk_3 (dk_at dksX0_getShare_0 15 rfl rfl)
theorem dX0_getShare_16 : decode cX0_getShare 16 = .ok (.ireturn, 1) := dk_172 (dk_at dksX0_getShare_0 16 rfl rfl)
abbrev cX0_change : ByteArray := method_25_code
def yX0_change : MethodName := ⟨RX0, "change", "(LSelectoRoute;III[J)I"⟩
def dkwX0_change_1 : List UInt8 := [172]
abbrev dktX0_change_1 : List UInt8 := dkwX0_change_1 ++ []
def dkwX0_change_0 : List UInt8 := [25, 4, 3, 42, 27, 28, 29, 182, 0, 92, 133, 80, 167, 0, 11, 58, 5, 4, 172, 58, 5, 5, 172, 3]
abbrev dktX0_change_0 : List UInt8 := dkwX0_change_0 ++ dktX0_change_1
theorem dksX0_change_0 : cX0_change.data.toList.drop 0 = dktX0_change_0 := by decide +kernel
theorem dksX0_change_1 : cX0_change.data.toList.drop 24 = dktX0_change_1 := dk_seg dksX0_change_0 24 rfl rfl
theorem dX0_change_0 : decode cX0_change 0 = .ok (.aload 4, 2) := dk_25 4 (dk_at dksX0_change_0 0 rfl rfl)
theorem dX0_change_2 : decode cX0_change 2 = .ok (.iconst 0, 1) := dk_3 (dk_at dksX0_change_0 2 rfl rfl)
theorem dX0_change_3 : decode cX0_change 3 = .ok (.aload_n 0, 1) := dk_42 (dk_at dksX0_change_0 3 rfl rfl)
theorem dX0_change_4 : decode cX0_change 4 = .ok (.iload_n 1, 1) := dk_27 (dk_at dksX0_change_0 4 rfl rfl)
theorem dX0_change_5 : decode cX0_change 5 = .ok (.iload_n 2, 1) := dk_28 (dk_at dksX0_change_0 5 rfl rfl)
theorem dX0_change_6 : decode cX0_change 6 = .ok (.iload_n 3, 1) := dk_29 (dk_at dksX0_change_0 6 rfl rfl)
theorem dX0_change_7 : decode cX0_change 7 = .ok (.invokevirtual 92, 3) := dk_182 0 92 (dk_at dksX0_change_0 7 rfl rfl)
theorem dX0_change_10 : decode cX0_change 10 = .ok (.i2l, 1) := dk_133 (dk_at dksX0_change_0 10 rfl rfl)
theorem dX0_change_11 : decode cX0_change 11 = .ok (.lastore, 1) := dk_80 (dk_at dksX0_change_0 11 rfl rfl)
theorem dX0_change_12 : decode cX0_change 12 = .ok (.goto 11, 3) := dk_167 0 11 (dk_at dksX0_change_0 12 rfl rfl)
theorem dX0_change_15 : decode cX0_change 15 = .ok (.astore 5, 2) := dk_58 5 (dk_at dksX0_change_0 15 rfl rfl)
theorem dX0_change_17 : decode cX0_change 17 = .ok (.iconst 1, 1) := dk_4 (dk_at dksX0_change_0 17 rfl rfl)
theorem dX0_change_18 : decode cX0_change 18 = .ok (.ireturn, 1) := dk_172 (dk_at dksX0_change_0 18 rfl rfl)
theorem dX0_change_19 : decode cX0_change 19 = .ok (.astore 5, 2) := dk_58 5 (dk_at dksX0_change_0 19 rfl rfl)
theorem dX0_change_21 : decode cX0_change 21 = .ok (.iconst 2, 1) := dk_5 (dk_at dksX0_change_0 21 rfl rfl)
theorem dX0_change_22 : decode cX0_change 22 = .ok (.ireturn, 1) := dk_172 (dk_at dksX0_change_0 22 rfl rfl)
theorem dX0_change_23 : decode cX0_change 23 = .ok (.iconst 0, 1) := dk_3 (dk_at dksX0_change_0 23 rfl rfl)
theorem dX0_change_24 : decode cX0_change 24 = .ok (.ireturn, 1) := dk_172 (dk_at dksX0_change_1 0 rfl rfl)
abbrev cX0_changeNeedle : ByteArray := method_26_code
def yX0_changeNeedle : MethodName := ⟨RX0, "changeNeedle", "(LSelectoRoute;I[J)I"⟩
def dkwX0_changeNeedle_0 : List UInt8 := [44, 3, 42, 27, 182, 0, 95, 133, 80, 167, 0, 9, 78, 4, 172, 78, 5, 172, 3, 172]
abbrev dktX0_changeNeedle_0 : List UInt8 := dkwX0_changeNeedle_0 ++ []
theorem dksX0_changeNeedle_0 : cX0_changeNeedle.data.toList.drop 0 = dktX0_changeNeedle_0 := by decide +kernel
theorem dX0_changeNeedle_0 : decode cX0_changeNeedle 0 = .ok (.aload_n 2, 1) := dk_44 (dk_at dksX0_changeNeedle_0 0 rfl rfl)
theorem dX0_changeNeedle_1 : decode cX0_changeNeedle 1 = .ok (.iconst 0, 1) := dk_3 (dk_at dksX0_changeNeedle_0 1 rfl rfl)
theorem dX0_changeNeedle_2 : decode cX0_changeNeedle 2 = .ok (.aload_n 0, 1) := dk_42 (dk_at dksX0_changeNeedle_0 2 rfl rfl)
theorem dX0_changeNeedle_3 : decode cX0_changeNeedle 3 = .ok (.iload_n 1, 1) := dk_27 (dk_at dksX0_changeNeedle_0 3 rfl rfl)
theorem dX0_changeNeedle_4 : decode cX0_changeNeedle 4 = .ok (.invokevirtual 95, 3) := dk_182 0 95 (dk_at dksX0_changeNeedle_0 4 rfl rfl)
theorem dX0_changeNeedle_7 : decode cX0_changeNeedle 7 = .ok (.i2l, 1) := dk_133 (dk_at dksX0_changeNeedle_0 7 rfl rfl)
theorem dX0_changeNeedle_8 : decode cX0_changeNeedle 8 = .ok (.lastore, 1) := dk_80 (dk_at dksX0_changeNeedle_0 8 rfl rfl)
theorem dX0_changeNeedle_9 : decode cX0_changeNeedle 9 = .ok (.goto 9, 3) := dk_167 0 9 (dk_at dksX0_changeNeedle_0 9 rfl rfl)
theorem dX0_changeNeedle_12 : decode cX0_changeNeedle 12 = .ok (.astore_n 3, 1) := dk_78 (dk_at dksX0_changeNeedle_0 12 rfl rfl)
theorem dX0_changeNeedle_13 : decode cX0_changeNeedle 13 = .ok (.iconst 1, 1) := dk_4 (dk_at dksX0_changeNeedle_0 13 rfl rfl)
theorem dX0_changeNeedle_14 : decode cX0_changeNeedle 14 = .ok (.ireturn, 1) := dk_172 (dk_at dksX0_changeNeedle_0 14 rfl rfl)
theorem dX0_changeNeedle_15 : decode cX0_changeNeedle 15 = .ok (.astore_n 3, 1) := dk_78 (dk_at dksX0_changeNeedle_0 15 rfl rfl)
theorem dX0_changeNeedle_16 : decode cX0_changeNeedle 16 = .ok (.iconst 2, 1) := dk_5 (dk_at dksX0_changeNeedle_0 16 rfl rfl)
theorem dX0_changeNeedle_17 : decode cX0_changeNeedle 17 = .ok (.ireturn, 1) := dk_172 (dk_at dksX0_changeNeedle_0 17 rfl rfl)
theorem dX0_changeNeedle_18 : decode cX0_changeNeedle 18 = .ok (.iconst 0, 1) := dk_3 (dk_at dksX0_changeNeedle_0 18 rfl rfl)
theorem dX0_changeNeedle_19 : decode cX0_changeNeedle 19 = .ok (.ireturn, 1) := dk_172 (dk_at dksX0_changeNeedle_0 19 rfl rfl)
abbrev cX0_burn : ByteArray := method_27_code
def yX0_burn : MethodName := ⟨RX0, "burn", "(LSelectoRoute;I[J)I"⟩
def dkwX0_burn_0 : List UInt8 := [44, 3, 42, 27, 182, 0, 98, 133, 80, 167, 0, 9, 78, 4, 172, 78, 5, 172, 3, 172]
abbrev dktX0_burn_0 : List UInt8 := dkwX0_burn_0 ++ []
theorem dksX0_burn_0 : cX0_burn.data.toList.drop 0 = dktX0_burn_0 := by decide +kernel
theorem dX0_burn_0 : decode cX0_burn 0 = .ok (.aload_n 2, 1) := dk_44 (dk_at dksX0_burn_0 0 rfl rfl)
theorem dX0_burn_1 : decode cX0_burn 1 = .ok (.iconst 0, 1) := dk_3 (dk_at dksX0_burn_0 1 rfl rfl)
theorem dX0_burn_2 : decode cX0_burn 2 = .ok (.aload_n 0, 1) := dk_42 (dk_at dksX0_burn_0 2 rfl rfl)
theorem dX0_burn_3 : decode cX0_burn 3 = .ok (.iload_n 1, 1) := dk_27 (dk_at dksX0_burn_0 3 rfl rfl)
theorem dX0_burn_4 : decode cX0_burn 4 = .ok (.invokevirtual 98, 3) := dk_182 0 98 (dk_at dksX0_burn_0 4 rfl rfl)
theorem dX0_burn_7 : decode cX0_burn 7 = .ok (.i2l, 1) := dk_133 (dk_at dksX0_burn_0 7 rfl rfl)
theorem dX0_burn_8 : decode cX0_burn 8 = .ok (.lastore, 1) := dk_80 (dk_at dksX0_burn_0 8 rfl rfl)
theorem dX0_burn_9 : decode cX0_burn 9 = .ok (.goto 9, 3) := dk_167 0 9 (dk_at dksX0_burn_0 9 rfl rfl)
theorem dX0_burn_12 : decode cX0_burn 12 = .ok (.astore_n 3, 1) := dk_78 (dk_at dksX0_burn_0 12 rfl rfl)
theorem dX0_burn_13 : decode cX0_burn 13 = .ok (.iconst 1, 1) := dk_4 (dk_at dksX0_burn_0 13 rfl rfl)
theorem dX0_burn_14 : decode cX0_burn 14 = .ok (.ireturn, 1) := dk_172 (dk_at dksX0_burn_0 14 rfl rfl)
theorem dX0_burn_15 : decode cX0_burn 15 = .ok (.astore_n 3, 1) := dk_78 (dk_at dksX0_burn_0 15 rfl rfl)
theorem dX0_burn_16 : decode cX0_burn 16 = .ok (.iconst 2, 1) := dk_5 (dk_at dksX0_burn_0 16 rfl rfl)
theorem dX0_burn_17 : decode cX0_burn 17 = .ok (.ireturn, 1) := dk_172 (dk_at dksX0_burn_0 17 rfl rfl)
theorem dX0_burn_18 : decode cX0_burn 18 = .ok (.iconst 0, 1) := dk_3 (dk_at dksX0_burn_0 18 rfl rfl)
theorem dX0_burn_19 : decode cX0_burn 19 = .ok (.ireturn, 1) := dk_172 (dk_at dksX0_burn_0 19 rfl rfl)
abbrev cX0_ask : ByteArray := method_28_code
def yX0_ask : MethodName := ⟨RX0, "ask", "(LSelectoRoute;II[J)I"⟩
def dkwX0_ask_1 : List UInt8 := [172, 3, 172]
abbrev dktX0_ask_1 : List UInt8 := dkwX0_ask_1 ++ []
def dkwX0_ask_0 : List UInt8 := [45, 3, 42, 27, 28, 182, 0, 101, 133, 80, 167, 0, 15, 58, 4, 4, 172, 58, 4, 5, 172, 58, 4, 6]
abbrev dktX0_ask_0 : List UInt8 := dkwX0_ask_0 ++ dktX0_ask_1
theorem dksX0_ask_0 : cX0_ask.data.toList.drop 0 = dktX0_ask_0 := by decide +kernel
theorem dksX0_ask_1 : cX0_ask.data.toList.drop 24 = dktX0_ask_1 := dk_seg dksX0_ask_0 24 rfl rfl
theorem dX0_ask_0 : decode cX0_ask 0 = .ok (.aload_n 3, 1) := dk_45 (dk_at dksX0_ask_0 0 rfl rfl)
theorem dX0_ask_1 : decode cX0_ask 1 = .ok (.iconst 0, 1) := dk_3 (dk_at dksX0_ask_0 1 rfl rfl)
theorem dX0_ask_2 : decode cX0_ask 2 = .ok (.aload_n 0, 1) := dk_42 (dk_at dksX0_ask_0 2 rfl rfl)
theorem dX0_ask_3 : decode cX0_ask 3 = .ok (.iload_n 1, 1) := dk_27 (dk_at dksX0_ask_0 3 rfl rfl)
theorem dX0_ask_4 : decode cX0_ask 4 = .ok (.iload_n 2, 1) := dk_28 (dk_at dksX0_ask_0 4 rfl rfl)
theorem dX0_ask_5 : decode cX0_ask 5 = .ok (.invokevirtual 101, 3) := dk_182 0 101 (dk_at dksX0_ask_0 5 rfl rfl)
theorem dX0_ask_8 : decode cX0_ask 8 = .ok (.i2l, 1) := dk_133 (dk_at dksX0_ask_0 8 rfl rfl)
theorem dX0_ask_9 : decode cX0_ask 9 = .ok (.lastore, 1) := dk_80 (dk_at dksX0_ask_0 9 rfl rfl)
theorem dX0_ask_10 : decode cX0_ask 10 = .ok (.goto 15, 3) := dk_167 0 15 (dk_at dksX0_ask_0 10 rfl rfl)
theorem dX0_ask_13 : decode cX0_ask 13 = .ok (.astore 4, 2) := dk_58 4 (dk_at dksX0_ask_0 13 rfl rfl)
theorem dX0_ask_15 : decode cX0_ask 15 = .ok (.iconst 1, 1) := dk_4 (dk_at dksX0_ask_0 15 rfl rfl)
theorem dX0_ask_16 : decode cX0_ask 16 = .ok (.ireturn, 1) := dk_172 (dk_at dksX0_ask_0 16 rfl rfl)
theorem dX0_ask_17 : decode cX0_ask 17 = .ok (.astore 4, 2) := dk_58 4 (dk_at dksX0_ask_0 17 rfl rfl)
theorem dX0_ask_19 : decode cX0_ask 19 = .ok (.iconst 2, 1) := dk_5 (dk_at dksX0_ask_0 19 rfl rfl)
theorem dX0_ask_20 : decode cX0_ask 20 = .ok (.ireturn, 1) := dk_172 (dk_at dksX0_ask_0 20 rfl rfl)
theorem dX0_ask_21 : decode cX0_ask 21 = .ok (.astore 4, 2) := dk_58 4 (dk_at dksX0_ask_0 21 rfl rfl)
theorem dX0_ask_23 : decode cX0_ask 23 = .ok (.iconst 3, 1) := dk_6 (dk_at dksX0_ask_0 23 rfl rfl)
theorem dX0_ask_24 : decode cX0_ask 24 = .ok (.ireturn, 1) := dk_172 (dk_at dksX0_ask_1 0 rfl rfl)
theorem dX0_ask_25 : decode cX0_ask 25 = .ok (.iconst 0, 1) := dk_3 (dk_at dksX0_ask_1 1 rfl rfl)
theorem dX0_ask_26 : decode cX0_ask 26 = .ok (.ireturn, 1) := dk_172 (dk_at dksX0_ask_1 2 rfl rfl)
abbrev cX0_mostAsked : ByteArray := method_29_code
def yX0_mostAsked : MethodName := ⟨RX0, "mostAsked", "(LSelectoRoute;I[J)I"⟩
def dkwX0_mostAsked_0 : List UInt8 := [44, 3, 42, 27, 182, 0, 104, 133, 80, 167, 0, 9, 78, 4, 172, 78, 5, 172, 3, 172]
abbrev dktX0_mostAsked_0 : List UInt8 := dkwX0_mostAsked_0 ++ []
theorem dksX0_mostAsked_0 : cX0_mostAsked.data.toList.drop 0 = dktX0_mostAsked_0 := by decide +kernel
theorem dX0_mostAsked_0 : decode cX0_mostAsked 0 = .ok (.aload_n 2, 1) := dk_44 (dk_at dksX0_mostAsked_0 0 rfl rfl)
theorem dX0_mostAsked_1 : decode cX0_mostAsked 1 = .ok (.iconst 0, 1) := dk_3 (dk_at dksX0_mostAsked_0 1 rfl rfl)
theorem dX0_mostAsked_2 : decode cX0_mostAsked 2 = .ok (.aload_n 0, 1) := dk_42 (dk_at dksX0_mostAsked_0 2 rfl rfl)
theorem dX0_mostAsked_3 : decode cX0_mostAsked 3 = .ok (.iload_n 1, 1) := dk_27 (dk_at dksX0_mostAsked_0 3 rfl rfl)
theorem dX0_mostAsked_4 : decode cX0_mostAsked 4 = .ok (.invokevirtual 104, 3) := dk_182 0 104 (dk_at dksX0_mostAsked_0 4 rfl rfl)
theorem dX0_mostAsked_7 : decode cX0_mostAsked 7 = .ok (.i2l, 1) := dk_133 (dk_at dksX0_mostAsked_0 7 rfl rfl)
theorem dX0_mostAsked_8 : decode cX0_mostAsked 8 = .ok (.lastore, 1) := dk_80 (dk_at dksX0_mostAsked_0 8 rfl rfl)
theorem dX0_mostAsked_9 : decode cX0_mostAsked 9 = .ok (.goto 9, 3) := dk_167 0 9 (dk_at dksX0_mostAsked_0 9 rfl rfl)
theorem dX0_mostAsked_12 : decode cX0_mostAsked 12 = .ok (.astore_n 3, 1) := dk_78 (dk_at dksX0_mostAsked_0 12 rfl rfl)
theorem dX0_mostAsked_13 : decode cX0_mostAsked 13 = .ok (.iconst 1, 1) := dk_4 (dk_at dksX0_mostAsked_0 13 rfl rfl)
theorem dX0_mostAsked_14 : decode cX0_mostAsked 14 = .ok (.ireturn, 1) := dk_172 (dk_at dksX0_mostAsked_0 14 rfl rfl)
theorem dX0_mostAsked_15 : decode cX0_mostAsked 15 = .ok (.astore_n 3, 1) := dk_78 (dk_at dksX0_mostAsked_0 15 rfl rfl)
theorem dX0_mostAsked_16 : decode cX0_mostAsked 16 = .ok (.iconst 2, 1) := dk_5 (dk_at dksX0_mostAsked_0 16 rfl rfl)
theorem dX0_mostAsked_17 : decode cX0_mostAsked 17 = .ok (.ireturn, 1) := dk_172 (dk_at dksX0_mostAsked_0 17 rfl rfl)
theorem dX0_mostAsked_18 : decode cX0_mostAsked 18 = .ok (.iconst 0, 1) := dk_3 (dk_at dksX0_mostAsked_0 18 rfl rfl)
theorem dX0_mostAsked_19 : decode cX0_mostAsked 19 = .ok (.ireturn, 1) := dk_172 (dk_at dksX0_mostAsked_0 19 rfl rfl)
abbrev cX0_least : ByteArray := method_30_code
def yX0_least : MethodName := ⟨RX0, "least", "(LSelectoRoute;I[J)I"⟩
def dkwX0_least_0 : List UInt8 := [44, 3, 42, 27, 182, 0, 107, 133, 80, 167, 0, 9, 78, 4, 172, 78, 5, 172, 3, 172]
abbrev dktX0_least_0 : List UInt8 := dkwX0_least_0 ++ []
theorem dksX0_least_0 : cX0_least.data.toList.drop 0 = dktX0_least_0 := by decide +kernel
theorem dX0_least_0 : decode cX0_least 0 = .ok (.aload_n 2, 1) := dk_44 (dk_at dksX0_least_0 0 rfl rfl)
theorem dX0_least_1 : decode cX0_least 1 = .ok (.iconst 0, 1) := dk_3 (dk_at dksX0_least_0 1 rfl rfl)
theorem dX0_least_2 : decode cX0_least 2 = .ok (.aload_n 0, 1) := dk_42 (dk_at dksX0_least_0 2 rfl rfl)
theorem dX0_least_3 : decode cX0_least 3 = .ok (.iload_n 1, 1) := dk_27 (dk_at dksX0_least_0 3 rfl rfl)
theorem dX0_least_4 : decode cX0_least 4 = .ok (.invokevirtual 107, 3) := dk_182 0 107 (dk_at dksX0_least_0 4 rfl rfl)
theorem dX0_least_7 : decode cX0_least 7 = .ok (.i2l, 1) := dk_133 (dk_at dksX0_least_0 7 rfl rfl)
theorem dX0_least_8 : decode cX0_least 8 = .ok (.lastore, 1) := dk_80 (dk_at dksX0_least_0 8 rfl rfl)
theorem dX0_least_9 : decode cX0_least 9 = .ok (.goto 9, 3) := dk_167 0 9 (dk_at dksX0_least_0 9 rfl rfl)
theorem dX0_least_12 : decode cX0_least 12 = .ok (.astore_n 3, 1) := dk_78 (dk_at dksX0_least_0 12 rfl rfl)
theorem dX0_least_13 : decode cX0_least 13 = .ok (.iconst 1, 1) := dk_4 (dk_at dksX0_least_0 13 rfl rfl)
theorem dX0_least_14 : decode cX0_least 14 = .ok (.ireturn, 1) := dk_172 (dk_at dksX0_least_0 14 rfl rfl)
theorem dX0_least_15 : decode cX0_least 15 = .ok (.astore_n 3, 1) := dk_78 (dk_at dksX0_least_0 15 rfl rfl)
theorem dX0_least_16 : decode cX0_least 16 = .ok (.iconst 2, 1) := dk_5 (dk_at dksX0_least_0 16 rfl rfl)
theorem dX0_least_17 : decode cX0_least 17 = .ok (.ireturn, 1) := dk_172 (dk_at dksX0_least_0 17 rfl rfl)
theorem dX0_least_18 : decode cX0_least 18 = .ok (.iconst 0, 1) := dk_3 (dk_at dksX0_least_0 18 rfl rfl)
theorem dX0_least_19 : decode cX0_least 19 = .ok (.ireturn, 1) := dk_172 (dk_at dksX0_least_0 19 rfl rfl)
abbrev cX0_worth : ByteArray := method_31_code
def yX0_worth : MethodName := ⟨RX0, "worth", "(LSelectoRoute;III[J)I"⟩
def dkwX0_worth_1 : List UInt8 := [172]
abbrev dktX0_worth_1 : List UInt8 := dkwX0_worth_1 ++ []
def dkwX0_worth_0 : List UInt8 := [25, 4, 3, 42, 27, 28, 29, 182, 0, 110, 133, 80, 167, 0, 11, 58, 5, 4, 172, 58, 5, 5, 172, 3]
abbrev dktX0_worth_0 : List UInt8 := dkwX0_worth_0 ++ dktX0_worth_1
theorem dksX0_worth_0 : cX0_worth.data.toList.drop 0 = dktX0_worth_0 := by decide +kernel
theorem dksX0_worth_1 : cX0_worth.data.toList.drop 24 = dktX0_worth_1 := dk_seg dksX0_worth_0 24 rfl rfl
theorem dX0_worth_0 : decode cX0_worth 0 = .ok (.aload 4, 2) := dk_25 4 (dk_at dksX0_worth_0 0 rfl rfl)
theorem dX0_worth_2 : decode cX0_worth 2 = .ok (.iconst 0, 1) := dk_3 (dk_at dksX0_worth_0 2 rfl rfl)
theorem dX0_worth_3 : decode cX0_worth 3 = .ok (.aload_n 0, 1) := dk_42 (dk_at dksX0_worth_0 3 rfl rfl)
theorem dX0_worth_4 : decode cX0_worth 4 = .ok (.iload_n 1, 1) := dk_27 (dk_at dksX0_worth_0 4 rfl rfl)
theorem dX0_worth_5 : decode cX0_worth 5 = .ok (.iload_n 2, 1) := dk_28 (dk_at dksX0_worth_0 5 rfl rfl)
theorem dX0_worth_6 : decode cX0_worth 6 = .ok (.iload_n 3, 1) := dk_29 (dk_at dksX0_worth_0 6 rfl rfl)
theorem dX0_worth_7 : decode cX0_worth 7 = .ok (.invokevirtual 110, 3) := dk_182 0 110 (dk_at dksX0_worth_0 7 rfl rfl)
theorem dX0_worth_10 : decode cX0_worth 10 = .ok (.i2l, 1) := dk_133 (dk_at dksX0_worth_0 10 rfl rfl)
theorem dX0_worth_11 : decode cX0_worth 11 = .ok (.lastore, 1) := dk_80 (dk_at dksX0_worth_0 11 rfl rfl)
theorem dX0_worth_12 : decode cX0_worth 12 = .ok (.goto 11, 3) := dk_167 0 11 (dk_at dksX0_worth_0 12 rfl rfl)
theorem dX0_worth_15 : decode cX0_worth 15 = .ok (.astore 5, 2) := dk_58 5 (dk_at dksX0_worth_0 15 rfl rfl)
theorem dX0_worth_17 : decode cX0_worth 17 = .ok (.iconst 1, 1) := dk_4 (dk_at dksX0_worth_0 17 rfl rfl)
theorem dX0_worth_18 : decode cX0_worth 18 = .ok (.ireturn, 1) := dk_172 (dk_at dksX0_worth_0 18 rfl rfl)
theorem dX0_worth_19 : decode cX0_worth 19 = .ok (.astore 5, 2) := dk_58 5 (dk_at dksX0_worth_0 19 rfl rfl)
theorem dX0_worth_21 : decode cX0_worth 21 = .ok (.iconst 2, 1) := dk_5 (dk_at dksX0_worth_0 21 rfl rfl)
theorem dX0_worth_22 : decode cX0_worth 22 = .ok (.ireturn, 1) := dk_172 (dk_at dksX0_worth_0 22 rfl rfl)
theorem dX0_worth_23 : decode cX0_worth 23 = .ok (.iconst 0, 1) := dk_3 (dk_at dksX0_worth_0 23 rfl rfl)
theorem dX0_worth_24 : decode cX0_worth 24 = .ok (.ireturn, 1) := dk_172 (dk_at dksX0_worth_1 0 rfl rfl)
abbrev cX0_bestWorth : ByteArray := method_32_code
def yX0_bestWorth : MethodName := ⟨RX0, "bestWorth", "(LSelectoRoute;II[J)I"⟩
def dkwX0_bestWorth_0 : List UInt8 := [45, 3, 42, 27, 28, 182, 0, 113, 133, 80, 167, 0, 11, 58, 4, 4, 172, 58, 4, 5, 172, 3, 172]
abbrev dktX0_bestWorth_0 : List UInt8 := dkwX0_bestWorth_0 ++ []
theorem dksX0_bestWorth_0 : cX0_bestWorth.data.toList.drop 0 = dktX0_bestWorth_0 := by decide +kernel
theorem dX0_bestWorth_0 : decode cX0_bestWorth 0 = .ok (.aload_n 3, 1) := dk_45 (dk_at dksX0_bestWorth_0 0 rfl rfl)
theorem dX0_bestWorth_1 : decode cX0_bestWorth 1 = .ok (.iconst 0, 1) := dk_3 (dk_at dksX0_bestWorth_0 1 rfl rfl)
theorem dX0_bestWorth_2 : decode cX0_bestWorth 2 = .ok (.aload_n 0, 1) := dk_42 (dk_at dksX0_bestWorth_0 2 rfl rfl)
theorem dX0_bestWorth_3 : decode cX0_bestWorth 3 = .ok (.iload_n 1, 1) := dk_27 (dk_at dksX0_bestWorth_0 3 rfl rfl)
theorem dX0_bestWorth_4 : decode cX0_bestWorth 4 = .ok (.iload_n 2, 1) := dk_28 (dk_at dksX0_bestWorth_0 4 rfl rfl)
theorem dX0_bestWorth_5 : decode cX0_bestWorth 5 = .ok (.invokevirtual 113, 3) := dk_182 0 113 (dk_at dksX0_bestWorth_0 5 rfl rfl)
theorem dX0_bestWorth_8 : decode cX0_bestWorth 8 = .ok (.i2l, 1) := dk_133 (dk_at dksX0_bestWorth_0 8 rfl rfl)
theorem dX0_bestWorth_9 : decode cX0_bestWorth 9 = .ok (.lastore, 1) := dk_80 (dk_at dksX0_bestWorth_0 9 rfl rfl)
theorem dX0_bestWorth_10 : decode cX0_bestWorth 10 = .ok (.goto 11, 3) := dk_167 0 11 (dk_at dksX0_bestWorth_0 10 rfl rfl)
theorem dX0_bestWorth_13 : decode cX0_bestWorth 13 = .ok (.astore 4, 2) := dk_58 4 (dk_at dksX0_bestWorth_0 13 rfl rfl)
theorem dX0_bestWorth_15 : decode cX0_bestWorth 15 = .ok (.iconst 1, 1) := dk_4 (dk_at dksX0_bestWorth_0 15 rfl rfl)
theorem dX0_bestWorth_16 : decode cX0_bestWorth 16 = .ok (.ireturn, 1) := dk_172 (dk_at dksX0_bestWorth_0 16 rfl rfl)
theorem dX0_bestWorth_17 : decode cX0_bestWorth 17 = .ok (.astore 4, 2) := dk_58 4 (dk_at dksX0_bestWorth_0 17 rfl rfl)
theorem dX0_bestWorth_19 : decode cX0_bestWorth 19 = .ok (.iconst 2, 1) := dk_5 (dk_at dksX0_bestWorth_0 19 rfl rfl)
theorem dX0_bestWorth_20 : decode cX0_bestWorth 20 = .ok (.ireturn, 1) := dk_172 (dk_at dksX0_bestWorth_0 20 rfl rfl)
theorem dX0_bestWorth_21 : decode cX0_bestWorth 21 = .ok (.iconst 0, 1) := dk_3 (dk_at dksX0_bestWorth_0 21 rfl rfl)
theorem dX0_bestWorth_22 : decode cX0_bestWorth 22 = .ok (.ireturn, 1) := dk_172 (dk_at dksX0_bestWorth_0 22 rfl rfl)
abbrev cX0_wornShare : ByteArray := method_33_code
def yX0_wornShare : MethodName := ⟨RX0, "wornShare", "(LSelectoRoute;[D)I"⟩
def dkwX0_wornShare_0 : List UInt8 := [43, 3, 42, 182, 0, 116, 141, 82, 167, 0, 6, 77, 4, 172, 3, 172]
abbrev dktX0_wornShare_0 : List UInt8 := dkwX0_wornShare_0 ++ []
theorem dksX0_wornShare_0 : cX0_wornShare.data.toList.drop 0 = dktX0_wornShare_0 := by decide +kernel
theorem dX0_wornShare_0 : decode cX0_wornShare 0 = .ok (.aload_n 1, 1) := dk_43 (dk_at dksX0_wornShare_0 0 rfl rfl)
theorem dX0_wornShare_1 : decode cX0_wornShare 1 = .ok (.iconst 0, 1) := dk_3 (dk_at dksX0_wornShare_0 1 rfl rfl)
theorem dX0_wornShare_2 : decode cX0_wornShare 2 = .ok (.aload_n 0, 1) := dk_42 (dk_at dksX0_wornShare_0 2 rfl rfl)
theorem dX0_wornShare_3 : decode cX0_wornShare 3 = .ok (.invokevirtual 116, 3) := dk_182 0 116 (dk_at dksX0_wornShare_0 3 rfl rfl)
theorem dX0_wornShare_6 : decode cX0_wornShare 6 = .ok (.f2d, 1) := dk_141 (dk_at dksX0_wornShare_0 6 rfl rfl)
theorem dX0_wornShare_7 : decode cX0_wornShare 7 = .ok (.dastore, 1) := dk_82 (dk_at dksX0_wornShare_0 7 rfl rfl)
theorem dX0_wornShare_8 : decode cX0_wornShare 8 = .ok (.goto 6, 3) := dk_167 0 6 (dk_at dksX0_wornShare_0 8 rfl rfl)
theorem dX0_wornShare_11 : decode cX0_wornShare 11 = .ok (.astore_n 2, 1) := dk_77 (dk_at dksX0_wornShare_0 11 rfl rfl)
theorem dX0_wornShare_12 : decode cX0_wornShare 12 = .ok (.iconst 1, 1) := dk_4 (dk_at dksX0_wornShare_0 12 rfl rfl)
theorem dX0_wornShare_13 : decode cX0_wornShare 13 = .ok (.ireturn, 1) := dk_172 (dk_at dksX0_wornShare_0 13 rfl rfl)
theorem dX0_wornShare_14 : decode cX0_wornShare 14 = .ok (.iconst 0, 1) := dk_3 (dk_at dksX0_wornShare_0 14 rfl rfl)
theorem dX0_wornShare_15 : decode cX0_wornShare 15 = .ok (.ireturn, 1) := dk_172 (dk_at dksX0_wornShare_0 15 rfl rfl)
abbrev cX0_meanPull : ByteArray := method_34_code
def yX0_meanPull : MethodName := ⟨RX0, "meanPull", "(LSelectoRoute;[D)I"⟩
def dkwX0_meanPull_0 : List UInt8 := [43, 3, 42, 182, 0, 122, 82, 167, 0, 6, 77, 4, 172, 3, 172]
abbrev dktX0_meanPull_0 : List UInt8 := dkwX0_meanPull_0 ++ []
theorem dksX0_meanPull_0 : cX0_meanPull.data.toList.drop 0 = dktX0_meanPull_0 := by decide +kernel
theorem dX0_meanPull_0 : decode cX0_meanPull 0 = .ok (.aload_n 1, 1) := dk_43 (dk_at dksX0_meanPull_0 0 rfl rfl)
theorem dX0_meanPull_1 : decode cX0_meanPull 1 = .ok (.iconst 0, 1) := dk_3 (dk_at dksX0_meanPull_0 1 rfl rfl)
theorem dX0_meanPull_2 : decode cX0_meanPull 2 = .ok (.aload_n 0, 1) := dk_42 (dk_at dksX0_meanPull_0 2 rfl rfl)
theorem dX0_meanPull_3 : decode cX0_meanPull 3 = .ok (.invokevirtual 122, 3) := dk_182 0 122 (dk_at dksX0_meanPull_0 3 rfl rfl)
theorem dX0_meanPull_6 : decode cX0_meanPull 6 = .ok (.dastore, 1) := dk_82 (dk_at dksX0_meanPull_0 6 rfl rfl)
theorem dX0_meanPull_7 : decode cX0_meanPull 7 = .ok (.goto 6, 3) := dk_167 0 6 (dk_at dksX0_meanPull_0 7 rfl rfl)
theorem dX0_meanPull_10 : decode cX0_meanPull 10 = .ok (.astore_n 2, 1) := dk_77 (dk_at dksX0_meanPull_0 10 rfl rfl)
theorem dX0_meanPull_11 : decode cX0_meanPull 11 = .ok (.iconst 1, 1) := dk_4 (dk_at dksX0_meanPull_0 11 rfl rfl)
theorem dX0_meanPull_12 : decode cX0_meanPull 12 = .ok (.ireturn, 1) := dk_172 (dk_at dksX0_meanPull_0 12 rfl rfl)
theorem dX0_meanPull_13 : decode cX0_meanPull 13 = .ok (.iconst 0, 1) := dk_3 (dk_at dksX0_meanPull_0 13 rfl rfl)
theorem dX0_meanPull_14 : decode cX0_meanPull 14 = .ok (.ireturn, 1) := dk_172 (dk_at dksX0_meanPull_0 14 rfl rfl)
theorem q23 : (Jvm.Cond.initialized "SelectoRouteLaw") ∈ lw_all := lw_g (lw_at lw_m1 0 rfl) rfl
theorem q56 : (Jvm.Cond.classLink "SelectoRouteLaw" (8 : Nat) "SelectoRoute") ∈ lw_all := lw_g (lw_at lw_m1 33 rfl) rfl
theorem q58 : (Jvm.Cond.methodLink "SelectoRouteLaw" (126 : Nat) ({ cls := "SelectoRoute", name := "<init>", desc := "()V" } : Jvm.MethodName)) ∈ lw_all := lw_g (lw_at lw_m1 35 rfl) rfl
theorem q115 : (Jvm.Cond.methodLink "SelectoRouteLaw" (197 : Nat) ({ cls := "SelectoRoute", name := "getWeek", desc := "()I" } : Jvm.MethodName)) ∈ lw_all := lw_g (lw_at lw_m1 92 rfl) rfl
theorem q119 : (Jvm.Cond.methodLink "SelectoRouteLaw" (201 : Nat) ({ cls := "SelectoRoute", name := "getMinutes", desc := "()I" } : Jvm.MethodName)) ∈ lw_all := lw_g (lw_at lw_m1 96 rfl) rfl
theorem q123 : (Jvm.Cond.methodLink "SelectoRouteLaw" (214 : Nat) ({ cls := "SelectoRoute", name := "getEarned", desc := "()I" } : Jvm.MethodName)) ∈ lw_all := lw_g (lw_at lw_m1 100 rfl) rfl
theorem q127 : (Jvm.Cond.methodLink "SelectoRouteLaw" (249 : Nat) ({ cls := "SelectoRoute", name := "checksum", desc := "()J" } : Jvm.MethodName)) ∈ lw_all := lw_g (lw_at lw_m1 104 rfl) rfl
theorem q250 : (Jvm.Cond.methodLink "SelectoRouteLaw" (254 : Nat) ({ cls := "SelectoRoute", name := "isSound", desc := "()Z" } : Jvm.MethodName)) ∈ lw_all := lw_g (lw_at lw_m1 227 rfl) rfl
theorem q416 : (Jvm.Cond.methodLink "SelectoRouteLaw" (130 : Nat) ({ cls := "SelectoRouteLaw", name := "addDisc", desc := "(LSelectoRoute;III[J)I" } : Jvm.MethodName)) ∈ lw_all := lw_g (lw_at lw_m2 153 rfl) rfl
theorem q417 : (Jvm.Cond.static ({ cls := "SelectoRouteLaw", name := "addDisc", desc := "(LSelectoRoute;III[J)I" } : Jvm.MethodName)) ∈ lw_all := lw_g (lw_at lw_m2 154 rfl) rfl
theorem q418 : (Jvm.Cond.codeWith ({ cls := "SelectoRouteLaw", name := "addDisc", desc := "(LSelectoRoute;III[J)I" } : Jvm.MethodName) method_3_code (6 : Nat) (Option.some Jvm.ClassFile.FieldType.int) [((0 : Nat), (12 : Nat), (15 : Nat), (13 : Nat)), ((0 : Nat), (12 : Nat), (19 : Nat), (15 : Nat))]) ∈ lw_all := lw_g (lw_at lw_m2 155 rfl) rfl
theorem q419 : (Jvm.Cond.classLink "SelectoRouteLaw" (13 : Nat) "java/lang/IllegalArgumentException") ∈ lw_all := lw_g (lw_at lw_m2 156 rfl) rfl
theorem q420 : (Jvm.Cond.classLink "SelectoRouteLaw" (15 : Nat) "java/lang/IllegalStateException") ∈ lw_all := lw_g (lw_at lw_m2 157 rfl) rfl
theorem q421 : (Jvm.Cond.methodLink "SelectoRouteLaw" (7 : Nat) ({ cls := "SelectoRoute", name := "addDisc", desc := "(III)I" } : Jvm.MethodName)) ∈ lw_all := lw_g (lw_at lw_m2 158 rfl) rfl
theorem q489 : (Jvm.Cond.methodLink "SelectoRouteLaw" (139 : Nat) ({ cls := "SelectoRouteLaw", name := "addBox", desc := "(LSelectoRoute;II[J)I" } : Jvm.MethodName)) ∈ lw_all := lw_g (lw_at lw_m2 226 rfl) rfl
theorem q490 : (Jvm.Cond.static ({ cls := "SelectoRouteLaw", name := "addBox", desc := "(LSelectoRoute;II[J)I" } : Jvm.MethodName)) ∈ lw_all := lw_g (lw_at lw_m2 227 rfl) rfl
theorem q491 : (Jvm.Cond.codeWith ({ cls := "SelectoRouteLaw", name := "addBox", desc := "(LSelectoRoute;II[J)I" } : Jvm.MethodName) method_4_code (5 : Nat) (Option.some Jvm.ClassFile.FieldType.int) [((0 : Nat), (10 : Nat), (13 : Nat), (13 : Nat)), ((0 : Nat), (10 : Nat), (17 : Nat), (15 : Nat))]) ∈ lw_all := lw_g (lw_at lw_m2 228 rfl) rfl
theorem q492 : (Jvm.Cond.methodLink "SelectoRouteLaw" (17 : Nat) ({ cls := "SelectoRoute", name := "addBox", desc := "(II)I" } : Jvm.MethodName)) ∈ lw_all := lw_g (lw_at lw_m2 229 rfl) rfl
theorem q562 : (Jvm.Cond.methodLink "SelectoRouteLaw" (143 : Nat) ({ cls := "SelectoRouteLaw", name := "setRisk", desc := "(LSelectoRoute;II[J)I" } : Jvm.MethodName)) ∈ lw_all := lw_g (lw_at lw_m3 59 rfl) rfl
theorem q563 : (Jvm.Cond.static ({ cls := "SelectoRouteLaw", name := "setRisk", desc := "(LSelectoRoute;II[J)I" } : Jvm.MethodName)) ∈ lw_all := lw_g (lw_at lw_m3 60 rfl) rfl
theorem q564 : (Jvm.Cond.codeWith ({ cls := "SelectoRouteLaw", name := "setRisk", desc := "(LSelectoRoute;II[J)I" } : Jvm.MethodName) method_5_code (5 : Nat) (Option.some Jvm.ClassFile.FieldType.int) [((0 : Nat), (10 : Nat), (13 : Nat), (24 : Nat)), ((0 : Nat), (10 : Nat), (17 : Nat), (13 : Nat))]) ∈ lw_all := lw_g (lw_at lw_m3 61 rfl) rfl
theorem q565 : (Jvm.Cond.classLink "SelectoRouteLaw" (24 : Nat) "java/lang/IndexOutOfBoundsException") ∈ lw_all := lw_g (lw_at lw_m3 62 rfl) rfl
theorem q598 : (Jvm.Cond.methodLink "SelectoRouteLaw" (21 : Nat) ({ cls := "SelectoRoute", name := "setRisk", desc := "(II)I" } : Jvm.MethodName)) ∈ lw_all := lw_g (lw_at lw_m3 95 rfl) rfl
theorem q624 : (Jvm.Cond.methodLink "SelectoRouteLaw" (146 : Nat) ({ cls := "SelectoRouteLaw", name := "setSeed", desc := "(LSelectoRoute;I[J)I" } : Jvm.MethodName)) ∈ lw_all := lw_g (lw_at lw_m3 121 rfl) rfl
theorem q625 : (Jvm.Cond.static ({ cls := "SelectoRouteLaw", name := "setSeed", desc := "(LSelectoRoute;I[J)I" } : Jvm.MethodName)) ∈ lw_all := lw_g (lw_at lw_m3 122 rfl) rfl
theorem q626 : (Jvm.Cond.codeWith ({ cls := "SelectoRouteLaw", name := "setSeed", desc := "(LSelectoRoute;I[J)I" } : Jvm.MethodName) method_6_code (4 : Nat) (Option.some Jvm.ClassFile.FieldType.int) [((0 : Nat), (9 : Nat), (12 : Nat), (13 : Nat))]) ∈ lw_all := lw_g (lw_at lw_m3 123 rfl) rfl
theorem q627 : (Jvm.Cond.methodLink "SelectoRouteLaw" (26 : Nat) ({ cls := "SelectoRoute", name := "setSeed", desc := "(I)I" } : Jvm.MethodName)) ∈ lw_all := lw_g (lw_at lw_m3 124 rfl) rfl
theorem q632 : (Jvm.Cond.methodLink "SelectoRouteLaw" (150 : Nat) ({ cls := "SelectoRouteLaw", name := "insert", desc := "(LSelectoRoute;IC[J)I" } : Jvm.MethodName)) ∈ lw_all := lw_g (lw_at lw_m3 129 rfl) rfl
theorem q633 : (Jvm.Cond.static ({ cls := "SelectoRouteLaw", name := "insert", desc := "(LSelectoRoute;IC[J)I" } : Jvm.MethodName)) ∈ lw_all := lw_g (lw_at lw_m3 130 rfl) rfl
theorem q634 : (Jvm.Cond.codeWith ({ cls := "SelectoRouteLaw", name := "insert", desc := "(LSelectoRoute;IC[J)I" } : Jvm.MethodName) method_7_code (5 : Nat) (Option.some Jvm.ClassFile.FieldType.int) [((0 : Nat), (10 : Nat), (13 : Nat), (24 : Nat)), ((0 : Nat), (10 : Nat), (17 : Nat), (13 : Nat)), ((0 : Nat), (10 : Nat), (21 : Nat), (34 : Nat)), ((0 : Nat), (10 : Nat), (25 : Nat), (15 : Nat))]) ∈ lw_all := lw_g (lw_at lw_m3 131 rfl) rfl
theorem q635 : (Jvm.Cond.classLink "SelectoRouteLaw" (34 : Nat) "java/lang/UnsupportedOperationException") ∈ lw_all := lw_g (lw_at lw_m3 132 rfl) rfl
theorem q636 : (Jvm.Cond.methodLink "SelectoRouteLaw" (30 : Nat) ({ cls := "SelectoRoute", name := "insert", desc := "(IC)I" } : Jvm.MethodName)) ∈ lw_all := lw_g (lw_at lw_m3 133 rfl) rfl
theorem q692 : (Jvm.Cond.methodLink "SelectoRouteLaw" (154 : Nat) ({ cls := "SelectoRouteLaw", name := "press", desc := "(LSelectoRoute;II[J)I" } : Jvm.MethodName)) ∈ lw_all := lw_g (lw_at lw_m3 189 rfl) rfl
theorem q693 : (Jvm.Cond.static ({ cls := "SelectoRouteLaw", name := "press", desc := "(LSelectoRoute;II[J)I" } : Jvm.MethodName)) ∈ lw_all := lw_g (lw_at lw_m3 190 rfl) rfl
theorem q694 : (Jvm.Cond.codeWith ({ cls := "SelectoRouteLaw", name := "press", desc := "(LSelectoRoute;II[J)I" } : Jvm.MethodName) method_8_code (5 : Nat) (Option.some Jvm.ClassFile.FieldType.int) [((0 : Nat), (10 : Nat), (13 : Nat), (24 : Nat)), ((0 : Nat), (10 : Nat), (17 : Nat), (34 : Nat)), ((0 : Nat), (10 : Nat), (21 : Nat), (15 : Nat))]) ∈ lw_all := lw_g (lw_at lw_m3 191 rfl) rfl
theorem q695 : (Jvm.Cond.methodLink "SelectoRouteLaw" (36 : Nat) ({ cls := "SelectoRoute", name := "press", desc := "(II)I" } : Jvm.MethodName)) ∈ lw_all := lw_g (lw_at lw_m3 192 rfl) rfl
theorem q703 : (Jvm.Cond.methodLink "SelectoRouteLaw" (157 : Nat) ({ cls := "SelectoRouteLaw", name := "play", desc := "(LSelectoRoute;I[J)I" } : Jvm.MethodName)) ∈ lw_all := lw_g (lw_at lw_m3 200 rfl) rfl
theorem q704 : (Jvm.Cond.static ({ cls := "SelectoRouteLaw", name := "play", desc := "(LSelectoRoute;I[J)I" } : Jvm.MethodName)) ∈ lw_all := lw_g (lw_at lw_m3 201 rfl) rfl
theorem q705 : (Jvm.Cond.codeWith ({ cls := "SelectoRouteLaw", name := "play", desc := "(LSelectoRoute;I[J)I" } : Jvm.MethodName) method_9_code (4 : Nat) (Option.some Jvm.ClassFile.FieldType.int) [((0 : Nat), (9 : Nat), (12 : Nat), (24 : Nat)), ((0 : Nat), (9 : Nat), (15 : Nat), (34 : Nat)), ((0 : Nat), (9 : Nat), (18 : Nat), (43 : Nat))]) ∈ lw_all := lw_g (lw_at lw_m3 202 rfl) rfl
theorem q706 : (Jvm.Cond.classLink "SelectoRouteLaw" (43 : Nat) "java/util/NoSuchElementException") ∈ lw_all := lw_g (lw_at lw_m3 203 rfl) rfl
theorem q707 : (Jvm.Cond.methodLink "SelectoRouteLaw" (39 : Nat) ({ cls := "SelectoRoute", name := "play", desc := "(I)C" } : Jvm.MethodName)) ∈ lw_all := lw_g (lw_at lw_m3 204 rfl) rfl
theorem q728 : (Jvm.Cond.methodLink "SelectoRouteLaw" (160 : Nat) ({ cls := "SelectoRouteLaw", name := "getCredits", desc := "(LSelectoRoute;I[J)I" } : Jvm.MethodName)) ∈ lw_all := lw_g (lw_at lw_m3 225 rfl) rfl
theorem q729 : (Jvm.Cond.static ({ cls := "SelectoRouteLaw", name := "getCredits", desc := "(LSelectoRoute;I[J)I" } : Jvm.MethodName)) ∈ lw_all := lw_g (lw_at lw_m3 226 rfl) rfl
theorem q730 : (Jvm.Cond.codeWith ({ cls := "SelectoRouteLaw", name := "getCredits", desc := "(LSelectoRoute;I[J)I" } : Jvm.MethodName) method_10_code (4 : Nat) (Option.some Jvm.ClassFile.FieldType.int) [((0 : Nat), (9 : Nat), (12 : Nat), (24 : Nat))]) ∈ lw_all := lw_g (lw_at lw_m3 227 rfl) rfl
theorem q731 : (Jvm.Cond.methodLink "SelectoRouteLaw" (45 : Nat) ({ cls := "SelectoRoute", name := "getCredits", desc := "(I)I" } : Jvm.MethodName)) ∈ lw_all := lw_g (lw_at lw_m3 228 rfl) rfl
theorem q735 : (Jvm.Cond.methodLink "SelectoRouteLaw" (163 : Nat) ({ cls := "SelectoRouteLaw", name := "getQueued", desc := "(LSelectoRoute;I[J)I" } : Jvm.MethodName)) ∈ lw_all := lw_g (lw_at lw_m3 232 rfl) rfl
theorem q736 : (Jvm.Cond.static ({ cls := "SelectoRouteLaw", name := "getQueued", desc := "(LSelectoRoute;I[J)I" } : Jvm.MethodName)) ∈ lw_all := lw_g (lw_at lw_m3 233 rfl) rfl
theorem q737 : (Jvm.Cond.codeWith ({ cls := "SelectoRouteLaw", name := "getQueued", desc := "(LSelectoRoute;I[J)I" } : Jvm.MethodName) method_11_code (4 : Nat) (Option.some Jvm.ClassFile.FieldType.int) [((0 : Nat), (9 : Nat), (12 : Nat), (24 : Nat))]) ∈ lw_all := lw_g (lw_at lw_m3 234 rfl) rfl
theorem q738 : (Jvm.Cond.methodLink "SelectoRouteLaw" (48 : Nat) ({ cls := "SelectoRoute", name := "getQueued", desc := "(I)I" } : Jvm.MethodName)) ∈ lw_all := lw_g (lw_at lw_m3 235 rfl) rfl
theorem q742 : (Jvm.Cond.methodLink "SelectoRouteLaw" (166 : Nat) ({ cls := "SelectoRouteLaw", name := "getCents", desc := "(LSelectoRoute;I[J)I" } : Jvm.MethodName)) ∈ lw_all := lw_g (lw_at lw_m3 239 rfl) rfl
theorem q743 : (Jvm.Cond.static ({ cls := "SelectoRouteLaw", name := "getCents", desc := "(LSelectoRoute;I[J)I" } : Jvm.MethodName)) ∈ lw_all := lw_g (lw_at lw_m4 0 rfl) rfl
theorem q744 : (Jvm.Cond.codeWith ({ cls := "SelectoRouteLaw", name := "getCents", desc := "(LSelectoRoute;I[J)I" } : Jvm.MethodName) method_12_code (4 : Nat) (Option.some Jvm.ClassFile.FieldType.int) [((0 : Nat), (9 : Nat), (12 : Nat), (24 : Nat))]) ∈ lw_all := lw_g (lw_at lw_m4 1 rfl) rfl
theorem q745 : (Jvm.Cond.methodLink "SelectoRouteLaw" (51 : Nat) ({ cls := "SelectoRoute", name := "getCents", desc := "(I)I" } : Jvm.MethodName)) ∈ lw_all := lw_g (lw_at lw_m4 2 rfl) rfl
theorem q749 : (Jvm.Cond.methodLink "SelectoRouteLaw" (169 : Nat) ({ cls := "SelectoRouteLaw", name := "isJammed", desc := "(LSelectoRoute;I[J)I" } : Jvm.MethodName)) ∈ lw_all := lw_g (lw_at lw_m4 6 rfl) rfl
theorem q750 : (Jvm.Cond.static ({ cls := "SelectoRouteLaw", name := "isJammed", desc := "(LSelectoRoute;I[J)I" } : Jvm.MethodName)) ∈ lw_all := lw_g (lw_at lw_m4 7 rfl) rfl
theorem q751 : (Jvm.Cond.codeWith ({ cls := "SelectoRouteLaw", name := "isJammed", desc := "(LSelectoRoute;I[J)I" } : Jvm.MethodName) method_13_code (4 : Nat) (Option.some Jvm.ClassFile.FieldType.int) [((0 : Nat), (16 : Nat), (19 : Nat), (24 : Nat))]) ∈ lw_all := lw_g (lw_at lw_m4 8 rfl) rfl
theorem q752 : (Jvm.Cond.methodLink "SelectoRouteLaw" (54 : Nat) ({ cls := "SelectoRoute", name := "isJammed", desc := "(I)Z" } : Jvm.MethodName)) ∈ lw_all := lw_g (lw_at lw_m4 9 rfl) rfl
theorem q756 : (Jvm.Cond.methodLink "SelectoRouteLaw" (172 : Nat) ({ cls := "SelectoRouteLaw", name := "getWheel", desc := "(LSelectoRoute;II[J)I" } : Jvm.MethodName)) ∈ lw_all := lw_g (lw_at lw_m4 13 rfl) rfl
theorem q757 : (Jvm.Cond.static ({ cls := "SelectoRouteLaw", name := "getWheel", desc := "(LSelectoRoute;II[J)I" } : Jvm.MethodName)) ∈ lw_all := lw_g (lw_at lw_m4 14 rfl) rfl
theorem q758 : (Jvm.Cond.codeWith ({ cls := "SelectoRouteLaw", name := "getWheel", desc := "(LSelectoRoute;II[J)I" } : Jvm.MethodName) method_14_code (5 : Nat) (Option.some Jvm.ClassFile.FieldType.int) [((0 : Nat), (10 : Nat), (13 : Nat), (24 : Nat))]) ∈ lw_all := lw_g (lw_at lw_m4 15 rfl) rfl
theorem q759 : (Jvm.Cond.methodLink "SelectoRouteLaw" (58 : Nat) ({ cls := "SelectoRoute", name := "getWheel", desc := "(II)I" } : Jvm.MethodName)) ∈ lw_all := lw_g (lw_at lw_m4 16 rfl) rfl
theorem q763 : (Jvm.Cond.methodLink "SelectoRouteLaw" (175 : Nat) ({ cls := "SelectoRouteLaw", name := "getNeedle", desc := "(LSelectoRoute;I[J)I" } : Jvm.MethodName)) ∈ lw_all := lw_g (lw_at lw_m4 20 rfl) rfl
theorem q764 : (Jvm.Cond.static ({ cls := "SelectoRouteLaw", name := "getNeedle", desc := "(LSelectoRoute;I[J)I" } : Jvm.MethodName)) ∈ lw_all := lw_g (lw_at lw_m4 21 rfl) rfl
theorem q765 : (Jvm.Cond.codeWith ({ cls := "SelectoRouteLaw", name := "getNeedle", desc := "(LSelectoRoute;I[J)I" } : Jvm.MethodName) method_15_code (4 : Nat) (Option.some Jvm.ClassFile.FieldType.int) [((0 : Nat), (9 : Nat), (12 : Nat), (24 : Nat))]) ∈ lw_all := lw_g (lw_at lw_m4 22 rfl) rfl
theorem q766 : (Jvm.Cond.methodLink "SelectoRouteLaw" (61 : Nat) ({ cls := "SelectoRoute", name := "getNeedle", desc := "(I)I" } : Jvm.MethodName)) ∈ lw_all := lw_g (lw_at lw_m4 23 rfl) rfl
theorem q770 : (Jvm.Cond.methodLink "SelectoRouteLaw" (178 : Nat) ({ cls := "SelectoRouteLaw", name := "getWear", desc := "(LSelectoRoute;I[J)I" } : Jvm.MethodName)) ∈ lw_all := lw_g (lw_at lw_m4 27 rfl) rfl
theorem q771 : (Jvm.Cond.static ({ cls := "SelectoRouteLaw", name := "getWear", desc := "(LSelectoRoute;I[J)I" } : Jvm.MethodName)) ∈ lw_all := lw_g (lw_at lw_m4 28 rfl) rfl
theorem q772 : (Jvm.Cond.codeWith ({ cls := "SelectoRouteLaw", name := "getWear", desc := "(LSelectoRoute;I[J)I" } : Jvm.MethodName) method_16_code (4 : Nat) (Option.some Jvm.ClassFile.FieldType.int) [((0 : Nat), (9 : Nat), (12 : Nat), (24 : Nat))]) ∈ lw_all := lw_g (lw_at lw_m4 29 rfl) rfl
theorem q773 : (Jvm.Cond.methodLink "SelectoRouteLaw" (64 : Nat) ({ cls := "SelectoRoute", name := "getWear", desc := "(I)I" } : Jvm.MethodName)) ∈ lw_all := lw_g (lw_at lw_m4 30 rfl) rfl
theorem q781 : (Jvm.Cond.methodLink "SelectoRouteLaw" (181 : Nat) ({ cls := "SelectoRouteLaw", name := "getPlace", desc := "(LSelectoRoute;I[J)I" } : Jvm.MethodName)) ∈ lw_all := lw_g (lw_at lw_m4 38 rfl) rfl
theorem q782 : (Jvm.Cond.static ({ cls := "SelectoRouteLaw", name := "getPlace", desc := "(LSelectoRoute;I[J)I" } : Jvm.MethodName)) ∈ lw_all := lw_g (lw_at lw_m4 39 rfl) rfl
theorem q783 : (Jvm.Cond.codeWith ({ cls := "SelectoRouteLaw", name := "getPlace", desc := "(LSelectoRoute;I[J)I" } : Jvm.MethodName) method_17_code (4 : Nat) (Option.some Jvm.ClassFile.FieldType.int) [((0 : Nat), (9 : Nat), (12 : Nat), (24 : Nat))]) ∈ lw_all := lw_g (lw_at lw_m4 40 rfl) rfl
theorem q784 : (Jvm.Cond.methodLink "SelectoRouteLaw" (67 : Nat) ({ cls := "SelectoRoute", name := "getPlace", desc := "(I)I" } : Jvm.MethodName)) ∈ lw_all := lw_g (lw_at lw_m4 41 rfl) rfl
theorem q788 : (Jvm.Cond.methodLink "SelectoRouteLaw" (184 : Nat) ({ cls := "SelectoRouteLaw", name := "discAt", desc := "(LSelectoRoute;II[J)I" } : Jvm.MethodName)) ∈ lw_all := lw_g (lw_at lw_m4 45 rfl) rfl
theorem q789 : (Jvm.Cond.static ({ cls := "SelectoRouteLaw", name := "discAt", desc := "(LSelectoRoute;II[J)I" } : Jvm.MethodName)) ∈ lw_all := lw_g (lw_at lw_m4 46 rfl) rfl
theorem q790 : (Jvm.Cond.codeWith ({ cls := "SelectoRouteLaw", name := "discAt", desc := "(LSelectoRoute;II[J)I" } : Jvm.MethodName) method_18_code (5 : Nat) (Option.some Jvm.ClassFile.FieldType.int) [((0 : Nat), (10 : Nat), (13 : Nat), (24 : Nat)), ((0 : Nat), (10 : Nat), (17 : Nat), (43 : Nat))]) ∈ lw_all := lw_g (lw_at lw_m4 47 rfl) rfl
theorem q791 : (Jvm.Cond.methodLink "SelectoRouteLaw" (70 : Nat) ({ cls := "SelectoRoute", name := "discAt", desc := "(II)I" } : Jvm.MethodName)) ∈ lw_all := lw_g (lw_at lw_m4 48 rfl) rfl
theorem q795 : (Jvm.Cond.methodLink "SelectoRouteLaw" (187 : Nat) ({ cls := "SelectoRouteLaw", name := "pull", desc := "(LSelectoRoute;I[J)I" } : Jvm.MethodName)) ∈ lw_all := lw_g (lw_at lw_m4 52 rfl) rfl
theorem q796 : (Jvm.Cond.static ({ cls := "SelectoRouteLaw", name := "pull", desc := "(LSelectoRoute;I[J)I" } : Jvm.MethodName)) ∈ lw_all := lw_g (lw_at lw_m4 53 rfl) rfl
theorem q797 : (Jvm.Cond.codeWith ({ cls := "SelectoRouteLaw", name := "pull", desc := "(LSelectoRoute;I[J)I" } : Jvm.MethodName) method_19_code (4 : Nat) (Option.some Jvm.ClassFile.FieldType.int) [((0 : Nat), (9 : Nat), (12 : Nat), (24 : Nat))]) ∈ lw_all := lw_g (lw_at lw_m4 54 rfl) rfl
theorem q798 : (Jvm.Cond.methodLink "SelectoRouteLaw" (73 : Nat) ({ cls := "SelectoRoute", name := "pull", desc := "(I)I" } : Jvm.MethodName)) ∈ lw_all := lw_g (lw_at lw_m4 55 rfl) rfl
theorem q802 : (Jvm.Cond.methodLink "SelectoRouteLaw" (190 : Nat) ({ cls := "SelectoRouteLaw", name := "pullIn", desc := "(LSelectoRoute;II[J)I" } : Jvm.MethodName)) ∈ lw_all := lw_g (lw_at lw_m4 59 rfl) rfl
theorem q803 : (Jvm.Cond.static ({ cls := "SelectoRouteLaw", name := "pullIn", desc := "(LSelectoRoute;II[J)I" } : Jvm.MethodName)) ∈ lw_all := lw_g (lw_at lw_m4 60 rfl) rfl
theorem q804 : (Jvm.Cond.codeWith ({ cls := "SelectoRouteLaw", name := "pullIn", desc := "(LSelectoRoute;II[J)I" } : Jvm.MethodName) method_20_code (5 : Nat) (Option.some Jvm.ClassFile.FieldType.int) [((0 : Nat), (10 : Nat), (13 : Nat), (24 : Nat))]) ∈ lw_all := lw_g (lw_at lw_m4 61 rfl) rfl
theorem q805 : (Jvm.Cond.methodLink "SelectoRouteLaw" (76 : Nat) ({ cls := "SelectoRoute", name := "pullIn", desc := "(II)I" } : Jvm.MethodName)) ∈ lw_all := lw_g (lw_at lw_m4 62 rfl) rfl
theorem q809 : (Jvm.Cond.methodLink "SelectoRouteLaw" (193 : Nat) ({ cls := "SelectoRouteLaw", name := "pass", desc := "(LSelectoRoute;[J)I" } : Jvm.MethodName)) ∈ lw_all := lw_g (lw_at lw_m4 66 rfl) rfl
theorem q810 : (Jvm.Cond.static ({ cls := "SelectoRouteLaw", name := "pass", desc := "(LSelectoRoute;[J)I" } : Jvm.MethodName)) ∈ lw_all := lw_g (lw_at lw_m4 67 rfl) rfl
theorem q811 : (Jvm.Cond.codeWith ({ cls := "SelectoRouteLaw", name := "pass", desc := "(LSelectoRoute;[J)I" } : Jvm.MethodName) method_21_code (3 : Nat) (Option.some Jvm.ClassFile.FieldType.int) [((0 : Nat), (8 : Nat), (11 : Nat), (15 : Nat))]) ∈ lw_all := lw_g (lw_at lw_m4 68 rfl) rfl
theorem q812 : (Jvm.Cond.methodLink "SelectoRouteLaw" (79 : Nat) ({ cls := "SelectoRoute", name := "pass", desc := "()I" } : Jvm.MethodName)) ∈ lw_all := lw_g (lw_at lw_m4 69 rfl) rfl
theorem q820 : (Jvm.Cond.methodLink "SelectoRouteLaw" (205 : Nat) ({ cls := "SelectoRouteLaw", name := "visit", desc := "(LSelectoRoute;I[J)I" } : Jvm.MethodName)) ∈ lw_all := lw_g (lw_at lw_m4 77 rfl) rfl
theorem q821 : (Jvm.Cond.static ({ cls := "SelectoRouteLaw", name := "visit", desc := "(LSelectoRoute;I[J)I" } : Jvm.MethodName)) ∈ lw_all := lw_g (lw_at lw_m4 78 rfl) rfl
theorem q822 : (Jvm.Cond.codeWith ({ cls := "SelectoRouteLaw", name := "visit", desc := "(LSelectoRoute;I[J)I" } : Jvm.MethodName) method_22_code (4 : Nat) (Option.some Jvm.ClassFile.FieldType.int) [((0 : Nat), (9 : Nat), (12 : Nat), (24 : Nat)), ((0 : Nat), (9 : Nat), (15 : Nat), (34 : Nat))]) ∈ lw_all := lw_g (lw_at lw_m4 79 rfl) rfl
theorem q823 : (Jvm.Cond.methodLink "SelectoRouteLaw" (83 : Nat) ({ cls := "SelectoRoute", name := "visit", desc := "(I)I" } : Jvm.MethodName)) ∈ lw_all := lw_g (lw_at lw_m4 80 rfl) rfl
theorem q861 : (Jvm.Cond.methodLink "SelectoRouteLaw" (208 : Nat) ({ cls := "SelectoRouteLaw", name := "getShort", desc := "(LSelectoRoute;I[J)I" } : Jvm.MethodName)) ∈ lw_all := lw_g (lw_at lw_m4 118 rfl) rfl
theorem q862 : (Jvm.Cond.static ({ cls := "SelectoRouteLaw", name := "getShort", desc := "(LSelectoRoute;I[J)I" } : Jvm.MethodName)) ∈ lw_all := lw_g (lw_at lw_m4 119 rfl) rfl
theorem q863 : (Jvm.Cond.codeWith ({ cls := "SelectoRouteLaw", name := "getShort", desc := "(LSelectoRoute;I[J)I" } : Jvm.MethodName) method_23_code (4 : Nat) (Option.some Jvm.ClassFile.FieldType.int) [((0 : Nat), (9 : Nat), (12 : Nat), (24 : Nat))]) ∈ lw_all := lw_g (lw_at lw_m4 120 rfl) rfl
theorem q864 : (Jvm.Cond.methodLink "SelectoRouteLaw" (86 : Nat) ({ cls := "SelectoRoute", name := "getShort", desc := "(I)I" } : Jvm.MethodName)) ∈ lw_all := lw_g (lw_at lw_m4 121 rfl) rfl
theorem q868 : (Jvm.Cond.methodLink "SelectoRouteLaw" (211 : Nat) ({ cls := "SelectoRouteLaw", name := "getShare", desc := "(LSelectoRoute;I[J)I" } : Jvm.MethodName)) ∈ lw_all := lw_g (lw_at lw_m4 125 rfl) rfl
theorem q869 : (Jvm.Cond.static ({ cls := "SelectoRouteLaw", name := "getShare", desc := "(LSelectoRoute;I[J)I" } : Jvm.MethodName)) ∈ lw_all := lw_g (lw_at lw_m4 126 rfl) rfl
theorem q870 : (Jvm.Cond.codeWith ({ cls := "SelectoRouteLaw", name := "getShare", desc := "(LSelectoRoute;I[J)I" } : Jvm.MethodName) method_24_code (4 : Nat) (Option.some Jvm.ClassFile.FieldType.int) [((0 : Nat), (9 : Nat), (12 : Nat), (24 : Nat))]) ∈ lw_all := lw_g (lw_at lw_m4 127 rfl) rfl
theorem q871 : (Jvm.Cond.methodLink "SelectoRouteLaw" (89 : Nat) ({ cls := "SelectoRoute", name := "getShare", desc := "(I)I" } : Jvm.MethodName)) ∈ lw_all := lw_g (lw_at lw_m4 128 rfl) rfl
theorem q875 : (Jvm.Cond.methodLink "SelectoRouteLaw" (218 : Nat) ({ cls := "SelectoRouteLaw", name := "change", desc := "(LSelectoRoute;III[J)I" } : Jvm.MethodName)) ∈ lw_all := lw_g (lw_at lw_m4 132 rfl) rfl
theorem q876 : (Jvm.Cond.static ({ cls := "SelectoRouteLaw", name := "change", desc := "(LSelectoRoute;III[J)I" } : Jvm.MethodName)) ∈ lw_all := lw_g (lw_at lw_m4 133 rfl) rfl
theorem q877 : (Jvm.Cond.codeWith ({ cls := "SelectoRouteLaw", name := "change", desc := "(LSelectoRoute;III[J)I" } : Jvm.MethodName) method_25_code (6 : Nat) (Option.some Jvm.ClassFile.FieldType.int) [((0 : Nat), (12 : Nat), (15 : Nat), (24 : Nat)), ((0 : Nat), (12 : Nat), (19 : Nat), (34 : Nat))]) ∈ lw_all := lw_g (lw_at lw_m4 134 rfl) rfl
theorem q878 : (Jvm.Cond.methodLink "SelectoRouteLaw" (92 : Nat) ({ cls := "SelectoRoute", name := "change", desc := "(III)I" } : Jvm.MethodName)) ∈ lw_all := lw_g (lw_at lw_m4 135 rfl) rfl
theorem q882 : (Jvm.Cond.methodLink "SelectoRouteLaw" (221 : Nat) ({ cls := "SelectoRouteLaw", name := "changeNeedle", desc := "(LSelectoRoute;I[J)I" } : Jvm.MethodName)) ∈ lw_all := lw_g (lw_at lw_m4 139 rfl) rfl
theorem q883 : (Jvm.Cond.static ({ cls := "SelectoRouteLaw", name := "changeNeedle", desc := "(LSelectoRoute;I[J)I" } : Jvm.MethodName)) ∈ lw_all := lw_g (lw_at lw_m4 140 rfl) rfl
theorem q884 : (Jvm.Cond.codeWith ({ cls := "SelectoRouteLaw", name := "changeNeedle", desc := "(LSelectoRoute;I[J)I" } : Jvm.MethodName) method_26_code (4 : Nat) (Option.some Jvm.ClassFile.FieldType.int) [((0 : Nat), (9 : Nat), (12 : Nat), (24 : Nat)), ((0 : Nat), (9 : Nat), (15 : Nat), (34 : Nat))]) ∈ lw_all := lw_g (lw_at lw_m4 141 rfl) rfl
theorem q885 : (Jvm.Cond.methodLink "SelectoRouteLaw" (95 : Nat) ({ cls := "SelectoRoute", name := "changeNeedle", desc := "(I)I" } : Jvm.MethodName)) ∈ lw_all := lw_g (lw_at lw_m4 142 rfl) rfl
theorem q889 : (Jvm.Cond.methodLink "SelectoRouteLaw" (224 : Nat) ({ cls := "SelectoRouteLaw", name := "burn", desc := "(LSelectoRoute;I[J)I" } : Jvm.MethodName)) ∈ lw_all := lw_g (lw_at lw_m4 146 rfl) rfl
theorem q890 : (Jvm.Cond.static ({ cls := "SelectoRouteLaw", name := "burn", desc := "(LSelectoRoute;I[J)I" } : Jvm.MethodName)) ∈ lw_all := lw_g (lw_at lw_m4 147 rfl) rfl
theorem q891 : (Jvm.Cond.codeWith ({ cls := "SelectoRouteLaw", name := "burn", desc := "(LSelectoRoute;I[J)I" } : Jvm.MethodName) method_27_code (4 : Nat) (Option.some Jvm.ClassFile.FieldType.int) [((0 : Nat), (9 : Nat), (12 : Nat), (24 : Nat)), ((0 : Nat), (9 : Nat), (15 : Nat), (34 : Nat))]) ∈ lw_all := lw_g (lw_at lw_m4 148 rfl) rfl
theorem q892 : (Jvm.Cond.methodLink "SelectoRouteLaw" (98 : Nat) ({ cls := "SelectoRoute", name := "burn", desc := "(I)I" } : Jvm.MethodName)) ∈ lw_all := lw_g (lw_at lw_m4 149 rfl) rfl
theorem q896 : (Jvm.Cond.methodLink "SelectoRouteLaw" (227 : Nat) ({ cls := "SelectoRouteLaw", name := "ask", desc := "(LSelectoRoute;II[J)I" } : Jvm.MethodName)) ∈ lw_all := lw_g (lw_at lw_m4 153 rfl) rfl
theorem q897 : (Jvm.Cond.static ({ cls := "SelectoRouteLaw", name := "ask", desc := "(LSelectoRoute;II[J)I" } : Jvm.MethodName)) ∈ lw_all := lw_g (lw_at lw_m4 154 rfl) rfl
theorem q898 : (Jvm.Cond.codeWith ({ cls := "SelectoRouteLaw", name := "ask", desc := "(LSelectoRoute;II[J)I" } : Jvm.MethodName) method_28_code (5 : Nat) (Option.some Jvm.ClassFile.FieldType.int) [((0 : Nat), (10 : Nat), (13 : Nat), (24 : Nat)), ((0 : Nat), (10 : Nat), (17 : Nat), (13 : Nat)), ((0 : Nat), (10 : Nat), (21 : Nat), (15 : Nat))]) ∈ lw_all := lw_g (lw_at lw_m4 155 rfl) rfl
theorem q899 : (Jvm.Cond.methodLink "SelectoRouteLaw" (101 : Nat) ({ cls := "SelectoRoute", name := "ask", desc := "(II)I" } : Jvm.MethodName)) ∈ lw_all := lw_g (lw_at lw_m4 156 rfl) rfl
theorem q903 : (Jvm.Cond.methodLink "SelectoRouteLaw" (230 : Nat) ({ cls := "SelectoRouteLaw", name := "mostAsked", desc := "(LSelectoRoute;I[J)I" } : Jvm.MethodName)) ∈ lw_all := lw_g (lw_at lw_m4 160 rfl) rfl
theorem q904 : (Jvm.Cond.static ({ cls := "SelectoRouteLaw", name := "mostAsked", desc := "(LSelectoRoute;I[J)I" } : Jvm.MethodName)) ∈ lw_all := lw_g (lw_at lw_m4 161 rfl) rfl
theorem q905 : (Jvm.Cond.codeWith ({ cls := "SelectoRouteLaw", name := "mostAsked", desc := "(LSelectoRoute;I[J)I" } : Jvm.MethodName) method_29_code (4 : Nat) (Option.some Jvm.ClassFile.FieldType.int) [((0 : Nat), (9 : Nat), (12 : Nat), (24 : Nat)), ((0 : Nat), (9 : Nat), (15 : Nat), (43 : Nat))]) ∈ lw_all := lw_g (lw_at lw_m4 162 rfl) rfl
theorem q906 : (Jvm.Cond.methodLink "SelectoRouteLaw" (104 : Nat) ({ cls := "SelectoRoute", name := "mostAsked", desc := "(I)I" } : Jvm.MethodName)) ∈ lw_all := lw_g (lw_at lw_m4 163 rfl) rfl
theorem q910 : (Jvm.Cond.methodLink "SelectoRouteLaw" (233 : Nat) ({ cls := "SelectoRouteLaw", name := "least", desc := "(LSelectoRoute;I[J)I" } : Jvm.MethodName)) ∈ lw_all := lw_g (lw_at lw_m4 167 rfl) rfl
theorem q911 : (Jvm.Cond.static ({ cls := "SelectoRouteLaw", name := "least", desc := "(LSelectoRoute;I[J)I" } : Jvm.MethodName)) ∈ lw_all := lw_g (lw_at lw_m4 168 rfl) rfl
theorem q912 : (Jvm.Cond.codeWith ({ cls := "SelectoRouteLaw", name := "least", desc := "(LSelectoRoute;I[J)I" } : Jvm.MethodName) method_30_code (4 : Nat) (Option.some Jvm.ClassFile.FieldType.int) [((0 : Nat), (9 : Nat), (12 : Nat), (24 : Nat)), ((0 : Nat), (9 : Nat), (15 : Nat), (43 : Nat))]) ∈ lw_all := lw_g (lw_at lw_m4 169 rfl) rfl
theorem q913 : (Jvm.Cond.methodLink "SelectoRouteLaw" (107 : Nat) ({ cls := "SelectoRoute", name := "least", desc := "(I)I" } : Jvm.MethodName)) ∈ lw_all := lw_g (lw_at lw_m4 170 rfl) rfl
theorem q917 : (Jvm.Cond.methodLink "SelectoRouteLaw" (236 : Nat) ({ cls := "SelectoRouteLaw", name := "worth", desc := "(LSelectoRoute;III[J)I" } : Jvm.MethodName)) ∈ lw_all := lw_g (lw_at lw_m4 174 rfl) rfl
theorem q918 : (Jvm.Cond.static ({ cls := "SelectoRouteLaw", name := "worth", desc := "(LSelectoRoute;III[J)I" } : Jvm.MethodName)) ∈ lw_all := lw_g (lw_at lw_m4 175 rfl) rfl
theorem q919 : (Jvm.Cond.codeWith ({ cls := "SelectoRouteLaw", name := "worth", desc := "(LSelectoRoute;III[J)I" } : Jvm.MethodName) method_31_code (6 : Nat) (Option.some Jvm.ClassFile.FieldType.int) [((0 : Nat), (12 : Nat), (15 : Nat), (24 : Nat)), ((0 : Nat), (12 : Nat), (19 : Nat), (34 : Nat))]) ∈ lw_all := lw_g (lw_at lw_m4 176 rfl) rfl
theorem q920 : (Jvm.Cond.methodLink "SelectoRouteLaw" (110 : Nat) ({ cls := "SelectoRoute", name := "worth", desc := "(III)I" } : Jvm.MethodName)) ∈ lw_all := lw_g (lw_at lw_m4 177 rfl) rfl
theorem q924 : (Jvm.Cond.methodLink "SelectoRouteLaw" (239 : Nat) ({ cls := "SelectoRouteLaw", name := "bestWorth", desc := "(LSelectoRoute;II[J)I" } : Jvm.MethodName)) ∈ lw_all := lw_g (lw_at lw_m4 181 rfl) rfl
theorem q925 : (Jvm.Cond.static ({ cls := "SelectoRouteLaw", name := "bestWorth", desc := "(LSelectoRoute;II[J)I" } : Jvm.MethodName)) ∈ lw_all := lw_g (lw_at lw_m4 182 rfl) rfl
theorem q926 : (Jvm.Cond.codeWith ({ cls := "SelectoRouteLaw", name := "bestWorth", desc := "(LSelectoRoute;II[J)I" } : Jvm.MethodName) method_32_code (5 : Nat) (Option.some Jvm.ClassFile.FieldType.int) [((0 : Nat), (10 : Nat), (13 : Nat), (24 : Nat)), ((0 : Nat), (10 : Nat), (17 : Nat), (13 : Nat))]) ∈ lw_all := lw_g (lw_at lw_m4 183 rfl) rfl
theorem q927 : (Jvm.Cond.methodLink "SelectoRouteLaw" (113 : Nat) ({ cls := "SelectoRoute", name := "bestWorth", desc := "(II)I" } : Jvm.MethodName)) ∈ lw_all := lw_g (lw_at lw_m4 184 rfl) rfl
theorem q931 : (Jvm.Cond.methodLink "SelectoRouteLaw" (242 : Nat) ({ cls := "SelectoRouteLaw", name := "wornShare", desc := "(LSelectoRoute;[D)I" } : Jvm.MethodName)) ∈ lw_all := lw_g (lw_at lw_m4 188 rfl) rfl
theorem q932 : (Jvm.Cond.static ({ cls := "SelectoRouteLaw", name := "wornShare", desc := "(LSelectoRoute;[D)I" } : Jvm.MethodName)) ∈ lw_all := lw_g (lw_at lw_m4 189 rfl) rfl
theorem q933 : (Jvm.Cond.codeWith ({ cls := "SelectoRouteLaw", name := "wornShare", desc := "(LSelectoRoute;[D)I" } : Jvm.MethodName) method_33_code (3 : Nat) (Option.some Jvm.ClassFile.FieldType.int) [((0 : Nat), (8 : Nat), (11 : Nat), (120 : Nat))]) ∈ lw_all := lw_g (lw_at lw_m4 190 rfl) rfl
theorem q934 : (Jvm.Cond.classLink "SelectoRouteLaw" (120 : Nat) "java/lang/ArithmeticException") ∈ lw_all := lw_g (lw_at lw_m4 191 rfl) rfl
theorem q948 : (Jvm.Cond.methodLink "SelectoRouteLaw" (116 : Nat) ({ cls := "SelectoRoute", name := "wornShare", desc := "()F" } : Jvm.MethodName)) ∈ lw_all := lw_g (lw_at lw_m4 205 rfl) rfl
theorem q960 : (Jvm.Cond.methodLink "SelectoRouteLaw" (246 : Nat) ({ cls := "SelectoRouteLaw", name := "meanPull", desc := "(LSelectoRoute;[D)I" } : Jvm.MethodName)) ∈ lw_all := lw_g (lw_at lw_m4 217 rfl) rfl
theorem q961 : (Jvm.Cond.static ({ cls := "SelectoRouteLaw", name := "meanPull", desc := "(LSelectoRoute;[D)I" } : Jvm.MethodName)) ∈ lw_all := lw_g (lw_at lw_m4 218 rfl) rfl
theorem q962 : (Jvm.Cond.codeWith ({ cls := "SelectoRouteLaw", name := "meanPull", desc := "(LSelectoRoute;[D)I" } : Jvm.MethodName) method_34_code (3 : Nat) (Option.some Jvm.ClassFile.FieldType.int) [((0 : Nat), (7 : Nat), (10 : Nat), (120 : Nat))]) ∈ lw_all := lw_g (lw_at lw_m4 219 rfl) rfl
theorem q963 : (Jvm.Cond.methodLink "SelectoRouteLaw" (122 : Nat) ({ cls := "SelectoRoute", name := "meanPull", desc := "()D" } : Jvm.MethodName)) ∈ lw_all := lw_g (lw_at lw_m4 220 rfl) rfl
theorem q967 : (Jvm.Cond.classLink "SelectoRouteLaw" (127 : Nat) "SelectoRouteModel") ∈ lw_all := lw_g (lw_at lw_m4 224 rfl) rfl
theorem q969 : (Jvm.Cond.methodLink "SelectoRouteLaw" (129 : Nat) ({ cls := "SelectoRouteModel", name := "<init>", desc := "()V" } : Jvm.MethodName)) ∈ lw_all := lw_g (lw_at lw_m4 226 rfl) rfl
theorem q1064 : (Jvm.Cond.methodLink "SelectoRouteLaw" (136 : Nat) ({ cls := "SelectoRouteModel", name := "thrown", desc := "()I" } : Jvm.MethodName)) ∈ lw_all := lw_g (lw_at lw_m5 81 rfl) rfl
theorem q1068 : (Jvm.Cond.methodLink "SelectoRouteLaw" (135 : Nat) ({ cls := "SelectoRouteModel", name := "addDisc", desc := "(III)I" } : Jvm.MethodName)) ∈ lw_all := lw_g (lw_at lw_m5 85 rfl) rfl
theorem q1079 : (Jvm.Cond.methodLink "SelectoRouteLaw" (142 : Nat) ({ cls := "SelectoRouteModel", name := "addBox", desc := "(II)I" } : Jvm.MethodName)) ∈ lw_all := lw_g (lw_at lw_m5 96 rfl) rfl
theorem q1083 : (Jvm.Cond.methodLink "SelectoRouteLaw" (145 : Nat) ({ cls := "SelectoRouteModel", name := "setRisk", desc := "(II)I" } : Jvm.MethodName)) ∈ lw_all := lw_g (lw_at lw_m5 100 rfl) rfl
theorem q1091 : (Jvm.Cond.methodLink "SelectoRouteLaw" (149 : Nat) ({ cls := "SelectoRouteModel", name := "setSeed", desc := "(I)I" } : Jvm.MethodName)) ∈ lw_all := lw_g (lw_at lw_m5 108 rfl) rfl
theorem q1096 : (Jvm.Cond.methodLink "SelectoRouteLaw" (153 : Nat) ({ cls := "SelectoRouteModel", name := "insert", desc := "(IC)I" } : Jvm.MethodName)) ∈ lw_all := lw_g (lw_at lw_m5 113 rfl) rfl
theorem q1100 : (Jvm.Cond.methodLink "SelectoRouteLaw" (156 : Nat) ({ cls := "SelectoRouteModel", name := "press", desc := "(II)I" } : Jvm.MethodName)) ∈ lw_all := lw_g (lw_at lw_m5 117 rfl) rfl
theorem q1108 : (Jvm.Cond.methodLink "SelectoRouteLaw" (159 : Nat) ({ cls := "SelectoRouteModel", name := "play", desc := "(I)C" } : Jvm.MethodName)) ∈ lw_all := lw_g (lw_at lw_m5 125 rfl) rfl
theorem q1118 : (Jvm.Cond.methodLink "SelectoRouteLaw" (162 : Nat) ({ cls := "SelectoRouteModel", name := "getCredits", desc := "(I)I" } : Jvm.MethodName)) ∈ lw_all := lw_g (lw_at lw_m5 135 rfl) rfl
theorem q1122 : (Jvm.Cond.methodLink "SelectoRouteLaw" (165 : Nat) ({ cls := "SelectoRouteModel", name := "getQueued", desc := "(I)I" } : Jvm.MethodName)) ∈ lw_all := lw_g (lw_at lw_m5 139 rfl) rfl
theorem q1126 : (Jvm.Cond.methodLink "SelectoRouteLaw" (168 : Nat) ({ cls := "SelectoRouteModel", name := "getCents", desc := "(I)I" } : Jvm.MethodName)) ∈ lw_all := lw_g (lw_at lw_m5 143 rfl) rfl
theorem q1130 : (Jvm.Cond.methodLink "SelectoRouteLaw" (171 : Nat) ({ cls := "SelectoRouteModel", name := "isJammed", desc := "(I)Z" } : Jvm.MethodName)) ∈ lw_all := lw_g (lw_at lw_m5 147 rfl) rfl
theorem q1134 : (Jvm.Cond.methodLink "SelectoRouteLaw" (174 : Nat) ({ cls := "SelectoRouteModel", name := "getWheel", desc := "(II)I" } : Jvm.MethodName)) ∈ lw_all := lw_g (lw_at lw_m5 151 rfl) rfl
theorem q1138 : (Jvm.Cond.methodLink "SelectoRouteLaw" (177 : Nat) ({ cls := "SelectoRouteModel", name := "getNeedle", desc := "(I)I" } : Jvm.MethodName)) ∈ lw_all := lw_g (lw_at lw_m5 155 rfl) rfl
theorem q1142 : (Jvm.Cond.methodLink "SelectoRouteLaw" (180 : Nat) ({ cls := "SelectoRouteModel", name := "getWear", desc := "(I)I" } : Jvm.MethodName)) ∈ lw_all := lw_g (lw_at lw_m5 159 rfl) rfl
theorem q1150 : (Jvm.Cond.methodLink "SelectoRouteLaw" (183 : Nat) ({ cls := "SelectoRouteModel", name := "getPlace", desc := "(I)I" } : Jvm.MethodName)) ∈ lw_all := lw_g (lw_at lw_m5 167 rfl) rfl
theorem q1154 : (Jvm.Cond.methodLink "SelectoRouteLaw" (186 : Nat) ({ cls := "SelectoRouteModel", name := "discAt", desc := "(II)I" } : Jvm.MethodName)) ∈ lw_all := lw_g (lw_at lw_m5 171 rfl) rfl
theorem q1158 : (Jvm.Cond.methodLink "SelectoRouteLaw" (189 : Nat) ({ cls := "SelectoRouteModel", name := "pull", desc := "(I)I" } : Jvm.MethodName)) ∈ lw_all := lw_g (lw_at lw_m5 175 rfl) rfl
theorem q1166 : (Jvm.Cond.methodLink "SelectoRouteLaw" (192 : Nat) ({ cls := "SelectoRouteModel", name := "pullIn", desc := "(II)I" } : Jvm.MethodName)) ∈ lw_all := lw_g (lw_at lw_m5 183 rfl) rfl
theorem q1170 : (Jvm.Cond.methodLink "SelectoRouteLaw" (196 : Nat) ({ cls := "SelectoRouteModel", name := "pass", desc := "()I" } : Jvm.MethodName)) ∈ lw_all := lw_g (lw_at lw_m5 187 rfl) rfl
theorem q1178 : (Jvm.Cond.methodLink "SelectoRouteLaw" (200 : Nat) ({ cls := "SelectoRouteModel", name := "getWeek", desc := "()I" } : Jvm.MethodName)) ∈ lw_all := lw_g (lw_at lw_m5 195 rfl) rfl
theorem q1182 : (Jvm.Cond.methodLink "SelectoRouteLaw" (204 : Nat) ({ cls := "SelectoRouteModel", name := "getMinutes", desc := "()I" } : Jvm.MethodName)) ∈ lw_all := lw_g (lw_at lw_m5 199 rfl) rfl
theorem q1186 : (Jvm.Cond.methodLink "SelectoRouteLaw" (207 : Nat) ({ cls := "SelectoRouteModel", name := "visit", desc := "(I)I" } : Jvm.MethodName)) ∈ lw_all := lw_g (lw_at lw_m5 203 rfl) rfl
theorem q1190 : (Jvm.Cond.methodLink "SelectoRouteLaw" (210 : Nat) ({ cls := "SelectoRouteModel", name := "getShort", desc := "(I)I" } : Jvm.MethodName)) ∈ lw_all := lw_g (lw_at lw_m5 207 rfl) rfl
theorem q1194 : (Jvm.Cond.methodLink "SelectoRouteLaw" (213 : Nat) ({ cls := "SelectoRouteModel", name := "getShare", desc := "(I)I" } : Jvm.MethodName)) ∈ lw_all := lw_g (lw_at lw_m5 211 rfl) rfl
theorem q1198 : (Jvm.Cond.methodLink "SelectoRouteLaw" (217 : Nat) ({ cls := "SelectoRouteModel", name := "getEarned", desc := "()I" } : Jvm.MethodName)) ∈ lw_all := lw_g (lw_at lw_m5 215 rfl) rfl
theorem q1202 : (Jvm.Cond.methodLink "SelectoRouteLaw" (220 : Nat) ({ cls := "SelectoRouteModel", name := "change", desc := "(III)I" } : Jvm.MethodName)) ∈ lw_all := lw_g (lw_at lw_m5 219 rfl) rfl
theorem q1210 : (Jvm.Cond.methodLink "SelectoRouteLaw" (223 : Nat) ({ cls := "SelectoRouteModel", name := "changeNeedle", desc := "(I)I" } : Jvm.MethodName)) ∈ lw_all := lw_g (lw_at lw_m5 227 rfl) rfl
theorem q1214 : (Jvm.Cond.methodLink "SelectoRouteLaw" (226 : Nat) ({ cls := "SelectoRouteModel", name := "burn", desc := "(I)I" } : Jvm.MethodName)) ∈ lw_all := lw_g (lw_at lw_m5 231 rfl) rfl
theorem q1218 : (Jvm.Cond.methodLink "SelectoRouteLaw" (229 : Nat) ({ cls := "SelectoRouteModel", name := "ask", desc := "(II)I" } : Jvm.MethodName)) ∈ lw_all := lw_g (lw_at lw_m5 235 rfl) rfl
theorem q1222 : (Jvm.Cond.methodLink "SelectoRouteLaw" (232 : Nat) ({ cls := "SelectoRouteModel", name := "mostAsked", desc := "(I)I" } : Jvm.MethodName)) ∈ lw_all := lw_g (lw_at lw_m5 239 rfl) rfl
theorem q1226 : (Jvm.Cond.methodLink "SelectoRouteLaw" (235 : Nat) ({ cls := "SelectoRouteModel", name := "least", desc := "(I)I" } : Jvm.MethodName)) ∈ lw_all := lw_g (lw_at lw_m6 3 rfl) rfl
theorem q1230 : (Jvm.Cond.methodLink "SelectoRouteLaw" (238 : Nat) ({ cls := "SelectoRouteModel", name := "worth", desc := "(III)I" } : Jvm.MethodName)) ∈ lw_all := lw_g (lw_at lw_m6 7 rfl) rfl
theorem q1234 : (Jvm.Cond.methodLink "SelectoRouteLaw" (241 : Nat) ({ cls := "SelectoRouteModel", name := "bestWorth", desc := "(II)I" } : Jvm.MethodName)) ∈ lw_all := lw_g (lw_at lw_m6 11 rfl) rfl
theorem q1246 : (Jvm.Cond.methodLink "SelectoRouteLaw" (245 : Nat) ({ cls := "SelectoRouteModel", name := "wornShare", desc := "()F" } : Jvm.MethodName)) ∈ lw_all := lw_g (lw_at lw_m6 23 rfl) rfl
theorem q1250 : (Jvm.Cond.methodLink "SelectoRouteLaw" (248 : Nat) ({ cls := "SelectoRouteModel", name := "meanPull", desc := "()D" } : Jvm.MethodName)) ∈ lw_all := lw_g (lw_at lw_m6 27 rfl) rfl
theorem q1254 : (Jvm.Cond.methodLink "SelectoRouteLaw" (253 : Nat) ({ cls := "SelectoRouteModel", name := "checksum", desc := "()J" } : Jvm.MethodName)) ∈ lw_all := lw_g (lw_at lw_m6 31 rfl) rfl
theorem q1260 : (Jvm.Cond.methodLink "SelectoRouteLaw" (258 : Nat) ({ cls := "SelectoRouteModel", name := "isSound", desc := "()Z" } : Jvm.MethodName)) ∈ lw_all := lw_g (lw_at lw_m6 37 rfl) rfl
/-! the law's own entry -/
set_option maxRecDepth 100000
abbrev cL_law : ByteArray := code
def dkwL_law_91 : List UInt8 := [182, 0, 254, 44, 182, 1, 2, 159, 0, 5, 3, 172, 132, 5, 4, 167, 247, 67, 4, 172]
abbrev dktL_law_91 : List UInt8 := dkwL_law_91 ++ []
def dkwL_law_90 : List UInt8 := [154, 0, 5, 3, 172, 167, 0, 30, 43, 182, 0, 249, 44, 182, 0, 253, 148, 153, 0, 18, 3, 172, 43]
abbrev dktL_law_90 : List UInt8 := dkwL_law_90 ++ dktL_law_91
def dkwL_law_89 : List UInt8 := [49, 24, 7, 151, 153, 0, 25, 25, 4, 3, 49, 25, 4, 3, 49, 151, 153, 0, 11, 24, 7, 24, 7, 151]
abbrev dktL_law_89 : List UInt8 := dkwL_law_89 ++ dktL_law_90
def dkwL_law_88 : List UInt8 := [182, 0, 248, 57, 7, 44, 182, 0, 136, 21, 6, 159, 0, 5, 3, 172, 21, 6, 154, 0, 35, 25, 4, 3]
abbrev dktL_law_88 : List UInt8 := dkwL_law_88 ++ dktL_law_89
def dkwL_law_87 : List UInt8 := [23, 7, 23, 7, 149, 154, 0, 5, 3, 172, 167, 0, 95, 43, 25, 4, 184, 0, 246, 54, 6, 44]
abbrev dktL_law_87 : List UInt8 := dkwL_law_87 ++ dktL_law_88
def dkwL_law_86 : List UInt8 := [25, 4, 3, 49, 23, 7, 141, 151, 153, 0, 25, 25, 4, 3, 49, 25, 4, 3, 49, 151, 153, 0, 11]
abbrev dktL_law_86 : List UInt8 := dkwL_law_86 ++ dktL_law_87
def dkwL_law_85 : List UInt8 := [54, 6, 44, 182, 0, 245, 56, 7, 44, 182, 0, 136, 21, 6, 159, 0, 5, 3, 172, 21, 6, 154, 0, 36]
abbrev dktL_law_85 : List UInt8 := dkwL_law_85 ++ dktL_law_86
def dkwL_law_84 : List UInt8 := [154, 0, 15, 45, 3, 47, 21, 7, 133, 148, 153, 0, 5, 3, 172, 167, 0, 161, 43, 25, 4, 184, 0, 242]
abbrev dktL_law_84 : List UInt8 := dkwL_law_84 ++ dktL_law_85
def dkwL_law_83 : List UInt8 := [21, 5, 5, 96, 46, 182, 0, 241, 54, 7, 44, 182, 0, 136, 21, 6, 159, 0, 5, 3, 172, 21, 6]
abbrev dktL_law_83 : List UInt8 := dkwL_law_83 ++ dktL_law_84
def dkwL_law_82 : List UInt8 := [4, 96, 46, 42, 21, 5, 5, 96, 46, 45, 184, 0, 239, 54, 6, 44, 42, 21, 5, 4, 96, 46, 42]
abbrev dktL_law_82 : List UInt8 := dkwL_law_82 ++ dktL_law_83
def dkwL_law_81 : List UInt8 := [21, 6, 154, 0, 15, 45, 3, 47, 21, 7, 133, 148, 153, 0, 5, 3, 172, 167, 0, 229, 43, 42, 21, 5]
abbrev dktL_law_81 : List UInt8 := dkwL_law_81 ++ dktL_law_82
def dkwL_law_80 : List UInt8 := [96, 46, 42, 21, 5, 6, 96, 46, 182, 0, 238, 54, 7, 44, 182, 0, 136, 21, 6, 159, 0, 5, 3, 172]
abbrev dktL_law_80 : List UInt8 := dkwL_law_80 ++ dktL_law_81
def dkwL_law_79 : List UInt8 := [46, 42, 21, 5, 6, 96, 46, 45, 184, 0, 236, 54, 6, 44, 42, 21, 5, 4, 96, 46, 42, 21, 5, 5]
abbrev dktL_law_79 : List UInt8 := dkwL_law_79 ++ dktL_law_80
def dkwL_law_78 : List UInt8 := [21, 7, 133, 148, 153, 0, 5, 3, 172, 167, 1, 53, 43, 42, 21, 5, 4, 96, 46, 42, 21, 5, 5, 96]
abbrev dktL_law_78 : List UInt8 := dkwL_law_78 ++ dktL_law_79
def dkwL_law_77 : List UInt8 := [182, 0, 235, 54, 7, 44, 182, 0, 136, 21, 6, 159, 0, 5, 3, 172, 21, 6, 154, 0, 15, 45, 3, 47]
abbrev dktL_law_77 : List UInt8 := dkwL_law_77 ++ dktL_law_78
def dkwL_law_76 : List UInt8 := [167, 1, 109, 43, 42, 21, 5, 4, 96, 46, 45, 184, 0, 233, 54, 6, 44, 42, 21, 5, 4, 96, 46]
abbrev dktL_law_76 : List UInt8 := dkwL_law_76 ++ dktL_law_77
def dkwL_law_75 : List UInt8 := [159, 0, 5, 3, 172, 21, 6, 154, 0, 15, 45, 3, 47, 21, 7, 133, 148, 153, 0, 5, 3, 172]
abbrev dktL_law_75 : List UInt8 := dkwL_law_75 ++ dktL_law_76
def dkwL_law_74 : List UInt8 := [184, 0, 230, 54, 6, 44, 42, 21, 5, 4, 96, 46, 182, 0, 232, 54, 7, 44, 182, 0, 136, 21, 6]
abbrev dktL_law_74 : List UInt8 := dkwL_law_74 ++ dktL_law_75
def dkwL_law_73 : List UInt8 := [3, 47, 21, 7, 133, 148, 153, 0, 5, 3, 172, 167, 1, 165, 43, 42, 21, 5, 4, 96, 46, 45]
abbrev dktL_law_73 : List UInt8 := dkwL_law_73 ++ dktL_law_74
def dkwL_law_72 : List UInt8 := [96, 46, 182, 0, 229, 54, 7, 44, 182, 0, 136, 21, 6, 159, 0, 5, 3, 172, 21, 6, 154, 0, 15, 45]
abbrev dktL_law_72 : List UInt8 := dkwL_law_72 ++ dktL_law_73
def dkwL_law_71 : List UInt8 := [46, 42, 21, 5, 5, 96, 46, 45, 184, 0, 227, 54, 6, 44, 42, 21, 5, 4, 96, 46, 42, 21, 5, 5]
abbrev dktL_law_71 : List UInt8 := dkwL_law_71 ++ dktL_law_72
def dkwL_law_70 : List UInt8 := [154, 0, 15, 45, 3, 47, 21, 7, 133, 148, 153, 0, 5, 3, 172, 167, 1, 233, 43, 42, 21, 5, 4, 96]
abbrev dktL_law_70 : List UInt8 := dkwL_law_70 ++ dktL_law_71
def dkwL_law_69 : List UInt8 := [21, 5, 4, 96, 46, 182, 0, 226, 54, 7, 44, 182, 0, 136, 21, 6, 159, 0, 5, 3, 172, 21, 6]
abbrev dktL_law_69 : List UInt8 := dkwL_law_69 ++ dktL_law_70
def dkwL_law_68 : List UInt8 := [153, 0, 5, 3, 172, 167, 2, 33, 43, 42, 21, 5, 4, 96, 46, 45, 184, 0, 224, 54, 6, 44, 42]
abbrev dktL_law_68 : List UInt8 := dkwL_law_68 ++ dktL_law_69
def dkwL_law_67 : List UInt8 := [182, 0, 136, 21, 6, 159, 0, 5, 3, 172, 21, 6, 154, 0, 15, 45, 3, 47, 21, 7, 133, 148]
abbrev dktL_law_67 : List UInt8 := dkwL_law_67 ++ dktL_law_68
def dkwL_law_66 : List UInt8 := [4, 96, 46, 45, 184, 0, 221, 54, 6, 44, 42, 21, 5, 4, 96, 46, 182, 0, 223, 54, 7, 44]
abbrev dktL_law_66 : List UInt8 := dkwL_law_66 ++ dktL_law_67
def dkwL_law_65 : List UInt8 := [21, 6, 154, 0, 15, 45, 3, 47, 21, 7, 133, 148, 153, 0, 5, 3, 172, 167, 2, 89, 43, 42, 21, 5]
abbrev dktL_law_65 : List UInt8 := dkwL_law_65 ++ dktL_law_66
def dkwL_law_64 : List UInt8 := [96, 46, 42, 21, 5, 6, 96, 46, 182, 0, 220, 54, 7, 44, 182, 0, 136, 21, 6, 159, 0, 5, 3, 172]
abbrev dktL_law_64 : List UInt8 := dkwL_law_64 ++ dktL_law_65
def dkwL_law_63 : List UInt8 := [46, 42, 21, 5, 6, 96, 46, 45, 184, 0, 218, 54, 6, 44, 42, 21, 5, 4, 96, 46, 42, 21, 5, 5]
abbrev dktL_law_63 : List UInt8 := dkwL_law_63 ++ dktL_law_64
def dkwL_law_62 : List UInt8 := [182, 0, 214, 44, 182, 0, 217, 159, 2, 171, 3, 172, 43, 42, 21, 5, 4, 96, 46, 42, 21, 5, 5, 96]
abbrev dktL_law_62 : List UInt8 := dkwL_law_62 ++ dktL_law_63
def dkwL_law_61 : List UInt8 := [172, 21, 6, 154, 0, 15, 45, 3, 47, 21, 7, 133, 148, 153, 0, 5, 3, 172, 167, 2, 182, 43]
abbrev dktL_law_61 : List UInt8 := dkwL_law_61 ++ dktL_law_62
def dkwL_law_60 : List UInt8 := [54, 6, 44, 42, 21, 5, 4, 96, 46, 182, 0, 213, 54, 7, 44, 182, 0, 136, 21, 6, 159, 0, 5, 3]
abbrev dktL_law_60 : List UInt8 := dkwL_law_60 ++ dktL_law_61
def dkwL_law_59 : List UInt8 := [21, 7, 133, 148, 153, 0, 5, 3, 172, 167, 2, 238, 43, 42, 21, 5, 4, 96, 46, 45, 184, 0, 211]
abbrev dktL_law_59 : List UInt8 := dkwL_law_59 ++ dktL_law_60
def dkwL_law_58 : List UInt8 := [182, 0, 210, 54, 7, 44, 182, 0, 136, 21, 6, 159, 0, 5, 3, 172, 21, 6, 154, 0, 15, 45, 3, 47]
abbrev dktL_law_58 : List UInt8 := dkwL_law_58 ++ dktL_law_59
def dkwL_law_57 : List UInt8 := [167, 3, 38, 43, 42, 21, 5, 4, 96, 46, 45, 184, 0, 208, 54, 6, 44, 42, 21, 5, 4, 96, 46]
abbrev dktL_law_57 : List UInt8 := dkwL_law_57 ++ dktL_law_58
def dkwL_law_56 : List UInt8 := [159, 0, 5, 3, 172, 21, 6, 154, 0, 15, 45, 3, 47, 21, 7, 133, 148, 153, 0, 5, 3, 172]
abbrev dktL_law_56 : List UInt8 := dkwL_law_56 ++ dktL_law_57
def dkwL_law_55 : List UInt8 := [184, 0, 205, 54, 6, 44, 42, 21, 5, 4, 96, 46, 182, 0, 207, 54, 7, 44, 182, 0, 136, 21, 6]
abbrev dktL_law_55 : List UInt8 := dkwL_law_55 ++ dktL_law_56
def dkwL_law_54 : List UInt8 := [172, 43, 182, 0, 201, 44, 182, 0, 204, 159, 3, 96, 3, 172, 43, 42, 21, 5, 4, 96, 46, 45]
abbrev dktL_law_54 : List UInt8 := dkwL_law_54 ++ dktL_law_55
def dkwL_law_53 : List UInt8 := [21, 7, 133, 148, 153, 0, 5, 3, 172, 167, 3, 120, 43, 182, 0, 197, 44, 182, 0, 200, 159, 3, 109, 3]
abbrev dktL_law_53 : List UInt8 := dkwL_law_53 ++ dktL_law_54
def dkwL_law_52 : List UInt8 := [182, 0, 196, 54, 7, 44, 182, 0, 136, 21, 6, 159, 0, 5, 3, 172, 21, 6, 154, 0, 15, 45, 3, 47]
abbrev dktL_law_52 : List UInt8 := dkwL_law_52 ++ dktL_law_53
def dkwL_law_51 : List UInt8 := [3, 47, 21, 7, 133, 148, 153, 0, 5, 3, 172, 167, 3, 164, 43, 45, 184, 0, 193, 54, 6, 44]
abbrev dktL_law_51 : List UInt8 := dkwL_law_51 ++ dktL_law_52
def dkwL_law_50 : List UInt8 := [96, 46, 182, 0, 192, 54, 7, 44, 182, 0, 136, 21, 6, 159, 0, 5, 3, 172, 21, 6, 154, 0, 15, 45]
abbrev dktL_law_50 : List UInt8 := dkwL_law_50 ++ dktL_law_51
def dkwL_law_49 : List UInt8 := [46, 42, 21, 5, 5, 96, 46, 45, 184, 0, 190, 54, 6, 44, 42, 21, 5, 4, 96, 46, 42, 21, 5, 5]
abbrev dktL_law_49 : List UInt8 := dkwL_law_49 ++ dktL_law_50
def dkwL_law_48 : List UInt8 := [154, 0, 15, 45, 3, 47, 21, 7, 133, 148, 153, 0, 5, 3, 172, 167, 3, 232, 43, 42, 21, 5, 4, 96]
abbrev dktL_law_48 : List UInt8 := dkwL_law_48 ++ dktL_law_49
def dkwL_law_47 : List UInt8 := [21, 5, 4, 96, 46, 182, 0, 189, 54, 7, 44, 182, 0, 136, 21, 6, 159, 0, 5, 3, 172, 21, 6]
abbrev dktL_law_47 : List UInt8 := dkwL_law_47 ++ dktL_law_48
def dkwL_law_46 : List UInt8 := [153, 0, 5, 3, 172, 167, 4, 32, 43, 42, 21, 5, 4, 96, 46, 45, 184, 0, 187, 54, 6, 44, 42]
abbrev dktL_law_46 : List UInt8 := dkwL_law_46 ++ dktL_law_47
def dkwL_law_45 : List UInt8 := [182, 0, 136, 21, 6, 159, 0, 5, 3, 172, 21, 6, 154, 0, 15, 45, 3, 47, 21, 7, 133, 148]
abbrev dktL_law_45 : List UInt8 := dkwL_law_45 ++ dktL_law_46
def dkwL_law_44 : List UInt8 := [184, 0, 184, 54, 6, 44, 42, 21, 5, 4, 96, 46, 42, 21, 5, 5, 96, 46, 182, 0, 186, 54, 7, 44]
abbrev dktL_law_44 : List UInt8 := dkwL_law_44 ++ dktL_law_45
def dkwL_law_43 : List UInt8 := [153, 0, 5, 3, 172, 167, 4, 100, 43, 42, 21, 5, 4, 96, 46, 42, 21, 5, 5, 96, 46, 45]
abbrev dktL_law_43 : List UInt8 := dkwL_law_43 ++ dktL_law_44
def dkwL_law_42 : List UInt8 := [182, 0, 136, 21, 6, 159, 0, 5, 3, 172, 21, 6, 154, 0, 15, 45, 3, 47, 21, 7, 133, 148]
abbrev dktL_law_42 : List UInt8 := dkwL_law_42 ++ dktL_law_43
def dkwL_law_41 : List UInt8 := [21, 5, 4, 96, 46, 45, 184, 0, 181, 54, 6, 44, 42, 21, 5, 4, 96, 46, 182, 0, 183, 54, 7, 44]
abbrev dktL_law_41 : List UInt8 := dkwL_law_41 ++ dktL_law_42
def dkwL_law_40 : List UInt8 := [172, 21, 6, 154, 0, 15, 45, 3, 47, 21, 7, 133, 148, 153, 0, 5, 3, 172, 167, 4, 156, 43, 42]
abbrev dktL_law_40 : List UInt8 := dkwL_law_40 ++ dktL_law_41
def dkwL_law_39 : List UInt8 := [54, 6, 44, 42, 21, 5, 4, 96, 46, 182, 0, 180, 54, 7, 44, 182, 0, 136, 21, 6, 159, 0, 5, 3]
abbrev dktL_law_39 : List UInt8 := dkwL_law_39 ++ dktL_law_40
def dkwL_law_38 : List UInt8 := [21, 7, 133, 148, 153, 0, 5, 3, 172, 167, 4, 212, 43, 42, 21, 5, 4, 96, 46, 45, 184, 0, 178]
abbrev dktL_law_38 : List UInt8 := dkwL_law_38 ++ dktL_law_39
def dkwL_law_37 : List UInt8 := [182, 0, 177, 54, 7, 44, 182, 0, 136, 21, 6, 159, 0, 5, 3, 172, 21, 6, 154, 0, 15, 45, 3, 47]
abbrev dktL_law_37 : List UInt8 := dkwL_law_37 ++ dktL_law_38
def dkwL_law_36 : List UInt8 := [167, 5, 12, 43, 42, 21, 5, 4, 96, 46, 45, 184, 0, 175, 54, 6, 44, 42, 21, 5, 4, 96, 46]
abbrev dktL_law_36 : List UInt8 := dkwL_law_36 ++ dktL_law_37
def dkwL_law_35 : List UInt8 := [159, 0, 5, 3, 172, 21, 6, 154, 0, 15, 45, 3, 47, 21, 7, 133, 148, 153, 0, 5, 3, 172]
abbrev dktL_law_35 : List UInt8 := dkwL_law_35 ++ dktL_law_36
def dkwL_law_34 : List UInt8 := [21, 5, 4, 96, 46, 42, 21, 5, 5, 96, 46, 182, 0, 174, 54, 7, 44, 182, 0, 136, 21, 6]
abbrev dktL_law_34 : List UInt8 := dkwL_law_34 ++ dktL_law_35
def dkwL_law_33 : List UInt8 := [167, 5, 80, 43, 42, 21, 5, 4, 96, 46, 42, 21, 5, 5, 96, 46, 45, 184, 0, 172, 54, 6, 44, 42]
abbrev dktL_law_33 : List UInt8 := dkwL_law_33 ++ dktL_law_34
def dkwL_law_32 : List UInt8 := [154, 0, 22, 45, 3, 47, 21, 7, 153, 0, 7, 10, 167, 0, 4, 9, 148, 153, 0, 5, 3, 172]
abbrev dktL_law_32 : List UInt8 := dkwL_law_32 ++ dktL_law_33
def dkwL_law_31 : List UInt8 := [21, 5, 4, 96, 46, 182, 0, 171, 54, 7, 44, 182, 0, 136, 21, 6, 159, 0, 5, 3, 172, 21, 6]
abbrev dktL_law_31 : List UInt8 := dkwL_law_31 ++ dktL_law_32
def dkwL_law_30 : List UInt8 := [153, 0, 5, 3, 172, 167, 5, 143, 43, 42, 21, 5, 4, 96, 46, 45, 184, 0, 169, 54, 6, 44, 42]
abbrev dktL_law_30 : List UInt8 := dkwL_law_30 ++ dktL_law_31
def dkwL_law_29 : List UInt8 := [182, 0, 136, 21, 6, 159, 0, 5, 3, 172, 21, 6, 154, 0, 15, 45, 3, 47, 21, 7, 133, 148]
abbrev dktL_law_29 : List UInt8 := dkwL_law_29 ++ dktL_law_30
def dkwL_law_28 : List UInt8 := [21, 5, 4, 96, 46, 45, 184, 0, 166, 54, 6, 44, 42, 21, 5, 4, 96, 46, 182, 0, 168, 54, 7, 44]
abbrev dktL_law_28 : List UInt8 := dkwL_law_28 ++ dktL_law_29
def dkwL_law_27 : List UInt8 := [172, 21, 6, 154, 0, 15, 45, 3, 47, 21, 7, 133, 148, 153, 0, 5, 3, 172, 167, 5, 199, 43, 42]
abbrev dktL_law_27 : List UInt8 := dkwL_law_27 ++ dktL_law_28
def dkwL_law_26 : List UInt8 := [54, 6, 44, 42, 21, 5, 4, 96, 46, 182, 0, 165, 54, 7, 44, 182, 0, 136, 21, 6, 159, 0, 5, 3]
abbrev dktL_law_26 : List UInt8 := dkwL_law_26 ++ dktL_law_27
def dkwL_law_25 : List UInt8 := [21, 7, 133, 148, 153, 0, 5, 3, 172, 167, 5, 255, 43, 42, 21, 5, 4, 96, 46, 45, 184, 0, 163]
abbrev dktL_law_25 : List UInt8 := dkwL_law_25 ++ dktL_law_26
def dkwL_law_24 : List UInt8 := [182, 0, 162, 54, 7, 44, 182, 0, 136, 21, 6, 159, 0, 5, 3, 172, 21, 6, 154, 0, 15, 45, 3, 47]
abbrev dktL_law_24 : List UInt8 := dkwL_law_24 ++ dktL_law_25
def dkwL_law_23 : List UInt8 := [167, 6, 55, 43, 42, 21, 5, 4, 96, 46, 45, 184, 0, 160, 54, 6, 44, 42, 21, 5, 4, 96, 46]
abbrev dktL_law_23 : List UInt8 := dkwL_law_23 ++ dktL_law_24
def dkwL_law_22 : List UInt8 := [159, 0, 5, 3, 172, 21, 6, 154, 0, 15, 45, 3, 47, 21, 7, 133, 148, 153, 0, 5, 3, 172]
abbrev dktL_law_22 : List UInt8 := dkwL_law_22 ++ dktL_law_23
def dkwL_law_21 : List UInt8 := [184, 0, 157, 54, 6, 44, 42, 21, 5, 4, 96, 46, 182, 0, 159, 54, 7, 44, 182, 0, 136, 21, 6]
abbrev dktL_law_21 : List UInt8 := dkwL_law_21 ++ dktL_law_22
def dkwL_law_20 : List UInt8 := [3, 47, 21, 7, 133, 148, 153, 0, 5, 3, 172, 167, 6, 111, 43, 42, 21, 5, 4, 96, 46, 45]
abbrev dktL_law_20 : List UInt8 := dkwL_law_20 ++ dktL_law_21
def dkwL_law_19 : List UInt8 := [96, 46, 182, 0, 156, 54, 7, 44, 182, 0, 136, 21, 6, 159, 0, 5, 3, 172, 21, 6, 154, 0, 15, 45]
abbrev dktL_law_19 : List UInt8 := dkwL_law_19 ++ dktL_law_20
def dkwL_law_18 : List UInt8 := [46, 42, 21, 5, 5, 96, 46, 45, 184, 0, 154, 54, 6, 44, 42, 21, 5, 4, 96, 46, 42, 21, 5, 5]
abbrev dktL_law_18 : List UInt8 := dkwL_law_18 ++ dktL_law_19
def dkwL_law_17 : List UInt8 := [154, 0, 15, 45, 3, 47, 21, 7, 133, 148, 153, 0, 5, 3, 172, 167, 6, 179, 43, 42, 21, 5, 4, 96]
abbrev dktL_law_17 : List UInt8 := dkwL_law_17 ++ dktL_law_18
def dkwL_law_16 : List UInt8 := [5, 96, 46, 146, 182, 0, 153, 54, 7, 44, 182, 0, 136, 21, 6, 159, 0, 5, 3, 172, 21, 6]
abbrev dktL_law_16 : List UInt8 := dkwL_law_16 ++ dktL_law_17
def dkwL_law_15 : List UInt8 := [46, 42, 21, 5, 5, 96, 46, 146, 45, 184, 0, 150, 54, 6, 44, 42, 21, 5, 4, 96, 46, 42, 21, 5]
abbrev dktL_law_15 : List UInt8 := dkwL_law_15 ++ dktL_law_16
def dkwL_law_14 : List UInt8 := [154, 0, 15, 45, 3, 47, 21, 7, 133, 148, 153, 0, 5, 3, 172, 167, 6, 249, 43, 42, 21, 5, 4, 96]
abbrev dktL_law_14 : List UInt8 := dkwL_law_14 ++ dktL_law_15
def dkwL_law_13 : List UInt8 := [21, 5, 4, 96, 46, 182, 0, 149, 54, 7, 44, 182, 0, 136, 21, 6, 159, 0, 5, 3, 172, 21, 6]
abbrev dktL_law_13 : List UInt8 := dkwL_law_13 ++ dktL_law_14
def dkwL_law_12 : List UInt8 := [153, 0, 5, 3, 172, 167, 7, 49, 43, 42, 21, 5, 4, 96, 46, 45, 184, 0, 146, 54, 6, 44, 42]
abbrev dktL_law_12 : List UInt8 := dkwL_law_12 ++ dktL_law_13
def dkwL_law_11 : List UInt8 := [182, 0, 136, 21, 6, 159, 0, 5, 3, 172, 21, 6, 154, 0, 15, 45, 3, 47, 21, 7, 133, 148]
abbrev dktL_law_11 : List UInt8 := dkwL_law_11 ++ dktL_law_12
def dkwL_law_10 : List UInt8 := [184, 0, 143, 54, 6, 44, 42, 21, 5, 4, 96, 46, 42, 21, 5, 5, 96, 46, 182, 0, 145, 54, 7, 44]
abbrev dktL_law_10 : List UInt8 := dkwL_law_10 ++ dktL_law_11
def dkwL_law_9 : List UInt8 := [153, 0, 5, 3, 172, 167, 7, 117, 43, 42, 21, 5, 4, 96, 46, 42, 21, 5, 5, 96, 46, 45]
abbrev dktL_law_9 : List UInt8 := dkwL_law_9 ++ dktL_law_10
def dkwL_law_8 : List UInt8 := [182, 0, 136, 21, 6, 159, 0, 5, 3, 172, 21, 6, 154, 0, 15, 45, 3, 47, 21, 7, 133, 148]
abbrev dktL_law_8 : List UInt8 := dkwL_law_8 ++ dktL_law_9
def dkwL_law_7 : List UInt8 := [184, 0, 139, 54, 6, 44, 42, 21, 5, 4, 96, 46, 42, 21, 5, 5, 96, 46, 182, 0, 142, 54, 7, 44]
abbrev dktL_law_7 : List UInt8 := dkwL_law_7 ++ dktL_law_8
def dkwL_law_6 : List UInt8 := [148, 153, 0, 5, 3, 172, 167, 7, 185, 43, 42, 21, 5, 4, 96, 46, 42, 21, 5, 5, 96, 46, 45]
abbrev dktL_law_6 : List UInt8 := dkwL_law_6 ++ dktL_law_7
def dkwL_law_5 : List UInt8 := [54, 7, 44, 182, 0, 136, 21, 6, 159, 0, 5, 3, 172, 21, 6, 154, 0, 15, 45, 3, 47, 21, 7, 133]
abbrev dktL_law_5 : List UInt8 := dkwL_law_5 ++ dktL_law_6
def dkwL_law_4 : List UInt8 := [54, 6, 44, 42, 21, 5, 4, 96, 46, 42, 21, 5, 5, 96, 46, 42, 21, 5, 6, 96, 46, 182, 0, 135]
abbrev dktL_law_4 : List UInt8 := dkwL_law_4 ++ dktL_law_5
def dkwL_law_3 : List UInt8 := [43, 42, 21, 5, 4, 96, 46, 42, 21, 5, 5, 96, 46, 42, 21, 5, 6, 96, 46, 45, 184, 0, 130]
abbrev dktL_law_3 : List UInt8 := dkwL_law_3 ++ dktL_law_4
def dkwL_law_2 : List UInt8 := [170, 0, 0, 0, 0, 0, 8, 170, 0, 0, 0, 0, 0, 0, 0, 36, 0, 0, 0, 164, 0, 0, 0, 244, 0, 0, 1, 56, 0, 0, 1, 124, 0, 0, 1, 180, 0, 0, 1, 250, 0, 0, 2, 62, 0, 0, 2, 118, 0, 0, 2, 174, 0, 0, 2, 230, 0, 0, 3, 30, 0, 0, 3, 93, 0, 0, 3, 161, 0, 0, 3, 217, 0, 0, 4, 17, 0, 0, 4, 73, 0, 0, 4, 141, 0, 0, 4, 197, 0, 0, 5, 9, 0, 0, 5, 53, 0, 0, 5, 66, 0, 0, 5, 79, 0, 0, 5, 135, 0, 0, 5, 191, 0, 0, 5, 247, 0, 0, 6, 4, 0, 0, 6, 84, 0, 0, 6, 140, 0, 0, 6, 196, 0, 0, 7, 8, 0, 0, 7, 64, 0, 0, 7, 120, 0, 0, 7, 200, 0, 0, 8, 12, 0, 0, 8, 78, 0, 0, 8, 143, 0, 0, 8, 157]
abbrev dktL_law_2 : List UInt8 := dkwL_law_2 ++ dktL_law_3
def dkwL_law_1 : List UInt8 := [58, 4, 3, 54, 5, 21, 5, 42, 190, 7, 100, 163, 8, 186, 42, 21, 5, 46, 16, 63, 126]
abbrev dktL_law_1 : List UInt8 := dkwL_law_1 ++ dktL_law_2
def dkwL_law_0 : List UInt8 := [187, 0, 8, 89, 183, 0, 126, 76, 187, 0, 127, 89, 183, 0, 129, 77, 4, 188, 11, 78, 4, 188, 7]
abbrev dktL_law_0 : List UInt8 := dkwL_law_0 ++ dktL_law_1
theorem dksL_law_0 : cL_law.data.toList.drop 0 = dktL_law_0 := by decide +kernel
theorem dksL_law_1 : cL_law.data.toList.drop 23 = dktL_law_1 := dk_seg dksL_law_0 23 rfl rfl
theorem dksL_law_2 : cL_law.data.toList.drop 44 = dktL_law_2 := dk_seg dksL_law_1 21 rfl rfl
theorem dksL_law_3 : cL_law.data.toList.drop 208 = dktL_law_3 := dk_seg dksL_law_2 164 rfl rfl
theorem dksL_law_4 : cL_law.data.toList.drop 231 = dktL_law_4 := dk_seg dksL_law_3 23 rfl rfl
theorem dksL_law_5 : cL_law.data.toList.drop 255 = dktL_law_5 := dk_seg dksL_law_4 24 rfl rfl
theorem dksL_law_6 : cL_law.data.toList.drop 279 = dktL_law_6 := dk_seg dksL_law_5 24 rfl rfl
theorem dksL_law_7 : cL_law.data.toList.drop 302 = dktL_law_7 := dk_seg dksL_law_6 23 rfl rfl
theorem dksL_law_8 : cL_law.data.toList.drop 326 = dktL_law_8 := dk_seg dksL_law_7 24 rfl rfl
theorem dksL_law_9 : cL_law.data.toList.drop 348 = dktL_law_9 := dk_seg dksL_law_8 22 rfl rfl
theorem dksL_law_10 : cL_law.data.toList.drop 370 = dktL_law_10 := dk_seg dksL_law_9 22 rfl rfl
theorem dksL_law_11 : cL_law.data.toList.drop 394 = dktL_law_11 := dk_seg dksL_law_10 24 rfl rfl
theorem dksL_law_12 : cL_law.data.toList.drop 416 = dktL_law_12 := dk_seg dksL_law_11 22 rfl rfl
theorem dksL_law_13 : cL_law.data.toList.drop 439 = dktL_law_13 := dk_seg dksL_law_12 23 rfl rfl
theorem dksL_law_14 : cL_law.data.toList.drop 462 = dktL_law_14 := dk_seg dksL_law_13 23 rfl rfl
theorem dksL_law_15 : cL_law.data.toList.drop 486 = dktL_law_15 := dk_seg dksL_law_14 24 rfl rfl
theorem dksL_law_16 : cL_law.data.toList.drop 510 = dktL_law_16 := dk_seg dksL_law_15 24 rfl rfl
theorem dksL_law_17 : cL_law.data.toList.drop 532 = dktL_law_17 := dk_seg dksL_law_16 22 rfl rfl
theorem dksL_law_18 : cL_law.data.toList.drop 556 = dktL_law_18 := dk_seg dksL_law_17 24 rfl rfl
theorem dksL_law_19 : cL_law.data.toList.drop 580 = dktL_law_19 := dk_seg dksL_law_18 24 rfl rfl
theorem dksL_law_20 : cL_law.data.toList.drop 604 = dktL_law_20 := dk_seg dksL_law_19 24 rfl rfl
theorem dksL_law_21 : cL_law.data.toList.drop 626 = dktL_law_21 := dk_seg dksL_law_20 22 rfl rfl
theorem dksL_law_22 : cL_law.data.toList.drop 649 = dktL_law_22 := dk_seg dksL_law_21 23 rfl rfl
theorem dksL_law_23 : cL_law.data.toList.drop 671 = dktL_law_23 := dk_seg dksL_law_22 22 rfl rfl
theorem dksL_law_24 : cL_law.data.toList.drop 694 = dktL_law_24 := dk_seg dksL_law_23 23 rfl rfl
theorem dksL_law_25 : cL_law.data.toList.drop 718 = dktL_law_25 := dk_seg dksL_law_24 24 rfl rfl
theorem dksL_law_26 : cL_law.data.toList.drop 741 = dktL_law_26 := dk_seg dksL_law_25 23 rfl rfl
theorem dksL_law_27 : cL_law.data.toList.drop 765 = dktL_law_27 := dk_seg dksL_law_26 24 rfl rfl
theorem dksL_law_28 : cL_law.data.toList.drop 788 = dktL_law_28 := dk_seg dksL_law_27 23 rfl rfl
theorem dksL_law_29 : cL_law.data.toList.drop 812 = dktL_law_29 := dk_seg dksL_law_28 24 rfl rfl
theorem dksL_law_30 : cL_law.data.toList.drop 834 = dktL_law_30 := dk_seg dksL_law_29 22 rfl rfl
theorem dksL_law_31 : cL_law.data.toList.drop 857 = dktL_law_31 := dk_seg dksL_law_30 23 rfl rfl
theorem dksL_law_32 : cL_law.data.toList.drop 880 = dktL_law_32 := dk_seg dksL_law_31 23 rfl rfl
theorem dksL_law_33 : cL_law.data.toList.drop 902 = dktL_law_33 := dk_seg dksL_law_32 22 rfl rfl
theorem dksL_law_34 : cL_law.data.toList.drop 926 = dktL_law_34 := dk_seg dksL_law_33 24 rfl rfl
theorem dksL_law_35 : cL_law.data.toList.drop 948 = dktL_law_35 := dk_seg dksL_law_34 22 rfl rfl
theorem dksL_law_36 : cL_law.data.toList.drop 970 = dktL_law_36 := dk_seg dksL_law_35 22 rfl rfl
theorem dksL_law_37 : cL_law.data.toList.drop 993 = dktL_law_37 := dk_seg dksL_law_36 23 rfl rfl
theorem dksL_law_38 : cL_law.data.toList.drop 1017 = dktL_law_38 := dk_seg dksL_law_37 24 rfl rfl
theorem dksL_law_39 : cL_law.data.toList.drop 1040 = dktL_law_39 := dk_seg dksL_law_38 23 rfl rfl
theorem dksL_law_40 : cL_law.data.toList.drop 1064 = dktL_law_40 := dk_seg dksL_law_39 24 rfl rfl
theorem dksL_law_41 : cL_law.data.toList.drop 1087 = dktL_law_41 := dk_seg dksL_law_40 23 rfl rfl
theorem dksL_law_42 : cL_law.data.toList.drop 1111 = dktL_law_42 := dk_seg dksL_law_41 24 rfl rfl
theorem dksL_law_43 : cL_law.data.toList.drop 1133 = dktL_law_43 := dk_seg dksL_law_42 22 rfl rfl
theorem dksL_law_44 : cL_law.data.toList.drop 1155 = dktL_law_44 := dk_seg dksL_law_43 22 rfl rfl
theorem dksL_law_45 : cL_law.data.toList.drop 1179 = dktL_law_45 := dk_seg dksL_law_44 24 rfl rfl
theorem dksL_law_46 : cL_law.data.toList.drop 1201 = dktL_law_46 := dk_seg dksL_law_45 22 rfl rfl
theorem dksL_law_47 : cL_law.data.toList.drop 1224 = dktL_law_47 := dk_seg dksL_law_46 23 rfl rfl
theorem dksL_law_48 : cL_law.data.toList.drop 1247 = dktL_law_48 := dk_seg dksL_law_47 23 rfl rfl
theorem dksL_law_49 : cL_law.data.toList.drop 1271 = dktL_law_49 := dk_seg dksL_law_48 24 rfl rfl
theorem dksL_law_50 : cL_law.data.toList.drop 1295 = dktL_law_50 := dk_seg dksL_law_49 24 rfl rfl
theorem dksL_law_51 : cL_law.data.toList.drop 1319 = dktL_law_51 := dk_seg dksL_law_50 24 rfl rfl
theorem dksL_law_52 : cL_law.data.toList.drop 1341 = dktL_law_52 := dk_seg dksL_law_51 22 rfl rfl
theorem dksL_law_53 : cL_law.data.toList.drop 1365 = dktL_law_53 := dk_seg dksL_law_52 24 rfl rfl
theorem dksL_law_54 : cL_law.data.toList.drop 1389 = dktL_law_54 := dk_seg dksL_law_53 24 rfl rfl
theorem dksL_law_55 : cL_law.data.toList.drop 1411 = dktL_law_55 := dk_seg dksL_law_54 22 rfl rfl
theorem dksL_law_56 : cL_law.data.toList.drop 1434 = dktL_law_56 := dk_seg dksL_law_55 23 rfl rfl
theorem dksL_law_57 : cL_law.data.toList.drop 1456 = dktL_law_57 := dk_seg dksL_law_56 22 rfl rfl
theorem dksL_law_58 : cL_law.data.toList.drop 1479 = dktL_law_58 := dk_seg dksL_law_57 23 rfl rfl
theorem dksL_law_59 : cL_law.data.toList.drop 1503 = dktL_law_59 := dk_seg dksL_law_58 24 rfl rfl
theorem dksL_law_60 : cL_law.data.toList.drop 1526 = dktL_law_60 := dk_seg dksL_law_59 23 rfl rfl
theorem dksL_law_61 : cL_law.data.toList.drop 1550 = dktL_law_61 := dk_seg dksL_law_60 24 rfl rfl
theorem dksL_law_62 : cL_law.data.toList.drop 1572 = dktL_law_62 := dk_seg dksL_law_61 22 rfl rfl
theorem dksL_law_63 : cL_law.data.toList.drop 1596 = dktL_law_63 := dk_seg dksL_law_62 24 rfl rfl
theorem dksL_law_64 : cL_law.data.toList.drop 1620 = dktL_law_64 := dk_seg dksL_law_63 24 rfl rfl
theorem dksL_law_65 : cL_law.data.toList.drop 1644 = dktL_law_65 := dk_seg dksL_law_64 24 rfl rfl
theorem dksL_law_66 : cL_law.data.toList.drop 1668 = dktL_law_66 := dk_seg dksL_law_65 24 rfl rfl
theorem dksL_law_67 : cL_law.data.toList.drop 1690 = dktL_law_67 := dk_seg dksL_law_66 22 rfl rfl
theorem dksL_law_68 : cL_law.data.toList.drop 1712 = dktL_law_68 := dk_seg dksL_law_67 22 rfl rfl
theorem dksL_law_69 : cL_law.data.toList.drop 1735 = dktL_law_69 := dk_seg dksL_law_68 23 rfl rfl
theorem dksL_law_70 : cL_law.data.toList.drop 1758 = dktL_law_70 := dk_seg dksL_law_69 23 rfl rfl
theorem dksL_law_71 : cL_law.data.toList.drop 1782 = dktL_law_71 := dk_seg dksL_law_70 24 rfl rfl
theorem dksL_law_72 : cL_law.data.toList.drop 1806 = dktL_law_72 := dk_seg dksL_law_71 24 rfl rfl
theorem dksL_law_73 : cL_law.data.toList.drop 1830 = dktL_law_73 := dk_seg dksL_law_72 24 rfl rfl
theorem dksL_law_74 : cL_law.data.toList.drop 1852 = dktL_law_74 := dk_seg dksL_law_73 22 rfl rfl
theorem dksL_law_75 : cL_law.data.toList.drop 1875 = dktL_law_75 := dk_seg dksL_law_74 23 rfl rfl
theorem dksL_law_76 : cL_law.data.toList.drop 1897 = dktL_law_76 := dk_seg dksL_law_75 22 rfl rfl
theorem dksL_law_77 : cL_law.data.toList.drop 1920 = dktL_law_77 := dk_seg dksL_law_76 23 rfl rfl
theorem dksL_law_78 : cL_law.data.toList.drop 1944 = dktL_law_78 := dk_seg dksL_law_77 24 rfl rfl
theorem dksL_law_79 : cL_law.data.toList.drop 1968 = dktL_law_79 := dk_seg dksL_law_78 24 rfl rfl
theorem dksL_law_80 : cL_law.data.toList.drop 1992 = dktL_law_80 := dk_seg dksL_law_79 24 rfl rfl
theorem dksL_law_81 : cL_law.data.toList.drop 2016 = dktL_law_81 := dk_seg dksL_law_80 24 rfl rfl
theorem dksL_law_82 : cL_law.data.toList.drop 2040 = dktL_law_82 := dk_seg dksL_law_81 24 rfl rfl
theorem dksL_law_83 : cL_law.data.toList.drop 2063 = dktL_law_83 := dk_seg dksL_law_82 23 rfl rfl
theorem dksL_law_84 : cL_law.data.toList.drop 2086 = dktL_law_84 := dk_seg dksL_law_83 23 rfl rfl
theorem dksL_law_85 : cL_law.data.toList.drop 2110 = dktL_law_85 := dk_seg dksL_law_84 24 rfl rfl
theorem dksL_law_86 : cL_law.data.toList.drop 2134 = dktL_law_86 := dk_seg dksL_law_85 24 rfl rfl
theorem dksL_law_87 : cL_law.data.toList.drop 2157 = dktL_law_87 := dk_seg dksL_law_86 23 rfl rfl
theorem dksL_law_88 : cL_law.data.toList.drop 2179 = dktL_law_88 := dk_seg dksL_law_87 22 rfl rfl
theorem dksL_law_89 : cL_law.data.toList.drop 2203 = dktL_law_89 := dk_seg dksL_law_88 24 rfl rfl
theorem dksL_law_90 : cL_law.data.toList.drop 2227 = dktL_law_90 := dk_seg dksL_law_89 24 rfl rfl
theorem dksL_law_91 : cL_law.data.toList.drop 2250 = dktL_law_91 := dk_seg dksL_law_90 23 rfl rfl
theorem dL_law_0 : decode cL_law 0 = .ok (.new 8, 3) := dk_187 0 8 (dk_at dksL_law_0 0 rfl rfl)
theorem dL_law_3 : decode cL_law 3 = .ok (.dup, 1) := dk_89 (dk_at dksL_law_0 3 rfl rfl)
theorem dL_law_4 : decode cL_law 4 = .ok (.invokespecial 126, 3) := dk_183 0 126 (dk_at dksL_law_0 4 rfl rfl)
theorem dL_law_7 : decode cL_law 7 = .ok (.astore_n 1, 1) := dk_76 (dk_at dksL_law_0 7 rfl rfl)
theorem dL_law_8 : decode cL_law 8 = .ok (.new 127, 3) := dk_187 0 127 (dk_at dksL_law_0 8 rfl rfl)
theorem dL_law_11 : decode cL_law 11 = .ok (.dup, 1) := dk_89 (dk_at dksL_law_0 11 rfl rfl)
theorem dL_law_12 : decode cL_law 12 = .ok (.invokespecial 129, 3) := dk_183 0 129 (dk_at dksL_law_0 12 rfl rfl)
theorem dL_law_15 : decode cL_law 15 = .ok (.astore_n 2, 1) := dk_77 (dk_at dksL_law_0 15 rfl rfl)
theorem dL_law_16 : decode cL_law 16 = .ok (.iconst 1, 1) := dk_4 (dk_at dksL_law_0 16 rfl rfl)
theorem dL_law_17 : decode cL_law 17 = .ok (.newarray .long, 2) := dk_188_11 (dk_at dksL_law_0 17 rfl rfl)
theorem dL_law_19 : decode cL_law 19 = .ok (.astore_n 3, 1) := dk_78 (dk_at dksL_law_0 19 rfl rfl)
theorem dL_law_20 : decode cL_law 20 = .ok (.iconst 1, 1) := dk_4 (dk_at dksL_law_0 20 rfl rfl)
theorem dL_law_21 : decode cL_law 21 = .ok (.newarray .double, 2) := dk_188_7 (dk_at dksL_law_0 21 rfl rfl)
theorem dL_law_23 : decode cL_law 23 = .ok (.astore 4, 2) := dk_58 4 (dk_at dksL_law_1 0 rfl rfl)
theorem dL_law_25 : decode cL_law 25 = .ok (.iconst 0, 1) := dk_3 (dk_at dksL_law_1 2 rfl rfl)
theorem dL_law_26 : decode cL_law 26 = .ok (.istore 5, 2) := dk_54 5 (dk_at dksL_law_1 3 rfl rfl)
theorem dL_law_28 : decode cL_law 28 = .ok (.iload 5, 2) := dk_21 5 (dk_at dksL_law_1 5 rfl rfl)
theorem dL_law_30 : decode cL_law 30 = .ok (.aload_n 0, 1) := dk_42 (dk_at dksL_law_1 7 rfl rfl)
theorem dL_law_31 : decode cL_law 31 = .ok (.arraylength, 1) := dk_190 (dk_at dksL_law_1 8 rfl rfl)
theorem dL_law_32 : decode cL_law 32 = .ok (.iconst 4, 1) := dk_7 (dk_at dksL_law_1 9 rfl rfl)
theorem dL_law_33 : decode cL_law 33 = .ok (.isub, 1) := dk_100 (dk_at dksL_law_1 10 rfl rfl)
theorem dL_law_34 : decode cL_law 34 = .ok (.if_icmp .gt 2234, 3) := dk_163 8 186 (dk_at dksL_law_1 11 rfl rfl)
theorem dL_law_37 : decode cL_law 37 = .ok (.aload_n 0, 1) := dk_42 (dk_at dksL_law_1 14 rfl rfl)
theorem dL_law_38 : decode cL_law 38 = .ok (.iload 5, 2) := dk_21 5 (dk_at dksL_law_1 15 rfl rfl)
theorem dL_law_40 : decode cL_law 40 = .ok (.iaload, 1) := dk_46 (dk_at dksL_law_1 17 rfl rfl)
theorem dL_law_41 : decode cL_law 41 = .ok (.bipush 63, 2) := dk_16 63 (dk_at dksL_law_1 18 rfl rfl)
theorem dL_law_43 : decode cL_law 43 = .ok (.iand, 1) := dk_126 (dk_at dksL_law_1 20 rfl rfl)
theorem dL_law_44 : decode cL_law 44 = .ok (.tableswitch 2218 0 36 #[164, 244, 312, 380, 436, 506, 574, 630, 686, 742, 798, 861, 929, 985, 1041, 1097, 1165, 1221, 1289, 1333, 1346, 1359, 1415, 1471, 1527, 1540, 1620, 1676, 1732, 1800, 1856, 1912, 1992, 2060, 2126, 2191, 2205], 164) := by decide +kernel
theorem dL_law_208 : decode cL_law 208 = .ok (.aload_n 1, 1) := dk_43 (dk_at dksL_law_3 0 rfl rfl)
theorem dL_law_209 : decode cL_law 209 = .ok (.aload_n 0, 1) := dk_42 (dk_at dksL_law_3 1 rfl rfl)
theorem dL_law_210 : decode cL_law 210 = .ok (.iload 5, 2) := dk_21 5 (dk_at dksL_law_3 2 rfl rfl)
theorem dL_law_212 : decode cL_law 212 = .ok (.iconst 1, 1) := dk_4 (dk_at dksL_law_3 4 rfl rfl)
theorem dL_law_213 : decode cL_law 213 = .ok (.iadd, 1) := dk_96 (dk_at dksL_law_3 5 rfl rfl)
theorem dL_law_214 : decode cL_law 214 = .ok (.iaload, 1) := dk_46 (dk_at dksL_law_3 6 rfl rfl)
theorem dL_law_215 : decode cL_law 215 = .ok (.aload_n 0, 1) := dk_42 (dk_at dksL_law_3 7 rfl rfl)
theorem dL_law_216 : decode cL_law 216 = .ok (.iload 5, 2) := dk_21 5 (dk_at dksL_law_3 8 rfl rfl)
theorem dL_law_218 : decode cL_law 218 = .ok (.iconst 2, 1) := dk_5 (dk_at dksL_law_3 10 rfl rfl)
theorem dL_law_219 : decode cL_law 219 = .ok (.iadd, 1) := dk_96 (dk_at dksL_law_3 11 rfl rfl)
theorem dL_law_220 : decode cL_law 220 = .ok (.iaload, 1) := dk_46 (dk_at dksL_law_3 12 rfl rfl)
theorem dL_law_221 : decode cL_law 221 = .ok (.aload_n 0, 1) := dk_42 (dk_at dksL_law_3 13 rfl rfl)
theorem dL_law_222 : decode cL_law 222 = .ok (.iload 5, 2) := dk_21 5 (dk_at dksL_law_3 14 rfl rfl)
theorem dL_law_224 : decode cL_law 224 = .ok (.iconst 3, 1) := dk_6 (dk_at dksL_law_3 16 rfl rfl)
theorem dL_law_225 : decode cL_law 225 = .ok (.iadd, 1) := dk_96 (dk_at dksL_law_3 17 rfl rfl)
theorem dL_law_226 : decode cL_law 226 = .ok (.iaload, 1) := dk_46 (dk_at dksL_law_3 18 rfl rfl)
theorem dL_law_227 : decode cL_law 227 = .ok (.aload_n 3, 1) := dk_45 (dk_at dksL_law_3 19 rfl rfl)
theorem dL_law_228 : decode cL_law 228 = .ok (.invokestatic 130, 3) := dk_184 0 130 (dk_at dksL_law_3 20 rfl rfl)
theorem dL_law_231 : decode cL_law 231 = .ok (.istore 6, 2) := dk_54 6 (dk_at dksL_law_4 0 rfl rfl)
theorem dL_law_233 : decode cL_law 233 = .ok (.aload_n 2, 1) := dk_44 (dk_at dksL_law_4 2 rfl rfl)
theorem dL_law_234 : decode cL_law 234 = .ok (.aload_n 0, 1) := dk_42 (dk_at dksL_law_4 3 rfl rfl)
theorem dL_law_235 : decode cL_law 235 = .ok (.iload 5, 2) := dk_21 5 (dk_at dksL_law_4 4 rfl rfl)
theorem dL_law_237 : decode cL_law 237 = .ok (.iconst 1, 1) := dk_4 (dk_at dksL_law_4 6 rfl rfl)
theorem dL_law_238 : decode cL_law 238 = .ok (.iadd, 1) := dk_96 (dk_at dksL_law_4 7 rfl rfl)
theorem dL_law_239 : decode cL_law 239 = .ok (.iaload, 1) := dk_46 (dk_at dksL_law_4 8 rfl rfl)
theorem dL_law_240 : decode cL_law 240 = .ok (.aload_n 0, 1) := dk_42 (dk_at dksL_law_4 9 rfl rfl)
theorem dL_law_241 : decode cL_law 241 = .ok (.iload 5, 2) := dk_21 5 (dk_at dksL_law_4 10 rfl rfl)
theorem dL_law_243 : decode cL_law 243 = .ok (.iconst 2, 1) := dk_5 (dk_at dksL_law_4 12 rfl rfl)
theorem dL_law_244 : decode cL_law 244 = .ok (.iadd, 1) := dk_96 (dk_at dksL_law_4 13 rfl rfl)
theorem dL_law_245 : decode cL_law 245 = .ok (.iaload, 1) := dk_46 (dk_at dksL_law_4 14 rfl rfl)
theorem dL_law_246 : decode cL_law 246 = .ok (.aload_n 0, 1) := dk_42 (dk_at dksL_law_4 15 rfl rfl)
theorem dL_law_247 : decode cL_law 247 = .ok (.iload 5, 2) := dk_21 5 (dk_at dksL_law_4 16 rfl rfl)
theorem dL_law_249 : decode cL_law 249 = .ok (.iconst 3, 1) := dk_6 (dk_at dksL_law_4 18 rfl rfl)
theorem dL_law_250 : decode cL_law 250 = .ok (.iadd, 1) := dk_96 (dk_at dksL_law_4 19 rfl rfl)
theorem dL_law_251 : decode cL_law 251 = .ok (.iaload, 1) := dk_46 (dk_at dksL_law_4 20 rfl rfl)
theorem dL_law_252 : decode cL_law 252 = .ok (.invokevirtual 135, 3) := dk_182 0 135 (dk_at dksL_law_4 21 rfl rfl)
theorem dL_law_255 : decode cL_law 255 = .ok (.istore 7, 2) := dk_54 7 (dk_at dksL_law_5 0 rfl rfl)
theorem dL_law_257 : decode cL_law 257 = .ok (.aload_n 2, 1) := dk_44 (dk_at dksL_law_5 2 rfl rfl)
theorem dL_law_258 : decode cL_law 258 = .ok (.invokevirtual 136, 3) := dk_182 0 136 (dk_at dksL_law_5 3 rfl rfl)
theorem dL_law_261 : decode cL_law 261 = .ok (.iload 6, 2) := dk_21 6 (dk_at dksL_law_5 6 rfl rfl)
theorem dL_law_263 : decode cL_law 263 = .ok (.if_icmp .eq 5, 3) := dk_159 0 5 (dk_at dksL_law_5 8 rfl rfl)
theorem dL_law_266 : decode cL_law 266 = .ok (.iconst 0, 1) := dk_3 (dk_at dksL_law_5 11 rfl rfl)
theorem dL_law_267 : decode cL_law 267 = .ok (.ireturn, 1) := dk_172 (dk_at dksL_law_5 12 rfl rfl)
theorem dL_law_268 : decode cL_law 268 = .ok (.iload 6, 2) := dk_21 6 (dk_at dksL_law_5 13 rfl rfl)
theorem dL_law_270 : decode cL_law 270 = .ok (.ifCond .ne 15, 3) := dk_154 0 15 (dk_at dksL_law_5 15 rfl rfl)
theorem dL_law_273 : decode cL_law 273 = .ok (.aload_n 3, 1) := dk_45 (dk_at dksL_law_5 18 rfl rfl)
theorem dL_law_274 : decode cL_law 274 = .ok (.iconst 0, 1) := dk_3 (dk_at dksL_law_5 19 rfl rfl)
theorem dL_law_275 : decode cL_law 275 = .ok (.laload, 1) := dk_47 (dk_at dksL_law_5 20 rfl rfl)
theorem dL_law_276 : decode cL_law 276 = .ok (.iload 7, 2) := dk_21 7 (dk_at dksL_law_5 21 rfl rfl)
theorem dL_law_278 : decode cL_law 278 = .ok (.i2l, 1) := dk_133 (dk_at dksL_law_5 23 rfl rfl)
theorem dL_law_279 : decode cL_law 279 = .ok (.lcmp, 1) := dk_148 (dk_at dksL_law_6 0 rfl rfl)
theorem dL_law_280 : decode cL_law 280 = .ok (.ifCond .eq 5, 3) := dk_153 0 5 (dk_at dksL_law_6 1 rfl rfl)
theorem dL_law_283 : decode cL_law 283 = .ok (.iconst 0, 1) := dk_3 (dk_at dksL_law_6 4 rfl rfl)
theorem dL_law_284 : decode cL_law 284 = .ok (.ireturn, 1) := dk_172 (dk_at dksL_law_6 5 rfl rfl)
theorem dL_law_285 : decode cL_law 285 = .ok (.goto 1977, 3) := dk_167 7 185 (dk_at dksL_law_6 6 rfl rfl)
theorem dL_law_288 : decode cL_law 288 = .ok (.aload_n 1, 1) := dk_43 (dk_at dksL_law_6 9 rfl rfl)
theorem dL_law_289 : decode cL_law 289 = .ok (.aload_n 0, 1) := dk_42 (dk_at dksL_law_6 10 rfl rfl)
theorem dL_law_290 : decode cL_law 290 = .ok (.iload 5, 2) := dk_21 5 (dk_at dksL_law_6 11 rfl rfl)
theorem dL_law_292 : decode cL_law 292 = .ok (.iconst 1, 1) := dk_4 (dk_at dksL_law_6 13 rfl rfl)
theorem dL_law_293 : decode cL_law 293 = .ok (.iadd, 1) := dk_96 (dk_at dksL_law_6 14 rfl rfl)
theorem dL_law_294 : decode cL_law 294 = .ok (.iaload, 1) := dk_46 (dk_at dksL_law_6 15 rfl rfl)
theorem dL_law_295 : decode cL_law 295 = .ok (.aload_n 0, 1) := dk_42 (dk_at dksL_law_6 16 rfl rfl)
theorem dL_law_296 : decode cL_law 296 = .ok (.iload 5, 2) := dk_21 5 (dk_at dksL_law_6 17 rfl rfl)
theorem dL_law_298 : decode cL_law 298 = .ok (.iconst 2, 1) := dk_5 (dk_at dksL_law_6 19 rfl rfl)
theorem dL_law_299 : decode cL_law 299 = .ok (.iadd, 1) := dk_96 (dk_at dksL_law_6 20 rfl rfl)
theorem dL_law_300 : decode cL_law 300 = .ok (.iaload, 1) := dk_46 (dk_at dksL_law_6 21 rfl rfl)
theorem dL_law_301 : decode cL_law 301 = .ok (.aload_n 3, 1) := dk_45 (dk_at dksL_law_6 22 rfl rfl)
theorem dL_law_302 : decode cL_law 302 = .ok (.invokestatic 139, 3) := dk_184 0 139 (dk_at dksL_law_7 0 rfl rfl)
theorem dL_law_305 : decode cL_law 305 = .ok (.istore 6, 2) := dk_54 6 (dk_at dksL_law_7 3 rfl rfl)
theorem dL_law_307 : decode cL_law 307 = .ok (.aload_n 2, 1) := dk_44 (dk_at dksL_law_7 5 rfl rfl)
theorem dL_law_308 : decode cL_law 308 = .ok (.aload_n 0, 1) := dk_42 (dk_at dksL_law_7 6 rfl rfl)
theorem dL_law_309 : decode cL_law 309 = .ok (.iload 5, 2) := dk_21 5 (dk_at dksL_law_7 7 rfl rfl)
theorem dL_law_311 : decode cL_law 311 = .ok (.iconst 1, 1) := dk_4 (dk_at dksL_law_7 9 rfl rfl)
theorem dL_law_312 : decode cL_law 312 = .ok (.iadd, 1) := dk_96 (dk_at dksL_law_7 10 rfl rfl)
theorem dL_law_313 : decode cL_law 313 = .ok (.iaload, 1) := dk_46 (dk_at dksL_law_7 11 rfl rfl)
theorem dL_law_314 : decode cL_law 314 = .ok (.aload_n 0, 1) := dk_42 (dk_at dksL_law_7 12 rfl rfl)
theorem dL_law_315 : decode cL_law 315 = .ok (.iload 5, 2) := dk_21 5 (dk_at dksL_law_7 13 rfl rfl)
theorem dL_law_317 : decode cL_law 317 = .ok (.iconst 2, 1) := dk_5 (dk_at dksL_law_7 15 rfl rfl)
theorem dL_law_318 : decode cL_law 318 = .ok (.iadd, 1) := dk_96 (dk_at dksL_law_7 16 rfl rfl)
theorem dL_law_319 : decode cL_law 319 = .ok (.iaload, 1) := dk_46 (dk_at dksL_law_7 17 rfl rfl)
theorem dL_law_320 : decode cL_law 320 = .ok (.invokevirtual 142, 3) := dk_182 0 142 (dk_at dksL_law_7 18 rfl rfl)
theorem dL_law_323 : decode cL_law 323 = .ok (.istore 7, 2) := dk_54 7 (dk_at dksL_law_7 21 rfl rfl)
theorem dL_law_325 : decode cL_law 325 = .ok (.aload_n 2, 1) := dk_44 (dk_at dksL_law_7 23 rfl rfl)
theorem dL_law_326 : decode cL_law 326 = .ok (.invokevirtual 136, 3) := dk_182 0 136 (dk_at dksL_law_8 0 rfl rfl)
theorem dL_law_329 : decode cL_law 329 = .ok (.iload 6, 2) := dk_21 6 (dk_at dksL_law_8 3 rfl rfl)
theorem dL_law_331 : decode cL_law 331 = .ok (.if_icmp .eq 5, 3) := dk_159 0 5 (dk_at dksL_law_8 5 rfl rfl)
theorem dL_law_334 : decode cL_law 334 = .ok (.iconst 0, 1) := dk_3 (dk_at dksL_law_8 8 rfl rfl)
theorem dL_law_335 : decode cL_law 335 = .ok (.ireturn, 1) := dk_172 (dk_at dksL_law_8 9 rfl rfl)
theorem dL_law_336 : decode cL_law 336 = .ok (.iload 6, 2) := dk_21 6 (dk_at dksL_law_8 10 rfl rfl)
theorem dL_law_338 : decode cL_law 338 = .ok (.ifCond .ne 15, 3) := dk_154 0 15 (dk_at dksL_law_8 12 rfl rfl)
theorem dL_law_341 : decode cL_law 341 = .ok (.aload_n 3, 1) := dk_45 (dk_at dksL_law_8 15 rfl rfl)
theorem dL_law_342 : decode cL_law 342 = .ok (.iconst 0, 1) := dk_3 (dk_at dksL_law_8 16 rfl rfl)
theorem dL_law_343 : decode cL_law 343 = .ok (.laload, 1) := dk_47 (dk_at dksL_law_8 17 rfl rfl)
theorem dL_law_344 : decode cL_law 344 = .ok (.iload 7, 2) := dk_21 7 (dk_at dksL_law_8 18 rfl rfl)
theorem dL_law_346 : decode cL_law 346 = .ok (.i2l, 1) := dk_133 (dk_at dksL_law_8 20 rfl rfl)
theorem dL_law_347 : decode cL_law 347 = .ok (.lcmp, 1) := dk_148 (dk_at dksL_law_8 21 rfl rfl)
theorem dL_law_348 : decode cL_law 348 = .ok (.ifCond .eq 5, 3) := dk_153 0 5 (dk_at dksL_law_9 0 rfl rfl)
theorem dL_law_351 : decode cL_law 351 = .ok (.iconst 0, 1) := dk_3 (dk_at dksL_law_9 3 rfl rfl)
theorem dL_law_352 : decode cL_law 352 = .ok (.ireturn, 1) := dk_172 (dk_at dksL_law_9 4 rfl rfl)
theorem dL_law_353 : decode cL_law 353 = .ok (.goto 1909, 3) := dk_167 7 117 (dk_at dksL_law_9 5 rfl rfl)
theorem dL_law_356 : decode cL_law 356 = .ok (.aload_n 1, 1) := dk_43 (dk_at dksL_law_9 8 rfl rfl)
theorem dL_law_357 : decode cL_law 357 = .ok (.aload_n 0, 1) := dk_42 (dk_at dksL_law_9 9 rfl rfl)
theorem dL_law_358 : decode cL_law 358 = .ok (.iload 5, 2) := dk_21 5 (dk_at dksL_law_9 10 rfl rfl)
theorem dL_law_360 : decode cL_law 360 = .ok (.iconst 1, 1) := dk_4 (dk_at dksL_law_9 12 rfl rfl)
theorem dL_law_361 : decode cL_law 361 = .ok (.iadd, 1) := dk_96 (dk_at dksL_law_9 13 rfl rfl)
theorem dL_law_362 : decode cL_law 362 = .ok (.iaload, 1) := dk_46 (dk_at dksL_law_9 14 rfl rfl)
theorem dL_law_363 : decode cL_law 363 = .ok (.aload_n 0, 1) := dk_42 (dk_at dksL_law_9 15 rfl rfl)
theorem dL_law_364 : decode cL_law 364 = .ok (.iload 5, 2) := dk_21 5 (dk_at dksL_law_9 16 rfl rfl)
theorem dL_law_366 : decode cL_law 366 = .ok (.iconst 2, 1) := dk_5 (dk_at dksL_law_9 18 rfl rfl)
theorem dL_law_367 : decode cL_law 367 = .ok (.iadd, 1) := dk_96 (dk_at dksL_law_9 19 rfl rfl)
theorem dL_law_368 : decode cL_law 368 = .ok (.iaload, 1) := dk_46 (dk_at dksL_law_9 20 rfl rfl)
theorem dL_law_369 : decode cL_law 369 = .ok (.aload_n 3, 1) := dk_45 (dk_at dksL_law_9 21 rfl rfl)
theorem dL_law_370 : decode cL_law 370 = .ok (.invokestatic 143, 3) := dk_184 0 143 (dk_at dksL_law_10 0 rfl rfl)
theorem dL_law_373 : decode cL_law 373 = .ok (.istore 6, 2) := dk_54 6 (dk_at dksL_law_10 3 rfl rfl)
theorem dL_law_375 : decode cL_law 375 = .ok (.aload_n 2, 1) := dk_44 (dk_at dksL_law_10 5 rfl rfl)
theorem dL_law_376 : decode cL_law 376 = .ok (.aload_n 0, 1) := dk_42 (dk_at dksL_law_10 6 rfl rfl)
theorem dL_law_377 : decode cL_law 377 = .ok (.iload 5, 2) := dk_21 5 (dk_at dksL_law_10 7 rfl rfl)
theorem dL_law_379 : decode cL_law 379 = .ok (.iconst 1, 1) := dk_4 (dk_at dksL_law_10 9 rfl rfl)
theorem dL_law_380 : decode cL_law 380 = .ok (.iadd, 1) := dk_96 (dk_at dksL_law_10 10 rfl rfl)
theorem dL_law_381 : decode cL_law 381 = .ok (.iaload, 1) := dk_46 (dk_at dksL_law_10 11 rfl rfl)
theorem dL_law_382 : decode cL_law 382 = .ok (.aload_n 0, 1) := dk_42 (dk_at dksL_law_10 12 rfl rfl)
theorem dL_law_383 : decode cL_law 383 = .ok (.iload 5, 2) := dk_21 5 (dk_at dksL_law_10 13 rfl rfl)
theorem dL_law_385 : decode cL_law 385 = .ok (.iconst 2, 1) := dk_5 (dk_at dksL_law_10 15 rfl rfl)
theorem dL_law_386 : decode cL_law 386 = .ok (.iadd, 1) := dk_96 (dk_at dksL_law_10 16 rfl rfl)
theorem dL_law_387 : decode cL_law 387 = .ok (.iaload, 1) := dk_46 (dk_at dksL_law_10 17 rfl rfl)
theorem dL_law_388 : decode cL_law 388 = .ok (.invokevirtual 145, 3) := dk_182 0 145 (dk_at dksL_law_10 18 rfl rfl)
theorem dL_law_391 : decode cL_law 391 = .ok (.istore 7, 2) := dk_54 7 (dk_at dksL_law_10 21 rfl rfl)
theorem dL_law_393 : decode cL_law 393 = .ok (.aload_n 2, 1) := dk_44 (dk_at dksL_law_10 23 rfl rfl)
theorem dL_law_394 : decode cL_law 394 = .ok (.invokevirtual 136, 3) := dk_182 0 136 (dk_at dksL_law_11 0 rfl rfl)
theorem dL_law_397 : decode cL_law 397 = .ok (.iload 6, 2) := dk_21 6 (dk_at dksL_law_11 3 rfl rfl)
theorem dL_law_399 : decode cL_law 399 = .ok (.if_icmp .eq 5, 3) := dk_159 0 5 (dk_at dksL_law_11 5 rfl rfl)
theorem dL_law_402 : decode cL_law 402 = .ok (.iconst 0, 1) := dk_3 (dk_at dksL_law_11 8 rfl rfl)
theorem dL_law_403 : decode cL_law 403 = .ok (.ireturn, 1) := dk_172 (dk_at dksL_law_11 9 rfl rfl)
theorem dL_law_404 : decode cL_law 404 = .ok (.iload 6, 2) := dk_21 6 (dk_at dksL_law_11 10 rfl rfl)
theorem dL_law_406 : decode cL_law 406 = .ok (.ifCond .ne 15, 3) := dk_154 0 15 (dk_at dksL_law_11 12 rfl rfl)
theorem dL_law_409 : decode cL_law 409 = .ok (.aload_n 3, 1) := dk_45 (dk_at dksL_law_11 15 rfl rfl)
theorem dL_law_410 : decode cL_law 410 = .ok (.iconst 0, 1) := dk_3 (dk_at dksL_law_11 16 rfl rfl)
theorem dL_law_411 : decode cL_law 411 = .ok (.laload, 1) := dk_47 (dk_at dksL_law_11 17 rfl rfl)
theorem dL_law_412 : decode cL_law 412 = .ok (.iload 7, 2) := dk_21 7 (dk_at dksL_law_11 18 rfl rfl)
theorem dL_law_414 : decode cL_law 414 = .ok (.i2l, 1) := dk_133 (dk_at dksL_law_11 20 rfl rfl)
theorem dL_law_415 : decode cL_law 415 = .ok (.lcmp, 1) := dk_148 (dk_at dksL_law_11 21 rfl rfl)
theorem dL_law_416 : decode cL_law 416 = .ok (.ifCond .eq 5, 3) := dk_153 0 5 (dk_at dksL_law_12 0 rfl rfl)
theorem dL_law_419 : decode cL_law 419 = .ok (.iconst 0, 1) := dk_3 (dk_at dksL_law_12 3 rfl rfl)
theorem dL_law_420 : decode cL_law 420 = .ok (.ireturn, 1) := dk_172 (dk_at dksL_law_12 4 rfl rfl)
theorem dL_law_421 : decode cL_law 421 = .ok (.goto 1841, 3) := dk_167 7 49 (dk_at dksL_law_12 5 rfl rfl)
theorem dL_law_424 : decode cL_law 424 = .ok (.aload_n 1, 1) := dk_43 (dk_at dksL_law_12 8 rfl rfl)
theorem dL_law_425 : decode cL_law 425 = .ok (.aload_n 0, 1) := dk_42 (dk_at dksL_law_12 9 rfl rfl)
theorem dL_law_426 : decode cL_law 426 = .ok (.iload 5, 2) := dk_21 5 (dk_at dksL_law_12 10 rfl rfl)
theorem dL_law_428 : decode cL_law 428 = .ok (.iconst 1, 1) := dk_4 (dk_at dksL_law_12 12 rfl rfl)
theorem dL_law_429 : decode cL_law 429 = .ok (.iadd, 1) := dk_96 (dk_at dksL_law_12 13 rfl rfl)
theorem dL_law_430 : decode cL_law 430 = .ok (.iaload, 1) := dk_46 (dk_at dksL_law_12 14 rfl rfl)
theorem dL_law_431 : decode cL_law 431 = .ok (.aload_n 3, 1) := dk_45 (dk_at dksL_law_12 15 rfl rfl)
theorem dL_law_432 : decode cL_law 432 = .ok (.invokestatic 146, 3) := dk_184 0 146 (dk_at dksL_law_12 16 rfl rfl)
theorem dL_law_435 : decode cL_law 435 = .ok (.istore 6, 2) := dk_54 6 (dk_at dksL_law_12 19 rfl rfl)
theorem dL_law_437 : decode cL_law 437 = .ok (.aload_n 2, 1) := dk_44 (dk_at dksL_law_12 21 rfl rfl)
theorem dL_law_438 : decode cL_law 438 = .ok (.aload_n 0, 1) := dk_42 (dk_at dksL_law_12 22 rfl rfl)
theorem dL_law_439 : decode cL_law 439 = .ok (.iload 5, 2) := dk_21 5 (dk_at dksL_law_13 0 rfl rfl)
theorem dL_law_441 : decode cL_law 441 = .ok (.iconst 1, 1) := dk_4 (dk_at dksL_law_13 2 rfl rfl)
theorem dL_law_442 : decode cL_law 442 = .ok (.iadd, 1) := dk_96 (dk_at dksL_law_13 3 rfl rfl)
theorem dL_law_443 : decode cL_law 443 = .ok (.iaload, 1) := dk_46 (dk_at dksL_law_13 4 rfl rfl)
theorem dL_law_444 : decode cL_law 444 = .ok (.invokevirtual 149, 3) := dk_182 0 149 (dk_at dksL_law_13 5 rfl rfl)
theorem dL_law_447 : decode cL_law 447 = .ok (.istore 7, 2) := dk_54 7 (dk_at dksL_law_13 8 rfl rfl)
theorem dL_law_449 : decode cL_law 449 = .ok (.aload_n 2, 1) := dk_44 (dk_at dksL_law_13 10 rfl rfl)
theorem dL_law_450 : decode cL_law 450 = .ok (.invokevirtual 136, 3) := dk_182 0 136 (dk_at dksL_law_13 11 rfl rfl)
theorem dL_law_453 : decode cL_law 453 = .ok (.iload 6, 2) := dk_21 6 (dk_at dksL_law_13 14 rfl rfl)
theorem dL_law_455 : decode cL_law 455 = .ok (.if_icmp .eq 5, 3) := dk_159 0 5 (dk_at dksL_law_13 16 rfl rfl)
theorem dL_law_458 : decode cL_law 458 = .ok (.iconst 0, 1) := dk_3 (dk_at dksL_law_13 19 rfl rfl)
theorem dL_law_459 : decode cL_law 459 = .ok (.ireturn, 1) := dk_172 (dk_at dksL_law_13 20 rfl rfl)
theorem dL_law_460 : decode cL_law 460 = .ok (.iload 6, 2) := dk_21 6 (dk_at dksL_law_13 21 rfl rfl)
theorem dL_law_462 : decode cL_law 462 = .ok (.ifCond .ne 15, 3) := dk_154 0 15 (dk_at dksL_law_14 0 rfl rfl)
theorem dL_law_465 : decode cL_law 465 = .ok (.aload_n 3, 1) := dk_45 (dk_at dksL_law_14 3 rfl rfl)
theorem dL_law_466 : decode cL_law 466 = .ok (.iconst 0, 1) := dk_3 (dk_at dksL_law_14 4 rfl rfl)
theorem dL_law_467 : decode cL_law 467 = .ok (.laload, 1) := dk_47 (dk_at dksL_law_14 5 rfl rfl)
theorem dL_law_468 : decode cL_law 468 = .ok (.iload 7, 2) := dk_21 7 (dk_at dksL_law_14 6 rfl rfl)
theorem dL_law_470 : decode cL_law 470 = .ok (.i2l, 1) := dk_133 (dk_at dksL_law_14 8 rfl rfl)
theorem dL_law_471 : decode cL_law 471 = .ok (.lcmp, 1) := dk_148 (dk_at dksL_law_14 9 rfl rfl)
theorem dL_law_472 : decode cL_law 472 = .ok (.ifCond .eq 5, 3) := dk_153 0 5 (dk_at dksL_law_14 10 rfl rfl)
theorem dL_law_475 : decode cL_law 475 = .ok (.iconst 0, 1) := dk_3 (dk_at dksL_law_14 13 rfl rfl)
theorem dL_law_476 : decode cL_law 476 = .ok (.ireturn, 1) := dk_172 (dk_at dksL_law_14 14 rfl rfl)
theorem dL_law_477 : decode cL_law 477 = .ok (.goto 1785, 3) := dk_167 6 249 (dk_at dksL_law_14 15 rfl rfl)
theorem dL_law_480 : decode cL_law 480 = .ok (.aload_n 1, 1) := dk_43 (dk_at dksL_law_14 18 rfl rfl)
theorem dL_law_481 : decode cL_law 481 = .ok (.aload_n 0, 1) := dk_42 (dk_at dksL_law_14 19 rfl rfl)
theorem dL_law_482 : decode cL_law 482 = .ok (.iload 5, 2) := dk_21 5 (dk_at dksL_law_14 20 rfl rfl)
theorem dL_law_484 : decode cL_law 484 = .ok (.iconst 1, 1) := dk_4 (dk_at dksL_law_14 22 rfl rfl)
theorem dL_law_485 : decode cL_law 485 = .ok (.iadd, 1) := dk_96 (dk_at dksL_law_14 23 rfl rfl)
theorem dL_law_486 : decode cL_law 486 = .ok (.iaload, 1) := dk_46 (dk_at dksL_law_15 0 rfl rfl)
theorem dL_law_487 : decode cL_law 487 = .ok (.aload_n 0, 1) := dk_42 (dk_at dksL_law_15 1 rfl rfl)
theorem dL_law_488 : decode cL_law 488 = .ok (.iload 5, 2) := dk_21 5 (dk_at dksL_law_15 2 rfl rfl)
theorem dL_law_490 : decode cL_law 490 = .ok (.iconst 2, 1) := dk_5 (dk_at dksL_law_15 4 rfl rfl)
theorem dL_law_491 : decode cL_law 491 = .ok (.iadd, 1) := dk_96 (dk_at dksL_law_15 5 rfl rfl)
theorem dL_law_492 : decode cL_law 492 = .ok (.iaload, 1) := dk_46 (dk_at dksL_law_15 6 rfl rfl)
theorem dL_law_493 : decode cL_law 493 = .ok (.i2c, 1) := dk_146 (dk_at dksL_law_15 7 rfl rfl)
theorem dL_law_494 : decode cL_law 494 = .ok (.aload_n 3, 1) := dk_45 (dk_at dksL_law_15 8 rfl rfl)
theorem dL_law_495 : decode cL_law 495 = .ok (.invokestatic 150, 3) := dk_184 0 150 (dk_at dksL_law_15 9 rfl rfl)
theorem dL_law_498 : decode cL_law 498 = .ok (.istore 6, 2) := dk_54 6 (dk_at dksL_law_15 12 rfl rfl)
theorem dL_law_500 : decode cL_law 500 = .ok (.aload_n 2, 1) := dk_44 (dk_at dksL_law_15 14 rfl rfl)
theorem dL_law_501 : decode cL_law 501 = .ok (.aload_n 0, 1) := dk_42 (dk_at dksL_law_15 15 rfl rfl)
theorem dL_law_502 : decode cL_law 502 = .ok (.iload 5, 2) := dk_21 5 (dk_at dksL_law_15 16 rfl rfl)
theorem dL_law_504 : decode cL_law 504 = .ok (.iconst 1, 1) := dk_4 (dk_at dksL_law_15 18 rfl rfl)
theorem dL_law_505 : decode cL_law 505 = .ok (.iadd, 1) := dk_96 (dk_at dksL_law_15 19 rfl rfl)
theorem dL_law_506 : decode cL_law 506 = .ok (.iaload, 1) := dk_46 (dk_at dksL_law_15 20 rfl rfl)
theorem dL_law_507 : decode cL_law 507 = .ok (.aload_n 0, 1) := dk_42 (dk_at dksL_law_15 21 rfl rfl)
theorem dL_law_508 : decode cL_law 508 = .ok (.iload 5, 2) := dk_21 5 (dk_at dksL_law_15 22 rfl rfl)
theorem dL_law_510 : decode cL_law 510 = .ok (.iconst 2, 1) := dk_5 (dk_at dksL_law_16 0 rfl rfl)
theorem dL_law_511 : decode cL_law 511 = .ok (.iadd, 1) := dk_96 (dk_at dksL_law_16 1 rfl rfl)
theorem dL_law_512 : decode cL_law 512 = .ok (.iaload, 1) := dk_46 (dk_at dksL_law_16 2 rfl rfl)
theorem dL_law_513 : decode cL_law 513 = .ok (.i2c, 1) := dk_146 (dk_at dksL_law_16 3 rfl rfl)
theorem dL_law_514 : decode cL_law 514 = .ok (.invokevirtual 153, 3) := dk_182 0 153 (dk_at dksL_law_16 4 rfl rfl)
theorem dL_law_517 : decode cL_law 517 = .ok (.istore 7, 2) := dk_54 7 (dk_at dksL_law_16 7 rfl rfl)
theorem dL_law_519 : decode cL_law 519 = .ok (.aload_n 2, 1) := dk_44 (dk_at dksL_law_16 9 rfl rfl)
theorem dL_law_520 : decode cL_law 520 = .ok (.invokevirtual 136, 3) := dk_182 0 136 (dk_at dksL_law_16 10 rfl rfl)
theorem dL_law_523 : decode cL_law 523 = .ok (.iload 6, 2) := dk_21 6 (dk_at dksL_law_16 13 rfl rfl)
theorem dL_law_525 : decode cL_law 525 = .ok (.if_icmp .eq 5, 3) := dk_159 0 5 (dk_at dksL_law_16 15 rfl rfl)
theorem dL_law_528 : decode cL_law 528 = .ok (.iconst 0, 1) := dk_3 (dk_at dksL_law_16 18 rfl rfl)
theorem dL_law_529 : decode cL_law 529 = .ok (.ireturn, 1) := dk_172 (dk_at dksL_law_16 19 rfl rfl)
theorem dL_law_530 : decode cL_law 530 = .ok (.iload 6, 2) := dk_21 6 (dk_at dksL_law_16 20 rfl rfl)
theorem dL_law_532 : decode cL_law 532 = .ok (.ifCond .ne 15, 3) := dk_154 0 15 (dk_at dksL_law_17 0 rfl rfl)
theorem dL_law_535 : decode cL_law 535 = .ok (.aload_n 3, 1) := dk_45 (dk_at dksL_law_17 3 rfl rfl)
theorem dL_law_536 : decode cL_law 536 = .ok (.iconst 0, 1) := dk_3 (dk_at dksL_law_17 4 rfl rfl)
theorem dL_law_537 : decode cL_law 537 = .ok (.laload, 1) := dk_47 (dk_at dksL_law_17 5 rfl rfl)
theorem dL_law_538 : decode cL_law 538 = .ok (.iload 7, 2) := dk_21 7 (dk_at dksL_law_17 6 rfl rfl)
theorem dL_law_540 : decode cL_law 540 = .ok (.i2l, 1) := dk_133 (dk_at dksL_law_17 8 rfl rfl)
theorem dL_law_541 : decode cL_law 541 = .ok (.lcmp, 1) := dk_148 (dk_at dksL_law_17 9 rfl rfl)
theorem dL_law_542 : decode cL_law 542 = .ok (.ifCond .eq 5, 3) := dk_153 0 5 (dk_at dksL_law_17 10 rfl rfl)
theorem dL_law_545 : decode cL_law 545 = .ok (.iconst 0, 1) := dk_3 (dk_at dksL_law_17 13 rfl rfl)
theorem dL_law_546 : decode cL_law 546 = .ok (.ireturn, 1) := dk_172 (dk_at dksL_law_17 14 rfl rfl)
theorem dL_law_547 : decode cL_law 547 = .ok (.goto 1715, 3) := dk_167 6 179 (dk_at dksL_law_17 15 rfl rfl)
theorem dL_law_550 : decode cL_law 550 = .ok (.aload_n 1, 1) := dk_43 (dk_at dksL_law_17 18 rfl rfl)
theorem dL_law_551 : decode cL_law 551 = .ok (.aload_n 0, 1) := dk_42 (dk_at dksL_law_17 19 rfl rfl)
theorem dL_law_552 : decode cL_law 552 = .ok (.iload 5, 2) := dk_21 5 (dk_at dksL_law_17 20 rfl rfl)
theorem dL_law_554 : decode cL_law 554 = .ok (.iconst 1, 1) := dk_4 (dk_at dksL_law_17 22 rfl rfl)
theorem dL_law_555 : decode cL_law 555 = .ok (.iadd, 1) := dk_96 (dk_at dksL_law_17 23 rfl rfl)
theorem dL_law_556 : decode cL_law 556 = .ok (.iaload, 1) := dk_46 (dk_at dksL_law_18 0 rfl rfl)
theorem dL_law_557 : decode cL_law 557 = .ok (.aload_n 0, 1) := dk_42 (dk_at dksL_law_18 1 rfl rfl)
theorem dL_law_558 : decode cL_law 558 = .ok (.iload 5, 2) := dk_21 5 (dk_at dksL_law_18 2 rfl rfl)
theorem dL_law_560 : decode cL_law 560 = .ok (.iconst 2, 1) := dk_5 (dk_at dksL_law_18 4 rfl rfl)
theorem dL_law_561 : decode cL_law 561 = .ok (.iadd, 1) := dk_96 (dk_at dksL_law_18 5 rfl rfl)
theorem dL_law_562 : decode cL_law 562 = .ok (.iaload, 1) := dk_46 (dk_at dksL_law_18 6 rfl rfl)
theorem dL_law_563 : decode cL_law 563 = .ok (.aload_n 3, 1) := dk_45 (dk_at dksL_law_18 7 rfl rfl)
theorem dL_law_564 : decode cL_law 564 = .ok (.invokestatic 154, 3) := dk_184 0 154 (dk_at dksL_law_18 8 rfl rfl)
theorem dL_law_567 : decode cL_law 567 = .ok (.istore 6, 2) := dk_54 6 (dk_at dksL_law_18 11 rfl rfl)
theorem dL_law_569 : decode cL_law 569 = .ok (.aload_n 2, 1) := dk_44 (dk_at dksL_law_18 13 rfl rfl)
theorem dL_law_570 : decode cL_law 570 = .ok (.aload_n 0, 1) := dk_42 (dk_at dksL_law_18 14 rfl rfl)
theorem dL_law_571 : decode cL_law 571 = .ok (.iload 5, 2) := dk_21 5 (dk_at dksL_law_18 15 rfl rfl)
theorem dL_law_573 : decode cL_law 573 = .ok (.iconst 1, 1) := dk_4 (dk_at dksL_law_18 17 rfl rfl)
theorem dL_law_574 : decode cL_law 574 = .ok (.iadd, 1) := dk_96 (dk_at dksL_law_18 18 rfl rfl)
theorem dL_law_575 : decode cL_law 575 = .ok (.iaload, 1) := dk_46 (dk_at dksL_law_18 19 rfl rfl)
theorem dL_law_576 : decode cL_law 576 = .ok (.aload_n 0, 1) := dk_42 (dk_at dksL_law_18 20 rfl rfl)
theorem dL_law_577 : decode cL_law 577 = .ok (.iload 5, 2) := dk_21 5 (dk_at dksL_law_18 21 rfl rfl)
theorem dL_law_579 : decode cL_law 579 = .ok (.iconst 2, 1) := dk_5 (dk_at dksL_law_18 23 rfl rfl)
theorem dL_law_580 : decode cL_law 580 = .ok (.iadd, 1) := dk_96 (dk_at dksL_law_19 0 rfl rfl)
theorem dL_law_581 : decode cL_law 581 = .ok (.iaload, 1) := dk_46 (dk_at dksL_law_19 1 rfl rfl)
theorem dL_law_582 : decode cL_law 582 = .ok (.invokevirtual 156, 3) := dk_182 0 156 (dk_at dksL_law_19 2 rfl rfl)
theorem dL_law_585 : decode cL_law 585 = .ok (.istore 7, 2) := dk_54 7 (dk_at dksL_law_19 5 rfl rfl)
theorem dL_law_587 : decode cL_law 587 = .ok (.aload_n 2, 1) := dk_44 (dk_at dksL_law_19 7 rfl rfl)
theorem dL_law_588 : decode cL_law 588 = .ok (.invokevirtual 136, 3) := dk_182 0 136 (dk_at dksL_law_19 8 rfl rfl)
theorem dL_law_591 : decode cL_law 591 = .ok (.iload 6, 2) := dk_21 6 (dk_at dksL_law_19 11 rfl rfl)
theorem dL_law_593 : decode cL_law 593 = .ok (.if_icmp .eq 5, 3) := dk_159 0 5 (dk_at dksL_law_19 13 rfl rfl)
theorem dL_law_596 : decode cL_law 596 = .ok (.iconst 0, 1) := dk_3 (dk_at dksL_law_19 16 rfl rfl)
theorem dL_law_597 : decode cL_law 597 = .ok (.ireturn, 1) := dk_172 (dk_at dksL_law_19 17 rfl rfl)
theorem dL_law_598 : decode cL_law 598 = .ok (.iload 6, 2) := dk_21 6 (dk_at dksL_law_19 18 rfl rfl)
theorem dL_law_600 : decode cL_law 600 = .ok (.ifCond .ne 15, 3) := dk_154 0 15 (dk_at dksL_law_19 20 rfl rfl)
theorem dL_law_603 : decode cL_law 603 = .ok (.aload_n 3, 1) := dk_45 (dk_at dksL_law_19 23 rfl rfl)
theorem dL_law_604 : decode cL_law 604 = .ok (.iconst 0, 1) := dk_3 (dk_at dksL_law_20 0 rfl rfl)
theorem dL_law_605 : decode cL_law 605 = .ok (.laload, 1) := dk_47 (dk_at dksL_law_20 1 rfl rfl)
theorem dL_law_606 : decode cL_law 606 = .ok (.iload 7, 2) := dk_21 7 (dk_at dksL_law_20 2 rfl rfl)
theorem dL_law_608 : decode cL_law 608 = .ok (.i2l, 1) := dk_133 (dk_at dksL_law_20 4 rfl rfl)
theorem dL_law_609 : decode cL_law 609 = .ok (.lcmp, 1) := dk_148 (dk_at dksL_law_20 5 rfl rfl)
theorem dL_law_610 : decode cL_law 610 = .ok (.ifCond .eq 5, 3) := dk_153 0 5 (dk_at dksL_law_20 6 rfl rfl)
theorem dL_law_613 : decode cL_law 613 = .ok (.iconst 0, 1) := dk_3 (dk_at dksL_law_20 9 rfl rfl)
theorem dL_law_614 : decode cL_law 614 = .ok (.ireturn, 1) := dk_172 (dk_at dksL_law_20 10 rfl rfl)
theorem dL_law_615 : decode cL_law 615 = .ok (.goto 1647, 3) := dk_167 6 111 (dk_at dksL_law_20 11 rfl rfl)
theorem dL_law_618 : decode cL_law 618 = .ok (.aload_n 1, 1) := dk_43 (dk_at dksL_law_20 14 rfl rfl)
theorem dL_law_619 : decode cL_law 619 = .ok (.aload_n 0, 1) := dk_42 (dk_at dksL_law_20 15 rfl rfl)
theorem dL_law_620 : decode cL_law 620 = .ok (.iload 5, 2) := dk_21 5 (dk_at dksL_law_20 16 rfl rfl)
theorem dL_law_622 : decode cL_law 622 = .ok (.iconst 1, 1) := dk_4 (dk_at dksL_law_20 18 rfl rfl)
theorem dL_law_623 : decode cL_law 623 = .ok (.iadd, 1) := dk_96 (dk_at dksL_law_20 19 rfl rfl)
theorem dL_law_624 : decode cL_law 624 = .ok (.iaload, 1) := dk_46 (dk_at dksL_law_20 20 rfl rfl)
theorem dL_law_625 : decode cL_law 625 = .ok (.aload_n 3, 1) := dk_45 (dk_at dksL_law_20 21 rfl rfl)
theorem dL_law_626 : decode cL_law 626 = .ok (.invokestatic 157, 3) := dk_184 0 157 (dk_at dksL_law_21 0 rfl rfl)
theorem dL_law_629 : decode cL_law 629 = .ok (.istore 6, 2) := dk_54 6 (dk_at dksL_law_21 3 rfl rfl)
theorem dL_law_631 : decode cL_law 631 = .ok (.aload_n 2, 1) := dk_44 (dk_at dksL_law_21 5 rfl rfl)
theorem dL_law_632 : decode cL_law 632 = .ok (.aload_n 0, 1) := dk_42 (dk_at dksL_law_21 6 rfl rfl)
theorem dL_law_633 : decode cL_law 633 = .ok (.iload 5, 2) := dk_21 5 (dk_at dksL_law_21 7 rfl rfl)
theorem dL_law_635 : decode cL_law 635 = .ok (.iconst 1, 1) := dk_4 (dk_at dksL_law_21 9 rfl rfl)
theorem dL_law_636 : decode cL_law 636 = .ok (.iadd, 1) := dk_96 (dk_at dksL_law_21 10 rfl rfl)
theorem dL_law_637 : decode cL_law 637 = .ok (.iaload, 1) := dk_46 (dk_at dksL_law_21 11 rfl rfl)
theorem dL_law_638 : decode cL_law 638 = .ok (.invokevirtual 159, 3) := dk_182 0 159 (dk_at dksL_law_21 12 rfl rfl)
theorem dL_law_641 : decode cL_law 641 = .ok (.istore 7, 2) := dk_54 7 (dk_at dksL_law_21 15 rfl rfl)
theorem dL_law_643 : decode cL_law 643 = .ok (.aload_n 2, 1) := dk_44 (dk_at dksL_law_21 17 rfl rfl)
theorem dL_law_644 : decode cL_law 644 = .ok (.invokevirtual 136, 3) := dk_182 0 136 (dk_at dksL_law_21 18 rfl rfl)
theorem dL_law_647 : decode cL_law 647 = .ok (.iload 6, 2) := dk_21 6 (dk_at dksL_law_21 21 rfl rfl)
theorem dL_law_649 : decode cL_law 649 = .ok (.if_icmp .eq 5, 3) := dk_159 0 5 (dk_at dksL_law_22 0 rfl rfl)
theorem dL_law_652 : decode cL_law 652 = .ok (.iconst 0, 1) := dk_3 (dk_at dksL_law_22 3 rfl rfl)
theorem dL_law_653 : decode cL_law 653 = .ok (.ireturn, 1) := dk_172 (dk_at dksL_law_22 4 rfl rfl)
theorem dL_law_654 : decode cL_law 654 = .ok (.iload 6, 2) := dk_21 6 (dk_at dksL_law_22 5 rfl rfl)
theorem dL_law_656 : decode cL_law 656 = .ok (.ifCond .ne 15, 3) := dk_154 0 15 (dk_at dksL_law_22 7 rfl rfl)
theorem dL_law_659 : decode cL_law 659 = .ok (.aload_n 3, 1) := dk_45 (dk_at dksL_law_22 10 rfl rfl)
theorem dL_law_660 : decode cL_law 660 = .ok (.iconst 0, 1) := dk_3 (dk_at dksL_law_22 11 rfl rfl)
theorem dL_law_661 : decode cL_law 661 = .ok (.laload, 1) := dk_47 (dk_at dksL_law_22 12 rfl rfl)
theorem dL_law_662 : decode cL_law 662 = .ok (.iload 7, 2) := dk_21 7 (dk_at dksL_law_22 13 rfl rfl)
theorem dL_law_664 : decode cL_law 664 = .ok (.i2l, 1) := dk_133 (dk_at dksL_law_22 15 rfl rfl)
theorem dL_law_665 : decode cL_law 665 = .ok (.lcmp, 1) := dk_148 (dk_at dksL_law_22 16 rfl rfl)
theorem dL_law_666 : decode cL_law 666 = .ok (.ifCond .eq 5, 3) := dk_153 0 5 (dk_at dksL_law_22 17 rfl rfl)
theorem dL_law_669 : decode cL_law 669 = .ok (.iconst 0, 1) := dk_3 (dk_at dksL_law_22 20 rfl rfl)
theorem dL_law_670 : decode cL_law 670 = .ok (.ireturn, 1) := dk_172 (dk_at dksL_law_22 21 rfl rfl)
theorem dL_law_671 : decode cL_law 671 = .ok (.goto 1591, 3) := dk_167 6 55 (dk_at dksL_law_23 0 rfl rfl)
theorem dL_law_674 : decode cL_law 674 = .ok (.aload_n 1, 1) := dk_43 (dk_at dksL_law_23 3 rfl rfl)
theorem dL_law_675 : decode cL_law 675 = .ok (.aload_n 0, 1) := dk_42 (dk_at dksL_law_23 4 rfl rfl)
theorem dL_law_676 : decode cL_law 676 = .ok (.iload 5, 2) := dk_21 5 (dk_at dksL_law_23 5 rfl rfl)
theorem dL_law_678 : decode cL_law 678 = .ok (.iconst 1, 1) := dk_4 (dk_at dksL_law_23 7 rfl rfl)
theorem dL_law_679 : decode cL_law 679 = .ok (.iadd, 1) := dk_96 (dk_at dksL_law_23 8 rfl rfl)
theorem dL_law_680 : decode cL_law 680 = .ok (.iaload, 1) := dk_46 (dk_at dksL_law_23 9 rfl rfl)
theorem dL_law_681 : decode cL_law 681 = .ok (.aload_n 3, 1) := dk_45 (dk_at dksL_law_23 10 rfl rfl)
theorem dL_law_682 : decode cL_law 682 = .ok (.invokestatic 160, 3) := dk_184 0 160 (dk_at dksL_law_23 11 rfl rfl)
theorem dL_law_685 : decode cL_law 685 = .ok (.istore 6, 2) := dk_54 6 (dk_at dksL_law_23 14 rfl rfl)
theorem dL_law_687 : decode cL_law 687 = .ok (.aload_n 2, 1) := dk_44 (dk_at dksL_law_23 16 rfl rfl)
theorem dL_law_688 : decode cL_law 688 = .ok (.aload_n 0, 1) := dk_42 (dk_at dksL_law_23 17 rfl rfl)
theorem dL_law_689 : decode cL_law 689 = .ok (.iload 5, 2) := dk_21 5 (dk_at dksL_law_23 18 rfl rfl)
theorem dL_law_691 : decode cL_law 691 = .ok (.iconst 1, 1) := dk_4 (dk_at dksL_law_23 20 rfl rfl)
theorem dL_law_692 : decode cL_law 692 = .ok (.iadd, 1) := dk_96 (dk_at dksL_law_23 21 rfl rfl)
theorem dL_law_693 : decode cL_law 693 = .ok (.iaload, 1) := dk_46 (dk_at dksL_law_23 22 rfl rfl)
theorem dL_law_694 : decode cL_law 694 = .ok (.invokevirtual 162, 3) := dk_182 0 162 (dk_at dksL_law_24 0 rfl rfl)
theorem dL_law_697 : decode cL_law 697 = .ok (.istore 7, 2) := dk_54 7 (dk_at dksL_law_24 3 rfl rfl)
theorem dL_law_699 : decode cL_law 699 = .ok (.aload_n 2, 1) := dk_44 (dk_at dksL_law_24 5 rfl rfl)
theorem dL_law_700 : decode cL_law 700 = .ok (.invokevirtual 136, 3) := dk_182 0 136 (dk_at dksL_law_24 6 rfl rfl)
theorem dL_law_703 : decode cL_law 703 = .ok (.iload 6, 2) := dk_21 6 (dk_at dksL_law_24 9 rfl rfl)
theorem dL_law_705 : decode cL_law 705 = .ok (.if_icmp .eq 5, 3) := dk_159 0 5 (dk_at dksL_law_24 11 rfl rfl)
theorem dL_law_708 : decode cL_law 708 = .ok (.iconst 0, 1) := dk_3 (dk_at dksL_law_24 14 rfl rfl)
theorem dL_law_709 : decode cL_law 709 = .ok (.ireturn, 1) := dk_172 (dk_at dksL_law_24 15 rfl rfl)
theorem dL_law_710 : decode cL_law 710 = .ok (.iload 6, 2) := dk_21 6 (dk_at dksL_law_24 16 rfl rfl)
theorem dL_law_712 : decode cL_law 712 = .ok (.ifCond .ne 15, 3) := dk_154 0 15 (dk_at dksL_law_24 18 rfl rfl)
theorem dL_law_715 : decode cL_law 715 = .ok (.aload_n 3, 1) := dk_45 (dk_at dksL_law_24 21 rfl rfl)
theorem dL_law_716 : decode cL_law 716 = .ok (.iconst 0, 1) := dk_3 (dk_at dksL_law_24 22 rfl rfl)
theorem dL_law_717 : decode cL_law 717 = .ok (.laload, 1) := dk_47 (dk_at dksL_law_24 23 rfl rfl)
theorem dL_law_718 : decode cL_law 718 = .ok (.iload 7, 2) := dk_21 7 (dk_at dksL_law_25 0 rfl rfl)
theorem dL_law_720 : decode cL_law 720 = .ok (.i2l, 1) := dk_133 (dk_at dksL_law_25 2 rfl rfl)
theorem dL_law_721 : decode cL_law 721 = .ok (.lcmp, 1) := dk_148 (dk_at dksL_law_25 3 rfl rfl)
theorem dL_law_722 : decode cL_law 722 = .ok (.ifCond .eq 5, 3) := dk_153 0 5 (dk_at dksL_law_25 4 rfl rfl)
theorem dL_law_725 : decode cL_law 725 = .ok (.iconst 0, 1) := dk_3 (dk_at dksL_law_25 7 rfl rfl)
theorem dL_law_726 : decode cL_law 726 = .ok (.ireturn, 1) := dk_172 (dk_at dksL_law_25 8 rfl rfl)
theorem dL_law_727 : decode cL_law 727 = .ok (.goto 1535, 3) := dk_167 5 255 (dk_at dksL_law_25 9 rfl rfl)
theorem dL_law_730 : decode cL_law 730 = .ok (.aload_n 1, 1) := dk_43 (dk_at dksL_law_25 12 rfl rfl)
theorem dL_law_731 : decode cL_law 731 = .ok (.aload_n 0, 1) := dk_42 (dk_at dksL_law_25 13 rfl rfl)
theorem dL_law_732 : decode cL_law 732 = .ok (.iload 5, 2) := dk_21 5 (dk_at dksL_law_25 14 rfl rfl)
theorem dL_law_734 : decode cL_law 734 = .ok (.iconst 1, 1) := dk_4 (dk_at dksL_law_25 16 rfl rfl)
theorem dL_law_735 : decode cL_law 735 = .ok (.iadd, 1) := dk_96 (dk_at dksL_law_25 17 rfl rfl)
theorem dL_law_736 : decode cL_law 736 = .ok (.iaload, 1) := dk_46 (dk_at dksL_law_25 18 rfl rfl)
theorem dL_law_737 : decode cL_law 737 = .ok (.aload_n 3, 1) := dk_45 (dk_at dksL_law_25 19 rfl rfl)
theorem dL_law_738 : decode cL_law 738 = .ok (.invokestatic 163, 3) := dk_184 0 163 (dk_at dksL_law_25 20 rfl rfl)
theorem dL_law_741 : decode cL_law 741 = .ok (.istore 6, 2) := dk_54 6 (dk_at dksL_law_26 0 rfl rfl)
theorem dL_law_743 : decode cL_law 743 = .ok (.aload_n 2, 1) := dk_44 (dk_at dksL_law_26 2 rfl rfl)
theorem dL_law_744 : decode cL_law 744 = .ok (.aload_n 0, 1) := dk_42 (dk_at dksL_law_26 3 rfl rfl)
theorem dL_law_745 : decode cL_law 745 = .ok (.iload 5, 2) := dk_21 5 (dk_at dksL_law_26 4 rfl rfl)
theorem dL_law_747 : decode cL_law 747 = .ok (.iconst 1, 1) := dk_4 (dk_at dksL_law_26 6 rfl rfl)
theorem dL_law_748 : decode cL_law 748 = .ok (.iadd, 1) := dk_96 (dk_at dksL_law_26 7 rfl rfl)
theorem dL_law_749 : decode cL_law 749 = .ok (.iaload, 1) := dk_46 (dk_at dksL_law_26 8 rfl rfl)
theorem dL_law_750 : decode cL_law 750 = .ok (.invokevirtual 165, 3) := dk_182 0 165 (dk_at dksL_law_26 9 rfl rfl)
theorem dL_law_753 : decode cL_law 753 = .ok (.istore 7, 2) := dk_54 7 (dk_at dksL_law_26 12 rfl rfl)
theorem dL_law_755 : decode cL_law 755 = .ok (.aload_n 2, 1) := dk_44 (dk_at dksL_law_26 14 rfl rfl)
theorem dL_law_756 : decode cL_law 756 = .ok (.invokevirtual 136, 3) := dk_182 0 136 (dk_at dksL_law_26 15 rfl rfl)
theorem dL_law_759 : decode cL_law 759 = .ok (.iload 6, 2) := dk_21 6 (dk_at dksL_law_26 18 rfl rfl)
theorem dL_law_761 : decode cL_law 761 = .ok (.if_icmp .eq 5, 3) := dk_159 0 5 (dk_at dksL_law_26 20 rfl rfl)
theorem dL_law_764 : decode cL_law 764 = .ok (.iconst 0, 1) := dk_3 (dk_at dksL_law_26 23 rfl rfl)
theorem dL_law_765 : decode cL_law 765 = .ok (.ireturn, 1) := dk_172 (dk_at dksL_law_27 0 rfl rfl)
theorem dL_law_766 : decode cL_law 766 = .ok (.iload 6, 2) := dk_21 6 (dk_at dksL_law_27 1 rfl rfl)
theorem dL_law_768 : decode cL_law 768 = .ok (.ifCond .ne 15, 3) := dk_154 0 15 (dk_at dksL_law_27 3 rfl rfl)
theorem dL_law_771 : decode cL_law 771 = .ok (.aload_n 3, 1) := dk_45 (dk_at dksL_law_27 6 rfl rfl)
theorem dL_law_772 : decode cL_law 772 = .ok (.iconst 0, 1) := dk_3 (dk_at dksL_law_27 7 rfl rfl)
theorem dL_law_773 : decode cL_law 773 = .ok (.laload, 1) := dk_47 (dk_at dksL_law_27 8 rfl rfl)
theorem dL_law_774 : decode cL_law 774 = .ok (.iload 7, 2) := dk_21 7 (dk_at dksL_law_27 9 rfl rfl)
theorem dL_law_776 : decode cL_law 776 = .ok (.i2l, 1) := dk_133 (dk_at dksL_law_27 11 rfl rfl)
theorem dL_law_777 : decode cL_law 777 = .ok (.lcmp, 1) := dk_148 (dk_at dksL_law_27 12 rfl rfl)
theorem dL_law_778 : decode cL_law 778 = .ok (.ifCond .eq 5, 3) := dk_153 0 5 (dk_at dksL_law_27 13 rfl rfl)
theorem dL_law_781 : decode cL_law 781 = .ok (.iconst 0, 1) := dk_3 (dk_at dksL_law_27 16 rfl rfl)
theorem dL_law_782 : decode cL_law 782 = .ok (.ireturn, 1) := dk_172 (dk_at dksL_law_27 17 rfl rfl)
theorem dL_law_783 : decode cL_law 783 = .ok (.goto 1479, 3) := dk_167 5 199 (dk_at dksL_law_27 18 rfl rfl)
theorem dL_law_786 : decode cL_law 786 = .ok (.aload_n 1, 1) := dk_43 (dk_at dksL_law_27 21 rfl rfl)
theorem dL_law_787 : decode cL_law 787 = .ok (.aload_n 0, 1) := dk_42 (dk_at dksL_law_27 22 rfl rfl)
theorem dL_law_788 : decode cL_law 788 = .ok (.iload 5, 2) := dk_21 5 (dk_at dksL_law_28 0 rfl rfl)
theorem dL_law_790 : decode cL_law 790 = .ok (.iconst 1, 1) := dk_4 (dk_at dksL_law_28 2 rfl rfl)
theorem dL_law_791 : decode cL_law 791 = .ok (.iadd, 1) := dk_96 (dk_at dksL_law_28 3 rfl rfl)
theorem dL_law_792 : decode cL_law 792 = .ok (.iaload, 1) := dk_46 (dk_at dksL_law_28 4 rfl rfl)
theorem dL_law_793 : decode cL_law 793 = .ok (.aload_n 3, 1) := dk_45 (dk_at dksL_law_28 5 rfl rfl)
theorem dL_law_794 : decode cL_law 794 = .ok (.invokestatic 166, 3) := dk_184 0 166 (dk_at dksL_law_28 6 rfl rfl)
theorem dL_law_797 : decode cL_law 797 = .ok (.istore 6, 2) := dk_54 6 (dk_at dksL_law_28 9 rfl rfl)
theorem dL_law_799 : decode cL_law 799 = .ok (.aload_n 2, 1) := dk_44 (dk_at dksL_law_28 11 rfl rfl)
theorem dL_law_800 : decode cL_law 800 = .ok (.aload_n 0, 1) := dk_42 (dk_at dksL_law_28 12 rfl rfl)
theorem dL_law_801 : decode cL_law 801 = .ok (.iload 5, 2) := dk_21 5 (dk_at dksL_law_28 13 rfl rfl)
theorem dL_law_803 : decode cL_law 803 = .ok (.iconst 1, 1) := dk_4 (dk_at dksL_law_28 15 rfl rfl)
theorem dL_law_804 : decode cL_law 804 = .ok (.iadd, 1) := dk_96 (dk_at dksL_law_28 16 rfl rfl)
theorem dL_law_805 : decode cL_law 805 = .ok (.iaload, 1) := dk_46 (dk_at dksL_law_28 17 rfl rfl)
theorem dL_law_806 : decode cL_law 806 = .ok (.invokevirtual 168, 3) := dk_182 0 168 (dk_at dksL_law_28 18 rfl rfl)
theorem dL_law_809 : decode cL_law 809 = .ok (.istore 7, 2) := dk_54 7 (dk_at dksL_law_28 21 rfl rfl)
theorem dL_law_811 : decode cL_law 811 = .ok (.aload_n 2, 1) := dk_44 (dk_at dksL_law_28 23 rfl rfl)
theorem dL_law_812 : decode cL_law 812 = .ok (.invokevirtual 136, 3) := dk_182 0 136 (dk_at dksL_law_29 0 rfl rfl)
theorem dL_law_815 : decode cL_law 815 = .ok (.iload 6, 2) := dk_21 6 (dk_at dksL_law_29 3 rfl rfl)
theorem dL_law_817 : decode cL_law 817 = .ok (.if_icmp .eq 5, 3) := dk_159 0 5 (dk_at dksL_law_29 5 rfl rfl)
theorem dL_law_820 : decode cL_law 820 = .ok (.iconst 0, 1) := dk_3 (dk_at dksL_law_29 8 rfl rfl)
theorem dL_law_821 : decode cL_law 821 = .ok (.ireturn, 1) := dk_172 (dk_at dksL_law_29 9 rfl rfl)
theorem dL_law_822 : decode cL_law 822 = .ok (.iload 6, 2) := dk_21 6 (dk_at dksL_law_29 10 rfl rfl)
theorem dL_law_824 : decode cL_law 824 = .ok (.ifCond .ne 15, 3) := dk_154 0 15 (dk_at dksL_law_29 12 rfl rfl)
theorem dL_law_827 : decode cL_law 827 = .ok (.aload_n 3, 1) := dk_45 (dk_at dksL_law_29 15 rfl rfl)
theorem dL_law_828 : decode cL_law 828 = .ok (.iconst 0, 1) := dk_3 (dk_at dksL_law_29 16 rfl rfl)
theorem dL_law_829 : decode cL_law 829 = .ok (.laload, 1) := dk_47 (dk_at dksL_law_29 17 rfl rfl)
theorem dL_law_830 : decode cL_law 830 = .ok (.iload 7, 2) := dk_21 7 (dk_at dksL_law_29 18 rfl rfl)
theorem dL_law_832 : decode cL_law 832 = .ok (.i2l, 1) := dk_133 (dk_at dksL_law_29 20 rfl rfl)
theorem dL_law_833 : decode cL_law 833 = .ok (.lcmp, 1) := dk_148 (dk_at dksL_law_29 21 rfl rfl)
theorem dL_law_834 : decode cL_law 834 = .ok (.ifCond .eq 5, 3) := dk_153 0 5 (dk_at dksL_law_30 0 rfl rfl)
theorem dL_law_837 : decode cL_law 837 = .ok (.iconst 0, 1) := dk_3 (dk_at dksL_law_30 3 rfl rfl)
theorem dL_law_838 : decode cL_law 838 = .ok (.ireturn, 1) := dk_172 (dk_at dksL_law_30 4 rfl rfl)
theorem dL_law_839 : decode cL_law 839 = .ok (.goto 1423, 3) := dk_167 5 143 (dk_at dksL_law_30 5 rfl rfl)
theorem dL_law_842 : decode cL_law 842 = .ok (.aload_n 1, 1) := dk_43 (dk_at dksL_law_30 8 rfl rfl)
theorem dL_law_843 : decode cL_law 843 = .ok (.aload_n 0, 1) := dk_42 (dk_at dksL_law_30 9 rfl rfl)
theorem dL_law_844 : decode cL_law 844 = .ok (.iload 5, 2) := dk_21 5 (dk_at dksL_law_30 10 rfl rfl)
theorem dL_law_846 : decode cL_law 846 = .ok (.iconst 1, 1) := dk_4 (dk_at dksL_law_30 12 rfl rfl)
theorem dL_law_847 : decode cL_law 847 = .ok (.iadd, 1) := dk_96 (dk_at dksL_law_30 13 rfl rfl)
theorem dL_law_848 : decode cL_law 848 = .ok (.iaload, 1) := dk_46 (dk_at dksL_law_30 14 rfl rfl)
theorem dL_law_849 : decode cL_law 849 = .ok (.aload_n 3, 1) := dk_45 (dk_at dksL_law_30 15 rfl rfl)
theorem dL_law_850 : decode cL_law 850 = .ok (.invokestatic 169, 3) := dk_184 0 169 (dk_at dksL_law_30 16 rfl rfl)
theorem dL_law_853 : decode cL_law 853 = .ok (.istore 6, 2) := dk_54 6 (dk_at dksL_law_30 19 rfl rfl)
theorem dL_law_855 : decode cL_law 855 = .ok (.aload_n 2, 1) := dk_44 (dk_at dksL_law_30 21 rfl rfl)
theorem dL_law_856 : decode cL_law 856 = .ok (.aload_n 0, 1) := dk_42 (dk_at dksL_law_30 22 rfl rfl)
theorem dL_law_857 : decode cL_law 857 = .ok (.iload 5, 2) := dk_21 5 (dk_at dksL_law_31 0 rfl rfl)
theorem dL_law_859 : decode cL_law 859 = .ok (.iconst 1, 1) := dk_4 (dk_at dksL_law_31 2 rfl rfl)
theorem dL_law_860 : decode cL_law 860 = .ok (.iadd, 1) := dk_96 (dk_at dksL_law_31 3 rfl rfl)
theorem dL_law_861 : decode cL_law 861 = .ok (.iaload, 1) := dk_46 (dk_at dksL_law_31 4 rfl rfl)
theorem dL_law_862 : decode cL_law 862 = .ok (.invokevirtual 171, 3) := dk_182 0 171 (dk_at dksL_law_31 5 rfl rfl)
theorem dL_law_865 : decode cL_law 865 = .ok (.istore 7, 2) := dk_54 7 (dk_at dksL_law_31 8 rfl rfl)
theorem dL_law_867 : decode cL_law 867 = .ok (.aload_n 2, 1) := dk_44 (dk_at dksL_law_31 10 rfl rfl)
theorem dL_law_868 : decode cL_law 868 = .ok (.invokevirtual 136, 3) := dk_182 0 136 (dk_at dksL_law_31 11 rfl rfl)
theorem dL_law_871 : decode cL_law 871 = .ok (.iload 6, 2) := dk_21 6 (dk_at dksL_law_31 14 rfl rfl)
theorem dL_law_873 : decode cL_law 873 = .ok (.if_icmp .eq 5, 3) := dk_159 0 5 (dk_at dksL_law_31 16 rfl rfl)
theorem dL_law_876 : decode cL_law 876 = .ok (.iconst 0, 1) := dk_3 (dk_at dksL_law_31 19 rfl rfl)
theorem dL_law_877 : decode cL_law 877 = .ok (.ireturn, 1) := dk_172 (dk_at dksL_law_31 20 rfl rfl)
theorem dL_law_878 : decode cL_law 878 = .ok (.iload 6, 2) := dk_21 6 (dk_at dksL_law_31 21 rfl rfl)
theorem dL_law_880 : decode cL_law 880 = .ok (.ifCond .ne 22, 3) := dk_154 0 22 (dk_at dksL_law_32 0 rfl rfl)
theorem dL_law_883 : decode cL_law 883 = .ok (.aload_n 3, 1) := dk_45 (dk_at dksL_law_32 3 rfl rfl)
theorem dL_law_884 : decode cL_law 884 = .ok (.iconst 0, 1) := dk_3 (dk_at dksL_law_32 4 rfl rfl)
theorem dL_law_885 : decode cL_law 885 = .ok (.laload, 1) := dk_47 (dk_at dksL_law_32 5 rfl rfl)
theorem dL_law_886 : decode cL_law 886 = .ok (.iload 7, 2) := dk_21 7 (dk_at dksL_law_32 6 rfl rfl)
theorem dL_law_888 : decode cL_law 888 = .ok (.ifCond .eq 7, 3) := dk_153 0 7 (dk_at dksL_law_32 8 rfl rfl)
theorem dL_law_891 : decode cL_law 891 = .ok (.lconst 1, 1) := dk_10 (dk_at dksL_law_32 11 rfl rfl)
theorem dL_law_892 : decode cL_law 892 = .ok (.goto 4, 3) := dk_167 0 4 (dk_at dksL_law_32 12 rfl rfl)
theorem dL_law_895 : decode cL_law 895 = .ok (.lconst 0, 1) := dk_9 (dk_at dksL_law_32 15 rfl rfl)
theorem dL_law_896 : decode cL_law 896 = .ok (.lcmp, 1) := dk_148 (dk_at dksL_law_32 16 rfl rfl)
theorem dL_law_897 : decode cL_law 897 = .ok (.ifCond .eq 5, 3) := dk_153 0 5 (dk_at dksL_law_32 17 rfl rfl)
theorem dL_law_900 : decode cL_law 900 = .ok (.iconst 0, 1) := dk_3 (dk_at dksL_law_32 20 rfl rfl)
theorem dL_law_901 : decode cL_law 901 = .ok (.ireturn, 1) := dk_172 (dk_at dksL_law_32 21 rfl rfl)
theorem dL_law_902 : decode cL_law 902 = .ok (.goto 1360, 3) := dk_167 5 80 (dk_at dksL_law_33 0 rfl rfl)
theorem dL_law_905 : decode cL_law 905 = .ok (.aload_n 1, 1) := dk_43 (dk_at dksL_law_33 3 rfl rfl)
theorem dL_law_906 : decode cL_law 906 = .ok (.aload_n 0, 1) := dk_42 (dk_at dksL_law_33 4 rfl rfl)
theorem dL_law_907 : decode cL_law 907 = .ok (.iload 5, 2) := dk_21 5 (dk_at dksL_law_33 5 rfl rfl)
theorem dL_law_909 : decode cL_law 909 = .ok (.iconst 1, 1) := dk_4 (dk_at dksL_law_33 7 rfl rfl)
theorem dL_law_910 : decode cL_law 910 = .ok (.iadd, 1) := dk_96 (dk_at dksL_law_33 8 rfl rfl)
theorem dL_law_911 : decode cL_law 911 = .ok (.iaload, 1) := dk_46 (dk_at dksL_law_33 9 rfl rfl)
theorem dL_law_912 : decode cL_law 912 = .ok (.aload_n 0, 1) := dk_42 (dk_at dksL_law_33 10 rfl rfl)
theorem dL_law_913 : decode cL_law 913 = .ok (.iload 5, 2) := dk_21 5 (dk_at dksL_law_33 11 rfl rfl)
theorem dL_law_915 : decode cL_law 915 = .ok (.iconst 2, 1) := dk_5 (dk_at dksL_law_33 13 rfl rfl)
theorem dL_law_916 : decode cL_law 916 = .ok (.iadd, 1) := dk_96 (dk_at dksL_law_33 14 rfl rfl)
theorem dL_law_917 : decode cL_law 917 = .ok (.iaload, 1) := dk_46 (dk_at dksL_law_33 15 rfl rfl)
theorem dL_law_918 : decode cL_law 918 = .ok (.aload_n 3, 1) := dk_45 (dk_at dksL_law_33 16 rfl rfl)
theorem dL_law_919 : decode cL_law 919 = .ok (.invokestatic 172, 3) := dk_184 0 172 (dk_at dksL_law_33 17 rfl rfl)
theorem dL_law_922 : decode cL_law 922 = .ok (.istore 6, 2) := dk_54 6 (dk_at dksL_law_33 20 rfl rfl)
theorem dL_law_924 : decode cL_law 924 = .ok (.aload_n 2, 1) := dk_44 (dk_at dksL_law_33 22 rfl rfl)
theorem dL_law_925 : decode cL_law 925 = .ok (.aload_n 0, 1) := dk_42 (dk_at dksL_law_33 23 rfl rfl)
theorem dL_law_926 : decode cL_law 926 = .ok (.iload 5, 2) := dk_21 5 (dk_at dksL_law_34 0 rfl rfl)
theorem dL_law_928 : decode cL_law 928 = .ok (.iconst 1, 1) := dk_4 (dk_at dksL_law_34 2 rfl rfl)
theorem dL_law_929 : decode cL_law 929 = .ok (.iadd, 1) := dk_96 (dk_at dksL_law_34 3 rfl rfl)
theorem dL_law_930 : decode cL_law 930 = .ok (.iaload, 1) := dk_46 (dk_at dksL_law_34 4 rfl rfl)
theorem dL_law_931 : decode cL_law 931 = .ok (.aload_n 0, 1) := dk_42 (dk_at dksL_law_34 5 rfl rfl)
theorem dL_law_932 : decode cL_law 932 = .ok (.iload 5, 2) := dk_21 5 (dk_at dksL_law_34 6 rfl rfl)
theorem dL_law_934 : decode cL_law 934 = .ok (.iconst 2, 1) := dk_5 (dk_at dksL_law_34 8 rfl rfl)
theorem dL_law_935 : decode cL_law 935 = .ok (.iadd, 1) := dk_96 (dk_at dksL_law_34 9 rfl rfl)
theorem dL_law_936 : decode cL_law 936 = .ok (.iaload, 1) := dk_46 (dk_at dksL_law_34 10 rfl rfl)
theorem dL_law_937 : decode cL_law 937 = .ok (.invokevirtual 174, 3) := dk_182 0 174 (dk_at dksL_law_34 11 rfl rfl)
theorem dL_law_940 : decode cL_law 940 = .ok (.istore 7, 2) := dk_54 7 (dk_at dksL_law_34 14 rfl rfl)
theorem dL_law_942 : decode cL_law 942 = .ok (.aload_n 2, 1) := dk_44 (dk_at dksL_law_34 16 rfl rfl)
theorem dL_law_943 : decode cL_law 943 = .ok (.invokevirtual 136, 3) := dk_182 0 136 (dk_at dksL_law_34 17 rfl rfl)
theorem dL_law_946 : decode cL_law 946 = .ok (.iload 6, 2) := dk_21 6 (dk_at dksL_law_34 20 rfl rfl)
theorem dL_law_948 : decode cL_law 948 = .ok (.if_icmp .eq 5, 3) := dk_159 0 5 (dk_at dksL_law_35 0 rfl rfl)
theorem dL_law_951 : decode cL_law 951 = .ok (.iconst 0, 1) := dk_3 (dk_at dksL_law_35 3 rfl rfl)
theorem dL_law_952 : decode cL_law 952 = .ok (.ireturn, 1) := dk_172 (dk_at dksL_law_35 4 rfl rfl)
theorem dL_law_953 : decode cL_law 953 = .ok (.iload 6, 2) := dk_21 6 (dk_at dksL_law_35 5 rfl rfl)
theorem dL_law_955 : decode cL_law 955 = .ok (.ifCond .ne 15, 3) := dk_154 0 15 (dk_at dksL_law_35 7 rfl rfl)
theorem dL_law_958 : decode cL_law 958 = .ok (.aload_n 3, 1) := dk_45 (dk_at dksL_law_35 10 rfl rfl)
theorem dL_law_959 : decode cL_law 959 = .ok (.iconst 0, 1) := dk_3 (dk_at dksL_law_35 11 rfl rfl)
theorem dL_law_960 : decode cL_law 960 = .ok (.laload, 1) := dk_47 (dk_at dksL_law_35 12 rfl rfl)
theorem dL_law_961 : decode cL_law 961 = .ok (.iload 7, 2) := dk_21 7 (dk_at dksL_law_35 13 rfl rfl)
theorem dL_law_963 : decode cL_law 963 = .ok (.i2l, 1) := dk_133 (dk_at dksL_law_35 15 rfl rfl)
theorem dL_law_964 : decode cL_law 964 = .ok (.lcmp, 1) := dk_148 (dk_at dksL_law_35 16 rfl rfl)
theorem dL_law_965 : decode cL_law 965 = .ok (.ifCond .eq 5, 3) := dk_153 0 5 (dk_at dksL_law_35 17 rfl rfl)
theorem dL_law_968 : decode cL_law 968 = .ok (.iconst 0, 1) := dk_3 (dk_at dksL_law_35 20 rfl rfl)
theorem dL_law_969 : decode cL_law 969 = .ok (.ireturn, 1) := dk_172 (dk_at dksL_law_35 21 rfl rfl)
theorem dL_law_970 : decode cL_law 970 = .ok (.goto 1292, 3) := dk_167 5 12 (dk_at dksL_law_36 0 rfl rfl)
theorem dL_law_973 : decode cL_law 973 = .ok (.aload_n 1, 1) := dk_43 (dk_at dksL_law_36 3 rfl rfl)
theorem dL_law_974 : decode cL_law 974 = .ok (.aload_n 0, 1) := dk_42 (dk_at dksL_law_36 4 rfl rfl)
theorem dL_law_975 : decode cL_law 975 = .ok (.iload 5, 2) := dk_21 5 (dk_at dksL_law_36 5 rfl rfl)
theorem dL_law_977 : decode cL_law 977 = .ok (.iconst 1, 1) := dk_4 (dk_at dksL_law_36 7 rfl rfl)
theorem dL_law_978 : decode cL_law 978 = .ok (.iadd, 1) := dk_96 (dk_at dksL_law_36 8 rfl rfl)
theorem dL_law_979 : decode cL_law 979 = .ok (.iaload, 1) := dk_46 (dk_at dksL_law_36 9 rfl rfl)
theorem dL_law_980 : decode cL_law 980 = .ok (.aload_n 3, 1) := dk_45 (dk_at dksL_law_36 10 rfl rfl)
theorem dL_law_981 : decode cL_law 981 = .ok (.invokestatic 175, 3) := dk_184 0 175 (dk_at dksL_law_36 11 rfl rfl)
theorem dL_law_984 : decode cL_law 984 = .ok (.istore 6, 2) := dk_54 6 (dk_at dksL_law_36 14 rfl rfl)
theorem dL_law_986 : decode cL_law 986 = .ok (.aload_n 2, 1) := dk_44 (dk_at dksL_law_36 16 rfl rfl)
theorem dL_law_987 : decode cL_law 987 = .ok (.aload_n 0, 1) := dk_42 (dk_at dksL_law_36 17 rfl rfl)
theorem dL_law_988 : decode cL_law 988 = .ok (.iload 5, 2) := dk_21 5 (dk_at dksL_law_36 18 rfl rfl)
theorem dL_law_990 : decode cL_law 990 = .ok (.iconst 1, 1) := dk_4 (dk_at dksL_law_36 20 rfl rfl)
theorem dL_law_991 : decode cL_law 991 = .ok (.iadd, 1) := dk_96 (dk_at dksL_law_36 21 rfl rfl)
theorem dL_law_992 : decode cL_law 992 = .ok (.iaload, 1) := dk_46 (dk_at dksL_law_36 22 rfl rfl)
theorem dL_law_993 : decode cL_law 993 = .ok (.invokevirtual 177, 3) := dk_182 0 177 (dk_at dksL_law_37 0 rfl rfl)
theorem dL_law_996 : decode cL_law 996 = .ok (.istore 7, 2) := dk_54 7 (dk_at dksL_law_37 3 rfl rfl)
theorem dL_law_998 : decode cL_law 998 = .ok (.aload_n 2, 1) := dk_44 (dk_at dksL_law_37 5 rfl rfl)
theorem dL_law_999 : decode cL_law 999 = .ok (.invokevirtual 136, 3) := dk_182 0 136 (dk_at dksL_law_37 6 rfl rfl)
theorem dL_law_1002 : decode cL_law 1002 = .ok (.iload 6, 2) := dk_21 6 (dk_at dksL_law_37 9 rfl rfl)
theorem dL_law_1004 : decode cL_law 1004 = .ok (.if_icmp .eq 5, 3) := dk_159 0 5 (dk_at dksL_law_37 11 rfl rfl)
theorem dL_law_1007 : decode cL_law 1007 = .ok (.iconst 0, 1) := dk_3 (dk_at dksL_law_37 14 rfl rfl)
theorem dL_law_1008 : decode cL_law 1008 = .ok (.ireturn, 1) := dk_172 (dk_at dksL_law_37 15 rfl rfl)
theorem dL_law_1009 : decode cL_law 1009 = .ok (.iload 6, 2) := dk_21 6 (dk_at dksL_law_37 16 rfl rfl)
theorem dL_law_1011 : decode cL_law 1011 = .ok (.ifCond .ne 15, 3) := dk_154 0 15 (dk_at dksL_law_37 18 rfl rfl)
theorem dL_law_1014 : decode cL_law 1014 = .ok (.aload_n 3, 1) := dk_45 (dk_at dksL_law_37 21 rfl rfl)
theorem dL_law_1015 : decode cL_law 1015 = .ok (.iconst 0, 1) := dk_3 (dk_at dksL_law_37 22 rfl rfl)
theorem dL_law_1016 : decode cL_law 1016 = .ok (.laload, 1) := dk_47 (dk_at dksL_law_37 23 rfl rfl)
theorem dL_law_1017 : decode cL_law 1017 = .ok (.iload 7, 2) := dk_21 7 (dk_at dksL_law_38 0 rfl rfl)
theorem dL_law_1019 : decode cL_law 1019 = .ok (.i2l, 1) := dk_133 (dk_at dksL_law_38 2 rfl rfl)
theorem dL_law_1020 : decode cL_law 1020 = .ok (.lcmp, 1) := dk_148 (dk_at dksL_law_38 3 rfl rfl)
theorem dL_law_1021 : decode cL_law 1021 = .ok (.ifCond .eq 5, 3) := dk_153 0 5 (dk_at dksL_law_38 4 rfl rfl)
theorem dL_law_1024 : decode cL_law 1024 = .ok (.iconst 0, 1) := dk_3 (dk_at dksL_law_38 7 rfl rfl)
theorem dL_law_1025 : decode cL_law 1025 = .ok (.ireturn, 1) := dk_172 (dk_at dksL_law_38 8 rfl rfl)
theorem dL_law_1026 : decode cL_law 1026 = .ok (.goto 1236, 3) := dk_167 4 212 (dk_at dksL_law_38 9 rfl rfl)
theorem dL_law_1029 : decode cL_law 1029 = .ok (.aload_n 1, 1) := dk_43 (dk_at dksL_law_38 12 rfl rfl)
theorem dL_law_1030 : decode cL_law 1030 = .ok (.aload_n 0, 1) := dk_42 (dk_at dksL_law_38 13 rfl rfl)
theorem dL_law_1031 : decode cL_law 1031 = .ok (.iload 5, 2) := dk_21 5 (dk_at dksL_law_38 14 rfl rfl)
theorem dL_law_1033 : decode cL_law 1033 = .ok (.iconst 1, 1) := dk_4 (dk_at dksL_law_38 16 rfl rfl)
theorem dL_law_1034 : decode cL_law 1034 = .ok (.iadd, 1) := dk_96 (dk_at dksL_law_38 17 rfl rfl)
theorem dL_law_1035 : decode cL_law 1035 = .ok (.iaload, 1) := dk_46 (dk_at dksL_law_38 18 rfl rfl)
theorem dL_law_1036 : decode cL_law 1036 = .ok (.aload_n 3, 1) := dk_45 (dk_at dksL_law_38 19 rfl rfl)
theorem dL_law_1037 : decode cL_law 1037 = .ok (.invokestatic 178, 3) := dk_184 0 178 (dk_at dksL_law_38 20 rfl rfl)
theorem dL_law_1040 : decode cL_law 1040 = .ok (.istore 6, 2) := dk_54 6 (dk_at dksL_law_39 0 rfl rfl)
theorem dL_law_1042 : decode cL_law 1042 = .ok (.aload_n 2, 1) := dk_44 (dk_at dksL_law_39 2 rfl rfl)
theorem dL_law_1043 : decode cL_law 1043 = .ok (.aload_n 0, 1) := dk_42 (dk_at dksL_law_39 3 rfl rfl)
theorem dL_law_1044 : decode cL_law 1044 = .ok (.iload 5, 2) := dk_21 5 (dk_at dksL_law_39 4 rfl rfl)
theorem dL_law_1046 : decode cL_law 1046 = .ok (.iconst 1, 1) := dk_4 (dk_at dksL_law_39 6 rfl rfl)
theorem dL_law_1047 : decode cL_law 1047 = .ok (.iadd, 1) := dk_96 (dk_at dksL_law_39 7 rfl rfl)
theorem dL_law_1048 : decode cL_law 1048 = .ok (.iaload, 1) := dk_46 (dk_at dksL_law_39 8 rfl rfl)
theorem dL_law_1049 : decode cL_law 1049 = .ok (.invokevirtual 180, 3) := dk_182 0 180 (dk_at dksL_law_39 9 rfl rfl)
theorem dL_law_1052 : decode cL_law 1052 = .ok (.istore 7, 2) := dk_54 7 (dk_at dksL_law_39 12 rfl rfl)
theorem dL_law_1054 : decode cL_law 1054 = .ok (.aload_n 2, 1) := dk_44 (dk_at dksL_law_39 14 rfl rfl)
theorem dL_law_1055 : decode cL_law 1055 = .ok (.invokevirtual 136, 3) := dk_182 0 136 (dk_at dksL_law_39 15 rfl rfl)
theorem dL_law_1058 : decode cL_law 1058 = .ok (.iload 6, 2) := dk_21 6 (dk_at dksL_law_39 18 rfl rfl)
theorem dL_law_1060 : decode cL_law 1060 = .ok (.if_icmp .eq 5, 3) := dk_159 0 5 (dk_at dksL_law_39 20 rfl rfl)
theorem dL_law_1063 : decode cL_law 1063 = .ok (.iconst 0, 1) := dk_3 (dk_at dksL_law_39 23 rfl rfl)
theorem dL_law_1064 : decode cL_law 1064 = .ok (.ireturn, 1) := dk_172 (dk_at dksL_law_40 0 rfl rfl)
theorem dL_law_1065 : decode cL_law 1065 = .ok (.iload 6, 2) := dk_21 6 (dk_at dksL_law_40 1 rfl rfl)
theorem dL_law_1067 : decode cL_law 1067 = .ok (.ifCond .ne 15, 3) := dk_154 0 15 (dk_at dksL_law_40 3 rfl rfl)
theorem dL_law_1070 : decode cL_law 1070 = .ok (.aload_n 3, 1) := dk_45 (dk_at dksL_law_40 6 rfl rfl)
theorem dL_law_1071 : decode cL_law 1071 = .ok (.iconst 0, 1) := dk_3 (dk_at dksL_law_40 7 rfl rfl)
theorem dL_law_1072 : decode cL_law 1072 = .ok (.laload, 1) := dk_47 (dk_at dksL_law_40 8 rfl rfl)
theorem dL_law_1073 : decode cL_law 1073 = .ok (.iload 7, 2) := dk_21 7 (dk_at dksL_law_40 9 rfl rfl)
theorem dL_law_1075 : decode cL_law 1075 = .ok (.i2l, 1) := dk_133 (dk_at dksL_law_40 11 rfl rfl)
theorem dL_law_1076 : decode cL_law 1076 = .ok (.lcmp, 1) := dk_148 (dk_at dksL_law_40 12 rfl rfl)
theorem dL_law_1077 : decode cL_law 1077 = .ok (.ifCond .eq 5, 3) := dk_153 0 5 (dk_at dksL_law_40 13 rfl rfl)
theorem dL_law_1080 : decode cL_law 1080 = .ok (.iconst 0, 1) := dk_3 (dk_at dksL_law_40 16 rfl rfl)
theorem dL_law_1081 : decode cL_law 1081 = .ok (.ireturn, 1) := dk_172 (dk_at dksL_law_40 17 rfl rfl)
theorem dL_law_1082 : decode cL_law 1082 = .ok (.goto 1180, 3) := dk_167 4 156 (dk_at dksL_law_40 18 rfl rfl)
theorem dL_law_1085 : decode cL_law 1085 = .ok (.aload_n 1, 1) := dk_43 (dk_at dksL_law_40 21 rfl rfl)
theorem dL_law_1086 : decode cL_law 1086 = .ok (.aload_n 0, 1) := dk_42 (dk_at dksL_law_40 22 rfl rfl)
theorem dL_law_1087 : decode cL_law 1087 = .ok (.iload 5, 2) := dk_21 5 (dk_at dksL_law_41 0 rfl rfl)
theorem dL_law_1089 : decode cL_law 1089 = .ok (.iconst 1, 1) := dk_4 (dk_at dksL_law_41 2 rfl rfl)
theorem dL_law_1090 : decode cL_law 1090 = .ok (.iadd, 1) := dk_96 (dk_at dksL_law_41 3 rfl rfl)
theorem dL_law_1091 : decode cL_law 1091 = .ok (.iaload, 1) := dk_46 (dk_at dksL_law_41 4 rfl rfl)
theorem dL_law_1092 : decode cL_law 1092 = .ok (.aload_n 3, 1) := dk_45 (dk_at dksL_law_41 5 rfl rfl)
theorem dL_law_1093 : decode cL_law 1093 = .ok (.invokestatic 181, 3) := dk_184 0 181 (dk_at dksL_law_41 6 rfl rfl)
theorem dL_law_1096 : decode cL_law 1096 = .ok (.istore 6, 2) := dk_54 6 (dk_at dksL_law_41 9 rfl rfl)
theorem dL_law_1098 : decode cL_law 1098 = .ok (.aload_n 2, 1) := dk_44 (dk_at dksL_law_41 11 rfl rfl)
theorem dL_law_1099 : decode cL_law 1099 = .ok (.aload_n 0, 1) := dk_42 (dk_at dksL_law_41 12 rfl rfl)
theorem dL_law_1100 : decode cL_law 1100 = .ok (.iload 5, 2) := dk_21 5 (dk_at dksL_law_41 13 rfl rfl)
theorem dL_law_1102 : decode cL_law 1102 = .ok (.iconst 1, 1) := dk_4 (dk_at dksL_law_41 15 rfl rfl)
theorem dL_law_1103 : decode cL_law 1103 = .ok (.iadd, 1) := dk_96 (dk_at dksL_law_41 16 rfl rfl)
theorem dL_law_1104 : decode cL_law 1104 = .ok (.iaload, 1) := dk_46 (dk_at dksL_law_41 17 rfl rfl)
theorem dL_law_1105 : decode cL_law 1105 = .ok (.invokevirtual 183, 3) := dk_182 0 183 (dk_at dksL_law_41 18 rfl rfl)
theorem dL_law_1108 : decode cL_law 1108 = .ok (.istore 7, 2) := dk_54 7 (dk_at dksL_law_41 21 rfl rfl)
theorem dL_law_1110 : decode cL_law 1110 = .ok (.aload_n 2, 1) := dk_44 (dk_at dksL_law_41 23 rfl rfl)
theorem dL_law_1111 : decode cL_law 1111 = .ok (.invokevirtual 136, 3) := dk_182 0 136 (dk_at dksL_law_42 0 rfl rfl)
theorem dL_law_1114 : decode cL_law 1114 = .ok (.iload 6, 2) := dk_21 6 (dk_at dksL_law_42 3 rfl rfl)
theorem dL_law_1116 : decode cL_law 1116 = .ok (.if_icmp .eq 5, 3) := dk_159 0 5 (dk_at dksL_law_42 5 rfl rfl)
theorem dL_law_1119 : decode cL_law 1119 = .ok (.iconst 0, 1) := dk_3 (dk_at dksL_law_42 8 rfl rfl)
theorem dL_law_1120 : decode cL_law 1120 = .ok (.ireturn, 1) := dk_172 (dk_at dksL_law_42 9 rfl rfl)
theorem dL_law_1121 : decode cL_law 1121 = .ok (.iload 6, 2) := dk_21 6 (dk_at dksL_law_42 10 rfl rfl)
theorem dL_law_1123 : decode cL_law 1123 = .ok (.ifCond .ne 15, 3) := dk_154 0 15 (dk_at dksL_law_42 12 rfl rfl)
theorem dL_law_1126 : decode cL_law 1126 = .ok (.aload_n 3, 1) := dk_45 (dk_at dksL_law_42 15 rfl rfl)
theorem dL_law_1127 : decode cL_law 1127 = .ok (.iconst 0, 1) := dk_3 (dk_at dksL_law_42 16 rfl rfl)
theorem dL_law_1128 : decode cL_law 1128 = .ok (.laload, 1) := dk_47 (dk_at dksL_law_42 17 rfl rfl)
theorem dL_law_1129 : decode cL_law 1129 = .ok (.iload 7, 2) := dk_21 7 (dk_at dksL_law_42 18 rfl rfl)
theorem dL_law_1131 : decode cL_law 1131 = .ok (.i2l, 1) := dk_133 (dk_at dksL_law_42 20 rfl rfl)
theorem dL_law_1132 : decode cL_law 1132 = .ok (.lcmp, 1) := dk_148 (dk_at dksL_law_42 21 rfl rfl)
theorem dL_law_1133 : decode cL_law 1133 = .ok (.ifCond .eq 5, 3) := dk_153 0 5 (dk_at dksL_law_43 0 rfl rfl)
theorem dL_law_1136 : decode cL_law 1136 = .ok (.iconst 0, 1) := dk_3 (dk_at dksL_law_43 3 rfl rfl)
theorem dL_law_1137 : decode cL_law 1137 = .ok (.ireturn, 1) := dk_172 (dk_at dksL_law_43 4 rfl rfl)
theorem dL_law_1138 : decode cL_law 1138 = .ok (.goto 1124, 3) := dk_167 4 100 (dk_at dksL_law_43 5 rfl rfl)
theorem dL_law_1141 : decode cL_law 1141 = .ok (.aload_n 1, 1) := dk_43 (dk_at dksL_law_43 8 rfl rfl)
theorem dL_law_1142 : decode cL_law 1142 = .ok (.aload_n 0, 1) := dk_42 (dk_at dksL_law_43 9 rfl rfl)
theorem dL_law_1143 : decode cL_law 1143 = .ok (.iload 5, 2) := dk_21 5 (dk_at dksL_law_43 10 rfl rfl)
theorem dL_law_1145 : decode cL_law 1145 = .ok (.iconst 1, 1) := dk_4 (dk_at dksL_law_43 12 rfl rfl)
theorem dL_law_1146 : decode cL_law 1146 = .ok (.iadd, 1) := dk_96 (dk_at dksL_law_43 13 rfl rfl)
theorem dL_law_1147 : decode cL_law 1147 = .ok (.iaload, 1) := dk_46 (dk_at dksL_law_43 14 rfl rfl)
theorem dL_law_1148 : decode cL_law 1148 = .ok (.aload_n 0, 1) := dk_42 (dk_at dksL_law_43 15 rfl rfl)
theorem dL_law_1149 : decode cL_law 1149 = .ok (.iload 5, 2) := dk_21 5 (dk_at dksL_law_43 16 rfl rfl)
theorem dL_law_1151 : decode cL_law 1151 = .ok (.iconst 2, 1) := dk_5 (dk_at dksL_law_43 18 rfl rfl)
theorem dL_law_1152 : decode cL_law 1152 = .ok (.iadd, 1) := dk_96 (dk_at dksL_law_43 19 rfl rfl)
theorem dL_law_1153 : decode cL_law 1153 = .ok (.iaload, 1) := dk_46 (dk_at dksL_law_43 20 rfl rfl)
theorem dL_law_1154 : decode cL_law 1154 = .ok (.aload_n 3, 1) := dk_45 (dk_at dksL_law_43 21 rfl rfl)
theorem dL_law_1155 : decode cL_law 1155 = .ok (.invokestatic 184, 3) := dk_184 0 184 (dk_at dksL_law_44 0 rfl rfl)
theorem dL_law_1158 : decode cL_law 1158 = .ok (.istore 6, 2) := dk_54 6 (dk_at dksL_law_44 3 rfl rfl)
theorem dL_law_1160 : decode cL_law 1160 = .ok (.aload_n 2, 1) := dk_44 (dk_at dksL_law_44 5 rfl rfl)
theorem dL_law_1161 : decode cL_law 1161 = .ok (.aload_n 0, 1) := dk_42 (dk_at dksL_law_44 6 rfl rfl)
theorem dL_law_1162 : decode cL_law 1162 = .ok (.iload 5, 2) := dk_21 5 (dk_at dksL_law_44 7 rfl rfl)
theorem dL_law_1164 : decode cL_law 1164 = .ok (.iconst 1, 1) := dk_4 (dk_at dksL_law_44 9 rfl rfl)
theorem dL_law_1165 : decode cL_law 1165 = .ok (.iadd, 1) := dk_96 (dk_at dksL_law_44 10 rfl rfl)
theorem dL_law_1166 : decode cL_law 1166 = .ok (.iaload, 1) := dk_46 (dk_at dksL_law_44 11 rfl rfl)
theorem dL_law_1167 : decode cL_law 1167 = .ok (.aload_n 0, 1) := dk_42 (dk_at dksL_law_44 12 rfl rfl)
theorem dL_law_1168 : decode cL_law 1168 = .ok (.iload 5, 2) := dk_21 5 (dk_at dksL_law_44 13 rfl rfl)
theorem dL_law_1170 : decode cL_law 1170 = .ok (.iconst 2, 1) := dk_5 (dk_at dksL_law_44 15 rfl rfl)
theorem dL_law_1171 : decode cL_law 1171 = .ok (.iadd, 1) := dk_96 (dk_at dksL_law_44 16 rfl rfl)
theorem dL_law_1172 : decode cL_law 1172 = .ok (.iaload, 1) := dk_46 (dk_at dksL_law_44 17 rfl rfl)
theorem dL_law_1173 : decode cL_law 1173 = .ok (.invokevirtual 186, 3) := dk_182 0 186 (dk_at dksL_law_44 18 rfl rfl)
theorem dL_law_1176 : decode cL_law 1176 = .ok (.istore 7, 2) := dk_54 7 (dk_at dksL_law_44 21 rfl rfl)
theorem dL_law_1178 : decode cL_law 1178 = .ok (.aload_n 2, 1) := dk_44 (dk_at dksL_law_44 23 rfl rfl)
theorem dL_law_1179 : decode cL_law 1179 = .ok (.invokevirtual 136, 3) := dk_182 0 136 (dk_at dksL_law_45 0 rfl rfl)
theorem dL_law_1182 : decode cL_law 1182 = .ok (.iload 6, 2) := dk_21 6 (dk_at dksL_law_45 3 rfl rfl)
theorem dL_law_1184 : decode cL_law 1184 = .ok (.if_icmp .eq 5, 3) := dk_159 0 5 (dk_at dksL_law_45 5 rfl rfl)
theorem dL_law_1187 : decode cL_law 1187 = .ok (.iconst 0, 1) := dk_3 (dk_at dksL_law_45 8 rfl rfl)
theorem dL_law_1188 : decode cL_law 1188 = .ok (.ireturn, 1) := dk_172 (dk_at dksL_law_45 9 rfl rfl)
theorem dL_law_1189 : decode cL_law 1189 = .ok (.iload 6, 2) := dk_21 6 (dk_at dksL_law_45 10 rfl rfl)
theorem dL_law_1191 : decode cL_law 1191 = .ok (.ifCond .ne 15, 3) := dk_154 0 15 (dk_at dksL_law_45 12 rfl rfl)
theorem dL_law_1194 : decode cL_law 1194 = .ok (.aload_n 3, 1) := dk_45 (dk_at dksL_law_45 15 rfl rfl)
theorem dL_law_1195 : decode cL_law 1195 = .ok (.iconst 0, 1) := dk_3 (dk_at dksL_law_45 16 rfl rfl)
theorem dL_law_1196 : decode cL_law 1196 = .ok (.laload, 1) := dk_47 (dk_at dksL_law_45 17 rfl rfl)
theorem dL_law_1197 : decode cL_law 1197 = .ok (.iload 7, 2) := dk_21 7 (dk_at dksL_law_45 18 rfl rfl)
theorem dL_law_1199 : decode cL_law 1199 = .ok (.i2l, 1) := dk_133 (dk_at dksL_law_45 20 rfl rfl)
theorem dL_law_1200 : decode cL_law 1200 = .ok (.lcmp, 1) := dk_148 (dk_at dksL_law_45 21 rfl rfl)
theorem dL_law_1201 : decode cL_law 1201 = .ok (.ifCond .eq 5, 3) := dk_153 0 5 (dk_at dksL_law_46 0 rfl rfl)
theorem dL_law_1204 : decode cL_law 1204 = .ok (.iconst 0, 1) := dk_3 (dk_at dksL_law_46 3 rfl rfl)
theorem dL_law_1205 : decode cL_law 1205 = .ok (.ireturn, 1) := dk_172 (dk_at dksL_law_46 4 rfl rfl)
theorem dL_law_1206 : decode cL_law 1206 = .ok (.goto 1056, 3) := dk_167 4 32 (dk_at dksL_law_46 5 rfl rfl)
theorem dL_law_1209 : decode cL_law 1209 = .ok (.aload_n 1, 1) := dk_43 (dk_at dksL_law_46 8 rfl rfl)
theorem dL_law_1210 : decode cL_law 1210 = .ok (.aload_n 0, 1) := dk_42 (dk_at dksL_law_46 9 rfl rfl)
theorem dL_law_1211 : decode cL_law 1211 = .ok (.iload 5, 2) := dk_21 5 (dk_at dksL_law_46 10 rfl rfl)
theorem dL_law_1213 : decode cL_law 1213 = .ok (.iconst 1, 1) := dk_4 (dk_at dksL_law_46 12 rfl rfl)
theorem dL_law_1214 : decode cL_law 1214 = .ok (.iadd, 1) := dk_96 (dk_at dksL_law_46 13 rfl rfl)
theorem dL_law_1215 : decode cL_law 1215 = .ok (.iaload, 1) := dk_46 (dk_at dksL_law_46 14 rfl rfl)
theorem dL_law_1216 : decode cL_law 1216 = .ok (.aload_n 3, 1) := dk_45 (dk_at dksL_law_46 15 rfl rfl)
theorem dL_law_1217 : decode cL_law 1217 = .ok (.invokestatic 187, 3) := dk_184 0 187 (dk_at dksL_law_46 16 rfl rfl)
theorem dL_law_1220 : decode cL_law 1220 = .ok (.istore 6, 2) := dk_54 6 (dk_at dksL_law_46 19 rfl rfl)
theorem dL_law_1222 : decode cL_law 1222 = .ok (.aload_n 2, 1) := dk_44 (dk_at dksL_law_46 21 rfl rfl)
theorem dL_law_1223 : decode cL_law 1223 = .ok (.aload_n 0, 1) := dk_42 (dk_at dksL_law_46 22 rfl rfl)
theorem dL_law_1224 : decode cL_law 1224 = .ok (.iload 5, 2) := dk_21 5 (dk_at dksL_law_47 0 rfl rfl)
theorem dL_law_1226 : decode cL_law 1226 = .ok (.iconst 1, 1) := dk_4 (dk_at dksL_law_47 2 rfl rfl)
theorem dL_law_1227 : decode cL_law 1227 = .ok (.iadd, 1) := dk_96 (dk_at dksL_law_47 3 rfl rfl)
theorem dL_law_1228 : decode cL_law 1228 = .ok (.iaload, 1) := dk_46 (dk_at dksL_law_47 4 rfl rfl)
theorem dL_law_1229 : decode cL_law 1229 = .ok (.invokevirtual 189, 3) := dk_182 0 189 (dk_at dksL_law_47 5 rfl rfl)
theorem dL_law_1232 : decode cL_law 1232 = .ok (.istore 7, 2) := dk_54 7 (dk_at dksL_law_47 8 rfl rfl)
theorem dL_law_1234 : decode cL_law 1234 = .ok (.aload_n 2, 1) := dk_44 (dk_at dksL_law_47 10 rfl rfl)
theorem dL_law_1235 : decode cL_law 1235 = .ok (.invokevirtual 136, 3) := dk_182 0 136 (dk_at dksL_law_47 11 rfl rfl)
theorem dL_law_1238 : decode cL_law 1238 = .ok (.iload 6, 2) := dk_21 6 (dk_at dksL_law_47 14 rfl rfl)
theorem dL_law_1240 : decode cL_law 1240 = .ok (.if_icmp .eq 5, 3) := dk_159 0 5 (dk_at dksL_law_47 16 rfl rfl)
theorem dL_law_1243 : decode cL_law 1243 = .ok (.iconst 0, 1) := dk_3 (dk_at dksL_law_47 19 rfl rfl)
theorem dL_law_1244 : decode cL_law 1244 = .ok (.ireturn, 1) := dk_172 (dk_at dksL_law_47 20 rfl rfl)
theorem dL_law_1245 : decode cL_law 1245 = .ok (.iload 6, 2) := dk_21 6 (dk_at dksL_law_47 21 rfl rfl)
theorem dL_law_1247 : decode cL_law 1247 = .ok (.ifCond .ne 15, 3) := dk_154 0 15 (dk_at dksL_law_48 0 rfl rfl)
theorem dL_law_1250 : decode cL_law 1250 = .ok (.aload_n 3, 1) := dk_45 (dk_at dksL_law_48 3 rfl rfl)
theorem dL_law_1251 : decode cL_law 1251 = .ok (.iconst 0, 1) := dk_3 (dk_at dksL_law_48 4 rfl rfl)
theorem dL_law_1252 : decode cL_law 1252 = .ok (.laload, 1) := dk_47 (dk_at dksL_law_48 5 rfl rfl)
theorem dL_law_1253 : decode cL_law 1253 = .ok (.iload 7, 2) := dk_21 7 (dk_at dksL_law_48 6 rfl rfl)
theorem dL_law_1255 : decode cL_law 1255 = .ok (.i2l, 1) := dk_133 (dk_at dksL_law_48 8 rfl rfl)
theorem dL_law_1256 : decode cL_law 1256 = .ok (.lcmp, 1) := dk_148 (dk_at dksL_law_48 9 rfl rfl)
theorem dL_law_1257 : decode cL_law 1257 = .ok (.ifCond .eq 5, 3) := dk_153 0 5 (dk_at dksL_law_48 10 rfl rfl)
theorem dL_law_1260 : decode cL_law 1260 = .ok (.iconst 0, 1) := dk_3 (dk_at dksL_law_48 13 rfl rfl)
theorem dL_law_1261 : decode cL_law 1261 = .ok (.ireturn, 1) := dk_172 (dk_at dksL_law_48 14 rfl rfl)
theorem dL_law_1262 : decode cL_law 1262 = .ok (.goto 1000, 3) := dk_167 3 232 (dk_at dksL_law_48 15 rfl rfl)
theorem dL_law_1265 : decode cL_law 1265 = .ok (.aload_n 1, 1) := dk_43 (dk_at dksL_law_48 18 rfl rfl)
theorem dL_law_1266 : decode cL_law 1266 = .ok (.aload_n 0, 1) := dk_42 (dk_at dksL_law_48 19 rfl rfl)
theorem dL_law_1267 : decode cL_law 1267 = .ok (.iload 5, 2) := dk_21 5 (dk_at dksL_law_48 20 rfl rfl)
theorem dL_law_1269 : decode cL_law 1269 = .ok (.iconst 1, 1) := dk_4 (dk_at dksL_law_48 22 rfl rfl)
theorem dL_law_1270 : decode cL_law 1270 = .ok (.iadd, 1) := dk_96 (dk_at dksL_law_48 23 rfl rfl)
theorem dL_law_1271 : decode cL_law 1271 = .ok (.iaload, 1) := dk_46 (dk_at dksL_law_49 0 rfl rfl)
theorem dL_law_1272 : decode cL_law 1272 = .ok (.aload_n 0, 1) := dk_42 (dk_at dksL_law_49 1 rfl rfl)
theorem dL_law_1273 : decode cL_law 1273 = .ok (.iload 5, 2) := dk_21 5 (dk_at dksL_law_49 2 rfl rfl)
theorem dL_law_1275 : decode cL_law 1275 = .ok (.iconst 2, 1) := dk_5 (dk_at dksL_law_49 4 rfl rfl)
theorem dL_law_1276 : decode cL_law 1276 = .ok (.iadd, 1) := dk_96 (dk_at dksL_law_49 5 rfl rfl)
theorem dL_law_1277 : decode cL_law 1277 = .ok (.iaload, 1) := dk_46 (dk_at dksL_law_49 6 rfl rfl)
theorem dL_law_1278 : decode cL_law 1278 = .ok (.aload_n 3, 1) := dk_45 (dk_at dksL_law_49 7 rfl rfl)
theorem dL_law_1279 : decode cL_law 1279 = .ok (.invokestatic 190, 3) := dk_184 0 190 (dk_at dksL_law_49 8 rfl rfl)
theorem dL_law_1282 : decode cL_law 1282 = .ok (.istore 6, 2) := dk_54 6 (dk_at dksL_law_49 11 rfl rfl)
theorem dL_law_1284 : decode cL_law 1284 = .ok (.aload_n 2, 1) := dk_44 (dk_at dksL_law_49 13 rfl rfl)
theorem dL_law_1285 : decode cL_law 1285 = .ok (.aload_n 0, 1) := dk_42 (dk_at dksL_law_49 14 rfl rfl)
theorem dL_law_1286 : decode cL_law 1286 = .ok (.iload 5, 2) := dk_21 5 (dk_at dksL_law_49 15 rfl rfl)
theorem dL_law_1288 : decode cL_law 1288 = .ok (.iconst 1, 1) := dk_4 (dk_at dksL_law_49 17 rfl rfl)
theorem dL_law_1289 : decode cL_law 1289 = .ok (.iadd, 1) := dk_96 (dk_at dksL_law_49 18 rfl rfl)
theorem dL_law_1290 : decode cL_law 1290 = .ok (.iaload, 1) := dk_46 (dk_at dksL_law_49 19 rfl rfl)
theorem dL_law_1291 : decode cL_law 1291 = .ok (.aload_n 0, 1) := dk_42 (dk_at dksL_law_49 20 rfl rfl)
theorem dL_law_1292 : decode cL_law 1292 = .ok (.iload 5, 2) := dk_21 5 (dk_at dksL_law_49 21 rfl rfl)
theorem dL_law_1294 : decode cL_law 1294 = .ok (.iconst 2, 1) := dk_5 (dk_at dksL_law_49 23 rfl rfl)
theorem dL_law_1295 : decode cL_law 1295 = .ok (.iadd, 1) := dk_96 (dk_at dksL_law_50 0 rfl rfl)
theorem dL_law_1296 : decode cL_law 1296 = .ok (.iaload, 1) := dk_46 (dk_at dksL_law_50 1 rfl rfl)
theorem dL_law_1297 : decode cL_law 1297 = .ok (.invokevirtual 192, 3) := dk_182 0 192 (dk_at dksL_law_50 2 rfl rfl)
theorem dL_law_1300 : decode cL_law 1300 = .ok (.istore 7, 2) := dk_54 7 (dk_at dksL_law_50 5 rfl rfl)
theorem dL_law_1302 : decode cL_law 1302 = .ok (.aload_n 2, 1) := dk_44 (dk_at dksL_law_50 7 rfl rfl)
theorem dL_law_1303 : decode cL_law 1303 = .ok (.invokevirtual 136, 3) := dk_182 0 136 (dk_at dksL_law_50 8 rfl rfl)
theorem dL_law_1306 : decode cL_law 1306 = .ok (.iload 6, 2) := dk_21 6 (dk_at dksL_law_50 11 rfl rfl)
theorem dL_law_1308 : decode cL_law 1308 = .ok (.if_icmp .eq 5, 3) := dk_159 0 5 (dk_at dksL_law_50 13 rfl rfl)
theorem dL_law_1311 : decode cL_law 1311 = .ok (.iconst 0, 1) := dk_3 (dk_at dksL_law_50 16 rfl rfl)
theorem dL_law_1312 : decode cL_law 1312 = .ok (.ireturn, 1) := dk_172 (dk_at dksL_law_50 17 rfl rfl)
theorem dL_law_1313 : decode cL_law 1313 = .ok (.iload 6, 2) := dk_21 6 (dk_at dksL_law_50 18 rfl rfl)
theorem dL_law_1315 : decode cL_law 1315 = .ok (.ifCond .ne 15, 3) := dk_154 0 15 (dk_at dksL_law_50 20 rfl rfl)
theorem dL_law_1318 : decode cL_law 1318 = .ok (.aload_n 3, 1) := dk_45 (dk_at dksL_law_50 23 rfl rfl)
theorem dL_law_1319 : decode cL_law 1319 = .ok (.iconst 0, 1) := dk_3 (dk_at dksL_law_51 0 rfl rfl)
theorem dL_law_1320 : decode cL_law 1320 = .ok (.laload, 1) := dk_47 (dk_at dksL_law_51 1 rfl rfl)
theorem dL_law_1321 : decode cL_law 1321 = .ok (.iload 7, 2) := dk_21 7 (dk_at dksL_law_51 2 rfl rfl)
theorem dL_law_1323 : decode cL_law 1323 = .ok (.i2l, 1) := dk_133 (dk_at dksL_law_51 4 rfl rfl)
theorem dL_law_1324 : decode cL_law 1324 = .ok (.lcmp, 1) := dk_148 (dk_at dksL_law_51 5 rfl rfl)
theorem dL_law_1325 : decode cL_law 1325 = .ok (.ifCond .eq 5, 3) := dk_153 0 5 (dk_at dksL_law_51 6 rfl rfl)
theorem dL_law_1328 : decode cL_law 1328 = .ok (.iconst 0, 1) := dk_3 (dk_at dksL_law_51 9 rfl rfl)
theorem dL_law_1329 : decode cL_law 1329 = .ok (.ireturn, 1) := dk_172 (dk_at dksL_law_51 10 rfl rfl)
theorem dL_law_1330 : decode cL_law 1330 = .ok (.goto 932, 3) := dk_167 3 164 (dk_at dksL_law_51 11 rfl rfl)
theorem dL_law_1333 : decode cL_law 1333 = .ok (.aload_n 1, 1) := dk_43 (dk_at dksL_law_51 14 rfl rfl)
theorem dL_law_1334 : decode cL_law 1334 = .ok (.aload_n 3, 1) := dk_45 (dk_at dksL_law_51 15 rfl rfl)
theorem dL_law_1335 : decode cL_law 1335 = .ok (.invokestatic 193, 3) := dk_184 0 193 (dk_at dksL_law_51 16 rfl rfl)
theorem dL_law_1338 : decode cL_law 1338 = .ok (.istore 6, 2) := dk_54 6 (dk_at dksL_law_51 19 rfl rfl)
theorem dL_law_1340 : decode cL_law 1340 = .ok (.aload_n 2, 1) := dk_44 (dk_at dksL_law_51 21 rfl rfl)
theorem dL_law_1341 : decode cL_law 1341 = .ok (.invokevirtual 196, 3) := dk_182 0 196 (dk_at dksL_law_52 0 rfl rfl)
theorem dL_law_1344 : decode cL_law 1344 = .ok (.istore 7, 2) := dk_54 7 (dk_at dksL_law_52 3 rfl rfl)
theorem dL_law_1346 : decode cL_law 1346 = .ok (.aload_n 2, 1) := dk_44 (dk_at dksL_law_52 5 rfl rfl)
theorem dL_law_1347 : decode cL_law 1347 = .ok (.invokevirtual 136, 3) := dk_182 0 136 (dk_at dksL_law_52 6 rfl rfl)
theorem dL_law_1350 : decode cL_law 1350 = .ok (.iload 6, 2) := dk_21 6 (dk_at dksL_law_52 9 rfl rfl)
theorem dL_law_1352 : decode cL_law 1352 = .ok (.if_icmp .eq 5, 3) := dk_159 0 5 (dk_at dksL_law_52 11 rfl rfl)
theorem dL_law_1355 : decode cL_law 1355 = .ok (.iconst 0, 1) := dk_3 (dk_at dksL_law_52 14 rfl rfl)
theorem dL_law_1356 : decode cL_law 1356 = .ok (.ireturn, 1) := dk_172 (dk_at dksL_law_52 15 rfl rfl)
theorem dL_law_1357 : decode cL_law 1357 = .ok (.iload 6, 2) := dk_21 6 (dk_at dksL_law_52 16 rfl rfl)
theorem dL_law_1359 : decode cL_law 1359 = .ok (.ifCond .ne 15, 3) := dk_154 0 15 (dk_at dksL_law_52 18 rfl rfl)
theorem dL_law_1362 : decode cL_law 1362 = .ok (.aload_n 3, 1) := dk_45 (dk_at dksL_law_52 21 rfl rfl)
theorem dL_law_1363 : decode cL_law 1363 = .ok (.iconst 0, 1) := dk_3 (dk_at dksL_law_52 22 rfl rfl)
theorem dL_law_1364 : decode cL_law 1364 = .ok (.laload, 1) := dk_47 (dk_at dksL_law_52 23 rfl rfl)
theorem dL_law_1365 : decode cL_law 1365 = .ok (.iload 7, 2) := dk_21 7 (dk_at dksL_law_53 0 rfl rfl)
theorem dL_law_1367 : decode cL_law 1367 = .ok (.i2l, 1) := dk_133 (dk_at dksL_law_53 2 rfl rfl)
theorem dL_law_1368 : decode cL_law 1368 = .ok (.lcmp, 1) := dk_148 (dk_at dksL_law_53 3 rfl rfl)
theorem dL_law_1369 : decode cL_law 1369 = .ok (.ifCond .eq 5, 3) := dk_153 0 5 (dk_at dksL_law_53 4 rfl rfl)
theorem dL_law_1372 : decode cL_law 1372 = .ok (.iconst 0, 1) := dk_3 (dk_at dksL_law_53 7 rfl rfl)
theorem dL_law_1373 : decode cL_law 1373 = .ok (.ireturn, 1) := dk_172 (dk_at dksL_law_53 8 rfl rfl)
theorem dL_law_1374 : decode cL_law 1374 = .ok (.goto 888, 3) := dk_167 3 120 (dk_at dksL_law_53 9 rfl rfl)
theorem dL_law_1377 : decode cL_law 1377 = .ok (.aload_n 1, 1) := dk_43 (dk_at dksL_law_53 12 rfl rfl)
theorem dL_law_1378 : decode cL_law 1378 = .ok (.invokevirtual 197, 3) := dk_182 0 197 (dk_at dksL_law_53 13 rfl rfl)
theorem dL_law_1381 : decode cL_law 1381 = .ok (.aload_n 2, 1) := dk_44 (dk_at dksL_law_53 16 rfl rfl)
theorem dL_law_1382 : decode cL_law 1382 = .ok (.invokevirtual 200, 3) := dk_182 0 200 (dk_at dksL_law_53 17 rfl rfl)
theorem dL_law_1385 : decode cL_law 1385 = .ok (.if_icmp .eq 877, 3) := dk_159 3 109 (dk_at dksL_law_53 20 rfl rfl)
theorem dL_law_1388 : decode cL_law 1388 = .ok (.iconst 0, 1) := dk_3 (dk_at dksL_law_53 23 rfl rfl)
theorem dL_law_1389 : decode cL_law 1389 = .ok (.ireturn, 1) := dk_172 (dk_at dksL_law_54 0 rfl rfl)
theorem dL_law_1390 : decode cL_law 1390 = .ok (.aload_n 1, 1) := dk_43 (dk_at dksL_law_54 1 rfl rfl)
theorem dL_law_1391 : decode cL_law 1391 = .ok (.invokevirtual 201, 3) := dk_182 0 201 (dk_at dksL_law_54 2 rfl rfl)
theorem dL_law_1394 : decode cL_law 1394 = .ok (.aload_n 2, 1) := dk_44 (dk_at dksL_law_54 5 rfl rfl)
theorem dL_law_1395 : decode cL_law 1395 = .ok (.invokevirtual 204, 3) := dk_182 0 204 (dk_at dksL_law_54 6 rfl rfl)
theorem dL_law_1398 : decode cL_law 1398 = .ok (.if_icmp .eq 864, 3) := dk_159 3 96 (dk_at dksL_law_54 9 rfl rfl)
theorem dL_law_1401 : decode cL_law 1401 = .ok (.iconst 0, 1) := dk_3 (dk_at dksL_law_54 12 rfl rfl)
theorem dL_law_1402 : decode cL_law 1402 = .ok (.ireturn, 1) := dk_172 (dk_at dksL_law_54 13 rfl rfl)
theorem dL_law_1403 : decode cL_law 1403 = .ok (.aload_n 1, 1) := dk_43 (dk_at dksL_law_54 14 rfl rfl)
theorem dL_law_1404 : decode cL_law 1404 = .ok (.aload_n 0, 1) := dk_42 (dk_at dksL_law_54 15 rfl rfl)
theorem dL_law_1405 : decode cL_law 1405 = .ok (.iload 5, 2) := dk_21 5 (dk_at dksL_law_54 16 rfl rfl)
theorem dL_law_1407 : decode cL_law 1407 = .ok (.iconst 1, 1) := dk_4 (dk_at dksL_law_54 18 rfl rfl)
theorem dL_law_1408 : decode cL_law 1408 = .ok (.iadd, 1) := dk_96 (dk_at dksL_law_54 19 rfl rfl)
theorem dL_law_1409 : decode cL_law 1409 = .ok (.iaload, 1) := dk_46 (dk_at dksL_law_54 20 rfl rfl)
theorem dL_law_1410 : decode cL_law 1410 = .ok (.aload_n 3, 1) := dk_45 (dk_at dksL_law_54 21 rfl rfl)
theorem dL_law_1411 : decode cL_law 1411 = .ok (.invokestatic 205, 3) := dk_184 0 205 (dk_at dksL_law_55 0 rfl rfl)
theorem dL_law_1414 : decode cL_law 1414 = .ok (.istore 6, 2) := dk_54 6 (dk_at dksL_law_55 3 rfl rfl)
theorem dL_law_1416 : decode cL_law 1416 = .ok (.aload_n 2, 1) := dk_44 (dk_at dksL_law_55 5 rfl rfl)
theorem dL_law_1417 : decode cL_law 1417 = .ok (.aload_n 0, 1) := dk_42 (dk_at dksL_law_55 6 rfl rfl)
theorem dL_law_1418 : decode cL_law 1418 = .ok (.iload 5, 2) := dk_21 5 (dk_at dksL_law_55 7 rfl rfl)
theorem dL_law_1420 : decode cL_law 1420 = .ok (.iconst 1, 1) := dk_4 (dk_at dksL_law_55 9 rfl rfl)
theorem dL_law_1421 : decode cL_law 1421 = .ok (.iadd, 1) := dk_96 (dk_at dksL_law_55 10 rfl rfl)
theorem dL_law_1422 : decode cL_law 1422 = .ok (.iaload, 1) := dk_46 (dk_at dksL_law_55 11 rfl rfl)
theorem dL_law_1423 : decode cL_law 1423 = .ok (.invokevirtual 207, 3) := dk_182 0 207 (dk_at dksL_law_55 12 rfl rfl)
theorem dL_law_1426 : decode cL_law 1426 = .ok (.istore 7, 2) := dk_54 7 (dk_at dksL_law_55 15 rfl rfl)
theorem dL_law_1428 : decode cL_law 1428 = .ok (.aload_n 2, 1) := dk_44 (dk_at dksL_law_55 17 rfl rfl)
theorem dL_law_1429 : decode cL_law 1429 = .ok (.invokevirtual 136, 3) := dk_182 0 136 (dk_at dksL_law_55 18 rfl rfl)
theorem dL_law_1432 : decode cL_law 1432 = .ok (.iload 6, 2) := dk_21 6 (dk_at dksL_law_55 21 rfl rfl)
theorem dL_law_1434 : decode cL_law 1434 = .ok (.if_icmp .eq 5, 3) := dk_159 0 5 (dk_at dksL_law_56 0 rfl rfl)
theorem dL_law_1437 : decode cL_law 1437 = .ok (.iconst 0, 1) := dk_3 (dk_at dksL_law_56 3 rfl rfl)
theorem dL_law_1438 : decode cL_law 1438 = .ok (.ireturn, 1) := dk_172 (dk_at dksL_law_56 4 rfl rfl)
theorem dL_law_1439 : decode cL_law 1439 = .ok (.iload 6, 2) := dk_21 6 (dk_at dksL_law_56 5 rfl rfl)
theorem dL_law_1441 : decode cL_law 1441 = .ok (.ifCond .ne 15, 3) := dk_154 0 15 (dk_at dksL_law_56 7 rfl rfl)
theorem dL_law_1444 : decode cL_law 1444 = .ok (.aload_n 3, 1) := dk_45 (dk_at dksL_law_56 10 rfl rfl)
theorem dL_law_1445 : decode cL_law 1445 = .ok (.iconst 0, 1) := dk_3 (dk_at dksL_law_56 11 rfl rfl)
theorem dL_law_1446 : decode cL_law 1446 = .ok (.laload, 1) := dk_47 (dk_at dksL_law_56 12 rfl rfl)
theorem dL_law_1447 : decode cL_law 1447 = .ok (.iload 7, 2) := dk_21 7 (dk_at dksL_law_56 13 rfl rfl)
theorem dL_law_1449 : decode cL_law 1449 = .ok (.i2l, 1) := dk_133 (dk_at dksL_law_56 15 rfl rfl)
theorem dL_law_1450 : decode cL_law 1450 = .ok (.lcmp, 1) := dk_148 (dk_at dksL_law_56 16 rfl rfl)
theorem dL_law_1451 : decode cL_law 1451 = .ok (.ifCond .eq 5, 3) := dk_153 0 5 (dk_at dksL_law_56 17 rfl rfl)
theorem dL_law_1454 : decode cL_law 1454 = .ok (.iconst 0, 1) := dk_3 (dk_at dksL_law_56 20 rfl rfl)
theorem dL_law_1455 : decode cL_law 1455 = .ok (.ireturn, 1) := dk_172 (dk_at dksL_law_56 21 rfl rfl)
theorem dL_law_1456 : decode cL_law 1456 = .ok (.goto 806, 3) := dk_167 3 38 (dk_at dksL_law_57 0 rfl rfl)
theorem dL_law_1459 : decode cL_law 1459 = .ok (.aload_n 1, 1) := dk_43 (dk_at dksL_law_57 3 rfl rfl)
theorem dL_law_1460 : decode cL_law 1460 = .ok (.aload_n 0, 1) := dk_42 (dk_at dksL_law_57 4 rfl rfl)
theorem dL_law_1461 : decode cL_law 1461 = .ok (.iload 5, 2) := dk_21 5 (dk_at dksL_law_57 5 rfl rfl)
theorem dL_law_1463 : decode cL_law 1463 = .ok (.iconst 1, 1) := dk_4 (dk_at dksL_law_57 7 rfl rfl)
theorem dL_law_1464 : decode cL_law 1464 = .ok (.iadd, 1) := dk_96 (dk_at dksL_law_57 8 rfl rfl)
theorem dL_law_1465 : decode cL_law 1465 = .ok (.iaload, 1) := dk_46 (dk_at dksL_law_57 9 rfl rfl)
theorem dL_law_1466 : decode cL_law 1466 = .ok (.aload_n 3, 1) := dk_45 (dk_at dksL_law_57 10 rfl rfl)
theorem dL_law_1467 : decode cL_law 1467 = .ok (.invokestatic 208, 3) := dk_184 0 208 (dk_at dksL_law_57 11 rfl rfl)
theorem dL_law_1470 : decode cL_law 1470 = .ok (.istore 6, 2) := dk_54 6 (dk_at dksL_law_57 14 rfl rfl)
theorem dL_law_1472 : decode cL_law 1472 = .ok (.aload_n 2, 1) := dk_44 (dk_at dksL_law_57 16 rfl rfl)
theorem dL_law_1473 : decode cL_law 1473 = .ok (.aload_n 0, 1) := dk_42 (dk_at dksL_law_57 17 rfl rfl)
theorem dL_law_1474 : decode cL_law 1474 = .ok (.iload 5, 2) := dk_21 5 (dk_at dksL_law_57 18 rfl rfl)
theorem dL_law_1476 : decode cL_law 1476 = .ok (.iconst 1, 1) := dk_4 (dk_at dksL_law_57 20 rfl rfl)
theorem dL_law_1477 : decode cL_law 1477 = .ok (.iadd, 1) := dk_96 (dk_at dksL_law_57 21 rfl rfl)
theorem dL_law_1478 : decode cL_law 1478 = .ok (.iaload, 1) := dk_46 (dk_at dksL_law_57 22 rfl rfl)
theorem dL_law_1479 : decode cL_law 1479 = .ok (.invokevirtual 210, 3) := dk_182 0 210 (dk_at dksL_law_58 0 rfl rfl)
theorem dL_law_1482 : decode cL_law 1482 = .ok (.istore 7, 2) := dk_54 7 (dk_at dksL_law_58 3 rfl rfl)
theorem dL_law_1484 : decode cL_law 1484 = .ok (.aload_n 2, 1) := dk_44 (dk_at dksL_law_58 5 rfl rfl)
theorem dL_law_1485 : decode cL_law 1485 = .ok (.invokevirtual 136, 3) := dk_182 0 136 (dk_at dksL_law_58 6 rfl rfl)
theorem dL_law_1488 : decode cL_law 1488 = .ok (.iload 6, 2) := dk_21 6 (dk_at dksL_law_58 9 rfl rfl)
theorem dL_law_1490 : decode cL_law 1490 = .ok (.if_icmp .eq 5, 3) := dk_159 0 5 (dk_at dksL_law_58 11 rfl rfl)
theorem dL_law_1493 : decode cL_law 1493 = .ok (.iconst 0, 1) := dk_3 (dk_at dksL_law_58 14 rfl rfl)
theorem dL_law_1494 : decode cL_law 1494 = .ok (.ireturn, 1) := dk_172 (dk_at dksL_law_58 15 rfl rfl)
theorem dL_law_1495 : decode cL_law 1495 = .ok (.iload 6, 2) := dk_21 6 (dk_at dksL_law_58 16 rfl rfl)
theorem dL_law_1497 : decode cL_law 1497 = .ok (.ifCond .ne 15, 3) := dk_154 0 15 (dk_at dksL_law_58 18 rfl rfl)
theorem dL_law_1500 : decode cL_law 1500 = .ok (.aload_n 3, 1) := dk_45 (dk_at dksL_law_58 21 rfl rfl)
theorem dL_law_1501 : decode cL_law 1501 = .ok (.iconst 0, 1) := dk_3 (dk_at dksL_law_58 22 rfl rfl)
theorem dL_law_1502 : decode cL_law 1502 = .ok (.laload, 1) := dk_47 (dk_at dksL_law_58 23 rfl rfl)
theorem dL_law_1503 : decode cL_law 1503 = .ok (.iload 7, 2) := dk_21 7 (dk_at dksL_law_59 0 rfl rfl)
theorem dL_law_1505 : decode cL_law 1505 = .ok (.i2l, 1) := dk_133 (dk_at dksL_law_59 2 rfl rfl)
theorem dL_law_1506 : decode cL_law 1506 = .ok (.lcmp, 1) := dk_148 (dk_at dksL_law_59 3 rfl rfl)
theorem dL_law_1507 : decode cL_law 1507 = .ok (.ifCond .eq 5, 3) := dk_153 0 5 (dk_at dksL_law_59 4 rfl rfl)
theorem dL_law_1510 : decode cL_law 1510 = .ok (.iconst 0, 1) := dk_3 (dk_at dksL_law_59 7 rfl rfl)
theorem dL_law_1511 : decode cL_law 1511 = .ok (.ireturn, 1) := dk_172 (dk_at dksL_law_59 8 rfl rfl)
theorem dL_law_1512 : decode cL_law 1512 = .ok (.goto 750, 3) := dk_167 2 238 (dk_at dksL_law_59 9 rfl rfl)
theorem dL_law_1515 : decode cL_law 1515 = .ok (.aload_n 1, 1) := dk_43 (dk_at dksL_law_59 12 rfl rfl)
theorem dL_law_1516 : decode cL_law 1516 = .ok (.aload_n 0, 1) := dk_42 (dk_at dksL_law_59 13 rfl rfl)
theorem dL_law_1517 : decode cL_law 1517 = .ok (.iload 5, 2) := dk_21 5 (dk_at dksL_law_59 14 rfl rfl)
theorem dL_law_1519 : decode cL_law 1519 = .ok (.iconst 1, 1) := dk_4 (dk_at dksL_law_59 16 rfl rfl)
theorem dL_law_1520 : decode cL_law 1520 = .ok (.iadd, 1) := dk_96 (dk_at dksL_law_59 17 rfl rfl)
theorem dL_law_1521 : decode cL_law 1521 = .ok (.iaload, 1) := dk_46 (dk_at dksL_law_59 18 rfl rfl)
theorem dL_law_1522 : decode cL_law 1522 = .ok (.aload_n 3, 1) := dk_45 (dk_at dksL_law_59 19 rfl rfl)
theorem dL_law_1523 : decode cL_law 1523 = .ok (.invokestatic 211, 3) := dk_184 0 211 (dk_at dksL_law_59 20 rfl rfl)
theorem dL_law_1526 : decode cL_law 1526 = .ok (.istore 6, 2) := dk_54 6 (dk_at dksL_law_60 0 rfl rfl)
theorem dL_law_1528 : decode cL_law 1528 = .ok (.aload_n 2, 1) := dk_44 (dk_at dksL_law_60 2 rfl rfl)
theorem dL_law_1529 : decode cL_law 1529 = .ok (.aload_n 0, 1) := dk_42 (dk_at dksL_law_60 3 rfl rfl)
theorem dL_law_1530 : decode cL_law 1530 = .ok (.iload 5, 2) := dk_21 5 (dk_at dksL_law_60 4 rfl rfl)
theorem dL_law_1532 : decode cL_law 1532 = .ok (.iconst 1, 1) := dk_4 (dk_at dksL_law_60 6 rfl rfl)
theorem dL_law_1533 : decode cL_law 1533 = .ok (.iadd, 1) := dk_96 (dk_at dksL_law_60 7 rfl rfl)
theorem dL_law_1534 : decode cL_law 1534 = .ok (.iaload, 1) := dk_46 (dk_at dksL_law_60 8 rfl rfl)
theorem dL_law_1535 : decode cL_law 1535 = .ok (.invokevirtual 213, 3) := dk_182 0 213 (dk_at dksL_law_60 9 rfl rfl)
theorem dL_law_1538 : decode cL_law 1538 = .ok (.istore 7, 2) := dk_54 7 (dk_at dksL_law_60 12 rfl rfl)
theorem dL_law_1540 : decode cL_law 1540 = .ok (.aload_n 2, 1) := dk_44 (dk_at dksL_law_60 14 rfl rfl)
theorem dL_law_1541 : decode cL_law 1541 = .ok (.invokevirtual 136, 3) := dk_182 0 136 (dk_at dksL_law_60 15 rfl rfl)
theorem dL_law_1544 : decode cL_law 1544 = .ok (.iload 6, 2) := dk_21 6 (dk_at dksL_law_60 18 rfl rfl)
theorem dL_law_1546 : decode cL_law 1546 = .ok (.if_icmp .eq 5, 3) := dk_159 0 5 (dk_at dksL_law_60 20 rfl rfl)
theorem dL_law_1549 : decode cL_law 1549 = .ok (.iconst 0, 1) := dk_3 (dk_at dksL_law_60 23 rfl rfl)
theorem dL_law_1550 : decode cL_law 1550 = .ok (.ireturn, 1) := dk_172 (dk_at dksL_law_61 0 rfl rfl)
theorem dL_law_1551 : decode cL_law 1551 = .ok (.iload 6, 2) := dk_21 6 (dk_at dksL_law_61 1 rfl rfl)
theorem dL_law_1553 : decode cL_law 1553 = .ok (.ifCond .ne 15, 3) := dk_154 0 15 (dk_at dksL_law_61 3 rfl rfl)
theorem dL_law_1556 : decode cL_law 1556 = .ok (.aload_n 3, 1) := dk_45 (dk_at dksL_law_61 6 rfl rfl)
theorem dL_law_1557 : decode cL_law 1557 = .ok (.iconst 0, 1) := dk_3 (dk_at dksL_law_61 7 rfl rfl)
theorem dL_law_1558 : decode cL_law 1558 = .ok (.laload, 1) := dk_47 (dk_at dksL_law_61 8 rfl rfl)
theorem dL_law_1559 : decode cL_law 1559 = .ok (.iload 7, 2) := dk_21 7 (dk_at dksL_law_61 9 rfl rfl)
theorem dL_law_1561 : decode cL_law 1561 = .ok (.i2l, 1) := dk_133 (dk_at dksL_law_61 11 rfl rfl)
theorem dL_law_1562 : decode cL_law 1562 = .ok (.lcmp, 1) := dk_148 (dk_at dksL_law_61 12 rfl rfl)
theorem dL_law_1563 : decode cL_law 1563 = .ok (.ifCond .eq 5, 3) := dk_153 0 5 (dk_at dksL_law_61 13 rfl rfl)
theorem dL_law_1566 : decode cL_law 1566 = .ok (.iconst 0, 1) := dk_3 (dk_at dksL_law_61 16 rfl rfl)
theorem dL_law_1567 : decode cL_law 1567 = .ok (.ireturn, 1) := dk_172 (dk_at dksL_law_61 17 rfl rfl)
theorem dL_law_1568 : decode cL_law 1568 = .ok (.goto 694, 3) := dk_167 2 182 (dk_at dksL_law_61 18 rfl rfl)
theorem dL_law_1571 : decode cL_law 1571 = .ok (.aload_n 1, 1) := dk_43 (dk_at dksL_law_61 21 rfl rfl)
theorem dL_law_1572 : decode cL_law 1572 = .ok (.invokevirtual 214, 3) := dk_182 0 214 (dk_at dksL_law_62 0 rfl rfl)
theorem dL_law_1575 : decode cL_law 1575 = .ok (.aload_n 2, 1) := dk_44 (dk_at dksL_law_62 3 rfl rfl)
theorem dL_law_1576 : decode cL_law 1576 = .ok (.invokevirtual 217, 3) := dk_182 0 217 (dk_at dksL_law_62 4 rfl rfl)
theorem dL_law_1579 : decode cL_law 1579 = .ok (.if_icmp .eq 683, 3) := dk_159 2 171 (dk_at dksL_law_62 7 rfl rfl)
theorem dL_law_1582 : decode cL_law 1582 = .ok (.iconst 0, 1) := dk_3 (dk_at dksL_law_62 10 rfl rfl)
theorem dL_law_1583 : decode cL_law 1583 = .ok (.ireturn, 1) := dk_172 (dk_at dksL_law_62 11 rfl rfl)
theorem dL_law_1584 : decode cL_law 1584 = .ok (.aload_n 1, 1) := dk_43 (dk_at dksL_law_62 12 rfl rfl)
theorem dL_law_1585 : decode cL_law 1585 = .ok (.aload_n 0, 1) := dk_42 (dk_at dksL_law_62 13 rfl rfl)
theorem dL_law_1586 : decode cL_law 1586 = .ok (.iload 5, 2) := dk_21 5 (dk_at dksL_law_62 14 rfl rfl)
theorem dL_law_1588 : decode cL_law 1588 = .ok (.iconst 1, 1) := dk_4 (dk_at dksL_law_62 16 rfl rfl)
theorem dL_law_1589 : decode cL_law 1589 = .ok (.iadd, 1) := dk_96 (dk_at dksL_law_62 17 rfl rfl)
theorem dL_law_1590 : decode cL_law 1590 = .ok (.iaload, 1) := dk_46 (dk_at dksL_law_62 18 rfl rfl)
theorem dL_law_1591 : decode cL_law 1591 = .ok (.aload_n 0, 1) := dk_42 (dk_at dksL_law_62 19 rfl rfl)
theorem dL_law_1592 : decode cL_law 1592 = .ok (.iload 5, 2) := dk_21 5 (dk_at dksL_law_62 20 rfl rfl)
theorem dL_law_1594 : decode cL_law 1594 = .ok (.iconst 2, 1) := dk_5 (dk_at dksL_law_62 22 rfl rfl)
theorem dL_law_1595 : decode cL_law 1595 = .ok (.iadd, 1) := dk_96 (dk_at dksL_law_62 23 rfl rfl)
theorem dL_law_1596 : decode cL_law 1596 = .ok (.iaload, 1) := dk_46 (dk_at dksL_law_63 0 rfl rfl)
theorem dL_law_1597 : decode cL_law 1597 = .ok (.aload_n 0, 1) := dk_42 (dk_at dksL_law_63 1 rfl rfl)
theorem dL_law_1598 : decode cL_law 1598 = .ok (.iload 5, 2) := dk_21 5 (dk_at dksL_law_63 2 rfl rfl)
theorem dL_law_1600 : decode cL_law 1600 = .ok (.iconst 3, 1) := dk_6 (dk_at dksL_law_63 4 rfl rfl)
theorem dL_law_1601 : decode cL_law 1601 = .ok (.iadd, 1) := dk_96 (dk_at dksL_law_63 5 rfl rfl)
theorem dL_law_1602 : decode cL_law 1602 = .ok (.iaload, 1) := dk_46 (dk_at dksL_law_63 6 rfl rfl)
theorem dL_law_1603 : decode cL_law 1603 = .ok (.aload_n 3, 1) := dk_45 (dk_at dksL_law_63 7 rfl rfl)
theorem dL_law_1604 : decode cL_law 1604 = .ok (.invokestatic 218, 3) := dk_184 0 218 (dk_at dksL_law_63 8 rfl rfl)
theorem dL_law_1607 : decode cL_law 1607 = .ok (.istore 6, 2) := dk_54 6 (dk_at dksL_law_63 11 rfl rfl)
theorem dL_law_1609 : decode cL_law 1609 = .ok (.aload_n 2, 1) := dk_44 (dk_at dksL_law_63 13 rfl rfl)
theorem dL_law_1610 : decode cL_law 1610 = .ok (.aload_n 0, 1) := dk_42 (dk_at dksL_law_63 14 rfl rfl)
theorem dL_law_1611 : decode cL_law 1611 = .ok (.iload 5, 2) := dk_21 5 (dk_at dksL_law_63 15 rfl rfl)
theorem dL_law_1613 : decode cL_law 1613 = .ok (.iconst 1, 1) := dk_4 (dk_at dksL_law_63 17 rfl rfl)
theorem dL_law_1614 : decode cL_law 1614 = .ok (.iadd, 1) := dk_96 (dk_at dksL_law_63 18 rfl rfl)
theorem dL_law_1615 : decode cL_law 1615 = .ok (.iaload, 1) := dk_46 (dk_at dksL_law_63 19 rfl rfl)
theorem dL_law_1616 : decode cL_law 1616 = .ok (.aload_n 0, 1) := dk_42 (dk_at dksL_law_63 20 rfl rfl)
theorem dL_law_1617 : decode cL_law 1617 = .ok (.iload 5, 2) := dk_21 5 (dk_at dksL_law_63 21 rfl rfl)
theorem dL_law_1619 : decode cL_law 1619 = .ok (.iconst 2, 1) := dk_5 (dk_at dksL_law_63 23 rfl rfl)
theorem dL_law_1620 : decode cL_law 1620 = .ok (.iadd, 1) := dk_96 (dk_at dksL_law_64 0 rfl rfl)
theorem dL_law_1621 : decode cL_law 1621 = .ok (.iaload, 1) := dk_46 (dk_at dksL_law_64 1 rfl rfl)
theorem dL_law_1622 : decode cL_law 1622 = .ok (.aload_n 0, 1) := dk_42 (dk_at dksL_law_64 2 rfl rfl)
theorem dL_law_1623 : decode cL_law 1623 = .ok (.iload 5, 2) := dk_21 5 (dk_at dksL_law_64 3 rfl rfl)
theorem dL_law_1625 : decode cL_law 1625 = .ok (.iconst 3, 1) := dk_6 (dk_at dksL_law_64 5 rfl rfl)
theorem dL_law_1626 : decode cL_law 1626 = .ok (.iadd, 1) := dk_96 (dk_at dksL_law_64 6 rfl rfl)
theorem dL_law_1627 : decode cL_law 1627 = .ok (.iaload, 1) := dk_46 (dk_at dksL_law_64 7 rfl rfl)
theorem dL_law_1628 : decode cL_law 1628 = .ok (.invokevirtual 220, 3) := dk_182 0 220 (dk_at dksL_law_64 8 rfl rfl)
theorem dL_law_1631 : decode cL_law 1631 = .ok (.istore 7, 2) := dk_54 7 (dk_at dksL_law_64 11 rfl rfl)
theorem dL_law_1633 : decode cL_law 1633 = .ok (.aload_n 2, 1) := dk_44 (dk_at dksL_law_64 13 rfl rfl)
theorem dL_law_1634 : decode cL_law 1634 = .ok (.invokevirtual 136, 3) := dk_182 0 136 (dk_at dksL_law_64 14 rfl rfl)
theorem dL_law_1637 : decode cL_law 1637 = .ok (.iload 6, 2) := dk_21 6 (dk_at dksL_law_64 17 rfl rfl)
theorem dL_law_1639 : decode cL_law 1639 = .ok (.if_icmp .eq 5, 3) := dk_159 0 5 (dk_at dksL_law_64 19 rfl rfl)
theorem dL_law_1642 : decode cL_law 1642 = .ok (.iconst 0, 1) := dk_3 (dk_at dksL_law_64 22 rfl rfl)
theorem dL_law_1643 : decode cL_law 1643 = .ok (.ireturn, 1) := dk_172 (dk_at dksL_law_64 23 rfl rfl)
theorem dL_law_1644 : decode cL_law 1644 = .ok (.iload 6, 2) := dk_21 6 (dk_at dksL_law_65 0 rfl rfl)
theorem dL_law_1646 : decode cL_law 1646 = .ok (.ifCond .ne 15, 3) := dk_154 0 15 (dk_at dksL_law_65 2 rfl rfl)
theorem dL_law_1649 : decode cL_law 1649 = .ok (.aload_n 3, 1) := dk_45 (dk_at dksL_law_65 5 rfl rfl)
theorem dL_law_1650 : decode cL_law 1650 = .ok (.iconst 0, 1) := dk_3 (dk_at dksL_law_65 6 rfl rfl)
theorem dL_law_1651 : decode cL_law 1651 = .ok (.laload, 1) := dk_47 (dk_at dksL_law_65 7 rfl rfl)
theorem dL_law_1652 : decode cL_law 1652 = .ok (.iload 7, 2) := dk_21 7 (dk_at dksL_law_65 8 rfl rfl)
theorem dL_law_1654 : decode cL_law 1654 = .ok (.i2l, 1) := dk_133 (dk_at dksL_law_65 10 rfl rfl)
theorem dL_law_1655 : decode cL_law 1655 = .ok (.lcmp, 1) := dk_148 (dk_at dksL_law_65 11 rfl rfl)
theorem dL_law_1656 : decode cL_law 1656 = .ok (.ifCond .eq 5, 3) := dk_153 0 5 (dk_at dksL_law_65 12 rfl rfl)
theorem dL_law_1659 : decode cL_law 1659 = .ok (.iconst 0, 1) := dk_3 (dk_at dksL_law_65 15 rfl rfl)
theorem dL_law_1660 : decode cL_law 1660 = .ok (.ireturn, 1) := dk_172 (dk_at dksL_law_65 16 rfl rfl)
theorem dL_law_1661 : decode cL_law 1661 = .ok (.goto 601, 3) := dk_167 2 89 (dk_at dksL_law_65 17 rfl rfl)
theorem dL_law_1664 : decode cL_law 1664 = .ok (.aload_n 1, 1) := dk_43 (dk_at dksL_law_65 20 rfl rfl)
theorem dL_law_1665 : decode cL_law 1665 = .ok (.aload_n 0, 1) := dk_42 (dk_at dksL_law_65 21 rfl rfl)
theorem dL_law_1666 : decode cL_law 1666 = .ok (.iload 5, 2) := dk_21 5 (dk_at dksL_law_65 22 rfl rfl)
theorem dL_law_1668 : decode cL_law 1668 = .ok (.iconst 1, 1) := dk_4 (dk_at dksL_law_66 0 rfl rfl)
theorem dL_law_1669 : decode cL_law 1669 = .ok (.iadd, 1) := dk_96 (dk_at dksL_law_66 1 rfl rfl)
theorem dL_law_1670 : decode cL_law 1670 = .ok (.iaload, 1) := dk_46 (dk_at dksL_law_66 2 rfl rfl)
theorem dL_law_1671 : decode cL_law 1671 = .ok (.aload_n 3, 1) := dk_45 (dk_at dksL_law_66 3 rfl rfl)
theorem dL_law_1672 : decode cL_law 1672 = .ok (.invokestatic 221, 3) := dk_184 0 221 (dk_at dksL_law_66 4 rfl rfl)
theorem dL_law_1675 : decode cL_law 1675 = .ok (.istore 6, 2) := dk_54 6 (dk_at dksL_law_66 7 rfl rfl)
theorem dL_law_1677 : decode cL_law 1677 = .ok (.aload_n 2, 1) := dk_44 (dk_at dksL_law_66 9 rfl rfl)
theorem dL_law_1678 : decode cL_law 1678 = .ok (.aload_n 0, 1) := dk_42 (dk_at dksL_law_66 10 rfl rfl)
theorem dL_law_1679 : decode cL_law 1679 = .ok (.iload 5, 2) := dk_21 5 (dk_at dksL_law_66 11 rfl rfl)
theorem dL_law_1681 : decode cL_law 1681 = .ok (.iconst 1, 1) := dk_4 (dk_at dksL_law_66 13 rfl rfl)
theorem dL_law_1682 : decode cL_law 1682 = .ok (.iadd, 1) := dk_96 (dk_at dksL_law_66 14 rfl rfl)
theorem dL_law_1683 : decode cL_law 1683 = .ok (.iaload, 1) := dk_46 (dk_at dksL_law_66 15 rfl rfl)
theorem dL_law_1684 : decode cL_law 1684 = .ok (.invokevirtual 223, 3) := dk_182 0 223 (dk_at dksL_law_66 16 rfl rfl)
theorem dL_law_1687 : decode cL_law 1687 = .ok (.istore 7, 2) := dk_54 7 (dk_at dksL_law_66 19 rfl rfl)
theorem dL_law_1689 : decode cL_law 1689 = .ok (.aload_n 2, 1) := dk_44 (dk_at dksL_law_66 21 rfl rfl)
theorem dL_law_1690 : decode cL_law 1690 = .ok (.invokevirtual 136, 3) := dk_182 0 136 (dk_at dksL_law_67 0 rfl rfl)
theorem dL_law_1693 : decode cL_law 1693 = .ok (.iload 6, 2) := dk_21 6 (dk_at dksL_law_67 3 rfl rfl)
theorem dL_law_1695 : decode cL_law 1695 = .ok (.if_icmp .eq 5, 3) := dk_159 0 5 (dk_at dksL_law_67 5 rfl rfl)
theorem dL_law_1698 : decode cL_law 1698 = .ok (.iconst 0, 1) := dk_3 (dk_at dksL_law_67 8 rfl rfl)
theorem dL_law_1699 : decode cL_law 1699 = .ok (.ireturn, 1) := dk_172 (dk_at dksL_law_67 9 rfl rfl)
theorem dL_law_1700 : decode cL_law 1700 = .ok (.iload 6, 2) := dk_21 6 (dk_at dksL_law_67 10 rfl rfl)
theorem dL_law_1702 : decode cL_law 1702 = .ok (.ifCond .ne 15, 3) := dk_154 0 15 (dk_at dksL_law_67 12 rfl rfl)
theorem dL_law_1705 : decode cL_law 1705 = .ok (.aload_n 3, 1) := dk_45 (dk_at dksL_law_67 15 rfl rfl)
theorem dL_law_1706 : decode cL_law 1706 = .ok (.iconst 0, 1) := dk_3 (dk_at dksL_law_67 16 rfl rfl)
theorem dL_law_1707 : decode cL_law 1707 = .ok (.laload, 1) := dk_47 (dk_at dksL_law_67 17 rfl rfl)
theorem dL_law_1708 : decode cL_law 1708 = .ok (.iload 7, 2) := dk_21 7 (dk_at dksL_law_67 18 rfl rfl)
theorem dL_law_1710 : decode cL_law 1710 = .ok (.i2l, 1) := dk_133 (dk_at dksL_law_67 20 rfl rfl)
theorem dL_law_1711 : decode cL_law 1711 = .ok (.lcmp, 1) := dk_148 (dk_at dksL_law_67 21 rfl rfl)
theorem dL_law_1712 : decode cL_law 1712 = .ok (.ifCond .eq 5, 3) := dk_153 0 5 (dk_at dksL_law_68 0 rfl rfl)
theorem dL_law_1715 : decode cL_law 1715 = .ok (.iconst 0, 1) := dk_3 (dk_at dksL_law_68 3 rfl rfl)
theorem dL_law_1716 : decode cL_law 1716 = .ok (.ireturn, 1) := dk_172 (dk_at dksL_law_68 4 rfl rfl)
theorem dL_law_1717 : decode cL_law 1717 = .ok (.goto 545, 3) := dk_167 2 33 (dk_at dksL_law_68 5 rfl rfl)
theorem dL_law_1720 : decode cL_law 1720 = .ok (.aload_n 1, 1) := dk_43 (dk_at dksL_law_68 8 rfl rfl)
theorem dL_law_1721 : decode cL_law 1721 = .ok (.aload_n 0, 1) := dk_42 (dk_at dksL_law_68 9 rfl rfl)
theorem dL_law_1722 : decode cL_law 1722 = .ok (.iload 5, 2) := dk_21 5 (dk_at dksL_law_68 10 rfl rfl)
theorem dL_law_1724 : decode cL_law 1724 = .ok (.iconst 1, 1) := dk_4 (dk_at dksL_law_68 12 rfl rfl)
theorem dL_law_1725 : decode cL_law 1725 = .ok (.iadd, 1) := dk_96 (dk_at dksL_law_68 13 rfl rfl)
theorem dL_law_1726 : decode cL_law 1726 = .ok (.iaload, 1) := dk_46 (dk_at dksL_law_68 14 rfl rfl)
theorem dL_law_1727 : decode cL_law 1727 = .ok (.aload_n 3, 1) := dk_45 (dk_at dksL_law_68 15 rfl rfl)
theorem dL_law_1728 : decode cL_law 1728 = .ok (.invokestatic 224, 3) := dk_184 0 224 (dk_at dksL_law_68 16 rfl rfl)
theorem dL_law_1731 : decode cL_law 1731 = .ok (.istore 6, 2) := dk_54 6 (dk_at dksL_law_68 19 rfl rfl)
theorem dL_law_1733 : decode cL_law 1733 = .ok (.aload_n 2, 1) := dk_44 (dk_at dksL_law_68 21 rfl rfl)
theorem dL_law_1734 : decode cL_law 1734 = .ok (.aload_n 0, 1) := dk_42 (dk_at dksL_law_68 22 rfl rfl)
theorem dL_law_1735 : decode cL_law 1735 = .ok (.iload 5, 2) := dk_21 5 (dk_at dksL_law_69 0 rfl rfl)
theorem dL_law_1737 : decode cL_law 1737 = .ok (.iconst 1, 1) := dk_4 (dk_at dksL_law_69 2 rfl rfl)
theorem dL_law_1738 : decode cL_law 1738 = .ok (.iadd, 1) := dk_96 (dk_at dksL_law_69 3 rfl rfl)
theorem dL_law_1739 : decode cL_law 1739 = .ok (.iaload, 1) := dk_46 (dk_at dksL_law_69 4 rfl rfl)
theorem dL_law_1740 : decode cL_law 1740 = .ok (.invokevirtual 226, 3) := dk_182 0 226 (dk_at dksL_law_69 5 rfl rfl)
theorem dL_law_1743 : decode cL_law 1743 = .ok (.istore 7, 2) := dk_54 7 (dk_at dksL_law_69 8 rfl rfl)
theorem dL_law_1745 : decode cL_law 1745 = .ok (.aload_n 2, 1) := dk_44 (dk_at dksL_law_69 10 rfl rfl)
theorem dL_law_1746 : decode cL_law 1746 = .ok (.invokevirtual 136, 3) := dk_182 0 136 (dk_at dksL_law_69 11 rfl rfl)
theorem dL_law_1749 : decode cL_law 1749 = .ok (.iload 6, 2) := dk_21 6 (dk_at dksL_law_69 14 rfl rfl)
theorem dL_law_1751 : decode cL_law 1751 = .ok (.if_icmp .eq 5, 3) := dk_159 0 5 (dk_at dksL_law_69 16 rfl rfl)
theorem dL_law_1754 : decode cL_law 1754 = .ok (.iconst 0, 1) := dk_3 (dk_at dksL_law_69 19 rfl rfl)
theorem dL_law_1755 : decode cL_law 1755 = .ok (.ireturn, 1) := dk_172 (dk_at dksL_law_69 20 rfl rfl)
theorem dL_law_1756 : decode cL_law 1756 = .ok (.iload 6, 2) := dk_21 6 (dk_at dksL_law_69 21 rfl rfl)
theorem dL_law_1758 : decode cL_law 1758 = .ok (.ifCond .ne 15, 3) := dk_154 0 15 (dk_at dksL_law_70 0 rfl rfl)
theorem dL_law_1761 : decode cL_law 1761 = .ok (.aload_n 3, 1) := dk_45 (dk_at dksL_law_70 3 rfl rfl)
theorem dL_law_1762 : decode cL_law 1762 = .ok (.iconst 0, 1) := dk_3 (dk_at dksL_law_70 4 rfl rfl)
theorem dL_law_1763 : decode cL_law 1763 = .ok (.laload, 1) := dk_47 (dk_at dksL_law_70 5 rfl rfl)
theorem dL_law_1764 : decode cL_law 1764 = .ok (.iload 7, 2) := dk_21 7 (dk_at dksL_law_70 6 rfl rfl)
theorem dL_law_1766 : decode cL_law 1766 = .ok (.i2l, 1) := dk_133 (dk_at dksL_law_70 8 rfl rfl)
theorem dL_law_1767 : decode cL_law 1767 = .ok (.lcmp, 1) := dk_148 (dk_at dksL_law_70 9 rfl rfl)
theorem dL_law_1768 : decode cL_law 1768 = .ok (.ifCond .eq 5, 3) := dk_153 0 5 (dk_at dksL_law_70 10 rfl rfl)
theorem dL_law_1771 : decode cL_law 1771 = .ok (.iconst 0, 1) := dk_3 (dk_at dksL_law_70 13 rfl rfl)
theorem dL_law_1772 : decode cL_law 1772 = .ok (.ireturn, 1) := dk_172 (dk_at dksL_law_70 14 rfl rfl)
theorem dL_law_1773 : decode cL_law 1773 = .ok (.goto 489, 3) := dk_167 1 233 (dk_at dksL_law_70 15 rfl rfl)
theorem dL_law_1776 : decode cL_law 1776 = .ok (.aload_n 1, 1) := dk_43 (dk_at dksL_law_70 18 rfl rfl)
theorem dL_law_1777 : decode cL_law 1777 = .ok (.aload_n 0, 1) := dk_42 (dk_at dksL_law_70 19 rfl rfl)
theorem dL_law_1778 : decode cL_law 1778 = .ok (.iload 5, 2) := dk_21 5 (dk_at dksL_law_70 20 rfl rfl)
theorem dL_law_1780 : decode cL_law 1780 = .ok (.iconst 1, 1) := dk_4 (dk_at dksL_law_70 22 rfl rfl)
theorem dL_law_1781 : decode cL_law 1781 = .ok (.iadd, 1) := dk_96 (dk_at dksL_law_70 23 rfl rfl)
theorem dL_law_1782 : decode cL_law 1782 = .ok (.iaload, 1) := dk_46 (dk_at dksL_law_71 0 rfl rfl)
theorem dL_law_1783 : decode cL_law 1783 = .ok (.aload_n 0, 1) := dk_42 (dk_at dksL_law_71 1 rfl rfl)
theorem dL_law_1784 : decode cL_law 1784 = .ok (.iload 5, 2) := dk_21 5 (dk_at dksL_law_71 2 rfl rfl)
theorem dL_law_1786 : decode cL_law 1786 = .ok (.iconst 2, 1) := dk_5 (dk_at dksL_law_71 4 rfl rfl)
theorem dL_law_1787 : decode cL_law 1787 = .ok (.iadd, 1) := dk_96 (dk_at dksL_law_71 5 rfl rfl)
theorem dL_law_1788 : decode cL_law 1788 = .ok (.iaload, 1) := dk_46 (dk_at dksL_law_71 6 rfl rfl)
theorem dL_law_1789 : decode cL_law 1789 = .ok (.aload_n 3, 1) := dk_45 (dk_at dksL_law_71 7 rfl rfl)
theorem dL_law_1790 : decode cL_law 1790 = .ok (.invokestatic 227, 3) := dk_184 0 227 (dk_at dksL_law_71 8 rfl rfl)
theorem dL_law_1793 : decode cL_law 1793 = .ok (.istore 6, 2) := dk_54 6 (dk_at dksL_law_71 11 rfl rfl)
theorem dL_law_1795 : decode cL_law 1795 = .ok (.aload_n 2, 1) := dk_44 (dk_at dksL_law_71 13 rfl rfl)
theorem dL_law_1796 : decode cL_law 1796 = .ok (.aload_n 0, 1) := dk_42 (dk_at dksL_law_71 14 rfl rfl)
theorem dL_law_1797 : decode cL_law 1797 = .ok (.iload 5, 2) := dk_21 5 (dk_at dksL_law_71 15 rfl rfl)
theorem dL_law_1799 : decode cL_law 1799 = .ok (.iconst 1, 1) := dk_4 (dk_at dksL_law_71 17 rfl rfl)
theorem dL_law_1800 : decode cL_law 1800 = .ok (.iadd, 1) := dk_96 (dk_at dksL_law_71 18 rfl rfl)
theorem dL_law_1801 : decode cL_law 1801 = .ok (.iaload, 1) := dk_46 (dk_at dksL_law_71 19 rfl rfl)
theorem dL_law_1802 : decode cL_law 1802 = .ok (.aload_n 0, 1) := dk_42 (dk_at dksL_law_71 20 rfl rfl)
theorem dL_law_1803 : decode cL_law 1803 = .ok (.iload 5, 2) := dk_21 5 (dk_at dksL_law_71 21 rfl rfl)
theorem dL_law_1805 : decode cL_law 1805 = .ok (.iconst 2, 1) := dk_5 (dk_at dksL_law_71 23 rfl rfl)
theorem dL_law_1806 : decode cL_law 1806 = .ok (.iadd, 1) := dk_96 (dk_at dksL_law_72 0 rfl rfl)
theorem dL_law_1807 : decode cL_law 1807 = .ok (.iaload, 1) := dk_46 (dk_at dksL_law_72 1 rfl rfl)
theorem dL_law_1808 : decode cL_law 1808 = .ok (.invokevirtual 229, 3) := dk_182 0 229 (dk_at dksL_law_72 2 rfl rfl)
theorem dL_law_1811 : decode cL_law 1811 = .ok (.istore 7, 2) := dk_54 7 (dk_at dksL_law_72 5 rfl rfl)
theorem dL_law_1813 : decode cL_law 1813 = .ok (.aload_n 2, 1) := dk_44 (dk_at dksL_law_72 7 rfl rfl)
theorem dL_law_1814 : decode cL_law 1814 = .ok (.invokevirtual 136, 3) := dk_182 0 136 (dk_at dksL_law_72 8 rfl rfl)
theorem dL_law_1817 : decode cL_law 1817 = .ok (.iload 6, 2) := dk_21 6 (dk_at dksL_law_72 11 rfl rfl)
theorem dL_law_1819 : decode cL_law 1819 = .ok (.if_icmp .eq 5, 3) := dk_159 0 5 (dk_at dksL_law_72 13 rfl rfl)
theorem dL_law_1822 : decode cL_law 1822 = .ok (.iconst 0, 1) := dk_3 (dk_at dksL_law_72 16 rfl rfl)
theorem dL_law_1823 : decode cL_law 1823 = .ok (.ireturn, 1) := dk_172 (dk_at dksL_law_72 17 rfl rfl)
theorem dL_law_1824 : decode cL_law 1824 = .ok (.iload 6, 2) := dk_21 6 (dk_at dksL_law_72 18 rfl rfl)
theorem dL_law_1826 : decode cL_law 1826 = .ok (.ifCond .ne 15, 3) := dk_154 0 15 (dk_at dksL_law_72 20 rfl rfl)
theorem dL_law_1829 : decode cL_law 1829 = .ok (.aload_n 3, 1) := dk_45 (dk_at dksL_law_72 23 rfl rfl)
theorem dL_law_1830 : decode cL_law 1830 = .ok (.iconst 0, 1) := dk_3 (dk_at dksL_law_73 0 rfl rfl)
theorem dL_law_1831 : decode cL_law 1831 = .ok (.laload, 1) := dk_47 (dk_at dksL_law_73 1 rfl rfl)
theorem dL_law_1832 : decode cL_law 1832 = .ok (.iload 7, 2) := dk_21 7 (dk_at dksL_law_73 2 rfl rfl)
theorem dL_law_1834 : decode cL_law 1834 = .ok (.i2l, 1) := dk_133 (dk_at dksL_law_73 4 rfl rfl)
theorem dL_law_1835 : decode cL_law 1835 = .ok (.lcmp, 1) := dk_148 (dk_at dksL_law_73 5 rfl rfl)
theorem dL_law_1836 : decode cL_law 1836 = .ok (.ifCond .eq 5, 3) := dk_153 0 5 (dk_at dksL_law_73 6 rfl rfl)
theorem dL_law_1839 : decode cL_law 1839 = .ok (.iconst 0, 1) := dk_3 (dk_at dksL_law_73 9 rfl rfl)
theorem dL_law_1840 : decode cL_law 1840 = .ok (.ireturn, 1) := dk_172 (dk_at dksL_law_73 10 rfl rfl)
theorem dL_law_1841 : decode cL_law 1841 = .ok (.goto 421, 3) := dk_167 1 165 (dk_at dksL_law_73 11 rfl rfl)
theorem dL_law_1844 : decode cL_law 1844 = .ok (.aload_n 1, 1) := dk_43 (dk_at dksL_law_73 14 rfl rfl)
theorem dL_law_1845 : decode cL_law 1845 = .ok (.aload_n 0, 1) := dk_42 (dk_at dksL_law_73 15 rfl rfl)
theorem dL_law_1846 : decode cL_law 1846 = .ok (.iload 5, 2) := dk_21 5 (dk_at dksL_law_73 16 rfl rfl)
theorem dL_law_1848 : decode cL_law 1848 = .ok (.iconst 1, 1) := dk_4 (dk_at dksL_law_73 18 rfl rfl)
theorem dL_law_1849 : decode cL_law 1849 = .ok (.iadd, 1) := dk_96 (dk_at dksL_law_73 19 rfl rfl)
theorem dL_law_1850 : decode cL_law 1850 = .ok (.iaload, 1) := dk_46 (dk_at dksL_law_73 20 rfl rfl)
theorem dL_law_1851 : decode cL_law 1851 = .ok (.aload_n 3, 1) := dk_45 (dk_at dksL_law_73 21 rfl rfl)
theorem dL_law_1852 : decode cL_law 1852 = .ok (.invokestatic 230, 3) := dk_184 0 230 (dk_at dksL_law_74 0 rfl rfl)
theorem dL_law_1855 : decode cL_law 1855 = .ok (.istore 6, 2) := dk_54 6 (dk_at dksL_law_74 3 rfl rfl)
theorem dL_law_1857 : decode cL_law 1857 = .ok (.aload_n 2, 1) := dk_44 (dk_at dksL_law_74 5 rfl rfl)
theorem dL_law_1858 : decode cL_law 1858 = .ok (.aload_n 0, 1) := dk_42 (dk_at dksL_law_74 6 rfl rfl)
theorem dL_law_1859 : decode cL_law 1859 = .ok (.iload 5, 2) := dk_21 5 (dk_at dksL_law_74 7 rfl rfl)
theorem dL_law_1861 : decode cL_law 1861 = .ok (.iconst 1, 1) := dk_4 (dk_at dksL_law_74 9 rfl rfl)
theorem dL_law_1862 : decode cL_law 1862 = .ok (.iadd, 1) := dk_96 (dk_at dksL_law_74 10 rfl rfl)
theorem dL_law_1863 : decode cL_law 1863 = .ok (.iaload, 1) := dk_46 (dk_at dksL_law_74 11 rfl rfl)
theorem dL_law_1864 : decode cL_law 1864 = .ok (.invokevirtual 232, 3) := dk_182 0 232 (dk_at dksL_law_74 12 rfl rfl)
theorem dL_law_1867 : decode cL_law 1867 = .ok (.istore 7, 2) := dk_54 7 (dk_at dksL_law_74 15 rfl rfl)
theorem dL_law_1869 : decode cL_law 1869 = .ok (.aload_n 2, 1) := dk_44 (dk_at dksL_law_74 17 rfl rfl)
theorem dL_law_1870 : decode cL_law 1870 = .ok (.invokevirtual 136, 3) := dk_182 0 136 (dk_at dksL_law_74 18 rfl rfl)
theorem dL_law_1873 : decode cL_law 1873 = .ok (.iload 6, 2) := dk_21 6 (dk_at dksL_law_74 21 rfl rfl)
theorem dL_law_1875 : decode cL_law 1875 = .ok (.if_icmp .eq 5, 3) := dk_159 0 5 (dk_at dksL_law_75 0 rfl rfl)
theorem dL_law_1878 : decode cL_law 1878 = .ok (.iconst 0, 1) := dk_3 (dk_at dksL_law_75 3 rfl rfl)
theorem dL_law_1879 : decode cL_law 1879 = .ok (.ireturn, 1) := dk_172 (dk_at dksL_law_75 4 rfl rfl)
theorem dL_law_1880 : decode cL_law 1880 = .ok (.iload 6, 2) := dk_21 6 (dk_at dksL_law_75 5 rfl rfl)
theorem dL_law_1882 : decode cL_law 1882 = .ok (.ifCond .ne 15, 3) := dk_154 0 15 (dk_at dksL_law_75 7 rfl rfl)
theorem dL_law_1885 : decode cL_law 1885 = .ok (.aload_n 3, 1) := dk_45 (dk_at dksL_law_75 10 rfl rfl)
theorem dL_law_1886 : decode cL_law 1886 = .ok (.iconst 0, 1) := dk_3 (dk_at dksL_law_75 11 rfl rfl)
theorem dL_law_1887 : decode cL_law 1887 = .ok (.laload, 1) := dk_47 (dk_at dksL_law_75 12 rfl rfl)
theorem dL_law_1888 : decode cL_law 1888 = .ok (.iload 7, 2) := dk_21 7 (dk_at dksL_law_75 13 rfl rfl)
theorem dL_law_1890 : decode cL_law 1890 = .ok (.i2l, 1) := dk_133 (dk_at dksL_law_75 15 rfl rfl)
theorem dL_law_1891 : decode cL_law 1891 = .ok (.lcmp, 1) := dk_148 (dk_at dksL_law_75 16 rfl rfl)
theorem dL_law_1892 : decode cL_law 1892 = .ok (.ifCond .eq 5, 3) := dk_153 0 5 (dk_at dksL_law_75 17 rfl rfl)
theorem dL_law_1895 : decode cL_law 1895 = .ok (.iconst 0, 1) := dk_3 (dk_at dksL_law_75 20 rfl rfl)
theorem dL_law_1896 : decode cL_law 1896 = .ok (.ireturn, 1) := dk_172 (dk_at dksL_law_75 21 rfl rfl)
theorem dL_law_1897 : decode cL_law 1897 = .ok (.goto 365, 3) := dk_167 1 109 (dk_at dksL_law_76 0 rfl rfl)
theorem dL_law_1900 : decode cL_law 1900 = .ok (.aload_n 1, 1) := dk_43 (dk_at dksL_law_76 3 rfl rfl)
theorem dL_law_1901 : decode cL_law 1901 = .ok (.aload_n 0, 1) := dk_42 (dk_at dksL_law_76 4 rfl rfl)
theorem dL_law_1902 : decode cL_law 1902 = .ok (.iload 5, 2) := dk_21 5 (dk_at dksL_law_76 5 rfl rfl)
theorem dL_law_1904 : decode cL_law 1904 = .ok (.iconst 1, 1) := dk_4 (dk_at dksL_law_76 7 rfl rfl)
theorem dL_law_1905 : decode cL_law 1905 = .ok (.iadd, 1) := dk_96 (dk_at dksL_law_76 8 rfl rfl)
theorem dL_law_1906 : decode cL_law 1906 = .ok (.iaload, 1) := dk_46 (dk_at dksL_law_76 9 rfl rfl)
theorem dL_law_1907 : decode cL_law 1907 = .ok (.aload_n 3, 1) := dk_45 (dk_at dksL_law_76 10 rfl rfl)
theorem dL_law_1908 : decode cL_law 1908 = .ok (.invokestatic 233, 3) := dk_184 0 233 (dk_at dksL_law_76 11 rfl rfl)
theorem dL_law_1911 : decode cL_law 1911 = .ok (.istore 6, 2) := dk_54 6 (dk_at dksL_law_76 14 rfl rfl)
theorem dL_law_1913 : decode cL_law 1913 = .ok (.aload_n 2, 1) := dk_44 (dk_at dksL_law_76 16 rfl rfl)
theorem dL_law_1914 : decode cL_law 1914 = .ok (.aload_n 0, 1) := dk_42 (dk_at dksL_law_76 17 rfl rfl)
theorem dL_law_1915 : decode cL_law 1915 = .ok (.iload 5, 2) := dk_21 5 (dk_at dksL_law_76 18 rfl rfl)
theorem dL_law_1917 : decode cL_law 1917 = .ok (.iconst 1, 1) := dk_4 (dk_at dksL_law_76 20 rfl rfl)
theorem dL_law_1918 : decode cL_law 1918 = .ok (.iadd, 1) := dk_96 (dk_at dksL_law_76 21 rfl rfl)
theorem dL_law_1919 : decode cL_law 1919 = .ok (.iaload, 1) := dk_46 (dk_at dksL_law_76 22 rfl rfl)
theorem dL_law_1920 : decode cL_law 1920 = .ok (.invokevirtual 235, 3) := dk_182 0 235 (dk_at dksL_law_77 0 rfl rfl)
theorem dL_law_1923 : decode cL_law 1923 = .ok (.istore 7, 2) := dk_54 7 (dk_at dksL_law_77 3 rfl rfl)
theorem dL_law_1925 : decode cL_law 1925 = .ok (.aload_n 2, 1) := dk_44 (dk_at dksL_law_77 5 rfl rfl)
theorem dL_law_1926 : decode cL_law 1926 = .ok (.invokevirtual 136, 3) := dk_182 0 136 (dk_at dksL_law_77 6 rfl rfl)
theorem dL_law_1929 : decode cL_law 1929 = .ok (.iload 6, 2) := dk_21 6 (dk_at dksL_law_77 9 rfl rfl)
theorem dL_law_1931 : decode cL_law 1931 = .ok (.if_icmp .eq 5, 3) := dk_159 0 5 (dk_at dksL_law_77 11 rfl rfl)
theorem dL_law_1934 : decode cL_law 1934 = .ok (.iconst 0, 1) := dk_3 (dk_at dksL_law_77 14 rfl rfl)
theorem dL_law_1935 : decode cL_law 1935 = .ok (.ireturn, 1) := dk_172 (dk_at dksL_law_77 15 rfl rfl)
theorem dL_law_1936 : decode cL_law 1936 = .ok (.iload 6, 2) := dk_21 6 (dk_at dksL_law_77 16 rfl rfl)
theorem dL_law_1938 : decode cL_law 1938 = .ok (.ifCond .ne 15, 3) := dk_154 0 15 (dk_at dksL_law_77 18 rfl rfl)
theorem dL_law_1941 : decode cL_law 1941 = .ok (.aload_n 3, 1) := dk_45 (dk_at dksL_law_77 21 rfl rfl)
theorem dL_law_1942 : decode cL_law 1942 = .ok (.iconst 0, 1) := dk_3 (dk_at dksL_law_77 22 rfl rfl)
theorem dL_law_1943 : decode cL_law 1943 = .ok (.laload, 1) := dk_47 (dk_at dksL_law_77 23 rfl rfl)
theorem dL_law_1944 : decode cL_law 1944 = .ok (.iload 7, 2) := dk_21 7 (dk_at dksL_law_78 0 rfl rfl)
theorem dL_law_1946 : decode cL_law 1946 = .ok (.i2l, 1) := dk_133 (dk_at dksL_law_78 2 rfl rfl)
theorem dL_law_1947 : decode cL_law 1947 = .ok (.lcmp, 1) := dk_148 (dk_at dksL_law_78 3 rfl rfl)
theorem dL_law_1948 : decode cL_law 1948 = .ok (.ifCond .eq 5, 3) := dk_153 0 5 (dk_at dksL_law_78 4 rfl rfl)
theorem dL_law_1951 : decode cL_law 1951 = .ok (.iconst 0, 1) := dk_3 (dk_at dksL_law_78 7 rfl rfl)
theorem dL_law_1952 : decode cL_law 1952 = .ok (.ireturn, 1) := dk_172 (dk_at dksL_law_78 8 rfl rfl)
theorem dL_law_1953 : decode cL_law 1953 = .ok (.goto 309, 3) := dk_167 1 53 (dk_at dksL_law_78 9 rfl rfl)
theorem dL_law_1956 : decode cL_law 1956 = .ok (.aload_n 1, 1) := dk_43 (dk_at dksL_law_78 12 rfl rfl)
theorem dL_law_1957 : decode cL_law 1957 = .ok (.aload_n 0, 1) := dk_42 (dk_at dksL_law_78 13 rfl rfl)
theorem dL_law_1958 : decode cL_law 1958 = .ok (.iload 5, 2) := dk_21 5 (dk_at dksL_law_78 14 rfl rfl)
theorem dL_law_1960 : decode cL_law 1960 = .ok (.iconst 1, 1) := dk_4 (dk_at dksL_law_78 16 rfl rfl)
theorem dL_law_1961 : decode cL_law 1961 = .ok (.iadd, 1) := dk_96 (dk_at dksL_law_78 17 rfl rfl)
theorem dL_law_1962 : decode cL_law 1962 = .ok (.iaload, 1) := dk_46 (dk_at dksL_law_78 18 rfl rfl)
theorem dL_law_1963 : decode cL_law 1963 = .ok (.aload_n 0, 1) := dk_42 (dk_at dksL_law_78 19 rfl rfl)
theorem dL_law_1964 : decode cL_law 1964 = .ok (.iload 5, 2) := dk_21 5 (dk_at dksL_law_78 20 rfl rfl)
theorem dL_law_1966 : decode cL_law 1966 = .ok (.iconst 2, 1) := dk_5 (dk_at dksL_law_78 22 rfl rfl)
theorem dL_law_1967 : decode cL_law 1967 = .ok (.iadd, 1) := dk_96 (dk_at dksL_law_78 23 rfl rfl)
theorem dL_law_1968 : decode cL_law 1968 = .ok (.iaload, 1) := dk_46 (dk_at dksL_law_79 0 rfl rfl)
theorem dL_law_1969 : decode cL_law 1969 = .ok (.aload_n 0, 1) := dk_42 (dk_at dksL_law_79 1 rfl rfl)
theorem dL_law_1970 : decode cL_law 1970 = .ok (.iload 5, 2) := dk_21 5 (dk_at dksL_law_79 2 rfl rfl)
theorem dL_law_1972 : decode cL_law 1972 = .ok (.iconst 3, 1) := dk_6 (dk_at dksL_law_79 4 rfl rfl)
theorem dL_law_1973 : decode cL_law 1973 = .ok (.iadd, 1) := dk_96 (dk_at dksL_law_79 5 rfl rfl)
theorem dL_law_1974 : decode cL_law 1974 = .ok (.iaload, 1) := dk_46 (dk_at dksL_law_79 6 rfl rfl)
theorem dL_law_1975 : decode cL_law 1975 = .ok (.aload_n 3, 1) := dk_45 (dk_at dksL_law_79 7 rfl rfl)
theorem dL_law_1976 : decode cL_law 1976 = .ok (.invokestatic 236, 3) := dk_184 0 236 (dk_at dksL_law_79 8 rfl rfl)
theorem dL_law_1979 : decode cL_law 1979 = .ok (.istore 6, 2) := dk_54 6 (dk_at dksL_law_79 11 rfl rfl)
theorem dL_law_1981 : decode cL_law 1981 = .ok (.aload_n 2, 1) := dk_44 (dk_at dksL_law_79 13 rfl rfl)
theorem dL_law_1982 : decode cL_law 1982 = .ok (.aload_n 0, 1) := dk_42 (dk_at dksL_law_79 14 rfl rfl)
theorem dL_law_1983 : decode cL_law 1983 = .ok (.iload 5, 2) := dk_21 5 (dk_at dksL_law_79 15 rfl rfl)
theorem dL_law_1985 : decode cL_law 1985 = .ok (.iconst 1, 1) := dk_4 (dk_at dksL_law_79 17 rfl rfl)
theorem dL_law_1986 : decode cL_law 1986 = .ok (.iadd, 1) := dk_96 (dk_at dksL_law_79 18 rfl rfl)
theorem dL_law_1987 : decode cL_law 1987 = .ok (.iaload, 1) := dk_46 (dk_at dksL_law_79 19 rfl rfl)
theorem dL_law_1988 : decode cL_law 1988 = .ok (.aload_n 0, 1) := dk_42 (dk_at dksL_law_79 20 rfl rfl)
theorem dL_law_1989 : decode cL_law 1989 = .ok (.iload 5, 2) := dk_21 5 (dk_at dksL_law_79 21 rfl rfl)
theorem dL_law_1991 : decode cL_law 1991 = .ok (.iconst 2, 1) := dk_5 (dk_at dksL_law_79 23 rfl rfl)
theorem dL_law_1992 : decode cL_law 1992 = .ok (.iadd, 1) := dk_96 (dk_at dksL_law_80 0 rfl rfl)
theorem dL_law_1993 : decode cL_law 1993 = .ok (.iaload, 1) := dk_46 (dk_at dksL_law_80 1 rfl rfl)
theorem dL_law_1994 : decode cL_law 1994 = .ok (.aload_n 0, 1) := dk_42 (dk_at dksL_law_80 2 rfl rfl)
theorem dL_law_1995 : decode cL_law 1995 = .ok (.iload 5, 2) := dk_21 5 (dk_at dksL_law_80 3 rfl rfl)
theorem dL_law_1997 : decode cL_law 1997 = .ok (.iconst 3, 1) := dk_6 (dk_at dksL_law_80 5 rfl rfl)
theorem dL_law_1998 : decode cL_law 1998 = .ok (.iadd, 1) := dk_96 (dk_at dksL_law_80 6 rfl rfl)
theorem dL_law_1999 : decode cL_law 1999 = .ok (.iaload, 1) := dk_46 (dk_at dksL_law_80 7 rfl rfl)
theorem dL_law_2000 : decode cL_law 2000 = .ok (.invokevirtual 238, 3) := dk_182 0 238 (dk_at dksL_law_80 8 rfl rfl)
theorem dL_law_2003 : decode cL_law 2003 = .ok (.istore 7, 2) := dk_54 7 (dk_at dksL_law_80 11 rfl rfl)
theorem dL_law_2005 : decode cL_law 2005 = .ok (.aload_n 2, 1) := dk_44 (dk_at dksL_law_80 13 rfl rfl)
theorem dL_law_2006 : decode cL_law 2006 = .ok (.invokevirtual 136, 3) := dk_182 0 136 (dk_at dksL_law_80 14 rfl rfl)
theorem dL_law_2009 : decode cL_law 2009 = .ok (.iload 6, 2) := dk_21 6 (dk_at dksL_law_80 17 rfl rfl)
theorem dL_law_2011 : decode cL_law 2011 = .ok (.if_icmp .eq 5, 3) := dk_159 0 5 (dk_at dksL_law_80 19 rfl rfl)
theorem dL_law_2014 : decode cL_law 2014 = .ok (.iconst 0, 1) := dk_3 (dk_at dksL_law_80 22 rfl rfl)
theorem dL_law_2015 : decode cL_law 2015 = .ok (.ireturn, 1) := dk_172 (dk_at dksL_law_80 23 rfl rfl)
theorem dL_law_2016 : decode cL_law 2016 = .ok (.iload 6, 2) := dk_21 6 (dk_at dksL_law_81 0 rfl rfl)
theorem dL_law_2018 : decode cL_law 2018 = .ok (.ifCond .ne 15, 3) := dk_154 0 15 (dk_at dksL_law_81 2 rfl rfl)
theorem dL_law_2021 : decode cL_law 2021 = .ok (.aload_n 3, 1) := dk_45 (dk_at dksL_law_81 5 rfl rfl)
theorem dL_law_2022 : decode cL_law 2022 = .ok (.iconst 0, 1) := dk_3 (dk_at dksL_law_81 6 rfl rfl)
theorem dL_law_2023 : decode cL_law 2023 = .ok (.laload, 1) := dk_47 (dk_at dksL_law_81 7 rfl rfl)
theorem dL_law_2024 : decode cL_law 2024 = .ok (.iload 7, 2) := dk_21 7 (dk_at dksL_law_81 8 rfl rfl)
theorem dL_law_2026 : decode cL_law 2026 = .ok (.i2l, 1) := dk_133 (dk_at dksL_law_81 10 rfl rfl)
theorem dL_law_2027 : decode cL_law 2027 = .ok (.lcmp, 1) := dk_148 (dk_at dksL_law_81 11 rfl rfl)
theorem dL_law_2028 : decode cL_law 2028 = .ok (.ifCond .eq 5, 3) := dk_153 0 5 (dk_at dksL_law_81 12 rfl rfl)
theorem dL_law_2031 : decode cL_law 2031 = .ok (.iconst 0, 1) := dk_3 (dk_at dksL_law_81 15 rfl rfl)
theorem dL_law_2032 : decode cL_law 2032 = .ok (.ireturn, 1) := dk_172 (dk_at dksL_law_81 16 rfl rfl)
theorem dL_law_2033 : decode cL_law 2033 = .ok (.goto 229, 3) := dk_167 0 229 (dk_at dksL_law_81 17 rfl rfl)
theorem dL_law_2036 : decode cL_law 2036 = .ok (.aload_n 1, 1) := dk_43 (dk_at dksL_law_81 20 rfl rfl)
theorem dL_law_2037 : decode cL_law 2037 = .ok (.aload_n 0, 1) := dk_42 (dk_at dksL_law_81 21 rfl rfl)
theorem dL_law_2038 : decode cL_law 2038 = .ok (.iload 5, 2) := dk_21 5 (dk_at dksL_law_81 22 rfl rfl)
theorem dL_law_2040 : decode cL_law 2040 = .ok (.iconst 1, 1) := dk_4 (dk_at dksL_law_82 0 rfl rfl)
theorem dL_law_2041 : decode cL_law 2041 = .ok (.iadd, 1) := dk_96 (dk_at dksL_law_82 1 rfl rfl)
theorem dL_law_2042 : decode cL_law 2042 = .ok (.iaload, 1) := dk_46 (dk_at dksL_law_82 2 rfl rfl)
theorem dL_law_2043 : decode cL_law 2043 = .ok (.aload_n 0, 1) := dk_42 (dk_at dksL_law_82 3 rfl rfl)
theorem dL_law_2044 : decode cL_law 2044 = .ok (.iload 5, 2) := dk_21 5 (dk_at dksL_law_82 4 rfl rfl)
theorem dL_law_2046 : decode cL_law 2046 = .ok (.iconst 2, 1) := dk_5 (dk_at dksL_law_82 6 rfl rfl)
theorem dL_law_2047 : decode cL_law 2047 = .ok (.iadd, 1) := dk_96 (dk_at dksL_law_82 7 rfl rfl)
theorem dL_law_2048 : decode cL_law 2048 = .ok (.iaload, 1) := dk_46 (dk_at dksL_law_82 8 rfl rfl)
theorem dL_law_2049 : decode cL_law 2049 = .ok (.aload_n 3, 1) := dk_45 (dk_at dksL_law_82 9 rfl rfl)
theorem dL_law_2050 : decode cL_law 2050 = .ok (.invokestatic 239, 3) := dk_184 0 239 (dk_at dksL_law_82 10 rfl rfl)
theorem dL_law_2053 : decode cL_law 2053 = .ok (.istore 6, 2) := dk_54 6 (dk_at dksL_law_82 13 rfl rfl)
theorem dL_law_2055 : decode cL_law 2055 = .ok (.aload_n 2, 1) := dk_44 (dk_at dksL_law_82 15 rfl rfl)
theorem dL_law_2056 : decode cL_law 2056 = .ok (.aload_n 0, 1) := dk_42 (dk_at dksL_law_82 16 rfl rfl)
theorem dL_law_2057 : decode cL_law 2057 = .ok (.iload 5, 2) := dk_21 5 (dk_at dksL_law_82 17 rfl rfl)
theorem dL_law_2059 : decode cL_law 2059 = .ok (.iconst 1, 1) := dk_4 (dk_at dksL_law_82 19 rfl rfl)
theorem dL_law_2060 : decode cL_law 2060 = .ok (.iadd, 1) := dk_96 (dk_at dksL_law_82 20 rfl rfl)
theorem dL_law_2061 : decode cL_law 2061 = .ok (.iaload, 1) := dk_46 (dk_at dksL_law_82 21 rfl rfl)
theorem dL_law_2062 : decode cL_law 2062 = .ok (.aload_n 0, 1) := dk_42 (dk_at dksL_law_82 22 rfl rfl)
theorem dL_law_2063 : decode cL_law 2063 = .ok (.iload 5, 2) := dk_21 5 (dk_at dksL_law_83 0 rfl rfl)
theorem dL_law_2065 : decode cL_law 2065 = .ok (.iconst 2, 1) := dk_5 (dk_at dksL_law_83 2 rfl rfl)
theorem dL_law_2066 : decode cL_law 2066 = .ok (.iadd, 1) := dk_96 (dk_at dksL_law_83 3 rfl rfl)
theorem dL_law_2067 : decode cL_law 2067 = .ok (.iaload, 1) := dk_46 (dk_at dksL_law_83 4 rfl rfl)
theorem dL_law_2068 : decode cL_law 2068 = .ok (.invokevirtual 241, 3) := dk_182 0 241 (dk_at dksL_law_83 5 rfl rfl)
theorem dL_law_2071 : decode cL_law 2071 = .ok (.istore 7, 2) := dk_54 7 (dk_at dksL_law_83 8 rfl rfl)
theorem dL_law_2073 : decode cL_law 2073 = .ok (.aload_n 2, 1) := dk_44 (dk_at dksL_law_83 10 rfl rfl)
theorem dL_law_2074 : decode cL_law 2074 = .ok (.invokevirtual 136, 3) := dk_182 0 136 (dk_at dksL_law_83 11 rfl rfl)
theorem dL_law_2077 : decode cL_law 2077 = .ok (.iload 6, 2) := dk_21 6 (dk_at dksL_law_83 14 rfl rfl)
theorem dL_law_2079 : decode cL_law 2079 = .ok (.if_icmp .eq 5, 3) := dk_159 0 5 (dk_at dksL_law_83 16 rfl rfl)
theorem dL_law_2082 : decode cL_law 2082 = .ok (.iconst 0, 1) := dk_3 (dk_at dksL_law_83 19 rfl rfl)
theorem dL_law_2083 : decode cL_law 2083 = .ok (.ireturn, 1) := dk_172 (dk_at dksL_law_83 20 rfl rfl)
theorem dL_law_2084 : decode cL_law 2084 = .ok (.iload 6, 2) := dk_21 6 (dk_at dksL_law_83 21 rfl rfl)
theorem dL_law_2086 : decode cL_law 2086 = .ok (.ifCond .ne 15, 3) := dk_154 0 15 (dk_at dksL_law_84 0 rfl rfl)
theorem dL_law_2089 : decode cL_law 2089 = .ok (.aload_n 3, 1) := dk_45 (dk_at dksL_law_84 3 rfl rfl)
theorem dL_law_2090 : decode cL_law 2090 = .ok (.iconst 0, 1) := dk_3 (dk_at dksL_law_84 4 rfl rfl)
theorem dL_law_2091 : decode cL_law 2091 = .ok (.laload, 1) := dk_47 (dk_at dksL_law_84 5 rfl rfl)
theorem dL_law_2092 : decode cL_law 2092 = .ok (.iload 7, 2) := dk_21 7 (dk_at dksL_law_84 6 rfl rfl)
theorem dL_law_2094 : decode cL_law 2094 = .ok (.i2l, 1) := dk_133 (dk_at dksL_law_84 8 rfl rfl)
theorem dL_law_2095 : decode cL_law 2095 = .ok (.lcmp, 1) := dk_148 (dk_at dksL_law_84 9 rfl rfl)
theorem dL_law_2096 : decode cL_law 2096 = .ok (.ifCond .eq 5, 3) := dk_153 0 5 (dk_at dksL_law_84 10 rfl rfl)
theorem dL_law_2099 : decode cL_law 2099 = .ok (.iconst 0, 1) := dk_3 (dk_at dksL_law_84 13 rfl rfl)
theorem dL_law_2100 : decode cL_law 2100 = .ok (.ireturn, 1) := dk_172 (dk_at dksL_law_84 14 rfl rfl)
theorem dL_law_2101 : decode cL_law 2101 = .ok (.goto 161, 3) := dk_167 0 161 (dk_at dksL_law_84 15 rfl rfl)
theorem dL_law_2104 : decode cL_law 2104 = .ok (.aload_n 1, 1) := dk_43 (dk_at dksL_law_84 18 rfl rfl)
theorem dL_law_2105 : decode cL_law 2105 = .ok (.aload 4, 2) := dk_25 4 (dk_at dksL_law_84 19 rfl rfl)
theorem dL_law_2107 : decode cL_law 2107 = .ok (.invokestatic 242, 3) := dk_184 0 242 (dk_at dksL_law_84 21 rfl rfl)
theorem dL_law_2110 : decode cL_law 2110 = .ok (.istore 6, 2) := dk_54 6 (dk_at dksL_law_85 0 rfl rfl)
theorem dL_law_2112 : decode cL_law 2112 = .ok (.aload_n 2, 1) := dk_44 (dk_at dksL_law_85 2 rfl rfl)
theorem dL_law_2113 : decode cL_law 2113 = .ok (.invokevirtual 245, 3) := dk_182 0 245 (dk_at dksL_law_85 3 rfl rfl)
theorem dL_law_2116 : decode cL_law 2116 = .ok (.fstore 7, 2) := dk_56 7 (dk_at dksL_law_85 6 rfl rfl)
theorem dL_law_2118 : decode cL_law 2118 = .ok (.aload_n 2, 1) := dk_44 (dk_at dksL_law_85 8 rfl rfl)
theorem dL_law_2119 : decode cL_law 2119 = .ok (.invokevirtual 136, 3) := dk_182 0 136 (dk_at dksL_law_85 9 rfl rfl)
theorem dL_law_2122 : decode cL_law 2122 = .ok (.iload 6, 2) := dk_21 6 (dk_at dksL_law_85 12 rfl rfl)
theorem dL_law_2124 : decode cL_law 2124 = .ok (.if_icmp .eq 5, 3) := dk_159 0 5 (dk_at dksL_law_85 14 rfl rfl)
theorem dL_law_2127 : decode cL_law 2127 = .ok (.iconst 0, 1) := dk_3 (dk_at dksL_law_85 17 rfl rfl)
theorem dL_law_2128 : decode cL_law 2128 = .ok (.ireturn, 1) := dk_172 (dk_at dksL_law_85 18 rfl rfl)
theorem dL_law_2129 : decode cL_law 2129 = .ok (.iload 6, 2) := dk_21 6 (dk_at dksL_law_85 19 rfl rfl)
theorem dL_law_2131 : decode cL_law 2131 = .ok (.ifCond .ne 36, 3) := dk_154 0 36 (dk_at dksL_law_85 21 rfl rfl)
theorem dL_law_2134 : decode cL_law 2134 = .ok (.aload 4, 2) := dk_25 4 (dk_at dksL_law_86 0 rfl rfl)
theorem dL_law_2136 : decode cL_law 2136 = .ok (.iconst 0, 1) := dk_3 (dk_at dksL_law_86 2 rfl rfl)
theorem dL_law_2137 : decode cL_law 2137 = .ok (.daload, 1) := dk_49 (dk_at dksL_law_86 3 rfl rfl)
theorem dL_law_2138 : decode cL_law 2138 = .ok (.fload 7, 2) := dk_23 7 (dk_at dksL_law_86 4 rfl rfl)
theorem dL_law_2140 : decode cL_law 2140 = .ok (.f2d, 1) := dk_141 (dk_at dksL_law_86 6 rfl rfl)
theorem dL_law_2141 : decode cL_law 2141 = .ok (.dcmp .l, 1) := dk_151 (dk_at dksL_law_86 7 rfl rfl)
theorem dL_law_2142 : decode cL_law 2142 = .ok (.ifCond .eq 25, 3) := dk_153 0 25 (dk_at dksL_law_86 8 rfl rfl)
theorem dL_law_2145 : decode cL_law 2145 = .ok (.aload 4, 2) := dk_25 4 (dk_at dksL_law_86 11 rfl rfl)
theorem dL_law_2147 : decode cL_law 2147 = .ok (.iconst 0, 1) := dk_3 (dk_at dksL_law_86 13 rfl rfl)
theorem dL_law_2148 : decode cL_law 2148 = .ok (.daload, 1) := dk_49 (dk_at dksL_law_86 14 rfl rfl)
theorem dL_law_2149 : decode cL_law 2149 = .ok (.aload 4, 2) := dk_25 4 (dk_at dksL_law_86 15 rfl rfl)
theorem dL_law_2151 : decode cL_law 2151 = .ok (.iconst 0, 1) := dk_3 (dk_at dksL_law_86 17 rfl rfl)
theorem dL_law_2152 : decode cL_law 2152 = .ok (.daload, 1) := dk_49 (dk_at dksL_law_86 18 rfl rfl)
theorem dL_law_2153 : decode cL_law 2153 = .ok (.dcmp .l, 1) := dk_151 (dk_at dksL_law_86 19 rfl rfl)
theorem dL_law_2154 : decode cL_law 2154 = .ok (.ifCond .eq 11, 3) := dk_153 0 11 (dk_at dksL_law_86 20 rfl rfl)
theorem dL_law_2157 : decode cL_law 2157 = .ok (.fload 7, 2) := dk_23 7 (dk_at dksL_law_87 0 rfl rfl)
theorem dL_law_2159 : decode cL_law 2159 = .ok (.fload 7, 2) := dk_23 7 (dk_at dksL_law_87 2 rfl rfl)
theorem dL_law_2161 : decode cL_law 2161 = .ok (.fcmp .l, 1) := dk_149 (dk_at dksL_law_87 4 rfl rfl)
theorem dL_law_2162 : decode cL_law 2162 = .ok (.ifCond .ne 5, 3) := dk_154 0 5 (dk_at dksL_law_87 5 rfl rfl)
theorem dL_law_2165 : decode cL_law 2165 = .ok (.iconst 0, 1) := dk_3 (dk_at dksL_law_87 8 rfl rfl)
theorem dL_law_2166 : decode cL_law 2166 = .ok (.ireturn, 1) := dk_172 (dk_at dksL_law_87 9 rfl rfl)
theorem dL_law_2167 : decode cL_law 2167 = .ok (.goto 95, 3) := dk_167 0 95 (dk_at dksL_law_87 10 rfl rfl)
theorem dL_law_2170 : decode cL_law 2170 = .ok (.aload_n 1, 1) := dk_43 (dk_at dksL_law_87 13 rfl rfl)
theorem dL_law_2171 : decode cL_law 2171 = .ok (.aload 4, 2) := dk_25 4 (dk_at dksL_law_87 14 rfl rfl)
theorem dL_law_2173 : decode cL_law 2173 = .ok (.invokestatic 246, 3) := dk_184 0 246 (dk_at dksL_law_87 16 rfl rfl)
theorem dL_law_2176 : decode cL_law 2176 = .ok (.istore 6, 2) := dk_54 6 (dk_at dksL_law_87 19 rfl rfl)
theorem dL_law_2178 : decode cL_law 2178 = .ok (.aload_n 2, 1) := dk_44 (dk_at dksL_law_87 21 rfl rfl)
theorem dL_law_2179 : decode cL_law 2179 = .ok (.invokevirtual 248, 3) := dk_182 0 248 (dk_at dksL_law_88 0 rfl rfl)
theorem dL_law_2182 : decode cL_law 2182 = .ok (.dstore 7, 2) := dk_57 7 (dk_at dksL_law_88 3 rfl rfl)
theorem dL_law_2184 : decode cL_law 2184 = .ok (.aload_n 2, 1) := dk_44 (dk_at dksL_law_88 5 rfl rfl)
theorem dL_law_2185 : decode cL_law 2185 = .ok (.invokevirtual 136, 3) := dk_182 0 136 (dk_at dksL_law_88 6 rfl rfl)
theorem dL_law_2188 : decode cL_law 2188 = .ok (.iload 6, 2) := dk_21 6 (dk_at dksL_law_88 9 rfl rfl)
theorem dL_law_2190 : decode cL_law 2190 = .ok (.if_icmp .eq 5, 3) := dk_159 0 5 (dk_at dksL_law_88 11 rfl rfl)
theorem dL_law_2193 : decode cL_law 2193 = .ok (.iconst 0, 1) := dk_3 (dk_at dksL_law_88 14 rfl rfl)
theorem dL_law_2194 : decode cL_law 2194 = .ok (.ireturn, 1) := dk_172 (dk_at dksL_law_88 15 rfl rfl)
theorem dL_law_2195 : decode cL_law 2195 = .ok (.iload 6, 2) := dk_21 6 (dk_at dksL_law_88 16 rfl rfl)
theorem dL_law_2197 : decode cL_law 2197 = .ok (.ifCond .ne 35, 3) := dk_154 0 35 (dk_at dksL_law_88 18 rfl rfl)
theorem dL_law_2200 : decode cL_law 2200 = .ok (.aload 4, 2) := dk_25 4 (dk_at dksL_law_88 21 rfl rfl)
theorem dL_law_2202 : decode cL_law 2202 = .ok (.iconst 0, 1) := dk_3 (dk_at dksL_law_88 23 rfl rfl)
theorem dL_law_2203 : decode cL_law 2203 = .ok (.daload, 1) := dk_49 (dk_at dksL_law_89 0 rfl rfl)
theorem dL_law_2204 : decode cL_law 2204 = .ok (.dload 7, 2) := dk_24 7 (dk_at dksL_law_89 1 rfl rfl)
theorem dL_law_2206 : decode cL_law 2206 = .ok (.dcmp .l, 1) := dk_151 (dk_at dksL_law_89 3 rfl rfl)
theorem dL_law_2207 : decode cL_law 2207 = .ok (.ifCond .eq 25, 3) := dk_153 0 25 (dk_at dksL_law_89 4 rfl rfl)
theorem dL_law_2210 : decode cL_law 2210 = .ok (.aload 4, 2) := dk_25 4 (dk_at dksL_law_89 7 rfl rfl)
theorem dL_law_2212 : decode cL_law 2212 = .ok (.iconst 0, 1) := dk_3 (dk_at dksL_law_89 9 rfl rfl)
theorem dL_law_2213 : decode cL_law 2213 = .ok (.daload, 1) := dk_49 (dk_at dksL_law_89 10 rfl rfl)
theorem dL_law_2214 : decode cL_law 2214 = .ok (.aload 4, 2) := dk_25 4 (dk_at dksL_law_89 11 rfl rfl)
theorem dL_law_2216 : decode cL_law 2216 = .ok (.iconst 0, 1) := dk_3 (dk_at dksL_law_89 13 rfl rfl)
theorem dL_law_2217 : decode cL_law 2217 = .ok (.daload, 1) := dk_49 (dk_at dksL_law_89 14 rfl rfl)
theorem dL_law_2218 : decode cL_law 2218 = .ok (.dcmp .l, 1) := dk_151 (dk_at dksL_law_89 15 rfl rfl)
theorem dL_law_2219 : decode cL_law 2219 = .ok (.ifCond .eq 11, 3) := dk_153 0 11 (dk_at dksL_law_89 16 rfl rfl)
theorem dL_law_2222 : decode cL_law 2222 = .ok (.dload 7, 2) := dk_24 7 (dk_at dksL_law_89 19 rfl rfl)
theorem dL_law_2224 : decode cL_law 2224 = .ok (.dload 7, 2) := dk_24 7 (dk_at dksL_law_89 21 rfl rfl)
theorem dL_law_2226 : decode cL_law 2226 = .ok (.dcmp .l, 1) := dk_151 (dk_at dksL_law_89 23 rfl rfl)
theorem dL_law_2227 : decode cL_law 2227 = .ok (.ifCond .ne 5, 3) := dk_154 0 5 (dk_at dksL_law_90 0 rfl rfl)
theorem dL_law_2230 : decode cL_law 2230 = .ok (.iconst 0, 1) := dk_3 (dk_at dksL_law_90 3 rfl rfl)
theorem dL_law_2231 : decode cL_law 2231 = .ok (.ireturn, 1) := dk_172 (dk_at dksL_law_90 4 rfl rfl)
theorem dL_law_2232 : decode cL_law 2232 = .ok (.goto 30, 3) := dk_167 0 30 (dk_at dksL_law_90 5 rfl rfl)
theorem dL_law_2235 : decode cL_law 2235 = .ok (.aload_n 1, 1) := dk_43 (dk_at dksL_law_90 8 rfl rfl)
theorem dL_law_2236 : decode cL_law 2236 = .ok (.invokevirtual 249, 3) := dk_182 0 249 (dk_at dksL_law_90 9 rfl rfl)
theorem dL_law_2239 : decode cL_law 2239 = .ok (.aload_n 2, 1) := dk_44 (dk_at dksL_law_90 12 rfl rfl)
theorem dL_law_2240 : decode cL_law 2240 = .ok (.invokevirtual 253, 3) := dk_182 0 253 (dk_at dksL_law_90 13 rfl rfl)
theorem dL_law_2243 : decode cL_law 2243 = .ok (.lcmp, 1) := dk_148 (dk_at dksL_law_90 16 rfl rfl)
theorem dL_law_2244 : decode cL_law 2244 = .ok (.ifCond .eq 18, 3) := dk_153 0 18 (dk_at dksL_law_90 17 rfl rfl)
theorem dL_law_2247 : decode cL_law 2247 = .ok (.iconst 0, 1) := dk_3 (dk_at dksL_law_90 20 rfl rfl)
theorem dL_law_2248 : decode cL_law 2248 = .ok (.ireturn, 1) := dk_172 (dk_at dksL_law_90 21 rfl rfl)
theorem dL_law_2249 : decode cL_law 2249 = .ok (.aload_n 1, 1) := dk_43 (dk_at dksL_law_90 22 rfl rfl)
theorem dL_law_2250 : decode cL_law 2250 = .ok (.invokevirtual 254, 3) := dk_182 0 254 (dk_at dksL_law_91 0 rfl rfl)
theorem dL_law_2253 : decode cL_law 2253 = .ok (.aload_n 2, 1) := dk_44 (dk_at dksL_law_91 3 rfl rfl)
theorem dL_law_2254 : decode cL_law 2254 = .ok (.invokevirtual 258, 3) := dk_182 1 2 (dk_at dksL_law_91 4 rfl rfl)
theorem dL_law_2257 : decode cL_law 2257 = .ok (.if_icmp .eq 5, 3) := dk_159 0 5 (dk_at dksL_law_91 7 rfl rfl)
theorem dL_law_2260 : decode cL_law 2260 = .ok (.iconst 0, 1) := dk_3 (dk_at dksL_law_91 10 rfl rfl)
theorem dL_law_2261 : decode cL_law 2261 = .ok (.ireturn, 1) := dk_172 (dk_at dksL_law_91 11 rfl rfl)
theorem dL_law_2262 : decode cL_law 2262 = .ok (.iinc 5 4, 3) := dk_132 5 4 (dk_at dksL_law_91 12 rfl rfl)
theorem dL_law_2265 : decode cL_law 2265 = .ok (.goto (-2237), 3) := dk_167 247 67 (dk_at dksL_law_91 15 rfl rfl)
theorem dL_law_2268 : decode cL_law 2268 = .ok (.iconst 1, 1) := dk_4 (dk_at dksL_law_91 18 rfl rfl)
theorem dL_law_2269 : decode cL_law 2269 = .ok (.ireturn, 1) := dk_172 (dk_at dksL_law_91 19 rfl rfl)
