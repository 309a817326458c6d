/-! ShorePoolsLaw -/
set_option maxRecDepth 100000
def RX0 : String := "ShorePoolsLaw"
abbrev cX0_addLimpet : ByteArray := method_3_code
def yX0_addLimpet : MethodName := ⟨RX0, "addLimpet", "(LShorePools;I[J)I"⟩
def dkwX0_addLimpet_0 : List UInt8 := [44, 3, 42, 27, 182, 0, 7, 133, 80, 167, 0, 9, 78, 4, 172, 78, 5, 172, 3, 172]
abbrev dktX0_addLimpet_0 : List UInt8 := dkwX0_addLimpet_0 ++ []
theorem dksX0_addLimpet_0 : cX0_addLimpet.data.toList.drop 0 = dktX0_addLimpet_0 := by decide +kernel
theorem dX0_addLimpet_0 : decode cX0_addLimpet 0 = .ok (.aload_n 2, 1) := dk_44 (dk_at dksX0_addLimpet_0 0 rfl rfl)
theorem dX0_addLimpet_1 : decode cX0_addLimpet 1 = .ok (.iconst 0, 1) := dk_3 (dk_at dksX0_addLimpet_0 1 rfl rfl)
theorem dX0_addLimpet_2 : decode cX0_addLimpet 2 = .ok (.aload_n 0, 1) := dk_42 (dk_at dksX0_addLimpet_0 2 rfl rfl)
theorem dX0_addLimpet_3 : decode cX0_addLimpet 3 = .ok (.iload_n 1, 1) := dk_27 (dk_at dksX0_addLimpet_0 3 rfl rfl)
theorem dX0_addLimpet_4 : decode cX0_addLimpet 4 = .ok (.invokevirtual 7, 3) := dk_182 0 7 (dk_at dksX0_addLimpet_0 4 rfl rfl)
theorem dX0_addLimpet_7 : decode cX0_addLimpet 7 = .ok (.i2l, 1) := dk_133 (dk_at dksX0_addLimpet_0 7 rfl rfl)
theorem dX0_addLimpet_8 : decode cX0_addLimpet 8 = .ok (.lastore, 1) := dk_80 (dk_at dksX0_addLimpet_0 8 rfl rfl)
theorem dX0_addLimpet_9 : decode cX0_addLimpet 9 = .ok (.goto 9, 3) := dk_167 0 9 (dk_at dksX0_addLimpet_0 9 rfl rfl)
theorem dX0_addLimpet_12 : decode cX0_addLimpet 12 = .ok (.astore_n 3, 1) := dk_78 (dk_at dksX0_addLimpet_0 12 rfl rfl)
theorem dX0_addLimpet_13 : decode cX0_addLimpet 13 = .ok (.iconst 1, 1) := dk_4 (dk_at dksX0_addLimpet_0 13 rfl rfl)
theorem dX0_addLimpet_14 : decode cX0_addLimpet 14 = .ok (.ireturn, 1) := dk_172 (dk_at dksX0_addLimpet_0 14 rfl rfl)
theorem dX0_addLimpet_15 : decode cX0_addLimpet 15 = .ok (.astore_n 3, 1) := dk_78 (dk_at dksX0_addLimpet_0 15 rfl rfl)
theorem dX0_addLimpet_16 : decode cX0_addLimpet 16 = .ok (.iconst 2, 1) := dk_5 (dk_at dksX0_addLimpet_0 16 rfl rfl)
theorem dX0_addLimpet_17 : decode cX0_addLimpet 17 = .ok (.ireturn, 1) := dk_172 (dk_at dksX0_addLimpet_0 17 rfl rfl)
theorem dX0_addLimpet_18 : decode cX0_addLimpet 18 = .ok (.iconst 0, 1) := dk_3 (dk_at dksX0_addLimpet_0 18 rfl rfl)
theorem dX0_addLimpet_19 : decode cX0_addLimpet 19 = .ok (.ireturn, 1) := dk_172 (dk_at dksX0_addLimpet_0 19 rfl rfl)
abbrev cX0_addCrab : ByteArray := method_4_code
def yX0_addCrab : MethodName := ⟨RX0, "addCrab", "(LShorePools;II[J)I"⟩
def dkwX0_addCrab_1 : List UInt8 := [172, 3, 172]
abbrev dktX0_addCrab_1 : List UInt8 := dkwX0_addCrab_1 ++ []
def dkwX0_addCrab_0 : List UInt8 := [45, 3, 42, 27, 28, 182, 0, 17, 133, 80, 167, 0, 15, 58, 4, 4, 172, 58, 4, 5, 172, 58, 4, 6]
abbrev dktX0_addCrab_0 : List UInt8 := dkwX0_addCrab_0 ++ dktX0_addCrab_1
theorem dksX0_addCrab_0 : cX0_addCrab.data.toList.drop 0 = dktX0_addCrab_0 := by decide +kernel
theorem dksX0_addCrab_1 : cX0_addCrab.data.toList.drop 24 = dktX0_addCrab_1 := dk_seg dksX0_addCrab_0 24 rfl rfl
theorem dX0_addCrab_0 : decode cX0_addCrab 0 = .ok (.aload_n 3, 1) := dk_45 (dk_at dksX0_addCrab_0 0 rfl rfl)
theorem dX0_addCrab_1 : decode cX0_addCrab 1 = .ok (.iconst 0, 1) := dk_3 (dk_at dksX0_addCrab_0 1 rfl rfl)
theorem dX0_addCrab_2 : decode cX0_addCrab 2 = .ok (.aload_n 0, 1) := dk_42 (dk_at dksX0_addCrab_0 2 rfl rfl)
theorem dX0_addCrab_3 : decode cX0_addCrab 3 = .ok (.iload_n 1, 1) := dk_27 (dk_at dksX0_addCrab_0 3 rfl rfl)
theorem dX0_addCrab_4 : decode cX0_addCrab 4 = .ok (.iload_n 2, 1) := dk_28 (dk_at dksX0_addCrab_0 4 rfl rfl)
theorem dX0_addCrab_5 : decode cX0_addCrab 5 = .ok (.invokevirtual 17, 3) := dk_182 0 17 (dk_at dksX0_addCrab_0 5 rfl rfl)
theorem dX0_addCrab_8 : decode cX0_addCrab 8 = .ok (.i2l, 1) := dk_133 (dk_at dksX0_addCrab_0 8 rfl rfl)
theorem dX0_addCrab_9 : decode cX0_addCrab 9 = .ok (.lastore, 1) := dk_80 (dk_at dksX0_addCrab_0 9 rfl rfl)
theorem dX0_addCrab_10 : decode cX0_addCrab 10 = .ok (.goto 15, 3) := dk_167 0 15 (dk_at dksX0_addCrab_0 10 rfl rfl)
theorem dX0_addCrab_13 : decode cX0_addCrab 13 = .ok (.astore 4, 2) := dk_58 4 (dk_at dksX0_addCrab_0 13 rfl rfl)
theorem dX0_addCrab_15 : decode cX0_addCrab 15 = .ok (.iconst 1, 1) := dk_4 (dk_at dksX0_addCrab_0 15 rfl rfl)
theorem dX0_addCrab_16 : decode cX0_addCrab 16 = .ok (.ireturn, 1) := dk_172 (dk_at dksX0_addCrab_0 16 rfl rfl)
theorem dX0_addCrab_17 : decode cX0_addCrab 17 = .ok (.astore 4, 2) := dk_58 4 (dk_at dksX0_addCrab_0 17 rfl rfl)
theorem dX0_addCrab_19 : decode cX0_addCrab 19 = .ok (.iconst 2, 1) := dk_5 (dk_at dksX0_addCrab_0 19 rfl rfl)
theorem dX0_addCrab_20 : decode cX0_addCrab 20 = .ok (.ireturn, 1) := dk_172 (dk_at dksX0_addCrab_0 20 rfl rfl)
theorem dX0_addCrab_21 : decode cX0_addCrab 21 = .ok (.astore 4, 2) := dk_58 4 (dk_at dksX0_addCrab_0 21 rfl rfl)
theorem dX0_addCrab_23 : decode cX0_addCrab 23 = .ok (.iconst 3, 1) := dk_6 (dk_at dksX0_addCrab_0 23 rfl rfl)
theorem dX0_addCrab_24 : decode cX0_addCrab 24 = .ok (.ireturn, 1) := dk_172 (dk_at dksX0_addCrab_1 0 rfl rfl)
theorem dX0_addCrab_25 : decode cX0_addCrab 25 = .ok (.iconst 0, 1) := dk_3 (dk_at dksX0_addCrab_1 1 rfl rfl)
theorem dX0_addCrab_26 : decode cX0_addCrab 26 = .ok (.ireturn, 1) := dk_172 (dk_at dksX0_addCrab_1 2 rfl rfl)
abbrev cX0_addShell : ByteArray := method_5_code
def yX0_addShell : MethodName := ⟨RX0, "addShell", "(LShorePools;II[J)I"⟩
def dkwX0_addShell_1 : List UInt8 := [172, 3, 172]
abbrev dktX0_addShell_1 : List UInt8 := dkwX0_addShell_1 ++ []
def dkwX0_addShell_0 : List UInt8 := [45, 3, 42, 27, 28, 182, 0, 23, 133, 80, 167, 0, 15, 58, 4, 4, 172, 58, 4, 5, 172, 58, 4, 6]
abbrev dktX0_addShell_0 : List UInt8 := dkwX0_addShell_0 ++ dktX0_addShell_1
theorem dksX0_addShell_0 : cX0_addShell.data.toList.drop 0 = dktX0_addShell_0 := by decide +kernel
theorem dksX0_addShell_1 : cX0_addShell.data.toList.drop 24 = dktX0_addShell_1 := dk_seg dksX0_addShell_0 24 rfl rfl
theorem dX0_addShell_0 : decode cX0_addShell 0 = .ok (.aload_n 3, 1) := dk_45 (dk_at dksX0_addShell_0 0 rfl rfl)
theorem dX0_addShell_1 : decode cX0_addShell 1 = .ok (.iconst 0, 1) := dk_3 (dk_at dksX0_addShell_0 1 rfl rfl)
theorem dX0_addShell_2 : decode cX0_addShell 2 = .ok (.aload_n 0, 1) := dk_42 (dk_at dksX0_addShell_0 2 rfl rfl)
theorem dX0_addShell_3 : decode cX0_addShell 3 = .ok (.iload_n 1, 1) := dk_27 (dk_at dksX0_addShell_0 3 rfl rfl)
theorem dX0_addShell_4 : decode cX0_addShell 4 = .ok (.iload_n 2, 1) := dk_28 (dk_at dksX0_addShell_0 4 rfl rfl)
theorem dX0_addShell_5 : decode cX0_addShell 5 = .ok (.invokevirtual 23, 3) := dk_182 0 23 (dk_at dksX0_addShell_0 5 rfl rfl)
theorem dX0_addShell_8 : decode cX0_addShell 8 = .ok (.i2l, 1) := dk_133 (dk_at dksX0_addShell_0 8 rfl rfl)
theorem dX0_addShell_9 : decode cX0_addShell 9 = .ok (.lastore, 1) := dk_80 (dk_at dksX0_addShell_0 9 rfl rfl)
theorem dX0_addShell_10 : decode cX0_addShell 10 = .ok (.goto 15, 3) := dk_167 0 15 (dk_at dksX0_addShell_0 10 rfl rfl)
theorem dX0_addShell_13 : decode cX0_addShell 13 = .ok (.astore 4, 2) := dk_58 4 (dk_at dksX0_addShell_0 13 rfl rfl)
theorem dX0_addShell_15 : decode cX0_addShell 15 = .ok (.iconst 1, 1) := dk_4 (dk_at dksX0_addShell_0 15 rfl rfl)
theorem dX0_addShell_16 : decode cX0_addShell 16 = .ok (.ireturn, 1) := dk_172 (dk_at dksX0_addShell_0 16 rfl rfl)
theorem dX0_addShell_17 : decode cX0_addShell 17 = .ok (.astore 4, 2) := dk_58 4 (dk_at dksX0_addShell_0 17 rfl rfl)
theorem dX0_addShell_19 : decode cX0_addShell 19 = .ok (.iconst 2, 1) := dk_5 (dk_at dksX0_addShell_0 19 rfl rfl)
theorem dX0_addShell_20 : decode cX0_addShell 20 = .ok (.ireturn, 1) := dk_172 (dk_at dksX0_addShell_0 20 rfl rfl)
theorem dX0_addShell_21 : decode cX0_addShell 21 = .ok (.astore 4, 2) := dk_58 4 (dk_at dksX0_addShell_0 21 rfl rfl)
theorem dX0_addShell_23 : decode cX0_addShell 23 = .ok (.iconst 3, 1) := dk_6 (dk_at dksX0_addShell_0 23 rfl rfl)
theorem dX0_addShell_24 : decode cX0_addShell 24 = .ok (.ireturn, 1) := dk_172 (dk_at dksX0_addShell_1 0 rfl rfl)
theorem dX0_addShell_25 : decode cX0_addShell 25 = .ok (.iconst 0, 1) := dk_3 (dk_at dksX0_addShell_1 1 rfl rfl)
theorem dX0_addShell_26 : decode cX0_addShell 26 = .ok (.ireturn, 1) := dk_172 (dk_at dksX0_addShell_1 2 rfl rfl)
abbrev cX0_carryShell : ByteArray := method_6_code
def yX0_carryShell : MethodName := ⟨RX0, "carryShell", "(LShorePools;II[J)I"⟩
def dkwX0_carryShell_0 : List UInt8 := [45, 3, 42, 27, 28, 182, 0, 26, 133, 80, 167, 0, 11, 58, 4, 4, 172, 58, 4, 5, 172, 3, 172]
abbrev dktX0_carryShell_0 : List UInt8 := dkwX0_carryShell_0 ++ []
theorem dksX0_carryShell_0 : cX0_carryShell.data.toList.drop 0 = dktX0_carryShell_0 := by decide +kernel
theorem dX0_carryShell_0 : decode cX0_carryShell 0 = .ok (.aload_n 3, 1) := dk_45 (dk_at dksX0_carryShell_0 0 rfl rfl)
theorem dX0_carryShell_1 : decode cX0_carryShell 1 = .ok (.iconst 0, 1) := dk_3 (dk_at dksX0_carryShell_0 1 rfl rfl)
theorem dX0_carryShell_2 : decode cX0_carryShell 2 = .ok (.aload_n 0, 1) := dk_42 (dk_at dksX0_carryShell_0 2 rfl rfl)
theorem dX0_carryShell_3 : decode cX0_carryShell 3 = .ok (.iload_n 1, 1) := dk_27 (dk_at dksX0_carryShell_0 3 rfl rfl)
theorem dX0_carryShell_4 : decode cX0_carryShell 4 = .ok (.iload_n 2, 1) := dk_28 (dk_at dksX0_carryShell_0 4 rfl rfl)
theorem dX0_carryShell_5 : decode cX0_carryShell 5 = .ok (.invokevirtual 26, 3) := dk_182 0 26 (dk_at dksX0_carryShell_0 5 rfl rfl)
theorem dX0_carryShell_8 : decode cX0_carryShell 8 = .ok (.i2l, 1) := dk_133 (dk_at dksX0_carryShell_0 8 rfl rfl)
theorem dX0_carryShell_9 : decode cX0_carryShell 9 = .ok (.lastore, 1) := dk_80 (dk_at dksX0_carryShell_0 9 rfl rfl)
theorem dX0_carryShell_10 : decode cX0_carryShell 10 = .ok (.goto 11, 3) := dk_167 0 11 (dk_at dksX0_carryShell_0 10 rfl rfl)
theorem dX0_carryShell_13 : decode cX0_carryShell 13 = .ok (.astore 4, 2) := dk_58 4 (dk_at dksX0_carryShell_0 13 rfl rfl)
theorem dX0_carryShell_15 : decode cX0_carryShell 15 = .ok (.iconst 1, 1) := dk_4 (dk_at dksX0_carryShell_0 15 rfl rfl)
theorem dX0_carryShell_16 : decode cX0_carryShell 16 = .ok (.ireturn, 1) := dk_172 (dk_at dksX0_carryShell_0 16 rfl rfl)
theorem dX0_carryShell_17 : decode cX0_carryShell 17 = .ok (.astore 4, 2) := dk_58 4 (dk_at dksX0_carryShell_0 17 rfl rfl)
theorem dX0_carryShell_19 : decode cX0_carryShell 19 = .ok (.iconst 2, 1) := dk_5 (dk_at dksX0_carryShell_0 19 rfl rfl)
theorem dX0_carryShell_20 : decode cX0_carryShell 20 = .ok (.ireturn, 1) := dk_172 (dk_at dksX0_carryShell_0 20 rfl rfl)
theorem dX0_carryShell_21 : decode cX0_carryShell 21 = .ok (.iconst 0, 1) := dk_3 (dk_at dksX0_carryShell_0 21 rfl rfl)
theorem dX0_carryShell_22 : decode cX0_carryShell 22 = .ok (.ireturn, 1) := dk_172 (dk_at dksX0_carryShell_0 22 rfl rfl)
abbrev cX0_setHeight : ByteArray := method_7_code
def yX0_setHeight : MethodName := ⟨RX0, "setHeight", "(LShorePools;II[J)I"⟩
def dkwX0_setHeight_0 : List UInt8 := [45, 3, 42, 27, 28, 182, 0, 29, 133, 80, 167, 0, 11, 58, 4, 4, 172, 58, 4, 5, 172, 3, 172]
abbrev dktX0_setHeight_0 : List UInt8 := dkwX0_setHeight_0 ++ []
theorem dksX0_setHeight_0 : cX0_setHeight.data.toList.drop 0 = dktX0_setHeight_0 := by decide +kernel
theorem dX0_setHeight_0 : decode cX0_setHeight 0 = .ok (.aload_n 3, 1) := dk_45 (dk_at dksX0_setHeight_0 0 rfl rfl)
theorem dX0_setHeight_1 : decode cX0_setHeight 1 = .ok (.iconst 0, 1) := dk_3 (dk_at dksX0_setHeight_0 1 rfl rfl)
theorem dX0_setHeight_2 : decode cX0_setHeight 2 = .ok (.aload_n 0, 1) := dk_42 (dk_at dksX0_setHeight_0 2 rfl rfl)
theorem dX0_setHeight_3 : decode cX0_setHeight 3 = .ok (.iload_n 1, 1) := dk_27 (dk_at dksX0_setHeight_0 3 rfl rfl)
theorem dX0_setHeight_4 : decode cX0_setHeight 4 = .ok (.iload_n 2, 1) := dk_28 (dk_at dksX0_setHeight_0 4 rfl rfl)
theorem dX0_setHeight_5 : decode cX0_setHeight 5 = .ok (.invokevirtual 29, 3) := dk_182 0 29 (dk_at dksX0_setHeight_0 5 rfl rfl)
theorem dX0_setHeight_8 : decode cX0_setHeight 8 = .ok (.i2l, 1) := dk_133 (dk_at dksX0_setHeight_0 8 rfl rfl)
theorem dX0_setHeight_9 : decode cX0_setHeight 9 = .ok (.lastore, 1) := dk_80 (dk_at dksX0_setHeight_0 9 rfl rfl)
theorem dX0_setHeight_10 : decode cX0_setHeight 10 = .ok (.goto 11, 3) := dk_167 0 11 (dk_at dksX0_setHeight_0 10 rfl rfl)
theorem dX0_setHeight_13 : decode cX0_setHeight 13 = .ok (.astore 4, 2) := dk_58 4 (dk_at dksX0_setHeight_0 13 rfl rfl)
theorem dX0_setHeight_15 : decode cX0_setHeight 15 = .ok (.iconst 1, 1) := dk_4 (dk_at dksX0_setHeight_0 15 rfl rfl)
theorem dX0_setHeight_16 : decode cX0_setHeight 16 = .ok (.ireturn, 1) := dk_172 (dk_at dksX0_setHeight_0 16 rfl rfl)
theorem dX0_setHeight_17 : decode cX0_setHeight 17 = .ok (.astore 4, 2) := dk_58 4 (dk_at dksX0_setHeight_0 17 rfl rfl)
theorem dX0_setHeight_19 : decode cX0_setHeight 19 = .ok (.iconst 2, 1) := dk_5 (dk_at dksX0_setHeight_0 19 rfl rfl)
theorem dX0_setHeight_20 : decode cX0_setHeight 20 = .ok (.ireturn, 1) := dk_172 (dk_at dksX0_setHeight_0 20 rfl rfl)
theorem dX0_setHeight_21 : decode cX0_setHeight 21 = .ok (.iconst 0, 1) := dk_3 (dk_at dksX0_setHeight_0 21 rfl rfl)
theorem dX0_setHeight_22 : decode cX0_setHeight 22 = .ok (.ireturn, 1) := dk_172 (dk_at dksX0_setHeight_0 22 rfl rfl)
abbrev cX0_setTide : ByteArray := method_8_code
def yX0_setTide : MethodName := ⟨RX0, "setTide", "(LShorePools;II[J)I"⟩
def dkwX0_setTide_0 : List UInt8 := [45, 3, 42, 27, 28, 182, 0, 32, 133, 80, 167, 0, 7, 58, 4, 4, 172, 3, 172]
abbrev dktX0_setTide_0 : List UInt8 := dkwX0_setTide_0 ++ []
theorem dksX0_setTide_0 : cX0_setTide.data.toList.drop 0 = dktX0_setTide_0 := by decide +kernel
theorem dX0_setTide_0 : decode cX0_setTide 0 = .ok (.aload_n 3, 1) := dk_45 (dk_at dksX0_setTide_0 0 rfl rfl)
theorem dX0_setTide_1 : decode cX0_setTide 1 = .ok (.iconst 0, 1) := dk_3 (dk_at dksX0_setTide_0 1 rfl rfl)
theorem dX0_setTide_2 : decode cX0_setTide 2 = .ok (.aload_n 0, 1) := dk_42 (dk_at dksX0_setTide_0 2 rfl rfl)
theorem dX0_setTide_3 : decode cX0_setTide 3 = .ok (.iload_n 1, 1) := dk_27 (dk_at dksX0_setTide_0 3 rfl rfl)
theorem dX0_setTide_4 : decode cX0_setTide 4 = .ok (.iload_n 2, 1) := dk_28 (dk_at dksX0_setTide_0 4 rfl rfl)
theorem dX0_setTide_5 : decode cX0_setTide 5 = .ok (.invokevirtual 32, 3) := dk_182 0 32 (dk_at dksX0_setTide_0 5 rfl rfl)
theorem dX0_setTide_8 : decode cX0_setTide 8 = .ok (.i2l, 1) := dk_133 (dk_at dksX0_setTide_0 8 rfl rfl)
theorem dX0_setTide_9 : decode cX0_setTide 9 = .ok (.lastore, 1) := dk_80 (dk_at dksX0_setTide_0 9 rfl rfl)
theorem dX0_setTide_10 : decode cX0_setTide 10 = .ok (.goto 7, 3) := dk_167 0 7 (dk_at dksX0_setTide_0 10 rfl rfl)
theorem dX0_setTide_13 : decode cX0_setTide 13 = .ok (.astore 4, 2) := dk_58 4 (dk_at dksX0_setTide_0 13 rfl rfl)
theorem dX0_setTide_15 : decode cX0_setTide 15 = .ok (.iconst 1, 1) := dk_4 (dk_at dksX0_setTide_0 15 rfl rfl)
theorem dX0_setTide_16 : decode cX0_setTide 16 = .ok (.ireturn, 1) := dk_172 (dk_at dksX0_setTide_0 16 rfl rfl)
theorem dX0_setTide_17 : decode cX0_setTide 17 = .ok (.iconst 0, 1) := dk_3 (dk_at dksX0_setTide_0 17 rfl rfl)
theorem dX0_setTide_18 : decode cX0_setTide 18 = .ok (.ireturn, 1) := dk_172 (dk_at dksX0_setTide_0 18 rfl rfl)
abbrev cX0_setHeat : ByteArray := method_9_code
def yX0_setHeat : MethodName := ⟨RX0, "setHeat", "(LShorePools;I[J)I"⟩
def dkwX0_setHeat_0 : List UInt8 := [44, 3, 42, 27, 182, 0, 35, 133, 80, 167, 0, 6, 78, 4, 172, 3, 172]
abbrev dktX0_setHeat_0 : List UInt8 := dkwX0_setHeat_0 ++ []
theorem dksX0_setHeat_0 : cX0_setHeat.data.toList.drop 0 = dktX0_setHeat_0 := by decide +kernel
theorem dX0_setHeat_0 : decode cX0_setHeat 0 = .ok (.aload_n 2, 1) := dk_44 (dk_at dksX0_setHeat_0 0 rfl rfl)
theorem dX0_setHeat_1 : decode cX0_setHeat 1 = .ok (.iconst 0, 1) := dk_3 (dk_at dksX0_setHeat_0 1 rfl rfl)
theorem dX0_setHeat_2 : decode cX0_setHeat 2 = .ok (.aload_n 0, 1) := dk_42 (dk_at dksX0_setHeat_0 2 rfl rfl)
theorem dX0_setHeat_3 : decode cX0_setHeat 3 = .ok (.iload_n 1, 1) := dk_27 (dk_at dksX0_setHeat_0 3 rfl rfl)
theorem dX0_setHeat_4 : decode cX0_setHeat 4 = .ok (.invokevirtual 35, 3) := dk_182 0 35 (dk_at dksX0_setHeat_0 4 rfl rfl)
theorem dX0_setHeat_7 : decode cX0_setHeat 7 = .ok (.i2l, 1) := dk_133 (dk_at dksX0_setHeat_0 7 rfl rfl)
theorem dX0_setHeat_8 : decode cX0_setHeat 8 = .ok (.lastore, 1) := dk_80 (dk_at dksX0_setHeat_0 8 rfl rfl)
theorem dX0_setHeat_9 : decode cX0_setHeat 9 = .ok (.goto 6, 3) := dk_167 0 6 (dk_at dksX0_setHeat_0 9 rfl rfl)
theorem dX0_setHeat_12 : decode cX0_setHeat 12 = .ok (.astore_n 3, 1) := dk_78 (dk_at dksX0_setHeat_0 12 rfl rfl)
theorem dX0_setHeat_13 : decode cX0_setHeat 13 = .ok (.iconst 1, 1) := dk_4 (dk_at dksX0_setHeat_0 13 rfl rfl)
theorem dX0_setHeat_14 : decode cX0_setHeat 14 = .ok (.ireturn, 1) := dk_172 (dk_at dksX0_setHeat_0 14 rfl rfl)
theorem dX0_setHeat_15 : decode cX0_setHeat 15 = .ok (.iconst 0, 1) := dk_3 (dk_at dksX0_setHeat_0 15 rfl rfl)
theorem dX0_setHeat_16 : decode cX0_setHeat 16 = .ok (.ireturn, 1) := dk_172 (dk_at dksX0_setHeat_0 16 rfl rfl)
abbrev cX0_setPause : ByteArray := method_10_code
def yX0_setPause : MethodName := ⟨RX0, "setPause", "(LShorePools;I[J)I"⟩
def dkwX0_setPause_0 : List UInt8 := [44, 3, 42, 27, 182, 0, 38, 133, 80, 167, 0, 6, 78, 4, 172, 3, 172]
abbrev dktX0_setPause_0 : List UInt8 := dkwX0_setPause_0 ++ []
theorem dksX0_setPause_0 : cX0_setPause.data.toList.drop 0 = dktX0_setPause_0 := by decide +kernel
theorem dX0_setPause_0 : decode cX0_setPause 0 = .ok (.aload_n 2, 1) := dk_44 (dk_at dksX0_setPause_0 0 rfl rfl)
theorem dX0_setPause_1 : decode cX0_setPause 1 = .ok (.iconst 0, 1) := dk_3 (dk_at dksX0_setPause_0 1 rfl rfl)
theorem dX0_setPause_2 : decode cX0_setPause 2 = .ok (.aload_n 0, 1) := dk_42 (dk_at dksX0_setPause_0 2 rfl rfl)
theorem dX0_setPause_3 : decode cX0_setPause 3 = .ok (.iload_n 1, 1) := dk_27 (dk_at dksX0_setPause_0 3 rfl rfl)
theorem dX0_setPause_4 : decode cX0_setPause 4 = .ok (.invokevirtual 38, 3) := dk_182 0 38 (dk_at dksX0_setPause_0 4 rfl rfl)
theorem dX0_setPause_7 : decode cX0_setPause 7 = .ok (.i2l, 1) := dk_133 (dk_at dksX0_setPause_0 7 rfl rfl)
theorem dX0_setPause_8 : decode cX0_setPause 8 = .ok (.lastore, 1) := dk_80 (dk_at dksX0_setPause_0 8 rfl rfl)
theorem dX0_setPause_9 : decode cX0_setPause 9 = .ok (.goto 6, 3) := dk_167 0 6 (dk_at dksX0_setPause_0 9 rfl rfl)
theorem dX0_setPause_12 : decode cX0_setPause 12 = .ok (.astore_n 3, 1) := dk_78 (dk_at dksX0_setPause_0 12 rfl rfl)
theorem dX0_setPause_13 : decode cX0_setPause 13 = .ok (.iconst 1, 1) := dk_4 (dk_at dksX0_setPause_0 13 rfl rfl)
theorem dX0_setPause_14 : decode cX0_setPause 14 = .ok (.ireturn, 1) := dk_172 (dk_at dksX0_setPause_0 14 rfl rfl)
theorem dX0_setPause_15 : decode cX0_setPause 15 = .ok (.iconst 0, 1) := dk_3 (dk_at dksX0_setPause_0 15 rfl rfl)
theorem dX0_setPause_16 : decode cX0_setPause 16 = .ok (.ireturn, 1) := dk_172 (dk_at dksX0_setPause_0 16 rfl rfl)
abbrev cX0_pass : ByteArray := method_11_code
def yX0_pass : MethodName := ⟨RX0, "pass", "(LShorePools;I[J)I"⟩
def dkwX0_pass_0 : List UInt8 := [44, 3, 42, 27, 182, 0, 41, 133, 80, 167, 0, 9, 78, 4, 172, 78, 5, 172, 3, 172]
abbrev dktX0_pass_0 : List UInt8 := dkwX0_pass_0 ++ []
theorem dksX0_pass_0 : cX0_pass.data.toList.drop 0 = dktX0_pass_0 := by decide +kernel
theorem dX0_pass_0 : decode cX0_pass 0 = .ok (.aload_n 2, 1) := dk_44 (dk_at dksX0_pass_0 0 rfl rfl)
theorem dX0_pass_1 : decode cX0_pass 1 = .ok (.iconst 0, 1) := dk_3 (dk_at dksX0_pass_0 1 rfl rfl)
theorem dX0_pass_2 : decode cX0_pass 2 = .ok (.aload_n 0, 1) := dk_42 (dk_at dksX0_pass_0 2 rfl rfl)
theorem dX0_pass_3 : decode cX0_pass 3 = .ok (.iload_n 1, 1) := dk_27 (dk_at dksX0_pass_0 3 rfl rfl)
theorem dX0_pass_4 : decode cX0_pass 4 = .ok (.invokevirtual 41, 3) := dk_182 0 41 (dk_at dksX0_pass_0 4 rfl rfl)
theorem dX0_pass_7 : decode cX0_pass 7 = .ok (.i2l, 1) := dk_133 (dk_at dksX0_pass_0 7 rfl rfl)
theorem dX0_pass_8 : decode cX0_pass 8 = .ok (.lastore, 1) := dk_80 (dk_at dksX0_pass_0 8 rfl rfl)
theorem dX0_pass_9 : decode cX0_pass 9 = .ok (.goto 9, 3) := dk_167 0 9 (dk_at dksX0_pass_0 9 rfl rfl)
theorem dX0_pass_12 : decode cX0_pass 12 = .ok (.astore_n 3, 1) := dk_78 (dk_at dksX0_pass_0 12 rfl rfl)
theorem dX0_pass_13 : decode cX0_pass 13 = .ok (.iconst 1, 1) := dk_4 (dk_at dksX0_pass_0 13 rfl rfl)
theorem dX0_pass_14 : decode cX0_pass 14 = .ok (.ireturn, 1) := dk_172 (dk_at dksX0_pass_0 14 rfl rfl)
theorem dX0_pass_15 : decode cX0_pass 15 = .ok (.astore_n 3, 1) := dk_78 (dk_at dksX0_pass_0 15 rfl rfl)
theorem dX0_pass_16 : decode cX0_pass 16 = .ok (.iconst 2, 1) := dk_5 (dk_at dksX0_pass_0 16 rfl rfl)
theorem dX0_pass_17 : decode cX0_pass 17 = .ok (.ireturn, 1) := dk_172 (dk_at dksX0_pass_0 17 rfl rfl)
theorem dX0_pass_18 : decode cX0_pass 18 = .ok (.iconst 0, 1) := dk_3 (dk_at dksX0_pass_0 18 rfl rfl)
theorem dX0_pass_19 : decode cX0_pass 19 = .ok (.ireturn, 1) := dk_172 (dk_at dksX0_pass_0 19 rfl rfl)
abbrev cX0_type : ByteArray := method_12_code
def yX0_type : MethodName := ⟨RX0, "type", "(LShorePools;C[J)I"⟩
def dkwX0_type_0 : List UInt8 := [44, 3, 42, 27, 182, 0, 44, 133, 80, 167, 0, 6, 78, 4, 172, 3, 172]
abbrev dktX0_type_0 : List UInt8 := dkwX0_type_0 ++ []
theorem dksX0_type_0 : cX0_type.data.toList.drop 0 = dktX0_type_0 := by decide +kernel
theorem dX0_type_0 : decode cX0_type 0 = .ok (.aload_n 2, 1) := dk_44 (dk_at dksX0_type_0 0 rfl rfl)
theorem dX0_type_1 : decode cX0_type 1 = .ok (.iconst 0, 1) := dk_3 (dk_at dksX0_type_0 1 rfl rfl)
theorem dX0_type_2 : decode cX0_type 2 = .ok (.aload_n 0, 1) := dk_42 (dk_at dksX0_type_0 2 rfl rfl)
theorem dX0_type_3 : decode cX0_type 3 = .ok (.iload_n 1, 1) := dk_27 (dk_at dksX0_type_0 3 rfl rfl)
theorem dX0_type_4 : decode cX0_type 4 = .ok (.invokevirtual 44, 3) := dk_182 0 44 (dk_at dksX0_type_0 4 rfl rfl)
theorem dX0_type_7 : decode cX0_type 7 = .ok (.i2l, 1) := dk_133 (dk_at dksX0_type_0 7 rfl rfl)
theorem dX0_type_8 : decode cX0_type 8 = .ok (.lastore, 1) := dk_80 (dk_at dksX0_type_0 8 rfl rfl)
theorem dX0_type_9 : decode cX0_type 9 = .ok (.goto 6, 3) := dk_167 0 6 (dk_at dksX0_type_0 9 rfl rfl)
theorem dX0_type_12 : decode cX0_type 12 = .ok (.astore_n 3, 1) := dk_78 (dk_at dksX0_type_0 12 rfl rfl)
theorem dX0_type_13 : decode cX0_type 13 = .ok (.iconst 1, 1) := dk_4 (dk_at dksX0_type_0 13 rfl rfl)
theorem dX0_type_14 : decode cX0_type 14 = .ok (.ireturn, 1) := dk_172 (dk_at dksX0_type_0 14 rfl rfl)
theorem dX0_type_15 : decode cX0_type 15 = .ok (.iconst 0, 1) := dk_3 (dk_at dksX0_type_0 15 rfl rfl)
theorem dX0_type_16 : decode cX0_type 16 = .ok (.ireturn, 1) := dk_172 (dk_at dksX0_type_0 16 rfl rfl)
abbrev cX0_impossibleOrder : ByteArray := method_13_code
def yX0_impossibleOrder : MethodName := ⟨RX0, "impossibleOrder", "(LShorePools;[J)I"⟩
def dkwX0_impossibleOrder_0 : List UInt8 := [43, 3, 42, 182, 0, 48, 133, 80, 167, 0, 6, 77, 4, 172, 3, 172]
abbrev dktX0_impossibleOrder_0 : List UInt8 := dkwX0_impossibleOrder_0 ++ []
theorem dksX0_impossibleOrder_0 : cX0_impossibleOrder.data.toList.drop 0 = dktX0_impossibleOrder_0 := by decide +kernel
theorem dX0_impossibleOrder_0 : decode cX0_impossibleOrder 0 = .ok (.aload_n 1, 1) := dk_43 (dk_at dksX0_impossibleOrder_0 0 rfl rfl)
theorem dX0_impossibleOrder_1 : decode cX0_impossibleOrder 1 = .ok (.iconst 0, 1) := dk_3 (dk_at dksX0_impossibleOrder_0 1 rfl rfl)
theorem dX0_impossibleOrder_2 : decode cX0_impossibleOrder 2 = .ok (.aload_n 0, 1) := dk_42 (dk_at dksX0_impossibleOrder_0 2 rfl rfl)
theorem dX0_impossibleOrder_3 : decode cX0_impossibleOrder 3 = .ok (.invokevirtual 48, 3) := dk_182 0 48 (dk_at dksX0_impossibleOrder_0 3 rfl rfl)
theorem dX0_impossibleOrder_6 : decode cX0_impossibleOrder 6 = .ok (.i2l, 1) := dk_133 (dk_at dksX0_impossibleOrder_0 6 rfl rfl)
theorem dX0_impossibleOrder_7 : decode cX0_impossibleOrder 7 = .ok (.lastore, 1) := dk_80 (dk_at dksX0_impossibleOrder_0 7 rfl rfl)
theorem dX0_impossibleOrder_8 : decode cX0_impossibleOrder 8 = .ok (.goto 6, 3) := dk_167 0 6 (dk_at dksX0_impossibleOrder_0 8 rfl rfl)
theorem dX0_impossibleOrder_11 : decode cX0_impossibleOrder 11 = .ok (.astore_n 2, 1) := dk_77 (dk_at dksX0_impossibleOrder_0 11 rfl rfl)
theorem dX0_impossibleOrder_12 : decode cX0_impossibleOrder 12 = .ok (.iconst 1, 1) := dk_4 (dk_at dksX0_impossibleOrder_0 12 rfl rfl)
theorem dX0_impossibleOrder_13 : decode cX0_impossibleOrder 13 = .ok (.ireturn, 1) := dk_172 (dk_at dksX0_impossibleOrder_0 13 rfl rfl)
theorem dX0_impossibleOrder_14 : decode cX0_impossibleOrder 14 = .ok (.iconst 0, 1) := dk_3 (dk_at dksX0_impossibleOrder_0 14 rfl rfl)
theorem dX0_impossibleOrder_15 : decode cX0_impossibleOrder 15 = .ok (.ireturn, 1) := dk_172 (dk_at dksX0_impossibleOrder_0 15 rfl rfl)
abbrev cX0_carryOut : ByteArray := method_14_code
def yX0_carryOut : MethodName := ⟨RX0, "carryOut", "(LShorePools;[J)I"⟩
def dkwX0_carryOut_0 : List UInt8 := [43, 3, 42, 182, 0, 52, 133, 80, 167, 0, 6, 77, 4, 172, 3, 172]
abbrev dktX0_carryOut_0 : List UInt8 := dkwX0_carryOut_0 ++ []
theorem dksX0_carryOut_0 : cX0_carryOut.data.toList.drop 0 = dktX0_carryOut_0 := by decide +kernel
theorem dX0_carryOut_0 : decode cX0_carryOut 0 = .ok (.aload_n 1, 1) := dk_43 (dk_at dksX0_carryOut_0 0 rfl rfl)
theorem dX0_carryOut_1 : decode cX0_carryOut 1 = .ok (.iconst 0, 1) := dk_3 (dk_at dksX0_carryOut_0 1 rfl rfl)
theorem dX0_carryOut_2 : decode cX0_carryOut 2 = .ok (.aload_n 0, 1) := dk_42 (dk_at dksX0_carryOut_0 2 rfl rfl)
theorem dX0_carryOut_3 : decode cX0_carryOut 3 = .ok (.invokevirtual 52, 3) := dk_182 0 52 (dk_at dksX0_carryOut_0 3 rfl rfl)
theorem dX0_carryOut_6 : decode cX0_carryOut 6 = .ok (.i2l, 1) := dk_133 (dk_at dksX0_carryOut_0 6 rfl rfl)
theorem dX0_carryOut_7 : decode cX0_carryOut 7 = .ok (.lastore, 1) := dk_80 (dk_at dksX0_carryOut_0 7 rfl rfl)
theorem dX0_carryOut_8 : decode cX0_carryOut 8 = .ok (.goto 6, 3) := dk_167 0 6 (dk_at dksX0_carryOut_0 8 rfl rfl)
theorem dX0_carryOut_11 : decode cX0_carryOut 11 = .ok (.astore_n 2, 1) := dk_77 (dk_at dksX0_carryOut_0 11 rfl rfl)
theorem dX0_carryOut_12 : decode cX0_carryOut 12 = .ok (.iconst 1, 1) := dk_4 (dk_at dksX0_carryOut_0 12 rfl rfl)
theorem dX0_carryOut_13 : decode cX0_carryOut 13 = .ok (.ireturn, 1) := dk_172 (dk_at dksX0_carryOut_0 13 rfl rfl)
theorem dX0_carryOut_14 : decode cX0_carryOut 14 = .ok (.iconst 0, 1) := dk_3 (dk_at dksX0_carryOut_0 14 rfl rfl)
theorem dX0_carryOut_15 : decode cX0_carryOut 15 = .ok (.ireturn, 1) := dk_172 (dk_at dksX0_carryOut_0 15 rfl rfl)
abbrev cX0_undo : ByteArray := method_15_code
def yX0_undo : MethodName := ⟨RX0, "undo", "(LShorePools;[J)I"⟩
def dkwX0_undo_0 : List UInt8 := [43, 3, 42, 182, 0, 55, 133, 80, 167, 0, 6, 77, 4, 172, 3, 172]
abbrev dktX0_undo_0 : List UInt8 := dkwX0_undo_0 ++ []
theorem dksX0_undo_0 : cX0_undo.data.toList.drop 0 = dktX0_undo_0 := by decide +kernel
theorem dX0_undo_0 : decode cX0_undo 0 = .ok (.aload_n 1, 1) := dk_43 (dk_at dksX0_undo_0 0 rfl rfl)
theorem dX0_undo_1 : decode cX0_undo 1 = .ok (.iconst 0, 1) := dk_3 (dk_at dksX0_undo_0 1 rfl rfl)
theorem dX0_undo_2 : decode cX0_undo 2 = .ok (.aload_n 0, 1) := dk_42 (dk_at dksX0_undo_0 2 rfl rfl)
theorem dX0_undo_3 : decode cX0_undo 3 = .ok (.invokevirtual 55, 3) := dk_182 0 55 (dk_at dksX0_undo_0 3 rfl rfl)
theorem dX0_undo_6 : decode cX0_undo 6 = .ok (.i2l, 1) := dk_133 (dk_at dksX0_undo_0 6 rfl rfl)
theorem dX0_undo_7 : decode cX0_undo 7 = .ok (.lastore, 1) := dk_80 (dk_at dksX0_undo_0 7 rfl rfl)
theorem dX0_undo_8 : decode cX0_undo 8 = .ok (.goto 6, 3) := dk_167 0 6 (dk_at dksX0_undo_0 8 rfl rfl)
theorem dX0_undo_11 : decode cX0_undo 11 = .ok (.astore_n 2, 1) := dk_77 (dk_at dksX0_undo_0 11 rfl rfl)
theorem dX0_undo_12 : decode cX0_undo 12 = .ok (.iconst 1, 1) := dk_4 (dk_at dksX0_undo_0 12 rfl rfl)
theorem dX0_undo_13 : decode cX0_undo 13 = .ok (.ireturn, 1) := dk_172 (dk_at dksX0_undo_0 13 rfl rfl)
theorem dX0_undo_14 : decode cX0_undo 14 = .ok (.iconst 0, 1) := dk_3 (dk_at dksX0_undo_0 14 rfl rfl)
theorem dX0_undo_15 : decode cX0_undo 15 = .ok (.ireturn, 1) := dk_172 (dk_at dksX0_undo_0 15 rfl rfl)
abbrev cX0_restoreSnapshot : ByteArray := method_16_code
def yX0_restoreSnapshot : MethodName := ⟨RX0, "restoreSnapshot", "(LShorePools;[J)I"⟩
def dkwX0_restoreSnapshot_0 : List UInt8 := [43, 3, 42, 182, 0, 58, 133, 80, 167, 0, 6, 77, 4, 172, 3, 172]
abbrev dktX0_restoreSnapshot_0 : List UInt8 := dkwX0_restoreSnapshot_0 ++ []
theorem dksX0_restoreSnapshot_0 : cX0_restoreSnapshot.data.toList.drop 0 = dktX0_restoreSnapshot_0 := by decide +kernel
theorem dX0_restoreSnapshot_0 : decode cX0_restoreSnapshot 0 = .ok (.aload_n 1, 1) := dk_43 (dk_at dksX0_restoreSnapshot_0 0 rfl rfl)
theorem dX0_restoreSnapshot_1 : decode cX0_restoreSnapshot 1 = .ok (.iconst 0, 1) := dk_3 (dk_at dksX0_restoreSnapshot_0 1 rfl rfl)
theorem dX0_restoreSnapshot_2 : decode cX0_restoreSnapshot 2 = .ok (.aload_n 0, 1) := dk_42 (dk_at dksX0_restoreSnapshot_0 2 rfl rfl)
theorem dX0_restoreSnapshot_3 : decode cX0_restoreSnapshot 3 = .ok (.invokevirtual 58, 3) := dk_182 0 58 (dk_at dksX0_restoreSnapshot_0 3 rfl rfl)
theorem dX0_restoreSnapshot_6 : decode cX0_restoreSnapshot 6 = .ok (.i2l, 1) := dk_133 (dk_at dksX0_restoreSnapshot_0 6 rfl rfl)
theorem dX0_restoreSnapshot_7 : decode cX0_restoreSnapshot 7 = .ok (.lastore, 1) := dk_80 (dk_at dksX0_restoreSnapshot_0 7 rfl rfl)
theorem dX0_restoreSnapshot_8 : decode cX0_restoreSnapshot 8 = .ok (.goto 6, 3) := dk_167 0 6 (dk_at dksX0_restoreSnapshot_0 8 rfl rfl)
theorem dX0_restoreSnapshot_11 : decode cX0_restoreSnapshot 11 = .ok (.astore_n 2, 1) := dk_77 (dk_at dksX0_restoreSnapshot_0 11 rfl rfl)
theorem dX0_restoreSnapshot_12 : decode cX0_restoreSnapshot 12 = .ok (.iconst 1, 1) := dk_4 (dk_at dksX0_restoreSnapshot_0 12 rfl rfl)
theorem dX0_restoreSnapshot_13 : decode cX0_restoreSnapshot 13 = .ok (.ireturn, 1) := dk_172 (dk_at dksX0_restoreSnapshot_0 13 rfl rfl)
theorem dX0_restoreSnapshot_14 : decode cX0_restoreSnapshot 14 = .ok (.iconst 0, 1) := dk_3 (dk_at dksX0_restoreSnapshot_0 14 rfl rfl)
theorem dX0_restoreSnapshot_15 : decode cX0_restoreSnapshot 15 = .ok (.ireturn, 1) := dk_172 (dk_at dksX0_restoreSnapshot_0 15 rfl rfl)
abbrev cX0_tideAt : ByteArray := method_17_code
def yX0_tideAt : MethodName := ⟨RX0, "tideAt", "(LShorePools;I[J)I"⟩
def dkwX0_tideAt_0 : List UInt8 := [44, 3, 42, 27, 182, 0, 61, 133, 80, 167, 0, 6, 78, 4, 172, 3, 172]
abbrev dktX0_tideAt_0 : List UInt8 := dkwX0_tideAt_0 ++ []
theorem dksX0_tideAt_0 : cX0_tideAt.data.toList.drop 0 = dktX0_tideAt_0 := by decide +kernel
theorem dX0_tideAt_0 : decode cX0_tideAt 0 = .ok (.aload_n 2, 1) := dk_44 (dk_at dksX0_tideAt_0 0 rfl rfl)
theorem dX0_tideAt_1 : decode cX0_tideAt 1 = .ok (.iconst 0, 1) := dk_3 (dk_at dksX0_tideAt_0 1 rfl rfl)
theorem dX0_tideAt_2 : decode cX0_tideAt 2 = .ok (.aload_n 0, 1) := dk_42 (dk_at dksX0_tideAt_0 2 rfl rfl)
theorem dX0_tideAt_3 : decode cX0_tideAt 3 = .ok (.iload_n 1, 1) := dk_27 (dk_at dksX0_tideAt_0 3 rfl rfl)
theorem dX0_tideAt_4 : decode cX0_tideAt 4 = .ok (.invokevirtual 61, 3) := dk_182 0 61 (dk_at dksX0_tideAt_0 4 rfl rfl)
theorem dX0_tideAt_7 : decode cX0_tideAt 7 = .ok (.i2l, 1) := dk_133 (dk_at dksX0_tideAt_0 7 rfl rfl)
theorem dX0_tideAt_8 : decode cX0_tideAt 8 = .ok (.lastore, 1) := dk_80 (dk_at dksX0_tideAt_0 8 rfl rfl)
theorem dX0_tideAt_9 : decode cX0_tideAt 9 = .ok (.goto 6, 3) := dk_167 0 6 (dk_at dksX0_tideAt_0 9 rfl rfl)
theorem dX0_tideAt_12 : decode cX0_tideAt 12 = .ok (.astore_n 3, 1) := dk_78 (dk_at dksX0_tideAt_0 12 rfl rfl)
theorem dX0_tideAt_13 : decode cX0_tideAt 13 = .ok (.iconst 1, 1) := dk_4 (dk_at dksX0_tideAt_0 13 rfl rfl)
theorem dX0_tideAt_14 : decode cX0_tideAt 14 = .ok (.ireturn, 1) := dk_172 (dk_at dksX0_tideAt_0 14 rfl rfl)
theorem dX0_tideAt_15 : decode cX0_tideAt 15 = .ok (.iconst 0, 1) := dk_3 (dk_at dksX0_tideAt_0 15 rfl rfl)
theorem dX0_tideAt_16 : decode cX0_tideAt 16 = .ok (.ireturn, 1) := dk_172 (dk_at dksX0_tideAt_0 16 rfl rfl)
abbrev cX0_heightOf : ByteArray := method_18_code
def yX0_heightOf : MethodName := ⟨RX0, "heightOf", "(LShorePools;I[J)I"⟩
def dkwX0_heightOf_0 : List UInt8 := [44, 3, 42, 27, 182, 0, 64, 133, 80, 167, 0, 6, 78, 4, 172, 3, 172]
abbrev dktX0_heightOf_0 : List UInt8 := dkwX0_heightOf_0 ++ []
theorem dksX0_heightOf_0 : cX0_heightOf.data.toList.drop 0 = dktX0_heightOf_0 := by decide +kernel
theorem dX0_heightOf_0 : decode cX0_heightOf 0 = .ok (.aload_n 2, 1) := dk_44 (dk_at dksX0_heightOf_0 0 rfl rfl)
theorem dX0_heightOf_1 : decode cX0_heightOf 1 = .ok (.iconst 0, 1) := dk_3 (dk_at dksX0_heightOf_0 1 rfl rfl)
theorem dX0_heightOf_2 : decode cX0_heightOf 2 = .ok (.aload_n 0, 1) := dk_42 (dk_at dksX0_heightOf_0 2 rfl rfl)
theorem dX0_heightOf_3 : decode cX0_heightOf 3 = .ok (.iload_n 1, 1) := dk_27 (dk_at dksX0_heightOf_0 3 rfl rfl)
theorem dX0_heightOf_4 : decode cX0_heightOf 4 = .ok (.invokevirtual 64, 3) := dk_182 0 64 (dk_at dksX0_heightOf_0 4 rfl rfl)
theorem dX0_heightOf_7 : decode cX0_heightOf 7 = .ok (.i2l, 1) := dk_133 (dk_at dksX0_heightOf_0 7 rfl rfl)
theorem dX0_heightOf_8 : decode cX0_heightOf 8 = .ok (.lastore, 1) := dk_80 (dk_at dksX0_heightOf_0 8 rfl rfl)
theorem dX0_heightOf_9 : decode cX0_heightOf 9 = .ok (.goto 6, 3) := dk_167 0 6 (dk_at dksX0_heightOf_0 9 rfl rfl)
theorem dX0_heightOf_12 : decode cX0_heightOf 12 = .ok (.astore_n 3, 1) := dk_78 (dk_at dksX0_heightOf_0 12 rfl rfl)
theorem dX0_heightOf_13 : decode cX0_heightOf 13 = .ok (.iconst 1, 1) := dk_4 (dk_at dksX0_heightOf_0 13 rfl rfl)
theorem dX0_heightOf_14 : decode cX0_heightOf 14 = .ok (.ireturn, 1) := dk_172 (dk_at dksX0_heightOf_0 14 rfl rfl)
theorem dX0_heightOf_15 : decode cX0_heightOf 15 = .ok (.iconst 0, 1) := dk_3 (dk_at dksX0_heightOf_0 15 rfl rfl)
theorem dX0_heightOf_16 : decode cX0_heightOf 16 = .ok (.ireturn, 1) := dk_172 (dk_at dksX0_heightOf_0 16 rfl rfl)
abbrev cX0_isFlooded : ByteArray := method_19_code
def yX0_isFlooded : MethodName := ⟨RX0, "isFlooded", "(LShorePools;I[J)I"⟩
def dkwX0_isFlooded_0 : List UInt8 := [44, 3, 42, 27, 182, 0, 67, 153, 0, 7, 10, 167, 0, 4, 9, 80, 167, 0, 6, 78, 4, 172, 3, 172]
abbrev dktX0_isFlooded_0 : List UInt8 := dkwX0_isFlooded_0 ++ []
theorem dksX0_isFlooded_0 : cX0_isFlooded.data.toList.drop 0 = dktX0_isFlooded_0 := by decide +kernel
theorem dX0_isFlooded_0 : decode cX0_isFlooded 0 = .ok (.aload_n 2, 1) := dk_44 (dk_at dksX0_isFlooded_0 0 rfl rfl)
theorem dX0_isFlooded_1 : decode cX0_isFlooded 1 = .ok (.iconst 0, 1) := dk_3 (dk_at dksX0_isFlooded_0 1 rfl rfl)
theorem dX0_isFlooded_2 : decode cX0_isFlooded 2 = .ok (.aload_n 0, 1) := dk_42 (dk_at dksX0_isFlooded_0 2 rfl rfl)
theorem dX0_isFlooded_3 : decode cX0_isFlooded 3 = .ok (.iload_n 1, 1) := dk_27 (dk_at dksX0_isFlooded_0 3 rfl rfl)
theorem dX0_isFlooded_4 : decode cX0_isFlooded 4 = .ok (.invokevirtual 67, 3) := dk_182 0 67 (dk_at dksX0_isFlooded_0 4 rfl rfl)
theorem dX0_isFlooded_7 : decode cX0_isFlooded 7 = .ok (.ifCond .eq 7, 3) := dk_153 0 7 (dk_at dksX0_isFlooded_0 7 rfl rfl)
theorem dX0_isFlooded_10 : decode cX0_isFlooded 10 = .ok (.lconst 1, 1) := dk_10 (dk_at dksX0_isFlooded_0 10 rfl rfl)
theorem dX0_isFlooded_11 : decode cX0_isFlooded 11 = .ok (.goto 4, 3) := dk_167 0 4 (dk_at dksX0_isFlooded_0 11 rfl rfl)
theorem dX0_isFlooded_14 : decode cX0_isFlooded 14 = .ok (.lconst 0, 1) := dk_9 (dk_at dksX0_isFlooded_0 14 rfl rfl)
theorem dX0_isFlooded_15 : decode cX0_isFlooded 15 = .ok (.lastore, 1) := dk_80 (dk_at dksX0_isFlooded_0 15 rfl rfl)
theorem dX0_isFlooded_16 : decode cX0_isFlooded 16 = .ok (.goto 6, 3) := dk_167 0 6 (dk_at dksX0_isFlooded_0 16 rfl rfl)
theorem dX0_isFlooded_19 : decode cX0_isFlooded 19 = .ok (.astore_n 3, 1) := dk_78 (dk_at dksX0_isFlooded_0 19 rfl rfl)
theorem dX0_isFlooded_20 : decode cX0_isFlooded 20 = .ok (.iconst 1, 1) := dk_4 (dk_at dksX0_isFlooded_0 20 rfl rfl)
theorem dX0_isFlooded_21 : decode cX0_isFlooded 21 = .ok (.ireturn, 1) := dk_172 (dk_at dksX0_isFlooded_0 21 rfl rfl)
theorem dX0_isFlooded_22 : decode cX0_isFlooded 22 = .ok (.iconst 0, 1) := dk_3 (dk_at dksX0_isFlooded_0 22 rfl rfl)
theorem dX0_isFlooded_23 : decode cX0_isFlooded 23 = .ok (.ireturn, 1) := dk_172 (dk_at dksX0_isFlooded_0 23 rfl rfl)
abbrev cX0_warmthOf : ByteArray := method_20_code
def yX0_warmthOf : MethodName := ⟨RX0, "warmthOf", "(LShorePools;I[J)I"⟩
def dkwX0_warmthOf_0 : List UInt8 := [44, 3, 42, 27, 182, 0, 71, 133, 80, 167, 0, 6, 78, 4, 172, 3, 172]
abbrev dktX0_warmthOf_0 : List UInt8 := dkwX0_warmthOf_0 ++ []
theorem dksX0_warmthOf_0 : cX0_warmthOf.data.toList.drop 0 = dktX0_warmthOf_0 := by decide +kernel
theorem dX0_warmthOf_0 : decode cX0_warmthOf 0 = .ok (.aload_n 2, 1) := dk_44 (dk_at dksX0_warmthOf_0 0 rfl rfl)
theorem dX0_warmthOf_1 : decode cX0_warmthOf 1 = .ok (.iconst 0, 1) := dk_3 (dk_at dksX0_warmthOf_0 1 rfl rfl)
theorem dX0_warmthOf_2 : decode cX0_warmthOf 2 = .ok (.aload_n 0, 1) := dk_42 (dk_at dksX0_warmthOf_0 2 rfl rfl)
theorem dX0_warmthOf_3 : decode cX0_warmthOf 3 = .ok (.iload_n 1, 1) := dk_27 (dk_at dksX0_warmthOf_0 3 rfl rfl)
theorem dX0_warmthOf_4 : decode cX0_warmthOf 4 = .ok (.invokevirtual 71, 3) := dk_182 0 71 (dk_at dksX0_warmthOf_0 4 rfl rfl)
theorem dX0_warmthOf_7 : decode cX0_warmthOf 7 = .ok (.i2l, 1) := dk_133 (dk_at dksX0_warmthOf_0 7 rfl rfl)
theorem dX0_warmthOf_8 : decode cX0_warmthOf 8 = .ok (.lastore, 1) := dk_80 (dk_at dksX0_warmthOf_0 8 rfl rfl)
theorem dX0_warmthOf_9 : decode cX0_warmthOf 9 = .ok (.goto 6, 3) := dk_167 0 6 (dk_at dksX0_warmthOf_0 9 rfl rfl)
theorem dX0_warmthOf_12 : decode cX0_warmthOf 12 = .ok (.astore_n 3, 1) := dk_78 (dk_at dksX0_warmthOf_0 12 rfl rfl)
theorem dX0_warmthOf_13 : decode cX0_warmthOf 13 = .ok (.iconst 1, 1) := dk_4 (dk_at dksX0_warmthOf_0 13 rfl rfl)
theorem dX0_warmthOf_14 : decode cX0_warmthOf 14 = .ok (.ireturn, 1) := dk_172 (dk_at dksX0_warmthOf_0 14 rfl rfl)
theorem dX0_warmthOf_15 : decode cX0_warmthOf 15 = .ok (.iconst 0, 1) := dk_3 (dk_at dksX0_warmthOf_0 15 rfl rfl)
theorem dX0_warmthOf_16 : decode cX0_warmthOf 16 = .ok (.ireturn, 1) := dk_172 (dk_at dksX0_warmthOf_0 16 rfl rfl)
abbrev cX0_weedOf : ByteArray := method_21_code
def yX0_weedOf : MethodName := ⟨RX0, "weedOf", "(LShorePools;I[J)I"⟩
def dkwX0_weedOf_0 : List UInt8 := [44, 3, 42, 27, 182, 0, 74, 133, 80, 167, 0, 6, 78, 4, 172, 3, 172]
abbrev dktX0_weedOf_0 : List UInt8 := dkwX0_weedOf_0 ++ []
theorem dksX0_weedOf_0 : cX0_weedOf.data.toList.drop 0 = dktX0_weedOf_0 := by decide +kernel
theorem dX0_weedOf_0 : decode cX0_weedOf 0 = .ok (.aload_n 2, 1) := dk_44 (dk_at dksX0_weedOf_0 0 rfl rfl)
theorem dX0_weedOf_1 : decode cX0_weedOf 1 = .ok (.iconst 0, 1) := dk_3 (dk_at dksX0_weedOf_0 1 rfl rfl)
theorem dX0_weedOf_2 : decode cX0_weedOf 2 = .ok (.aload_n 0, 1) := dk_42 (dk_at dksX0_weedOf_0 2 rfl rfl)
theorem dX0_weedOf_3 : decode cX0_weedOf 3 = .ok (.iload_n 1, 1) := dk_27 (dk_at dksX0_weedOf_0 3 rfl rfl)
theorem dX0_weedOf_4 : decode cX0_weedOf 4 = .ok (.invokevirtual 74, 3) := dk_182 0 74 (dk_at dksX0_weedOf_0 4 rfl rfl)
theorem dX0_weedOf_7 : decode cX0_weedOf 7 = .ok (.i2l, 1) := dk_133 (dk_at dksX0_weedOf_0 7 rfl rfl)
theorem dX0_weedOf_8 : decode cX0_weedOf 8 = .ok (.lastore, 1) := dk_80 (dk_at dksX0_weedOf_0 8 rfl rfl)
theorem dX0_weedOf_9 : decode cX0_weedOf 9 = .ok (.goto 6, 3) := dk_167 0 6 (dk_at dksX0_weedOf_0 9 rfl rfl)
theorem dX0_weedOf_12 : decode cX0_weedOf 12 = .ok (.astore_n 3, 1) := dk_78 (dk_at dksX0_weedOf_0 12 rfl rfl)
theorem dX0_weedOf_13 : decode cX0_weedOf 13 = .ok (.iconst 1, 1) := dk_4 (dk_at dksX0_weedOf_0 13 rfl rfl)
theorem dX0_weedOf_14 : decode cX0_weedOf 14 = .ok (.ireturn, 1) := dk_172 (dk_at dksX0_weedOf_0 14 rfl rfl)
theorem dX0_weedOf_15 : decode cX0_weedOf 15 = .ok (.iconst 0, 1) := dk_3 (dk_at dksX0_weedOf_0 15 rfl rfl)
theorem dX0_weedOf_16 : decode cX0_weedOf 16 = .ok (.ireturn, 1) := dk_172 (dk_at dksX0_weedOf_0 16 rfl rfl)
abbrev cX0_hoursToFlood : ByteArray := method_22_code
def yX0_hoursToFlood : MethodName := ⟨RX0, "hoursToFlood", "(LShorePools;I[J)I"⟩
def dkwX0_hoursToFlood_0 : List UInt8 := [44, 3, 42, 27, 182, 0, 77, 133, 80, 167, 0, 6, 78, 4, 172, 3, 172]
abbrev dktX0_hoursToFlood_0 : List UInt8 := dkwX0_hoursToFlood_0 ++ []
theorem dksX0_hoursToFlood_0 : cX0_hoursToFlood.data.toList.drop 0 = dktX0_hoursToFlood_0 := by decide +kernel
theorem dX0_hoursToFlood_0 : decode cX0_hoursToFlood 0 = .ok (.aload_n 2, 1) := dk_44 (dk_at dksX0_hoursToFlood_0 0 rfl rfl)
theorem dX0_hoursToFlood_1 : decode cX0_hoursToFlood 1 = .ok (.iconst 0, 1) := dk_3 (dk_at dksX0_hoursToFlood_0 1 rfl rfl)
theorem dX0_hoursToFlood_2 : decode cX0_hoursToFlood 2 = .ok (.aload_n 0, 1) := dk_42 (dk_at dksX0_hoursToFlood_0 2 rfl rfl)
theorem dX0_hoursToFlood_3 : decode cX0_hoursToFlood 3 = .ok (.iload_n 1, 1) := dk_27 (dk_at dksX0_hoursToFlood_0 3 rfl rfl)
theorem dX0_hoursToFlood_4 : decode cX0_hoursToFlood 4 = .ok (.invokevirtual 77, 3) := dk_182 0 77 (dk_at dksX0_hoursToFlood_0 4 rfl rfl)
theorem dX0_hoursToFlood_7 : decode cX0_hoursToFlood 7 = .ok (.i2l, 1) := dk_133 (dk_at dksX0_hoursToFlood_0 7 rfl rfl)
theorem dX0_hoursToFlood_8 : decode cX0_hoursToFlood 8 = .ok (.lastore, 1) := dk_80 (dk_at dksX0_hoursToFlood_0 8 rfl rfl)
theorem dX0_hoursToFlood_9 : decode cX0_hoursToFlood 9 = .ok (.goto 6, 3) := dk_167 0 6 (dk_at dksX0_hoursToFlood_0 9 rfl rfl)
theorem dX0_hoursToFlood_12 : decode cX0_hoursToFlood 12 = .ok (.astore_n 3, 1) := dk_78 (dk_at dksX0_hoursToFlood_0 12 rfl rfl)
theorem dX0_hoursToFlood_13 : decode cX0_hoursToFlood 13 = .ok (.iconst 1, 1) := dk_4 (dk_at dksX0_hoursToFlood_0 13 rfl rfl)
theorem dX0_hoursToFlood_14 : decode cX0_hoursToFlood 14 = .ok (.ireturn, 1) := dk_172 (dk_at dksX0_hoursToFlood_0 14 rfl rfl)
theorem dX0_hoursToFlood_15 : decode cX0_hoursToFlood 15 = .ok (.iconst 0, 1) := dk_3 (dk_at dksX0_hoursToFlood_0 15 rfl rfl)
theorem dX0_hoursToFlood_16 : decode cX0_hoursToFlood 16 = .ok (.ireturn, 1) := dk_172 (dk_at dksX0_hoursToFlood_0 16 rfl rfl)
abbrev cX0_floodHours : ByteArray := method_23_code
def yX0_floodHours : MethodName := ⟨RX0, "floodHours", "(LShorePools;I[J)I"⟩
def dkwX0_floodHours_0 : List UInt8 := [44, 3, 42, 27, 182, 0, 80, 133, 80, 167, 0, 6, 78, 4, 172, 3, 172]
abbrev dktX0_floodHours_0 : List UInt8 := dkwX0_floodHours_0 ++ []
theorem dksX0_floodHours_0 : cX0_floodHours.data.toList.drop 0 = dktX0_floodHours_0 := by decide +kernel
theorem dX0_floodHours_0 : decode cX0_floodHours 0 = .ok (.aload_n 2, 1) := dk_44 (dk_at dksX0_floodHours_0 0 rfl rfl)
theorem dX0_floodHours_1 : decode cX0_floodHours 1 = .ok (.iconst 0, 1) := dk_3 (dk_at dksX0_floodHours_0 1 rfl rfl)
theorem dX0_floodHours_2 : decode cX0_floodHours 2 = .ok (.aload_n 0, 1) := dk_42 (dk_at dksX0_floodHours_0 2 rfl rfl)
theorem dX0_floodHours_3 : decode cX0_floodHours 3 = .ok (.iload_n 1, 1) := dk_27 (dk_at dksX0_floodHours_0 3 rfl rfl)
theorem dX0_floodHours_4 : decode cX0_floodHours 4 = .ok (.invokevirtual 80, 3) := dk_182 0 80 (dk_at dksX0_floodHours_0 4 rfl rfl)
theorem dX0_floodHours_7 : decode cX0_floodHours 7 = .ok (.i2l, 1) := dk_133 (dk_at dksX0_floodHours_0 7 rfl rfl)
theorem dX0_floodHours_8 : decode cX0_floodHours 8 = .ok (.lastore, 1) := dk_80 (dk_at dksX0_floodHours_0 8 rfl rfl)
theorem dX0_floodHours_9 : decode cX0_floodHours 9 = .ok (.goto 6, 3) := dk_167 0 6 (dk_at dksX0_floodHours_0 9 rfl rfl)
theorem dX0_floodHours_12 : decode cX0_floodHours 12 = .ok (.astore_n 3, 1) := dk_78 (dk_at dksX0_floodHours_0 12 rfl rfl)
theorem dX0_floodHours_13 : decode cX0_floodHours 13 = .ok (.iconst 1, 1) := dk_4 (dk_at dksX0_floodHours_0 13 rfl rfl)
theorem dX0_floodHours_14 : decode cX0_floodHours 14 = .ok (.ireturn, 1) := dk_172 (dk_at dksX0_floodHours_0 14 rfl rfl)
theorem dX0_floodHours_15 : decode cX0_floodHours 15 = .ok (.iconst 0, 1) := dk_3 (dk_at dksX0_floodHours_0 15 rfl rfl)
theorem dX0_floodHours_16 : decode cX0_floodHours 16 = .ok (.ireturn, 1) := dk_172 (dk_at dksX0_floodHours_0 16 rfl rfl)
abbrev cX0_floodHoursByCounting : ByteArray := method_24_code
def yX0_floodHoursByCounting : MethodName := ⟨RX0, "floodHoursByCounting", "(LShorePools;I[J)I"⟩
def dkwX0_floodHoursByCounting_0 : List UInt8 := [44, 3, 42, 27, 182, 0, 83, 133, 80, 167, 0, 6, 78, 4, 172, 3, 172]
abbrev dktX0_floodHoursByCounting_0 : List UInt8 := dkwX0_floodHoursByCounting_0 ++ []
theorem dksX0_floodHoursByCounting_0 : cX0_floodHoursByCounting.data.toList.drop 0 = dktX0_floodHoursByCounting_0 := by decide +kernel
theorem dX0_floodHoursByCounting_0 : decode cX0_floodHoursByCounting 0 = .ok (.aload_n 2, 1) := dk_44 (dk_at dksX0_floodHoursByCounting_0 0 rfl rfl)
theorem dX0_floodHoursByCounting_1 : decode cX0_floodHoursByCounting 1 = .ok (.iconst 0, 1) := dk_3 (dk_at dksX0_floodHoursByCounting_0 1 rfl rfl)
theorem dX0_floodHoursByCounting_2 : decode cX0_floodHoursByCounting 2 = .ok (.aload_n 0, 1) := dk_42 (dk_at dksX0_floodHoursByCounting_0 2 rfl rfl)
theorem dX0_floodHoursByCounting_3 : decode cX0_floodHoursByCounting 3 = .ok (.iload_n 1, 1) := dk_27 (dk_at dksX0_floodHoursByCounting_0 3 rfl rfl)
theorem dX0_floodHoursByCounting_4 : decode cX0_floodHoursByCounting 4 = .ok (.invokevirtual 83, 3) := dk_182 0 83 (dk_at dksX0_floodHoursByCounting_0 4 rfl rfl)
theorem dX0_floodHoursByCounting_7 : decode cX0_floodHoursByCounting 7 = .ok (.i2l, 1) := dk_133 (dk_at dksX0_floodHoursByCounting_0 7 rfl rfl)
theorem dX0_floodHoursByCounting_8 : decode cX0_floodHoursByCounting 8 = .ok (.lastore, 1) := dk_80 (dk_at dksX0_floodHoursByCounting_0 8 rfl rfl)
theorem dX0_floodHoursByCounting_9 : decode cX0_floodHoursByCounting 9 = .ok (.goto 6, 3) := dk_167 0 6 (dk_at dksX0_floodHoursByCounting_0 9 rfl rfl)
theorem dX0_floodHoursByCounting_12 : decode cX0_floodHoursByCounting 12 = .ok (.astore_n 3, 1) := dk_78 (dk_at dksX0_floodHoursByCounting_0 12 rfl rfl)
theorem dX0_floodHoursByCounting_13 : decode cX0_floodHoursByCounting 13 = .ok (.iconst 1, 1) := dk_4 (dk_at dksX0_floodHoursByCounting_0 13 rfl rfl)
theorem dX0_floodHoursByCounting_14 : decode cX0_floodHoursByCounting 14 = .ok (.ireturn, 1) := dk_172 (dk_at dksX0_floodHoursByCounting_0 14 rfl rfl)
theorem dX0_floodHoursByCounting_15 : decode cX0_floodHoursByCounting 15 = .ok (.iconst 0, 1) := dk_3 (dk_at dksX0_floodHoursByCounting_0 15 rfl rfl)
theorem dX0_floodHoursByCounting_16 : decode cX0_floodHoursByCounting 16 = .ok (.ireturn, 1) := dk_172 (dk_at dksX0_floodHoursByCounting_0 16 rfl rfl)
abbrev cX0_fateOfLimpet : ByteArray := method_25_code
def yX0_fateOfLimpet : MethodName := ⟨RX0, "fateOfLimpet", "(LShorePools;I[J)I"⟩
def dkwX0_fateOfLimpet_0 : List UInt8 := [44, 3, 42, 27, 182, 0, 86, 133, 80, 167, 0, 6, 78, 4, 172, 3, 172]
abbrev dktX0_fateOfLimpet_0 : List UInt8 := dkwX0_fateOfLimpet_0 ++ []
theorem dksX0_fateOfLimpet_0 : cX0_fateOfLimpet.data.toList.drop 0 = dktX0_fateOfLimpet_0 := by decide +kernel
theorem dX0_fateOfLimpet_0 : decode cX0_fateOfLimpet 0 = .ok (.aload_n 2, 1) := dk_44 (dk_at dksX0_fateOfLimpet_0 0 rfl rfl)
theorem dX0_fateOfLimpet_1 : decode cX0_fateOfLimpet 1 = .ok (.iconst 0, 1) := dk_3 (dk_at dksX0_fateOfLimpet_0 1 rfl rfl)
theorem dX0_fateOfLimpet_2 : decode cX0_fateOfLimpet 2 = .ok (.aload_n 0, 1) := dk_42 (dk_at dksX0_fateOfLimpet_0 2 rfl rfl)
theorem dX0_fateOfLimpet_3 : decode cX0_fateOfLimpet 3 = .ok (.iload_n 1, 1) := dk_27 (dk_at dksX0_fateOfLimpet_0 3 rfl rfl)
theorem dX0_fateOfLimpet_4 : decode cX0_fateOfLimpet 4 = .ok (.invokevirtual 86, 3) := dk_182 0 86 (dk_at dksX0_fateOfLimpet_0 4 rfl rfl)
theorem dX0_fateOfLimpet_7 : decode cX0_fateOfLimpet 7 = .ok (.i2l, 1) := dk_133 (dk_at dksX0_fateOfLimpet_0 7 rfl rfl)
theorem dX0_fateOfLimpet_8 : decode cX0_fateOfLimpet 8 = .ok (.lastore, 1) := dk_80 (dk_at dksX0_fateOfLimpet_0 8 rfl rfl)
theorem dX0_fateOfLimpet_9 : decode cX0_fateOfLimpet 9 = .ok (.goto 6, 3) := dk_167 0 6 (dk_at dksX0_fateOfLimpet_0 9 rfl rfl)
theorem dX0_fateOfLimpet_12 : decode cX0_fateOfLimpet 12 = .ok (.astore_n 3, 1) := dk_78 (dk_at dksX0_fateOfLimpet_0 12 rfl rfl)
theorem dX0_fateOfLimpet_13 : decode cX0_fateOfLimpet 13 = .ok (.iconst 1, 1) := dk_4 (dk_at dksX0_fateOfLimpet_0 13 rfl rfl)
theorem dX0_fateOfLimpet_14 : decode cX0_fateOfLimpet 14 = .ok (.ireturn, 1) := dk_172 (dk_at dksX0_fateOfLimpet_0 14 rfl rfl)
theorem dX0_fateOfLimpet_15 : decode cX0_fateOfLimpet 15 = .ok (.iconst 0, 1) := dk_3 (dk_at dksX0_fateOfLimpet_0 15 rfl rfl)
theorem dX0_fateOfLimpet_16 : decode cX0_fateOfLimpet 16 = .ok (.ireturn, 1) := dk_172 (dk_at dksX0_fateOfLimpet_0 16 rfl rfl)
abbrev cX0_poolOfLimpet : ByteArray := method_26_code
def yX0_poolOfLimpet : MethodName := ⟨RX0, "poolOfLimpet", "(LShorePools;I[J)I"⟩
def dkwX0_poolOfLimpet_0 : List UInt8 := [44, 3, 42, 27, 182, 0, 89, 133, 80, 167, 0, 6, 78, 4, 172, 3, 172]
abbrev dktX0_poolOfLimpet_0 : List UInt8 := dkwX0_poolOfLimpet_0 ++ []
theorem dksX0_poolOfLimpet_0 : cX0_poolOfLimpet.data.toList.drop 0 = dktX0_poolOfLimpet_0 := by decide +kernel
theorem dX0_poolOfLimpet_0 : decode cX0_poolOfLimpet 0 = .ok (.aload_n 2, 1) := dk_44 (dk_at dksX0_poolOfLimpet_0 0 rfl rfl)
theorem dX0_poolOfLimpet_1 : decode cX0_poolOfLimpet 1 = .ok (.iconst 0, 1) := dk_3 (dk_at dksX0_poolOfLimpet_0 1 rfl rfl)
theorem dX0_poolOfLimpet_2 : decode cX0_poolOfLimpet 2 = .ok (.aload_n 0, 1) := dk_42 (dk_at dksX0_poolOfLimpet_0 2 rfl rfl)
theorem dX0_poolOfLimpet_3 : decode cX0_poolOfLimpet 3 = .ok (.iload_n 1, 1) := dk_27 (dk_at dksX0_poolOfLimpet_0 3 rfl rfl)
theorem dX0_poolOfLimpet_4 : decode cX0_poolOfLimpet 4 = .ok (.invokevirtual 89, 3) := dk_182 0 89 (dk_at dksX0_poolOfLimpet_0 4 rfl rfl)
theorem dX0_poolOfLimpet_7 : decode cX0_poolOfLimpet 7 = .ok (.i2l, 1) := dk_133 (dk_at dksX0_poolOfLimpet_0 7 rfl rfl)
theorem dX0_poolOfLimpet_8 : decode cX0_poolOfLimpet 8 = .ok (.lastore, 1) := dk_80 (dk_at dksX0_poolOfLimpet_0 8 rfl rfl)
theorem dX0_poolOfLimpet_9 : decode cX0_poolOfLimpet 9 = .ok (.goto 6, 3) := dk_167 0 6 (dk_at dksX0_poolOfLimpet_0 9 rfl rfl)
theorem dX0_poolOfLimpet_12 : decode cX0_poolOfLimpet 12 = .ok (.astore_n 3, 1) := dk_78 (dk_at dksX0_poolOfLimpet_0 12 rfl rfl)
theorem dX0_poolOfLimpet_13 : decode cX0_poolOfLimpet 13 = .ok (.iconst 1, 1) := dk_4 (dk_at dksX0_poolOfLimpet_0 13 rfl rfl)
theorem dX0_poolOfLimpet_14 : decode cX0_poolOfLimpet 14 = .ok (.ireturn, 1) := dk_172 (dk_at dksX0_poolOfLimpet_0 14 rfl rfl)
theorem dX0_poolOfLimpet_15 : decode cX0_poolOfLimpet 15 = .ok (.iconst 0, 1) := dk_3 (dk_at dksX0_poolOfLimpet_0 15 rfl rfl)
theorem dX0_poolOfLimpet_16 : decode cX0_poolOfLimpet 16 = .ok (.ireturn, 1) := dk_172 (dk_at dksX0_poolOfLimpet_0 16 rfl rfl)
abbrev cX0_waterOf : ByteArray := method_27_code
def yX0_waterOf : MethodName := ⟨RX0, "waterOf", "(LShorePools;I[J)I"⟩
def dkwX0_waterOf_0 : List UInt8 := [44, 3, 42, 27, 182, 0, 92, 133, 80, 167, 0, 6, 78, 4, 172, 3, 172]
abbrev dktX0_waterOf_0 : List UInt8 := dkwX0_waterOf_0 ++ []
theorem dksX0_waterOf_0 : cX0_waterOf.data.toList.drop 0 = dktX0_waterOf_0 := by decide +kernel
theorem dX0_waterOf_0 : decode cX0_waterOf 0 = .ok (.aload_n 2, 1) := dk_44 (dk_at dksX0_waterOf_0 0 rfl rfl)
theorem dX0_waterOf_1 : decode cX0_waterOf 1 = .ok (.iconst 0, 1) := dk_3 (dk_at dksX0_waterOf_0 1 rfl rfl)
theorem dX0_waterOf_2 : decode cX0_waterOf 2 = .ok (.aload_n 0, 1) := dk_42 (dk_at dksX0_waterOf_0 2 rfl rfl)
theorem dX0_waterOf_3 : decode cX0_waterOf 3 = .ok (.iload_n 1, 1) := dk_27 (dk_at dksX0_waterOf_0 3 rfl rfl)
theorem dX0_waterOf_4 : decode cX0_waterOf 4 = .ok (.invokevirtual 92, 3) := dk_182 0 92 (dk_at dksX0_waterOf_0 4 rfl rfl)
theorem dX0_waterOf_7 : decode cX0_waterOf 7 = .ok (.i2l, 1) := dk_133 (dk_at dksX0_waterOf_0 7 rfl rfl)
theorem dX0_waterOf_8 : decode cX0_waterOf 8 = .ok (.lastore, 1) := dk_80 (dk_at dksX0_waterOf_0 8 rfl rfl)
theorem dX0_waterOf_9 : decode cX0_waterOf 9 = .ok (.goto 6, 3) := dk_167 0 6 (dk_at dksX0_waterOf_0 9 rfl rfl)
theorem dX0_waterOf_12 : decode cX0_waterOf 12 = .ok (.astore_n 3, 1) := dk_78 (dk_at dksX0_waterOf_0 12 rfl rfl)
theorem dX0_waterOf_13 : decode cX0_waterOf 13 = .ok (.iconst 1, 1) := dk_4 (dk_at dksX0_waterOf_0 13 rfl rfl)
theorem dX0_waterOf_14 : decode cX0_waterOf 14 = .ok (.ireturn, 1) := dk_172 (dk_at dksX0_waterOf_0 14 rfl rfl)
theorem dX0_waterOf_15 : decode cX0_waterOf 15 = .ok (.iconst 0, 1) := dk_3 (dk_at dksX0_waterOf_0 15 rfl rfl)
theorem dX0_waterOf_16 : decode cX0_waterOf 16 = .ok (.ireturn, 1) := dk_172 (dk_at dksX0_waterOf_0 16 rfl rfl)
abbrev cX0_foodOf : ByteArray := method_28_code
def yX0_foodOf : MethodName := ⟨RX0, "foodOf", "(LShorePools;I[J)I"⟩
def dkwX0_foodOf_0 : List UInt8 := [44, 3, 42, 27, 182, 0, 95, 133, 80, 167, 0, 6, 78, 4, 172, 3, 172]
abbrev dktX0_foodOf_0 : List UInt8 := dkwX0_foodOf_0 ++ []
theorem dksX0_foodOf_0 : cX0_foodOf.data.toList.drop 0 = dktX0_foodOf_0 := by decide +kernel
theorem dX0_foodOf_0 : decode cX0_foodOf 0 = .ok (.aload_n 2, 1) := dk_44 (dk_at dksX0_foodOf_0 0 rfl rfl)
theorem dX0_foodOf_1 : decode cX0_foodOf 1 = .ok (.iconst 0, 1) := dk_3 (dk_at dksX0_foodOf_0 1 rfl rfl)
theorem dX0_foodOf_2 : decode cX0_foodOf 2 = .ok (.aload_n 0, 1) := dk_42 (dk_at dksX0_foodOf_0 2 rfl rfl)
theorem dX0_foodOf_3 : decode cX0_foodOf 3 = .ok (.iload_n 1, 1) := dk_27 (dk_at dksX0_foodOf_0 3 rfl rfl)
theorem dX0_foodOf_4 : decode cX0_foodOf 4 = .ok (.invokevirtual 95, 3) := dk_182 0 95 (dk_at dksX0_foodOf_0 4 rfl rfl)
theorem dX0_foodOf_7 : decode cX0_foodOf 7 = .ok (.i2l, 1) := dk_133 (dk_at dksX0_foodOf_0 7 rfl rfl)
theorem dX0_foodOf_8 : decode cX0_foodOf 8 = .ok (.lastore, 1) := dk_80 (dk_at dksX0_foodOf_0 8 rfl rfl)
theorem dX0_foodOf_9 : decode cX0_foodOf 9 = .ok (.goto 6, 3) := dk_167 0 6 (dk_at dksX0_foodOf_0 9 rfl rfl)
theorem dX0_foodOf_12 : decode cX0_foodOf 12 = .ok (.astore_n 3, 1) := dk_78 (dk_at dksX0_foodOf_0 12 rfl rfl)
theorem dX0_foodOf_13 : decode cX0_foodOf 13 = .ok (.iconst 1, 1) := dk_4 (dk_at dksX0_foodOf_0 13 rfl rfl)
theorem dX0_foodOf_14 : decode cX0_foodOf 14 = .ok (.ireturn, 1) := dk_172 (dk_at dksX0_foodOf_0 14 rfl rfl)
theorem dX0_foodOf_15 : decode cX0_foodOf 15 = .ok (.iconst 0, 1) := dk_3 (dk_at dksX0_foodOf_0 15 rfl rfl)
theorem dX0_foodOf_16 : decode cX0_foodOf 16 = .ok (.ireturn, 1) := dk_172 (dk_at dksX0_foodOf_0 16 rfl rfl)
abbrev cX0_stepsOf : ByteArray := method_29_code
def yX0_stepsOf : MethodName := ⟨RX0, "stepsOf", "(LShorePools;I[J)I"⟩
def dkwX0_stepsOf_0 : List UInt8 := [44, 3, 42, 27, 182, 0, 98, 133, 80, 167, 0, 6, 78, 4, 172, 3, 172]
abbrev dktX0_stepsOf_0 : List UInt8 := dkwX0_stepsOf_0 ++ []
theorem dksX0_stepsOf_0 : cX0_stepsOf.data.toList.drop 0 = dktX0_stepsOf_0 := by decide +kernel
theorem dX0_stepsOf_0 : decode cX0_stepsOf 0 = .ok (.aload_n 2, 1) := dk_44 (dk_at dksX0_stepsOf_0 0 rfl rfl)
theorem dX0_stepsOf_1 : decode cX0_stepsOf 1 = .ok (.iconst 0, 1) := dk_3 (dk_at dksX0_stepsOf_0 1 rfl rfl)
theorem dX0_stepsOf_2 : decode cX0_stepsOf 2 = .ok (.aload_n 0, 1) := dk_42 (dk_at dksX0_stepsOf_0 2 rfl rfl)
theorem dX0_stepsOf_3 : decode cX0_stepsOf 3 = .ok (.iload_n 1, 1) := dk_27 (dk_at dksX0_stepsOf_0 3 rfl rfl)
theorem dX0_stepsOf_4 : decode cX0_stepsOf 4 = .ok (.invokevirtual 98, 3) := dk_182 0 98 (dk_at dksX0_stepsOf_0 4 rfl rfl)
theorem dX0_stepsOf_7 : decode cX0_stepsOf 7 = .ok (.i2l, 1) := dk_133 (dk_at dksX0_stepsOf_0 7 rfl rfl)
theorem dX0_stepsOf_8 : decode cX0_stepsOf 8 = .ok (.lastore, 1) := dk_80 (dk_at dksX0_stepsOf_0 8 rfl rfl)
theorem dX0_stepsOf_9 : decode cX0_stepsOf 9 = .ok (.goto 6, 3) := dk_167 0 6 (dk_at dksX0_stepsOf_0 9 rfl rfl)
theorem dX0_stepsOf_12 : decode cX0_stepsOf 12 = .ok (.astore_n 3, 1) := dk_78 (dk_at dksX0_stepsOf_0 12 rfl rfl)
theorem dX0_stepsOf_13 : decode cX0_stepsOf 13 = .ok (.iconst 1, 1) := dk_4 (dk_at dksX0_stepsOf_0 13 rfl rfl)
theorem dX0_stepsOf_14 : decode cX0_stepsOf 14 = .ok (.ireturn, 1) := dk_172 (dk_at dksX0_stepsOf_0 14 rfl rfl)
theorem dX0_stepsOf_15 : decode cX0_stepsOf 15 = .ok (.iconst 0, 1) := dk_3 (dk_at dksX0_stepsOf_0 15 rfl rfl)
theorem dX0_stepsOf_16 : decode cX0_stepsOf 16 = .ok (.ireturn, 1) := dk_172 (dk_at dksX0_stepsOf_0 16 rfl rfl)
abbrev cX0_sizeOfShell : ByteArray := method_30_code
def yX0_sizeOfShell : MethodName := ⟨RX0, "sizeOfShell", "(LShorePools;I[J)I"⟩
def dkwX0_sizeOfShell_0 : List UInt8 := [44, 3, 42, 27, 182, 0, 101, 133, 80, 167, 0, 6, 78, 4, 172, 3, 172]
abbrev dktX0_sizeOfShell_0 : List UInt8 := dkwX0_sizeOfShell_0 ++ []
theorem dksX0_sizeOfShell_0 : cX0_sizeOfShell.data.toList.drop 0 = dktX0_sizeOfShell_0 := by decide +kernel
theorem dX0_sizeOfShell_0 : decode cX0_sizeOfShell 0 = .ok (.aload_n 2, 1) := dk_44 (dk_at dksX0_sizeOfShell_0 0 rfl rfl)
theorem dX0_sizeOfShell_1 : decode cX0_sizeOfShell 1 = .ok (.iconst 0, 1) := dk_3 (dk_at dksX0_sizeOfShell_0 1 rfl rfl)
theorem dX0_sizeOfShell_2 : decode cX0_sizeOfShell 2 = .ok (.aload_n 0, 1) := dk_42 (dk_at dksX0_sizeOfShell_0 2 rfl rfl)
theorem dX0_sizeOfShell_3 : decode cX0_sizeOfShell 3 = .ok (.iload_n 1, 1) := dk_27 (dk_at dksX0_sizeOfShell_0 3 rfl rfl)
theorem dX0_sizeOfShell_4 : decode cX0_sizeOfShell 4 = .ok (.invokevirtual 101, 3) := dk_182 0 101 (dk_at dksX0_sizeOfShell_0 4 rfl rfl)
theorem dX0_sizeOfShell_7 : decode cX0_sizeOfShell 7 = .ok (.i2l, 1) := dk_133 (dk_at dksX0_sizeOfShell_0 7 rfl rfl)
theorem dX0_sizeOfShell_8 : decode cX0_sizeOfShell 8 = .ok (.lastore, 1) := dk_80 (dk_at dksX0_sizeOfShell_0 8 rfl rfl)
theorem dX0_sizeOfShell_9 : decode cX0_sizeOfShell 9 = .ok (.goto 6, 3) := dk_167 0 6 (dk_at dksX0_sizeOfShell_0 9 rfl rfl)
theorem dX0_sizeOfShell_12 : decode cX0_sizeOfShell 12 = .ok (.astore_n 3, 1) := dk_78 (dk_at dksX0_sizeOfShell_0 12 rfl rfl)
theorem dX0_sizeOfShell_13 : decode cX0_sizeOfShell 13 = .ok (.iconst 1, 1) := dk_4 (dk_at dksX0_sizeOfShell_0 13 rfl rfl)
theorem dX0_sizeOfShell_14 : decode cX0_sizeOfShell 14 = .ok (.ireturn, 1) := dk_172 (dk_at dksX0_sizeOfShell_0 14 rfl rfl)
theorem dX0_sizeOfShell_15 : decode cX0_sizeOfShell 15 = .ok (.iconst 0, 1) := dk_3 (dk_at dksX0_sizeOfShell_0 15 rfl rfl)
theorem dX0_sizeOfShell_16 : decode cX0_sizeOfShell 16 = .ok (.ireturn, 1) := dk_172 (dk_at dksX0_sizeOfShell_0 16 rfl rfl)
abbrev cX0_poolOfShell : ByteArray := method_31_code
def yX0_poolOfShell : MethodName := ⟨RX0, "poolOfShell", "(LShorePools;I[J)I"⟩
def dkwX0_poolOfShell_0 : List UInt8 := [44, 3, 42, 27, 182, 0, 104, 133, 80, 167, 0, 6, 78, 4, 172, 3, 172]
abbrev dktX0_poolOfShell_0 : List UInt8 := dkwX0_poolOfShell_0 ++ []
theorem dksX0_poolOfShell_0 : cX0_poolOfShell.data.toList.drop 0 = dktX0_poolOfShell_0 := by decide +kernel
theorem dX0_poolOfShell_0 : decode cX0_poolOfShell 0 = .ok (.aload_n 2, 1) := dk_44 (dk_at dksX0_poolOfShell_0 0 rfl rfl)
theorem dX0_poolOfShell_1 : decode cX0_poolOfShell 1 = .ok (.iconst 0, 1) := dk_3 (dk_at dksX0_poolOfShell_0 1 rfl rfl)
theorem dX0_poolOfShell_2 : decode cX0_poolOfShell 2 = .ok (.aload_n 0, 1) := dk_42 (dk_at dksX0_poolOfShell_0 2 rfl rfl)
theorem dX0_poolOfShell_3 : decode cX0_poolOfShell 3 = .ok (.iload_n 1, 1) := dk_27 (dk_at dksX0_poolOfShell_0 3 rfl rfl)
theorem dX0_poolOfShell_4 : decode cX0_poolOfShell 4 = .ok (.invokevirtual 104, 3) := dk_182 0 104 (dk_at dksX0_poolOfShell_0 4 rfl rfl)
theorem dX0_poolOfShell_7 : decode cX0_poolOfShell 7 = .ok (.i2l, 1) := dk_133 (dk_at dksX0_poolOfShell_0 7 rfl rfl)
theorem dX0_poolOfShell_8 : decode cX0_poolOfShell 8 = .ok (.lastore, 1) := dk_80 (dk_at dksX0_poolOfShell_0 8 rfl rfl)
theorem dX0_poolOfShell_9 : decode cX0_poolOfShell 9 = .ok (.goto 6, 3) := dk_167 0 6 (dk_at dksX0_poolOfShell_0 9 rfl rfl)
theorem dX0_poolOfShell_12 : decode cX0_poolOfShell 12 = .ok (.astore_n 3, 1) := dk_78 (dk_at dksX0_poolOfShell_0 12 rfl rfl)
theorem dX0_poolOfShell_13 : decode cX0_poolOfShell 13 = .ok (.iconst 1, 1) := dk_4 (dk_at dksX0_poolOfShell_0 13 rfl rfl)
theorem dX0_poolOfShell_14 : decode cX0_poolOfShell 14 = .ok (.ireturn, 1) := dk_172 (dk_at dksX0_poolOfShell_0 14 rfl rfl)
theorem dX0_poolOfShell_15 : decode cX0_poolOfShell 15 = .ok (.iconst 0, 1) := dk_3 (dk_at dksX0_poolOfShell_0 15 rfl rfl)
theorem dX0_poolOfShell_16 : decode cX0_poolOfShell 16 = .ok (.ireturn, 1) := dk_172 (dk_at dksX0_poolOfShell_0 16 rfl rfl)
abbrev cX0_wearerOf : ByteArray := method_32_code
def yX0_wearerOf : MethodName := ⟨RX0, "wearerOf", "(LShorePools;I[J)I"⟩
def dkwX0_wearerOf_0 : List UInt8 := [44, 3, 42, 27, 182, 0, 107, 133, 80, 167, 0, 6, 78, 4, 172, 3, 172]
abbrev dktX0_wearerOf_0 : List UInt8 := dkwX0_wearerOf_0 ++ []
theorem dksX0_wearerOf_0 : cX0_wearerOf.data.toList.drop 0 = dktX0_wearerOf_0 := by decide +kernel
theorem dX0_wearerOf_0 : decode cX0_wearerOf 0 = .ok (.aload_n 2, 1) := dk_44 (dk_at dksX0_wearerOf_0 0 rfl rfl)
theorem dX0_wearerOf_1 : decode cX0_wearerOf 1 = .ok (.iconst 0, 1) := dk_3 (dk_at dksX0_wearerOf_0 1 rfl rfl)
theorem dX0_wearerOf_2 : decode cX0_wearerOf 2 = .ok (.aload_n 0, 1) := dk_42 (dk_at dksX0_wearerOf_0 2 rfl rfl)
theorem dX0_wearerOf_3 : decode cX0_wearerOf 3 = .ok (.iload_n 1, 1) := dk_27 (dk_at dksX0_wearerOf_0 3 rfl rfl)
theorem dX0_wearerOf_4 : decode cX0_wearerOf 4 = .ok (.invokevirtual 107, 3) := dk_182 0 107 (dk_at dksX0_wearerOf_0 4 rfl rfl)
theorem dX0_wearerOf_7 : decode cX0_wearerOf 7 = .ok (.i2l, 1) := dk_133 (dk_at dksX0_wearerOf_0 7 rfl rfl)
theorem dX0_wearerOf_8 : decode cX0_wearerOf 8 = .ok (.lastore, 1) := dk_80 (dk_at dksX0_wearerOf_0 8 rfl rfl)
theorem dX0_wearerOf_9 : decode cX0_wearerOf 9 = .ok (.goto 6, 3) := dk_167 0 6 (dk_at dksX0_wearerOf_0 9 rfl rfl)
theorem dX0_wearerOf_12 : decode cX0_wearerOf 12 = .ok (.astore_n 3, 1) := dk_78 (dk_at dksX0_wearerOf_0 12 rfl rfl)
theorem dX0_wearerOf_13 : decode cX0_wearerOf 13 = .ok (.iconst 1, 1) := dk_4 (dk_at dksX0_wearerOf_0 13 rfl rfl)
theorem dX0_wearerOf_14 : decode cX0_wearerOf 14 = .ok (.ireturn, 1) := dk_172 (dk_at dksX0_wearerOf_0 14 rfl rfl)
theorem dX0_wearerOf_15 : decode cX0_wearerOf 15 = .ok (.iconst 0, 1) := dk_3 (dk_at dksX0_wearerOf_0 15 rfl rfl)
theorem dX0_wearerOf_16 : decode cX0_wearerOf 16 = .ok (.ireturn, 1) := dk_172 (dk_at dksX0_wearerOf_0 16 rfl rfl)
abbrev cX0_fateOfCrab : ByteArray := method_33_code
def yX0_fateOfCrab : MethodName := ⟨RX0, "fateOfCrab", "(LShorePools;I[J)I"⟩
def dkwX0_fateOfCrab_0 : List UInt8 := [44, 3, 42, 27, 182, 0, 110, 133, 80, 167, 0, 6, 78, 4, 172, 3, 172]
abbrev dktX0_fateOfCrab_0 : List UInt8 := dkwX0_fateOfCrab_0 ++ []
theorem dksX0_fateOfCrab_0 : cX0_fateOfCrab.data.toList.drop 0 = dktX0_fateOfCrab_0 := by decide +kernel
theorem dX0_fateOfCrab_0 : decode cX0_fateOfCrab 0 = .ok (.aload_n 2, 1) := dk_44 (dk_at dksX0_fateOfCrab_0 0 rfl rfl)
theorem dX0_fateOfCrab_1 : decode cX0_fateOfCrab 1 = .ok (.iconst 0, 1) := dk_3 (dk_at dksX0_fateOfCrab_0 1 rfl rfl)
theorem dX0_fateOfCrab_2 : decode cX0_fateOfCrab 2 = .ok (.aload_n 0, 1) := dk_42 (dk_at dksX0_fateOfCrab_0 2 rfl rfl)
theorem dX0_fateOfCrab_3 : decode cX0_fateOfCrab 3 = .ok (.iload_n 1, 1) := dk_27 (dk_at dksX0_fateOfCrab_0 3 rfl rfl)
theorem dX0_fateOfCrab_4 : decode cX0_fateOfCrab 4 = .ok (.invokevirtual 110, 3) := dk_182 0 110 (dk_at dksX0_fateOfCrab_0 4 rfl rfl)
theorem dX0_fateOfCrab_7 : decode cX0_fateOfCrab 7 = .ok (.i2l, 1) := dk_133 (dk_at dksX0_fateOfCrab_0 7 rfl rfl)
theorem dX0_fateOfCrab_8 : decode cX0_fateOfCrab 8 = .ok (.lastore, 1) := dk_80 (dk_at dksX0_fateOfCrab_0 8 rfl rfl)
theorem dX0_fateOfCrab_9 : decode cX0_fateOfCrab 9 = .ok (.goto 6, 3) := dk_167 0 6 (dk_at dksX0_fateOfCrab_0 9 rfl rfl)
theorem dX0_fateOfCrab_12 : decode cX0_fateOfCrab 12 = .ok (.astore_n 3, 1) := dk_78 (dk_at dksX0_fateOfCrab_0 12 rfl rfl)
theorem dX0_fateOfCrab_13 : decode cX0_fateOfCrab 13 = .ok (.iconst 1, 1) := dk_4 (dk_at dksX0_fateOfCrab_0 13 rfl rfl)
theorem dX0_fateOfCrab_14 : decode cX0_fateOfCrab 14 = .ok (.ireturn, 1) := dk_172 (dk_at dksX0_fateOfCrab_0 14 rfl rfl)
theorem dX0_fateOfCrab_15 : decode cX0_fateOfCrab 15 = .ok (.iconst 0, 1) := dk_3 (dk_at dksX0_fateOfCrab_0 15 rfl rfl)
theorem dX0_fateOfCrab_16 : decode cX0_fateOfCrab 16 = .ok (.ireturn, 1) := dk_172 (dk_at dksX0_fateOfCrab_0 16 rfl rfl)
abbrev cX0_sizeOfCrab : ByteArray := method_34_code
def yX0_sizeOfCrab : MethodName := ⟨RX0, "sizeOfCrab", "(LShorePools;I[J)I"⟩
def dkwX0_sizeOfCrab_0 : List UInt8 := [44, 3, 42, 27, 182, 0, 113, 133, 80, 167, 0, 6, 78, 4, 172, 3, 172]
abbrev dktX0_sizeOfCrab_0 : List UInt8 := dkwX0_sizeOfCrab_0 ++ []
theorem dksX0_sizeOfCrab_0 : cX0_sizeOfCrab.data.toList.drop 0 = dktX0_sizeOfCrab_0 := by decide +kernel
theorem dX0_sizeOfCrab_0 : decode cX0_sizeOfCrab 0 = .ok (.aload_n 2, 1) := dk_44 (dk_at dksX0_sizeOfCrab_0 0 rfl rfl)
theorem dX0_sizeOfCrab_1 : decode cX0_sizeOfCrab 1 = .ok (.iconst 0, 1) := dk_3 (dk_at dksX0_sizeOfCrab_0 1 rfl rfl)
theorem dX0_sizeOfCrab_2 : decode cX0_sizeOfCrab 2 = .ok (.aload_n 0, 1) := dk_42 (dk_at dksX0_sizeOfCrab_0 2 rfl rfl)
theorem dX0_sizeOfCrab_3 : decode cX0_sizeOfCrab 3 = .ok (.iload_n 1, 1) := dk_27 (dk_at dksX0_sizeOfCrab_0 3 rfl rfl)
theorem dX0_sizeOfCrab_4 : decode cX0_sizeOfCrab 4 = .ok (.invokevirtual 113, 3) := dk_182 0 113 (dk_at dksX0_sizeOfCrab_0 4 rfl rfl)
theorem dX0_sizeOfCrab_7 : decode cX0_sizeOfCrab 7 = .ok (.i2l, 1) := dk_133 (dk_at dksX0_sizeOfCrab_0 7 rfl rfl)
theorem dX0_sizeOfCrab_8 : decode cX0_sizeOfCrab 8 = .ok (.lastore, 1) := dk_80 (dk_at dksX0_sizeOfCrab_0 8 rfl rfl)
theorem dX0_sizeOfCrab_9 : decode cX0_sizeOfCrab 9 = .ok (.goto 6, 3) := dk_167 0 6 (dk_at dksX0_sizeOfCrab_0 9 rfl rfl)
theorem dX0_sizeOfCrab_12 : decode cX0_sizeOfCrab 12 = .ok (.astore_n 3, 1) := dk_78 (dk_at dksX0_sizeOfCrab_0 12 rfl rfl)
theorem dX0_sizeOfCrab_13 : decode cX0_sizeOfCrab 13 = .ok (.iconst 1, 1) := dk_4 (dk_at dksX0_sizeOfCrab_0 13 rfl rfl)
theorem dX0_sizeOfCrab_14 : decode cX0_sizeOfCrab 14 = .ok (.ireturn, 1) := dk_172 (dk_at dksX0_sizeOfCrab_0 14 rfl rfl)
theorem dX0_sizeOfCrab_15 : decode cX0_sizeOfCrab 15 = .ok (.iconst 0, 1) := dk_3 (dk_at dksX0_sizeOfCrab_0 15 rfl rfl)
theorem dX0_sizeOfCrab_16 : decode cX0_sizeOfCrab 16 = .ok (.ireturn, 1) := dk_172 (dk_at dksX0_sizeOfCrab_0 16 rfl rfl)
abbrev cX0_poolOfCrab : ByteArray := method_35_code
def yX0_poolOfCrab : MethodName := ⟨RX0, "poolOfCrab", "(LShorePools;I[J)I"⟩
def dkwX0_poolOfCrab_0 : List UInt8 := [44, 3, 42, 27, 182, 0, 116, 133, 80, 167, 0, 6, 78, 4, 172, 3, 172]
abbrev dktX0_poolOfCrab_0 : List UInt8 := dkwX0_poolOfCrab_0 ++ []
theorem dksX0_poolOfCrab_0 : cX0_poolOfCrab.data.toList.drop 0 = dktX0_poolOfCrab_0 := by decide +kernel
theorem dX0_poolOfCrab_0 : decode cX0_poolOfCrab 0 = .ok (.aload_n 2, 1) := dk_44 (dk_at dksX0_poolOfCrab_0 0 rfl rfl)
theorem dX0_poolOfCrab_1 : decode cX0_poolOfCrab 1 = .ok (.iconst 0, 1) := dk_3 (dk_at dksX0_poolOfCrab_0 1 rfl rfl)
theorem dX0_poolOfCrab_2 : decode cX0_poolOfCrab 2 = .ok (.aload_n 0, 1) := dk_42 (dk_at dksX0_poolOfCrab_0 2 rfl rfl)
theorem dX0_poolOfCrab_3 : decode cX0_poolOfCrab 3 = .ok (.iload_n 1, 1) := dk_27 (dk_at dksX0_poolOfCrab_0 3 rfl rfl)
theorem dX0_poolOfCrab_4 : decode cX0_poolOfCrab 4 = .ok (.invokevirtual 116, 3) := dk_182 0 116 (dk_at dksX0_poolOfCrab_0 4 rfl rfl)
theorem dX0_poolOfCrab_7 : decode cX0_poolOfCrab 7 = .ok (.i2l, 1) := dk_133 (dk_at dksX0_poolOfCrab_0 7 rfl rfl)
theorem dX0_poolOfCrab_8 : decode cX0_poolOfCrab 8 = .ok (.lastore, 1) := dk_80 (dk_at dksX0_poolOfCrab_0 8 rfl rfl)
theorem dX0_poolOfCrab_9 : decode cX0_poolOfCrab 9 = .ok (.goto 6, 3) := dk_167 0 6 (dk_at dksX0_poolOfCrab_0 9 rfl rfl)
theorem dX0_poolOfCrab_12 : decode cX0_poolOfCrab 12 = .ok (.astore_n 3, 1) := dk_78 (dk_at dksX0_poolOfCrab_0 12 rfl rfl)
theorem dX0_poolOfCrab_13 : decode cX0_poolOfCrab 13 = .ok (.iconst 1, 1) := dk_4 (dk_at dksX0_poolOfCrab_0 13 rfl rfl)
theorem dX0_poolOfCrab_14 : decode cX0_poolOfCrab 14 = .ok (.ireturn, 1) := dk_172 (dk_at dksX0_poolOfCrab_0 14 rfl rfl)
theorem dX0_poolOfCrab_15 : decode cX0_poolOfCrab 15 = .ok (.iconst 0, 1) := dk_3 (dk_at dksX0_poolOfCrab_0 15 rfl rfl)
theorem dX0_poolOfCrab_16 : decode cX0_poolOfCrab 16 = .ok (.ireturn, 1) := dk_172 (dk_at dksX0_poolOfCrab_0 16 rfl rfl)
abbrev cX0_shellOf : ByteArray := method_36_code
def yX0_shellOf : MethodName := ⟨RX0, "shellOf", "(LShorePools;I[J)I"⟩
def dkwX0_shellOf_0 : List UInt8 := [44, 3, 42, 27, 182, 0, 119, 133, 80, 167, 0, 6, 78, 4, 172, 3, 172]
abbrev dktX0_shellOf_0 : List UInt8 := dkwX0_shellOf_0 ++ []
theorem dksX0_shellOf_0 : cX0_shellOf.data.toList.drop 0 = dktX0_shellOf_0 := by decide +kernel
theorem dX0_shellOf_0 : decode cX0_shellOf 0 = .ok (.aload_n 2, 1) := dk_44 (dk_at dksX0_shellOf_0 0 rfl rfl)
theorem dX0_shellOf_1 : decode cX0_shellOf 1 = .ok (.iconst 0, 1) := dk_3 (dk_at dksX0_shellOf_0 1 rfl rfl)
theorem dX0_shellOf_2 : decode cX0_shellOf 2 = .ok (.aload_n 0, 1) := dk_42 (dk_at dksX0_shellOf_0 2 rfl rfl)
theorem dX0_shellOf_3 : decode cX0_shellOf 3 = .ok (.iload_n 1, 1) := dk_27 (dk_at dksX0_shellOf_0 3 rfl rfl)
theorem dX0_shellOf_4 : decode cX0_shellOf 4 = .ok (.invokevirtual 119, 3) := dk_182 0 119 (dk_at dksX0_shellOf_0 4 rfl rfl)
theorem dX0_shellOf_7 : decode cX0_shellOf 7 = .ok (.i2l, 1) := dk_133 (dk_at dksX0_shellOf_0 7 rfl rfl)
theorem dX0_shellOf_8 : decode cX0_shellOf 8 = .ok (.lastore, 1) := dk_80 (dk_at dksX0_shellOf_0 8 rfl rfl)
theorem dX0_shellOf_9 : decode cX0_shellOf 9 = .ok (.goto 6, 3) := dk_167 0 6 (dk_at dksX0_shellOf_0 9 rfl rfl)
theorem dX0_shellOf_12 : decode cX0_shellOf 12 = .ok (.astore_n 3, 1) := dk_78 (dk_at dksX0_shellOf_0 12 rfl rfl)
theorem dX0_shellOf_13 : decode cX0_shellOf 13 = .ok (.iconst 1, 1) := dk_4 (dk_at dksX0_shellOf_0 13 rfl rfl)
theorem dX0_shellOf_14 : decode cX0_shellOf 14 = .ok (.ireturn, 1) := dk_172 (dk_at dksX0_shellOf_0 14 rfl rfl)
theorem dX0_shellOf_15 : decode cX0_shellOf 15 = .ok (.iconst 0, 1) := dk_3 (dk_at dksX0_shellOf_0 15 rfl rfl)
theorem dX0_shellOf_16 : decode cX0_shellOf 16 = .ok (.ireturn, 1) := dk_172 (dk_at dksX0_shellOf_0 16 rfl rfl)
abbrev cX0_worth : ByteArray := method_37_code
def yX0_worth : MethodName := ⟨RX0, "worth", "(LShorePools;II[J)I"⟩
def dkwX0_worth_0 : List UInt8 := [45, 3, 42, 27, 28, 182, 0, 122, 133, 80, 167, 0, 7, 58, 4, 4, 172, 3, 172]
abbrev dktX0_worth_0 : List UInt8 := dkwX0_worth_0 ++ []
theorem dksX0_worth_0 : cX0_worth.data.toList.drop 0 = dktX0_worth_0 := by decide +kernel
theorem dX0_worth_0 : decode cX0_worth 0 = .ok (.aload_n 3, 1) := dk_45 (dk_at dksX0_worth_0 0 rfl rfl)
theorem dX0_worth_1 : decode cX0_worth 1 = .ok (.iconst 0, 1) := dk_3 (dk_at dksX0_worth_0 1 rfl rfl)
theorem dX0_worth_2 : decode cX0_worth 2 = .ok (.aload_n 0, 1) := dk_42 (dk_at dksX0_worth_0 2 rfl rfl)
theorem dX0_worth_3 : decode cX0_worth 3 = .ok (.iload_n 1, 1) := dk_27 (dk_at dksX0_worth_0 3 rfl rfl)
theorem dX0_worth_4 : decode cX0_worth 4 = .ok (.iload_n 2, 1) := dk_28 (dk_at dksX0_worth_0 4 rfl rfl)
theorem dX0_worth_5 : decode cX0_worth 5 = .ok (.invokevirtual 122, 3) := dk_182 0 122 (dk_at dksX0_worth_0 5 rfl rfl)
theorem dX0_worth_8 : decode cX0_worth 8 = .ok (.i2l, 1) := dk_133 (dk_at dksX0_worth_0 8 rfl rfl)
theorem dX0_worth_9 : decode cX0_worth 9 = .ok (.lastore, 1) := dk_80 (dk_at dksX0_worth_0 9 rfl rfl)
theorem dX0_worth_10 : decode cX0_worth 10 = .ok (.goto 7, 3) := dk_167 0 7 (dk_at dksX0_worth_0 10 rfl rfl)
theorem dX0_worth_13 : decode cX0_worth 13 = .ok (.astore 4, 2) := dk_58 4 (dk_at dksX0_worth_0 13 rfl rfl)
theorem dX0_worth_15 : decode cX0_worth 15 = .ok (.iconst 1, 1) := dk_4 (dk_at dksX0_worth_0 15 rfl rfl)
theorem dX0_worth_16 : decode cX0_worth 16 = .ok (.ireturn, 1) := dk_172 (dk_at dksX0_worth_0 16 rfl rfl)
theorem dX0_worth_17 : decode cX0_worth 17 = .ok (.iconst 0, 1) := dk_3 (dk_at dksX0_worth_0 17 rfl rfl)
theorem dX0_worth_18 : decode cX0_worth 18 = .ok (.ireturn, 1) := dk_172 (dk_at dksX0_worth_0 18 rfl rfl)
abbrev cX0_wouldTake : ByteArray := method_38_code
def yX0_wouldTake : MethodName := ⟨RX0, "wouldTake", "(LShorePools;I[J)I"⟩
def dkwX0_wouldTake_0 : List UInt8 := [44, 3, 42, 27, 182, 0, 125, 133, 80, 167, 0, 6, 78, 4, 172, 3, 172]
abbrev dktX0_wouldTake_0 : List UInt8 := dkwX0_wouldTake_0 ++ []
theorem dksX0_wouldTake_0 : cX0_wouldTake.data.toList.drop 0 = dktX0_wouldTake_0 := by decide +kernel
theorem dX0_wouldTake_0 : decode cX0_wouldTake 0 = .ok (.aload_n 2, 1) := dk_44 (dk_at dksX0_wouldTake_0 0 rfl rfl)
theorem dX0_wouldTake_1 : decode cX0_wouldTake 1 = .ok (.iconst 0, 1) := dk_3 (dk_at dksX0_wouldTake_0 1 rfl rfl)
theorem dX0_wouldTake_2 : decode cX0_wouldTake 2 = .ok (.aload_n 0, 1) := dk_42 (dk_at dksX0_wouldTake_0 2 rfl rfl)
theorem dX0_wouldTake_3 : decode cX0_wouldTake 3 = .ok (.iload_n 1, 1) := dk_27 (dk_at dksX0_wouldTake_0 3 rfl rfl)
theorem dX0_wouldTake_4 : decode cX0_wouldTake 4 = .ok (.invokevirtual 125, 3) := dk_182 0 125 (dk_at dksX0_wouldTake_0 4 rfl rfl)
theorem dX0_wouldTake_7 : decode cX0_wouldTake 7 = .ok (.i2l, 1) := dk_133 (dk_at dksX0_wouldTake_0 7 rfl rfl)
theorem dX0_wouldTake_8 : decode cX0_wouldTake 8 = .ok (.lastore, 1) := dk_80 (dk_at dksX0_wouldTake_0 8 rfl rfl)
theorem dX0_wouldTake_9 : decode cX0_wouldTake 9 = .ok (.goto 6, 3) := dk_167 0 6 (dk_at dksX0_wouldTake_0 9 rfl rfl)
theorem dX0_wouldTake_12 : decode cX0_wouldTake 12 = .ok (.astore_n 3, 1) := dk_78 (dk_at dksX0_wouldTake_0 12 rfl rfl)
theorem dX0_wouldTake_13 : decode cX0_wouldTake 13 = .ok (.iconst 1, 1) := dk_4 (dk_at dksX0_wouldTake_0 13 rfl rfl)
theorem dX0_wouldTake_14 : decode cX0_wouldTake 14 = .ok (.ireturn, 1) := dk_172 (dk_at dksX0_wouldTake_0 14 rfl rfl)
theorem dX0_wouldTake_15 : decode cX0_wouldTake 15 = .ok (.iconst 0, 1) := dk_3 (dk_at dksX0_wouldTake_0 15 rfl rfl)
theorem dX0_wouldTake_16 : decode cX0_wouldTake 16 = .ok (.ireturn, 1) := dk_172 (dk_at dksX0_wouldTake_0 16 rfl rfl)
abbrev cX0_changesOf : ByteArray := method_39_code
def yX0_changesOf : MethodName := ⟨RX0, "changesOf", "(LShorePools;I[J)I"⟩
def dkwX0_changesOf_0 : List UInt8 := [44, 3, 42, 27, 182, 0, 128, 133, 80, 167, 0, 6, 78, 4, 172, 3, 172]
abbrev dktX0_changesOf_0 : List UInt8 := dkwX0_changesOf_0 ++ []
theorem dksX0_changesOf_0 : cX0_changesOf.data.toList.drop 0 = dktX0_changesOf_0 := by decide +kernel
theorem dX0_changesOf_0 : decode cX0_changesOf 0 = .ok (.aload_n 2, 1) := dk_44 (dk_at dksX0_changesOf_0 0 rfl rfl)
theorem dX0_changesOf_1 : decode cX0_changesOf 1 = .ok (.iconst 0, 1) := dk_3 (dk_at dksX0_changesOf_0 1 rfl rfl)
theorem dX0_changesOf_2 : decode cX0_changesOf 2 = .ok (.aload_n 0, 1) := dk_42 (dk_at dksX0_changesOf_0 2 rfl rfl)
theorem dX0_changesOf_3 : decode cX0_changesOf 3 = .ok (.iload_n 1, 1) := dk_27 (dk_at dksX0_changesOf_0 3 rfl rfl)
theorem dX0_changesOf_4 : decode cX0_changesOf 4 = .ok (.invokevirtual 128, 3) := dk_182 0 128 (dk_at dksX0_changesOf_0 4 rfl rfl)
theorem dX0_changesOf_7 : decode cX0_changesOf 7 = .ok (.i2l, 1) := dk_133 (dk_at dksX0_changesOf_0 7 rfl rfl)
theorem dX0_changesOf_8 : decode cX0_changesOf 8 = .ok (.lastore, 1) := dk_80 (dk_at dksX0_changesOf_0 8 rfl rfl)
theorem dX0_changesOf_9 : decode cX0_changesOf 9 = .ok (.goto 6, 3) := dk_167 0 6 (dk_at dksX0_changesOf_0 9 rfl rfl)
theorem dX0_changesOf_12 : decode cX0_changesOf 12 = .ok (.astore_n 3, 1) := dk_78 (dk_at dksX0_changesOf_0 12 rfl rfl)
theorem dX0_changesOf_13 : decode cX0_changesOf 13 = .ok (.iconst 1, 1) := dk_4 (dk_at dksX0_changesOf_0 13 rfl rfl)
theorem dX0_changesOf_14 : decode cX0_changesOf 14 = .ok (.ireturn, 1) := dk_172 (dk_at dksX0_changesOf_0 14 rfl rfl)
theorem dX0_changesOf_15 : decode cX0_changesOf 15 = .ok (.iconst 0, 1) := dk_3 (dk_at dksX0_changesOf_0 15 rfl rfl)
theorem dX0_changesOf_16 : decode cX0_changesOf 16 = .ok (.ireturn, 1) := dk_172 (dk_at dksX0_changesOf_0 16 rfl rfl)
abbrev cX0_preyIn : ByteArray := method_40_code
def yX0_preyIn : MethodName := ⟨RX0, "preyIn", "(LShorePools;I[J)I"⟩
def dkwX0_preyIn_0 : List UInt8 := [44, 3, 42, 27, 182, 0, 131, 133, 80, 167, 0, 6, 78, 4, 172, 3, 172]
abbrev dktX0_preyIn_0 : List UInt8 := dkwX0_preyIn_0 ++ []
theorem dksX0_preyIn_0 : cX0_preyIn.data.toList.drop 0 = dktX0_preyIn_0 := by decide +kernel
theorem dX0_preyIn_0 : decode cX0_preyIn 0 = .ok (.aload_n 2, 1) := dk_44 (dk_at dksX0_preyIn_0 0 rfl rfl)
theorem dX0_preyIn_1 : decode cX0_preyIn 1 = .ok (.iconst 0, 1) := dk_3 (dk_at dksX0_preyIn_0 1 rfl rfl)
theorem dX0_preyIn_2 : decode cX0_preyIn 2 = .ok (.aload_n 0, 1) := dk_42 (dk_at dksX0_preyIn_0 2 rfl rfl)
theorem dX0_preyIn_3 : decode cX0_preyIn 3 = .ok (.iload_n 1, 1) := dk_27 (dk_at dksX0_preyIn_0 3 rfl rfl)
theorem dX0_preyIn_4 : decode cX0_preyIn 4 = .ok (.invokevirtual 131, 3) := dk_182 0 131 (dk_at dksX0_preyIn_0 4 rfl rfl)
theorem dX0_preyIn_7 : decode cX0_preyIn 7 = .ok (.i2l, 1) := dk_133 (dk_at dksX0_preyIn_0 7 rfl rfl)
theorem dX0_preyIn_8 : decode cX0_preyIn 8 = .ok (.lastore, 1) := dk_80 (dk_at dksX0_preyIn_0 8 rfl rfl)
theorem dX0_preyIn_9 : decode cX0_preyIn 9 = .ok (.goto 6, 3) := dk_167 0 6 (dk_at dksX0_preyIn_0 9 rfl rfl)
theorem dX0_preyIn_12 : decode cX0_preyIn 12 = .ok (.astore_n 3, 1) := dk_78 (dk_at dksX0_preyIn_0 12 rfl rfl)
theorem dX0_preyIn_13 : decode cX0_preyIn 13 = .ok (.iconst 1, 1) := dk_4 (dk_at dksX0_preyIn_0 13 rfl rfl)
theorem dX0_preyIn_14 : decode cX0_preyIn 14 = .ok (.ireturn, 1) := dk_172 (dk_at dksX0_preyIn_0 14 rfl rfl)
theorem dX0_preyIn_15 : decode cX0_preyIn 15 = .ok (.iconst 0, 1) := dk_3 (dk_at dksX0_preyIn_0 15 rfl rfl)
theorem dX0_preyIn_16 : decode cX0_preyIn 16 = .ok (.ireturn, 1) := dk_172 (dk_at dksX0_preyIn_0 16 rfl rfl)
abbrev cX0_chainBy : ByteArray := method_41_code
def yX0_chainBy : MethodName := ⟨RX0, "chainBy", "(LShorePools;II[J)I"⟩
def dkwX0_chainBy_0 : List UInt8 := [45, 3, 42, 27, 28, 182, 0, 134, 133, 80, 167, 0, 11, 58, 4, 4, 172, 58, 4, 5, 172, 3, 172]
abbrev dktX0_chainBy_0 : List UInt8 := dkwX0_chainBy_0 ++ []
theorem dksX0_chainBy_0 : cX0_chainBy.data.toList.drop 0 = dktX0_chainBy_0 := by decide +kernel
theorem dX0_chainBy_0 : decode cX0_chainBy 0 = .ok (.aload_n 3, 1) := dk_45 (dk_at dksX0_chainBy_0 0 rfl rfl)
theorem dX0_chainBy_1 : decode cX0_chainBy 1 = .ok (.iconst 0, 1) := dk_3 (dk_at dksX0_chainBy_0 1 rfl rfl)
theorem dX0_chainBy_2 : decode cX0_chainBy 2 = .ok (.aload_n 0, 1) := dk_42 (dk_at dksX0_chainBy_0 2 rfl rfl)
theorem dX0_chainBy_3 : decode cX0_chainBy 3 = .ok (.iload_n 1, 1) := dk_27 (dk_at dksX0_chainBy_0 3 rfl rfl)
theorem dX0_chainBy_4 : decode cX0_chainBy 4 = .ok (.iload_n 2, 1) := dk_28 (dk_at dksX0_chainBy_0 4 rfl rfl)
theorem dX0_chainBy_5 : decode cX0_chainBy 5 = .ok (.invokevirtual 134, 3) := dk_182 0 134 (dk_at dksX0_chainBy_0 5 rfl rfl)
theorem dX0_chainBy_8 : decode cX0_chainBy 8 = .ok (.i2l, 1) := dk_133 (dk_at dksX0_chainBy_0 8 rfl rfl)
theorem dX0_chainBy_9 : decode cX0_chainBy 9 = .ok (.lastore, 1) := dk_80 (dk_at dksX0_chainBy_0 9 rfl rfl)
theorem dX0_chainBy_10 : decode cX0_chainBy 10 = .ok (.goto 11, 3) := dk_167 0 11 (dk_at dksX0_chainBy_0 10 rfl rfl)
theorem dX0_chainBy_13 : decode cX0_chainBy 13 = .ok (.astore 4, 2) := dk_58 4 (dk_at dksX0_chainBy_0 13 rfl rfl)
theorem dX0_chainBy_15 : decode cX0_chainBy 15 = .ok (.iconst 1, 1) := dk_4 (dk_at dksX0_chainBy_0 15 rfl rfl)
theorem dX0_chainBy_16 : decode cX0_chainBy 16 = .ok (.ireturn, 1) := dk_172 (dk_at dksX0_chainBy_0 16 rfl rfl)
theorem dX0_chainBy_17 : decode cX0_chainBy 17 = .ok (.astore 4, 2) := dk_58 4 (dk_at dksX0_chainBy_0 17 rfl rfl)
theorem dX0_chainBy_19 : decode cX0_chainBy 19 = .ok (.iconst 2, 1) := dk_5 (dk_at dksX0_chainBy_0 19 rfl rfl)
theorem dX0_chainBy_20 : decode cX0_chainBy 20 = .ok (.ireturn, 1) := dk_172 (dk_at dksX0_chainBy_0 20 rfl rfl)
theorem dX0_chainBy_21 : decode cX0_chainBy 21 = .ok (.iconst 0, 1) := dk_3 (dk_at dksX0_chainBy_0 21 rfl rfl)
theorem dX0_chainBy_22 : decode cX0_chainBy 22 = .ok (.ireturn, 1) := dk_172 (dk_at dksX0_chainBy_0 22 rfl rfl)
abbrev cX0_bestSize : ByteArray := method_42_code
def yX0_bestSize : MethodName := ⟨RX0, "bestSize", "(LShorePools;I[J)I"⟩
def dkwX0_bestSize_0 : List UInt8 := [44, 3, 42, 27, 182, 0, 137, 133, 80, 167, 0, 6, 78, 4, 172, 3, 172]
abbrev dktX0_bestSize_0 : List UInt8 := dkwX0_bestSize_0 ++ []
theorem dksX0_bestSize_0 : cX0_bestSize.data.toList.drop 0 = dktX0_bestSize_0 := by decide +kernel
theorem dX0_bestSize_0 : decode cX0_bestSize 0 = .ok (.aload_n 2, 1) := dk_44 (dk_at dksX0_bestSize_0 0 rfl rfl)
theorem dX0_bestSize_1 : decode cX0_bestSize 1 = .ok (.iconst 0, 1) := dk_3 (dk_at dksX0_bestSize_0 1 rfl rfl)
theorem dX0_bestSize_2 : decode cX0_bestSize 2 = .ok (.aload_n 0, 1) := dk_42 (dk_at dksX0_bestSize_0 2 rfl rfl)
theorem dX0_bestSize_3 : decode cX0_bestSize 3 = .ok (.iload_n 1, 1) := dk_27 (dk_at dksX0_bestSize_0 3 rfl rfl)
theorem dX0_bestSize_4 : decode cX0_bestSize 4 = .ok (.invokevirtual 137, 3) := dk_182 0 137 (dk_at dksX0_bestSize_0 4 rfl rfl)
theorem dX0_bestSize_7 : decode cX0_bestSize 7 = .ok (.i2l, 1) := dk_133 (dk_at dksX0_bestSize_0 7 rfl rfl)
theorem dX0_bestSize_8 : decode cX0_bestSize 8 = .ok (.lastore, 1) := dk_80 (dk_at dksX0_bestSize_0 8 rfl rfl)
theorem dX0_bestSize_9 : decode cX0_bestSize 9 = .ok (.goto 6, 3) := dk_167 0 6 (dk_at dksX0_bestSize_0 9 rfl rfl)
theorem dX0_bestSize_12 : decode cX0_bestSize 12 = .ok (.astore_n 3, 1) := dk_78 (dk_at dksX0_bestSize_0 12 rfl rfl)
theorem dX0_bestSize_13 : decode cX0_bestSize 13 = .ok (.iconst 1, 1) := dk_4 (dk_at dksX0_bestSize_0 13 rfl rfl)
theorem dX0_bestSize_14 : decode cX0_bestSize 14 = .ok (.ireturn, 1) := dk_172 (dk_at dksX0_bestSize_0 14 rfl rfl)
theorem dX0_bestSize_15 : decode cX0_bestSize 15 = .ok (.iconst 0, 1) := dk_3 (dk_at dksX0_bestSize_0 15 rfl rfl)
theorem dX0_bestSize_16 : decode cX0_bestSize 16 = .ok (.ireturn, 1) := dk_172 (dk_at dksX0_bestSize_0 16 rfl rfl)
abbrev cX0_lostIn : ByteArray := method_43_code
def yX0_lostIn : MethodName := ⟨RX0, "lostIn", "(LShorePools;I[J)I"⟩
def dkwX0_lostIn_0 : List UInt8 := [44, 3, 42, 27, 182, 0, 140, 133, 80, 167, 0, 6, 78, 4, 172, 3, 172]
abbrev dktX0_lostIn_0 : List UInt8 := dkwX0_lostIn_0 ++ []
theorem dksX0_lostIn_0 : cX0_lostIn.data.toList.drop 0 = dktX0_lostIn_0 := by decide +kernel
theorem dX0_lostIn_0 : decode cX0_lostIn 0 = .ok (.aload_n 2, 1) := dk_44 (dk_at dksX0_lostIn_0 0 rfl rfl)
theorem dX0_lostIn_1 : decode cX0_lostIn 1 = .ok (.iconst 0, 1) := dk_3 (dk_at dksX0_lostIn_0 1 rfl rfl)
theorem dX0_lostIn_2 : decode cX0_lostIn 2 = .ok (.aload_n 0, 1) := dk_42 (dk_at dksX0_lostIn_0 2 rfl rfl)
theorem dX0_lostIn_3 : decode cX0_lostIn 3 = .ok (.iload_n 1, 1) := dk_27 (dk_at dksX0_lostIn_0 3 rfl rfl)
theorem dX0_lostIn_4 : decode cX0_lostIn 4 = .ok (.invokevirtual 140, 3) := dk_182 0 140 (dk_at dksX0_lostIn_0 4 rfl rfl)
theorem dX0_lostIn_7 : decode cX0_lostIn 7 = .ok (.i2l, 1) := dk_133 (dk_at dksX0_lostIn_0 7 rfl rfl)
theorem dX0_lostIn_8 : decode cX0_lostIn 8 = .ok (.lastore, 1) := dk_80 (dk_at dksX0_lostIn_0 8 rfl rfl)
theorem dX0_lostIn_9 : decode cX0_lostIn 9 = .ok (.goto 6, 3) := dk_167 0 6 (dk_at dksX0_lostIn_0 9 rfl rfl)
theorem dX0_lostIn_12 : decode cX0_lostIn 12 = .ok (.astore_n 3, 1) := dk_78 (dk_at dksX0_lostIn_0 12 rfl rfl)
theorem dX0_lostIn_13 : decode cX0_lostIn 13 = .ok (.iconst 1, 1) := dk_4 (dk_at dksX0_lostIn_0 13 rfl rfl)
theorem dX0_lostIn_14 : decode cX0_lostIn 14 = .ok (.ireturn, 1) := dk_172 (dk_at dksX0_lostIn_0 14 rfl rfl)
theorem dX0_lostIn_15 : decode cX0_lostIn 15 = .ok (.iconst 0, 1) := dk_3 (dk_at dksX0_lostIn_0 15 rfl rfl)
theorem dX0_lostIn_16 : decode cX0_lostIn 16 = .ok (.ireturn, 1) := dk_172 (dk_at dksX0_lostIn_0 16 rfl rfl)
abbrev cX0_hoursToLive : ByteArray := method_44_code
def yX0_hoursToLive : MethodName := ⟨RX0, "hoursToLive", "(LShorePools;I[J)I"⟩
def dkwX0_hoursToLive_0 : List UInt8 := [44, 3, 42, 27, 182, 0, 143, 133, 80, 167, 0, 9, 78, 4, 172, 78, 5, 172, 3, 172]
abbrev dktX0_hoursToLive_0 : List UInt8 := dkwX0_hoursToLive_0 ++ []
theorem dksX0_hoursToLive_0 : cX0_hoursToLive.data.toList.drop 0 = dktX0_hoursToLive_0 := by decide +kernel
theorem dX0_hoursToLive_0 : decode cX0_hoursToLive 0 = .ok (.aload_n 2, 1) := dk_44 (dk_at dksX0_hoursToLive_0 0 rfl rfl)
theorem dX0_hoursToLive_1 : decode cX0_hoursToLive 1 = .ok (.iconst 0, 1) := dk_3 (dk_at dksX0_hoursToLive_0 1 rfl rfl)
theorem dX0_hoursToLive_2 : decode cX0_hoursToLive 2 = .ok (.aload_n 0, 1) := dk_42 (dk_at dksX0_hoursToLive_0 2 rfl rfl)
theorem dX0_hoursToLive_3 : decode cX0_hoursToLive 3 = .ok (.iload_n 1, 1) := dk_27 (dk_at dksX0_hoursToLive_0 3 rfl rfl)
theorem dX0_hoursToLive_4 : decode cX0_hoursToLive 4 = .ok (.invokevirtual 143, 3) := dk_182 0 143 (dk_at dksX0_hoursToLive_0 4 rfl rfl)
theorem dX0_hoursToLive_7 : decode cX0_hoursToLive 7 = .ok (.i2l, 1) := dk_133 (dk_at dksX0_hoursToLive_0 7 rfl rfl)
theorem dX0_hoursToLive_8 : decode cX0_hoursToLive 8 = .ok (.lastore, 1) := dk_80 (dk_at dksX0_hoursToLive_0 8 rfl rfl)
theorem dX0_hoursToLive_9 : decode cX0_hoursToLive 9 = .ok (.goto 9, 3) := dk_167 0 9 (dk_at dksX0_hoursToLive_0 9 rfl rfl)
theorem dX0_hoursToLive_12 : decode cX0_hoursToLive 12 = .ok (.astore_n 3, 1) := dk_78 (dk_at dksX0_hoursToLive_0 12 rfl rfl)
theorem dX0_hoursToLive_13 : decode cX0_hoursToLive 13 = .ok (.iconst 1, 1) := dk_4 (dk_at dksX0_hoursToLive_0 13 rfl rfl)
theorem dX0_hoursToLive_14 : decode cX0_hoursToLive 14 = .ok (.ireturn, 1) := dk_172 (dk_at dksX0_hoursToLive_0 14 rfl rfl)
theorem dX0_hoursToLive_15 : decode cX0_hoursToLive 15 = .ok (.astore_n 3, 1) := dk_78 (dk_at dksX0_hoursToLive_0 15 rfl rfl)
theorem dX0_hoursToLive_16 : decode cX0_hoursToLive 16 = .ok (.iconst 2, 1) := dk_5 (dk_at dksX0_hoursToLive_0 16 rfl rfl)
theorem dX0_hoursToLive_17 : decode cX0_hoursToLive 17 = .ok (.ireturn, 1) := dk_172 (dk_at dksX0_hoursToLive_0 17 rfl rfl)
theorem dX0_hoursToLive_18 : decode cX0_hoursToLive 18 = .ok (.iconst 0, 1) := dk_3 (dk_at dksX0_hoursToLive_0 18 rfl rfl)
theorem dX0_hoursToLive_19 : decode cX0_hoursToLive 19 = .ok (.ireturn, 1) := dk_172 (dk_at dksX0_hoursToLive_0 19 rfl rfl)
abbrev cX0_hoursToChange : ByteArray := method_45_code
def yX0_hoursToChange : MethodName := ⟨RX0, "hoursToChange", "(LShorePools;I[J)I"⟩
def dkwX0_hoursToChange_0 : List UInt8 := [44, 3, 42, 27, 182, 0, 146, 133, 80, 167, 0, 9, 78, 4, 172, 78, 5, 172, 3, 172]
abbrev dktX0_hoursToChange_0 : List UInt8 := dkwX0_hoursToChange_0 ++ []
theorem dksX0_hoursToChange_0 : cX0_hoursToChange.data.toList.drop 0 = dktX0_hoursToChange_0 := by decide +kernel
theorem dX0_hoursToChange_0 : decode cX0_hoursToChange 0 = .ok (.aload_n 2, 1) := dk_44 (dk_at dksX0_hoursToChange_0 0 rfl rfl)
theorem dX0_hoursToChange_1 : decode cX0_hoursToChange 1 = .ok (.iconst 0, 1) := dk_3 (dk_at dksX0_hoursToChange_0 1 rfl rfl)
theorem dX0_hoursToChange_2 : decode cX0_hoursToChange 2 = .ok (.aload_n 0, 1) := dk_42 (dk_at dksX0_hoursToChange_0 2 rfl rfl)
theorem dX0_hoursToChange_3 : decode cX0_hoursToChange 3 = .ok (.iload_n 1, 1) := dk_27 (dk_at dksX0_hoursToChange_0 3 rfl rfl)
theorem dX0_hoursToChange_4 : decode cX0_hoursToChange 4 = .ok (.invokevirtual 146, 3) := dk_182 0 146 (dk_at dksX0_hoursToChange_0 4 rfl rfl)
theorem dX0_hoursToChange_7 : decode cX0_hoursToChange 7 = .ok (.i2l, 1) := dk_133 (dk_at dksX0_hoursToChange_0 7 rfl rfl)
theorem dX0_hoursToChange_8 : decode cX0_hoursToChange 8 = .ok (.lastore, 1) := dk_80 (dk_at dksX0_hoursToChange_0 8 rfl rfl)
theorem dX0_hoursToChange_9 : decode cX0_hoursToChange 9 = .ok (.goto 9, 3) := dk_167 0 9 (dk_at dksX0_hoursToChange_0 9 rfl rfl)
theorem dX0_hoursToChange_12 : decode cX0_hoursToChange 12 = .ok (.astore_n 3, 1) := dk_78 (dk_at dksX0_hoursToChange_0 12 rfl rfl)
theorem dX0_hoursToChange_13 : decode cX0_hoursToChange 13 = .ok (.iconst 1, 1) := dk_4 (dk_at dksX0_hoursToChange_0 13 rfl rfl)
theorem dX0_hoursToChange_14 : decode cX0_hoursToChange 14 = .ok (.ireturn, 1) := dk_172 (dk_at dksX0_hoursToChange_0 14 rfl rfl)
theorem dX0_hoursToChange_15 : decode cX0_hoursToChange 15 = .ok (.astore_n 3, 1) := dk_78 (dk_at dksX0_hoursToChange_0 15 rfl rfl)
theorem dX0_hoursToChange_16 : decode cX0_hoursToChange 16 = .ok (.iconst 2, 1) := dk_5 (dk_at dksX0_hoursToChange_0 16 rfl rfl)
theorem dX0_hoursToChange_17 : decode cX0_hoursToChange 17 = .ok (.ireturn, 1) := dk_172 (dk_at dksX0_hoursToChange_0 17 rfl rfl)
theorem dX0_hoursToChange_18 : decode cX0_hoursToChange 18 = .ok (.iconst 0, 1) := dk_3 (dk_at dksX0_hoursToChange_0 18 rfl rfl)
theorem dX0_hoursToChange_19 : decode cX0_hoursToChange 19 = .ok (.ireturn, 1) := dk_172 (dk_at dksX0_hoursToChange_0 19 rfl rfl)
theorem q101 : (Jvm.Cond.initialized "ShorePoolsLaw") ∈ lw_all := lw_g (lw_at lw_m1 0 rfl) rfl
theorem q135 : (Jvm.Cond.classLink "ShorePoolsLaw" (8 : Nat) "ShorePools") ∈ lw_all := lw_g (lw_at lw_m1 34 rfl) rfl
theorem q137 : (Jvm.Cond.methodLink "ShorePoolsLaw" (149 : Nat) ({ cls := "ShorePools", name := "<init>", desc := "()V" } : Jvm.MethodName)) ∈ lw_all := lw_g (lw_at lw_m1 36 rfl) rfl
theorem q296 : (Jvm.Cond.methodLink "ShorePoolsLaw" (191 : Nat) ({ cls := "ShorePools", name := "clearNote", desc := "()I" } : Jvm.MethodName)) ∈ lw_all := lw_g (lw_at lw_m1 195 rfl) rfl
theorem q646 : (Jvm.Cond.methodLink "ShorePoolsLaw" (195 : Nat) ({ cls := "ShorePools", name := "noteError", desc := "()I" } : Jvm.MethodName)) ∈ lw_all := lw_g (lw_at lw_m3 65 rfl) rfl
theorem q826 : (Jvm.Cond.methodLink "ShorePoolsLaw" (209 : Nat) ({ cls := "ShorePools", name := "takeSnapshot", desc := "()I" } : Jvm.MethodName)) ∈ lw_all := lw_g (lw_at lw_m4 5 rfl) rfl
theorem q989 : (Jvm.Cond.methodLink "ShorePoolsLaw" (216 : Nat) ({ cls := "ShorePools", name := "time", desc := "()I" } : Jvm.MethodName)) ∈ lw_all := lw_g (lw_at lw_m4 168 rfl) rfl
theorem q993 : (Jvm.Cond.methodLink "ShorePoolsLaw" (220 : Nat) ({ cls := "ShorePools", name := "tide", desc := "()I" } : Jvm.MethodName)) ∈ lw_all := lw_g (lw_at lw_m4 172 rfl) rfl
theorem q1004 : (Jvm.Cond.methodLink "ShorePoolsLaw" (227 : Nat) ({ cls := "ShorePools", name := "heat", desc := "()I" } : Jvm.MethodName)) ∈ lw_all := lw_g (lw_at lw_m4 183 rfl) rfl
theorem q1008 : (Jvm.Cond.methodLink "ShorePoolsLaw" (231 : Nat) ({ cls := "ShorePools", name := "pause", desc := "()I" } : Jvm.MethodName)) ∈ lw_all := lw_g (lw_at lw_m4 187 rfl) rfl
theorem q1012 : (Jvm.Cond.methodLink "ShorePoolsLaw" (241 : Nat) ({ cls := "ShorePools", name := "floodedPools", desc := "()I" } : Jvm.MethodName)) ∈ lw_all := lw_g (lw_at lw_m4 191 rfl) rfl
theorem q1024 : (Jvm.Cond.methodLink "ShorePoolsLaw" (260 : Nat) ({ cls := "ShorePools", name := "limpets", desc := "()I" } : Jvm.MethodName)) ∈ lw_all := lw_g (lw_at lw_m4 203 rfl) rfl
theorem q1029 : (Jvm.Cond.methodLink "ShorePoolsLaw" (264 : Nat) ({ cls := "ShorePools", name := "livingLimpets", desc := "()I" } : Jvm.MethodName)) ∈ lw_all := lw_g (lw_at lw_m4 208 rfl) rfl
theorem q1056 : (Jvm.Cond.methodLink "ShorePoolsLaw" (283 : Nat) ({ cls := "ShorePools", name := "driest", desc := "()I" } : Jvm.MethodName)) ∈ lw_all := lw_g (lw_at lw_m4 235 rfl) rfl
theorem q1060 : (Jvm.Cond.methodLink "ShorePoolsLaw" (287 : Nat) ({ cls := "ShorePools", name := "shells", desc := "()I" } : Jvm.MethodName)) ∈ lw_all := lw_g (lw_at lw_m4 239 rfl) rfl
theorem q1064 : (Jvm.Cond.methodLink "ShorePoolsLaw" (291 : Nat) ({ cls := "ShorePools", name := "crabs", desc := "()I" } : Jvm.MethodName)) ∈ lw_all := lw_g (lw_at lw_m5 3 rfl) rfl
theorem q1068 : (Jvm.Cond.methodLink "ShorePoolsLaw" (295 : Nat) ({ cls := "ShorePools", name := "livingCrabs", desc := "()I" } : Jvm.MethodName)) ∈ lw_all := lw_g (lw_at lw_m5 7 rfl) rfl
theorem q1074 : (Jvm.Cond.methodLink "ShorePoolsLaw" (299 : Nat) ({ cls := "ShorePools", name := "wornByShells", desc := "()I" } : Jvm.MethodName)) ∈ lw_all := lw_g (lw_at lw_m5 13 rfl) rfl
theorem q1079 : (Jvm.Cond.methodLink "ShorePoolsLaw" (303 : Nat) ({ cls := "ShorePools", name := "wornByCrabs", desc := "()I" } : Jvm.MethodName)) ∈ lw_all := lw_g (lw_at lw_m5 18 rfl) rfl
theorem q1083 : (Jvm.Cond.methodLink "ShorePoolsLaw" (337 : Nat) ({ cls := "ShorePools", name := "heronAt", desc := "()I" } : Jvm.MethodName)) ∈ lw_all := lw_g (lw_at lw_m5 22 rfl) rfl
theorem q1087 : (Jvm.Cond.methodLink "ShorePoolsLaw" (341 : Nat) ({ cls := "ShorePools", name := "nextOfHeron", desc := "()I" } : Jvm.MethodName)) ∈ lw_all := lw_g (lw_at lw_m5 26 rfl) rfl
theorem q1095 : (Jvm.Cond.methodLink "ShorePoolsLaw" (348 : Nat) ({ cls := "ShorePools", name := "taken", desc := "()I" } : Jvm.MethodName)) ∈ lw_all := lw_g (lw_at lw_m5 34 rfl) rfl
theorem q1099 : (Jvm.Cond.methodLink "ShorePoolsLaw" (352 : Nat) ({ cls := "ShorePools", name := "takenByFates", desc := "()I" } : Jvm.MethodName)) ∈ lw_all := lw_g (lw_at lw_m5 38 rfl) rfl
theorem q1103 : (Jvm.Cond.methodLink "ShorePoolsLaw" (371 : Nat) ({ cls := "ShorePools", name := "mildestPause", desc := "()I" } : Jvm.MethodName)) ∈ lw_all := lw_g (lw_at lw_m5 42 rfl) rfl
theorem q1258 : (Jvm.Cond.methodLink "ShorePoolsLaw" (375 : Nat) ({ cls := "ShorePools", name := "recordedStates", desc := "()I" } : Jvm.MethodName)) ∈ lw_all := lw_g (lw_at lw_m5 197 rfl) rfl
theorem q1266 : (Jvm.Cond.methodLink "ShorePoolsLaw" (153 : Nat) ({ cls := "ShorePoolsLaw", name := "addLimpet", desc := "(LShorePools;I[J)I" } : Jvm.MethodName)) ∈ lw_all := lw_g (lw_at lw_m5 205 rfl) rfl
theorem q1267 : (Jvm.Cond.static ({ cls := "ShorePoolsLaw", name := "addLimpet", desc := "(LShorePools;I[J)I" } : Jvm.MethodName)) ∈ lw_all := lw_g (lw_at lw_m5 206 rfl) rfl
theorem q1268 : (Jvm.Cond.codeWith ({ cls := "ShorePoolsLaw", name := "addLimpet", desc := "(LShorePools;I[J)I" } : Jvm.MethodName) method_3_code (4 : Nat) (Option.some Jvm.ClassFile.FieldType.int) [((0 : Nat), (9 : Nat), (12 : Nat), (13 : Nat)), ((0 : Nat), (9 : Nat), (15 : Nat), (15 : Nat))]) ∈ lw_all := lw_g (lw_at lw_m5 207 rfl) rfl
theorem q1269 : (Jvm.Cond.classLink "ShorePoolsLaw" (13 : Nat) "java/lang/IndexOutOfBoundsException") ∈ lw_all := lw_g (lw_at lw_m5 208 rfl) rfl
theorem q1272 : (Jvm.Cond.classLink "ShorePoolsLaw" (15 : Nat) "java/lang/IllegalStateException") ∈ lw_all := lw_g (lw_at lw_m5 211 rfl) rfl
theorem q1273 : (Jvm.Cond.methodLink "ShorePoolsLaw" (7 : Nat) ({ cls := "ShorePools", name := "addLimpet", desc := "(I)I" } : Jvm.MethodName)) ∈ lw_all := lw_g (lw_at lw_m5 212 rfl) rfl
theorem q1353 : (Jvm.Cond.methodLink "ShorePoolsLaw" (162 : Nat) ({ cls := "ShorePoolsLaw", name := "addCrab", desc := "(LShorePools;II[J)I" } : Jvm.MethodName)) ∈ lw_all := lw_g (lw_at lw_m6 52 rfl) rfl
theorem q1354 : (Jvm.Cond.static ({ cls := "ShorePoolsLaw", name := "addCrab", desc := "(LShorePools;II[J)I" } : Jvm.MethodName)) ∈ lw_all := lw_g (lw_at lw_m6 53 rfl) rfl
theorem q1355 : (Jvm.Cond.codeWith ({ cls := "ShorePoolsLaw", name := "addCrab", desc := "(LShorePools;II[J)I" } : Jvm.MethodName) method_4_code (5 : Nat) (Option.some Jvm.ClassFile.FieldType.int) [((0 : Nat), (10 : Nat), (13 : Nat), (13 : Nat)), ((0 : Nat), (10 : Nat), (17 : Nat), (21 : Nat)), ((0 : Nat), (10 : Nat), (21 : Nat), (15 : Nat))]) ∈ lw_all := lw_g (lw_at lw_m6 54 rfl) rfl
theorem q1356 : (Jvm.Cond.classLink "ShorePoolsLaw" (21 : Nat) "java/lang/IllegalArgumentException") ∈ lw_all := lw_g (lw_at lw_m6 55 rfl) rfl
theorem q1357 : (Jvm.Cond.methodLink "ShorePoolsLaw" (17 : Nat) ({ cls := "ShorePools", name := "addCrab", desc := "(II)I" } : Jvm.MethodName)) ∈ lw_all := lw_g (lw_at lw_m6 56 rfl) rfl
theorem q1374 : (Jvm.Cond.methodLink "ShorePoolsLaw" (166 : Nat) ({ cls := "ShorePoolsLaw", name := "addShell", desc := "(LShorePools;II[J)I" } : Jvm.MethodName)) ∈ lw_all := lw_g (lw_at lw_m6 73 rfl) rfl
theorem q1375 : (Jvm.Cond.static ({ cls := "ShorePoolsLaw", name := "addShell", desc := "(LShorePools;II[J)I" } : Jvm.MethodName)) ∈ lw_all := lw_g (lw_at lw_m6 74 rfl) rfl
theorem q1376 : (Jvm.Cond.codeWith ({ cls := "ShorePoolsLaw", name := "addShell", desc := "(LShorePools;II[J)I" } : Jvm.MethodName) method_5_code (5 : Nat) (Option.some Jvm.ClassFile.FieldType.int) [((0 : Nat), (10 : Nat), (13 : Nat), (13 : Nat)), ((0 : Nat), (10 : Nat), (17 : Nat), (21 : Nat)), ((0 : Nat), (10 : Nat), (21 : Nat), (15 : Nat))]) ∈ lw_all := lw_g (lw_at lw_m6 75 rfl) rfl
theorem q1377 : (Jvm.Cond.methodLink "ShorePoolsLaw" (23 : Nat) ({ cls := "ShorePools", name := "addShell", desc := "(II)I" } : Jvm.MethodName)) ∈ lw_all := lw_g (lw_at lw_m6 76 rfl) rfl
theorem q1386 : (Jvm.Cond.methodLink "ShorePoolsLaw" (169 : Nat) ({ cls := "ShorePoolsLaw", name := "carryShell", desc := "(LShorePools;II[J)I" } : Jvm.MethodName)) ∈ lw_all := lw_g (lw_at lw_m6 85 rfl) rfl
theorem q1387 : (Jvm.Cond.static ({ cls := "ShorePoolsLaw", name := "carryShell", desc := "(LShorePools;II[J)I" } : Jvm.MethodName)) ∈ lw_all := lw_g (lw_at lw_m6 86 rfl) rfl
theorem q1388 : (Jvm.Cond.codeWith ({ cls := "ShorePoolsLaw", name := "carryShell", desc := "(LShorePools;II[J)I" } : Jvm.MethodName) method_6_code (5 : Nat) (Option.some Jvm.ClassFile.FieldType.int) [((0 : Nat), (10 : Nat), (13 : Nat), (13 : Nat)), ((0 : Nat), (10 : Nat), (17 : Nat), (15 : Nat))]) ∈ lw_all := lw_g (lw_at lw_m6 87 rfl) rfl
theorem q1389 : (Jvm.Cond.methodLink "ShorePoolsLaw" (26 : Nat) ({ cls := "ShorePools", name := "carryShell", desc := "(II)I" } : Jvm.MethodName)) ∈ lw_all := lw_g (lw_at lw_m6 88 rfl) rfl
theorem q1397 : (Jvm.Cond.methodLink "ShorePoolsLaw" (172 : Nat) ({ cls := "ShorePoolsLaw", name := "setHeight", desc := "(LShorePools;II[J)I" } : Jvm.MethodName)) ∈ lw_all := lw_g (lw_at lw_m6 96 rfl) rfl
theorem q1398 : (Jvm.Cond.static ({ cls := "ShorePoolsLaw", name := "setHeight", desc := "(LShorePools;II[J)I" } : Jvm.MethodName)) ∈ lw_all := lw_g (lw_at lw_m6 97 rfl) rfl
theorem q1399 : (Jvm.Cond.codeWith ({ cls := "ShorePoolsLaw", name := "setHeight", desc := "(LShorePools;II[J)I" } : Jvm.MethodName) method_7_code (5 : Nat) (Option.some Jvm.ClassFile.FieldType.int) [((0 : Nat), (10 : Nat), (13 : Nat), (13 : Nat)), ((0 : Nat), (10 : Nat), (17 : Nat), (21 : Nat))]) ∈ lw_all := lw_g (lw_at lw_m6 98 rfl) rfl
theorem q1400 : (Jvm.Cond.methodLink "ShorePoolsLaw" (29 : Nat) ({ cls := "ShorePools", name := "setHeight", desc := "(II)I" } : Jvm.MethodName)) ∈ lw_all := lw_g (lw_at lw_m6 99 rfl) rfl
theorem q1404 : (Jvm.Cond.methodLink "ShorePoolsLaw" (175 : Nat) ({ cls := "ShorePoolsLaw", name := "setTide", desc := "(LShorePools;II[J)I" } : Jvm.MethodName)) ∈ lw_all := lw_g (lw_at lw_m6 103 rfl) rfl
theorem q1405 : (Jvm.Cond.static ({ cls := "ShorePoolsLaw", name := "setTide", desc := "(LShorePools;II[J)I" } : Jvm.MethodName)) ∈ lw_all := lw_g (lw_at lw_m6 104 rfl) rfl
theorem q1406 : (Jvm.Cond.codeWith ({ cls := "ShorePoolsLaw", name := "setTide", desc := "(LShorePools;II[J)I" } : Jvm.MethodName) method_8_code (5 : Nat) (Option.some Jvm.ClassFile.FieldType.int) [((0 : Nat), (10 : Nat), (13 : Nat), (21 : Nat))]) ∈ lw_all := lw_g (lw_at lw_m6 105 rfl) rfl
theorem q1407 : (Jvm.Cond.methodLink "ShorePoolsLaw" (32 : Nat) ({ cls := "ShorePools", name := "setTide", desc := "(II)I" } : Jvm.MethodName)) ∈ lw_all := lw_g (lw_at lw_m6 106 rfl) rfl
theorem q1411 : (Jvm.Cond.methodLink "ShorePoolsLaw" (178 : Nat) ({ cls := "ShorePoolsLaw", name := "setHeat", desc := "(LShorePools;I[J)I" } : Jvm.MethodName)) ∈ lw_all := lw_g (lw_at lw_m6 110 rfl) rfl
theorem q1412 : (Jvm.Cond.static ({ cls := "ShorePoolsLaw", name := "setHeat", desc := "(LShorePools;I[J)I" } : Jvm.MethodName)) ∈ lw_all := lw_g (lw_at lw_m6 111 rfl) rfl
theorem q1413 : (Jvm.Cond.codeWith ({ cls := "ShorePoolsLaw", name := "setHeat", desc := "(LShorePools;I[J)I" } : Jvm.MethodName) method_9_code (4 : Nat) (Option.some Jvm.ClassFile.FieldType.int) [((0 : Nat), (9 : Nat), (12 : Nat), (21 : Nat))]) ∈ lw_all := lw_g (lw_at lw_m6 112 rfl) rfl
theorem q1414 : (Jvm.Cond.methodLink "ShorePoolsLaw" (35 : Nat) ({ cls := "ShorePools", name := "setHeat", desc := "(I)I" } : Jvm.MethodName)) ∈ lw_all := lw_g (lw_at lw_m6 113 rfl) rfl
theorem q1418 : (Jvm.Cond.methodLink "ShorePoolsLaw" (181 : Nat) ({ cls := "ShorePoolsLaw", name := "setPause", desc := "(LShorePools;I[J)I" } : Jvm.MethodName)) ∈ lw_all := lw_g (lw_at lw_m6 117 rfl) rfl
theorem q1419 : (Jvm.Cond.static ({ cls := "ShorePoolsLaw", name := "setPause", desc := "(LShorePools;I[J)I" } : Jvm.MethodName)) ∈ lw_all := lw_g (lw_at lw_m6 118 rfl) rfl
theorem q1420 : (Jvm.Cond.codeWith ({ cls := "ShorePoolsLaw", name := "setPause", desc := "(LShorePools;I[J)I" } : Jvm.MethodName) method_10_code (4 : Nat) (Option.some Jvm.ClassFile.FieldType.int) [((0 : Nat), (9 : Nat), (12 : Nat), (21 : Nat))]) ∈ lw_all := lw_g (lw_at lw_m6 119 rfl) rfl
theorem q1421 : (Jvm.Cond.methodLink "ShorePoolsLaw" (38 : Nat) ({ cls := "ShorePools", name := "setPause", desc := "(I)I" } : Jvm.MethodName)) ∈ lw_all := lw_g (lw_at lw_m6 120 rfl) rfl
theorem q1425 : (Jvm.Cond.methodLink "ShorePoolsLaw" (184 : Nat) ({ cls := "ShorePoolsLaw", name := "pass", desc := "(LShorePools;I[J)I" } : Jvm.MethodName)) ∈ lw_all := lw_g (lw_at lw_m6 124 rfl) rfl
theorem q1426 : (Jvm.Cond.static ({ cls := "ShorePoolsLaw", name := "pass", desc := "(LShorePools;I[J)I" } : Jvm.MethodName)) ∈ lw_all := lw_g (lw_at lw_m6 125 rfl) rfl
theorem q1427 : (Jvm.Cond.codeWith ({ cls := "ShorePoolsLaw", name := "pass", desc := "(LShorePools;I[J)I" } : Jvm.MethodName) method_11_code (4 : Nat) (Option.some Jvm.ClassFile.FieldType.int) [((0 : Nat), (9 : Nat), (12 : Nat), (21 : Nat)), ((0 : Nat), (9 : Nat), (15 : Nat), (15 : Nat))]) ∈ lw_all := lw_g (lw_at lw_m6 126 rfl) rfl
theorem q1428 : (Jvm.Cond.methodLink "ShorePoolsLaw" (41 : Nat) ({ cls := "ShorePools", name := "pass", desc := "(I)I" } : Jvm.MethodName)) ∈ lw_all := lw_g (lw_at lw_m6 127 rfl) rfl
theorem q1436 : (Jvm.Cond.methodLink "ShorePoolsLaw" (187 : Nat) ({ cls := "ShorePoolsLaw", name := "type", desc := "(LShorePools;C[J)I" } : Jvm.MethodName)) ∈ lw_all := lw_g (lw_at lw_m6 135 rfl) rfl
theorem q1437 : (Jvm.Cond.static ({ cls := "ShorePoolsLaw", name := "type", desc := "(LShorePools;C[J)I" } : Jvm.MethodName)) ∈ lw_all := lw_g (lw_at lw_m6 136 rfl) rfl
theorem q1438 : (Jvm.Cond.codeWith ({ cls := "ShorePoolsLaw", name := "type", desc := "(LShorePools;C[J)I" } : Jvm.MethodName) method_12_code (4 : Nat) (Option.some Jvm.ClassFile.FieldType.int) [((0 : Nat), (9 : Nat), (12 : Nat), (15 : Nat))]) ∈ lw_all := lw_g (lw_at lw_m6 137 rfl) rfl
theorem q1439 : (Jvm.Cond.methodLink "ShorePoolsLaw" (44 : Nat) ({ cls := "ShorePools", name := "type", desc := "(C)I" } : Jvm.MethodName)) ∈ lw_all := lw_g (lw_at lw_m6 138 rfl) rfl
theorem q1460 : (Jvm.Cond.methodLink "ShorePoolsLaw" (199 : Nat) ({ cls := "ShorePoolsLaw", name := "impossibleOrder", desc := "(LShorePools;[J)I" } : Jvm.MethodName)) ∈ lw_all := lw_g (lw_at lw_m6 159 rfl) rfl
theorem q1461 : (Jvm.Cond.static ({ cls := "ShorePoolsLaw", name := "impossibleOrder", desc := "(LShorePools;[J)I" } : Jvm.MethodName)) ∈ lw_all := lw_g (lw_at lw_m6 160 rfl) rfl
theorem q1462 : (Jvm.Cond.codeWith ({ cls := "ShorePoolsLaw", name := "impossibleOrder", desc := "(LShorePools;[J)I" } : Jvm.MethodName) method_13_code (3 : Nat) (Option.some Jvm.ClassFile.FieldType.int) [((0 : Nat), (8 : Nat), (11 : Nat), (15 : Nat))]) ∈ lw_all := lw_g (lw_at lw_m6 161 rfl) rfl
theorem q1463 : (Jvm.Cond.methodLink "ShorePoolsLaw" (48 : Nat) ({ cls := "ShorePools", name := "impossibleOrder", desc := "()I" } : Jvm.MethodName)) ∈ lw_all := lw_g (lw_at lw_m6 162 rfl) rfl
theorem q1490 : (Jvm.Cond.methodLink "ShorePoolsLaw" (203 : Nat) ({ cls := "ShorePoolsLaw", name := "carryOut", desc := "(LShorePools;[J)I" } : Jvm.MethodName)) ∈ lw_all := lw_g (lw_at lw_m6 189 rfl) rfl
theorem q1491 : (Jvm.Cond.static ({ cls := "ShorePoolsLaw", name := "carryOut", desc := "(LShorePools;[J)I" } : Jvm.MethodName)) ∈ lw_all := lw_g (lw_at lw_m6 190 rfl) rfl
theorem q1492 : (Jvm.Cond.codeWith ({ cls := "ShorePoolsLaw", name := "carryOut", desc := "(LShorePools;[J)I" } : Jvm.MethodName) method_14_code (3 : Nat) (Option.some Jvm.ClassFile.FieldType.int) [((0 : Nat), (8 : Nat), (11 : Nat), (15 : Nat))]) ∈ lw_all := lw_g (lw_at lw_m6 191 rfl) rfl
theorem q1493 : (Jvm.Cond.methodLink "ShorePoolsLaw" (52 : Nat) ({ cls := "ShorePools", name := "carryOut", desc := "()I" } : Jvm.MethodName)) ∈ lw_all := lw_g (lw_at lw_m6 192 rfl) rfl
theorem q1498 : (Jvm.Cond.methodLink "ShorePoolsLaw" (206 : Nat) ({ cls := "ShorePoolsLaw", name := "undo", desc := "(LShorePools;[J)I" } : Jvm.MethodName)) ∈ lw_all := lw_g (lw_at lw_m6 197 rfl) rfl
theorem q1499 : (Jvm.Cond.static ({ cls := "ShorePoolsLaw", name := "undo", desc := "(LShorePools;[J)I" } : Jvm.MethodName)) ∈ lw_all := lw_g (lw_at lw_m6 198 rfl) rfl
theorem q1500 : (Jvm.Cond.codeWith ({ cls := "ShorePoolsLaw", name := "undo", desc := "(LShorePools;[J)I" } : Jvm.MethodName) method_15_code (3 : Nat) (Option.some Jvm.ClassFile.FieldType.int) [((0 : Nat), (8 : Nat), (11 : Nat), (15 : Nat))]) ∈ lw_all := lw_g (lw_at lw_m6 199 rfl) rfl
theorem q1501 : (Jvm.Cond.methodLink "ShorePoolsLaw" (55 : Nat) ({ cls := "ShorePools", name := "undo", desc := "()I" } : Jvm.MethodName)) ∈ lw_all := lw_g (lw_at lw_m6 200 rfl) rfl
theorem q1505 : (Jvm.Cond.methodLink "ShorePoolsLaw" (213 : Nat) ({ cls := "ShorePoolsLaw", name := "restoreSnapshot", desc := "(LShorePools;[J)I" } : Jvm.MethodName)) ∈ lw_all := lw_g (lw_at lw_m6 204 rfl) rfl
theorem q1506 : (Jvm.Cond.static ({ cls := "ShorePoolsLaw", name := "restoreSnapshot", desc := "(LShorePools;[J)I" } : Jvm.MethodName)) ∈ lw_all := lw_g (lw_at lw_m6 205 rfl) rfl
theorem q1507 : (Jvm.Cond.codeWith ({ cls := "ShorePoolsLaw", name := "restoreSnapshot", desc := "(LShorePools;[J)I" } : Jvm.MethodName) method_16_code (3 : Nat) (Option.some Jvm.ClassFile.FieldType.int) [((0 : Nat), (8 : Nat), (11 : Nat), (15 : Nat))]) ∈ lw_all := lw_g (lw_at lw_m6 206 rfl) rfl
theorem q1508 : (Jvm.Cond.methodLink "ShorePoolsLaw" (58 : Nat) ({ cls := "ShorePools", name := "restoreSnapshot", desc := "()I" } : Jvm.MethodName)) ∈ lw_all := lw_g (lw_at lw_m6 207 rfl) rfl
theorem q1512 : (Jvm.Cond.methodLink "ShorePoolsLaw" (224 : Nat) ({ cls := "ShorePoolsLaw", name := "tideAt", desc := "(LShorePools;I[J)I" } : Jvm.MethodName)) ∈ lw_all := lw_g (lw_at lw_m6 211 rfl) rfl
theorem q1513 : (Jvm.Cond.static ({ cls := "ShorePoolsLaw", name := "tideAt", desc := "(LShorePools;I[J)I" } : Jvm.MethodName)) ∈ lw_all := lw_g (lw_at lw_m6 212 rfl) rfl
theorem q1514 : (Jvm.Cond.codeWith ({ cls := "ShorePoolsLaw", name := "tideAt", desc := "(LShorePools;I[J)I" } : Jvm.MethodName) method_17_code (4 : Nat) (Option.some Jvm.ClassFile.FieldType.int) [((0 : Nat), (9 : Nat), (12 : Nat), (21 : Nat))]) ∈ lw_all := lw_g (lw_at lw_m6 213 rfl) rfl
theorem q1515 : (Jvm.Cond.methodLink "ShorePoolsLaw" (61 : Nat) ({ cls := "ShorePools", name := "tideAt", desc := "(I)I" } : Jvm.MethodName)) ∈ lw_all := lw_g (lw_at lw_m6 214 rfl) rfl
theorem q1519 : (Jvm.Cond.methodLink "ShorePoolsLaw" (235 : Nat) ({ cls := "ShorePoolsLaw", name := "heightOf", desc := "(LShorePools;I[J)I" } : Jvm.MethodName)) ∈ lw_all := lw_g (lw_at lw_m6 218 rfl) rfl
theorem q1520 : (Jvm.Cond.static ({ cls := "ShorePoolsLaw", name := "heightOf", desc := "(LShorePools;I[J)I" } : Jvm.MethodName)) ∈ lw_all := lw_g (lw_at lw_m6 219 rfl) rfl
theorem q1521 : (Jvm.Cond.codeWith ({ cls := "ShorePoolsLaw", name := "heightOf", desc := "(LShorePools;I[J)I" } : Jvm.MethodName) method_18_code (4 : Nat) (Option.some Jvm.ClassFile.FieldType.int) [((0 : Nat), (9 : Nat), (12 : Nat), (13 : Nat))]) ∈ lw_all := lw_g (lw_at lw_m6 220 rfl) rfl
theorem q1522 : (Jvm.Cond.methodLink "ShorePoolsLaw" (64 : Nat) ({ cls := "ShorePools", name := "heightOf", desc := "(I)I" } : Jvm.MethodName)) ∈ lw_all := lw_g (lw_at lw_m6 221 rfl) rfl
theorem q1526 : (Jvm.Cond.methodLink "ShorePoolsLaw" (238 : Nat) ({ cls := "ShorePoolsLaw", name := "isFlooded", desc := "(LShorePools;I[J)I" } : Jvm.MethodName)) ∈ lw_all := lw_g (lw_at lw_m6 225 rfl) rfl
theorem q1527 : (Jvm.Cond.static ({ cls := "ShorePoolsLaw", name := "isFlooded", desc := "(LShorePools;I[J)I" } : Jvm.MethodName)) ∈ lw_all := lw_g (lw_at lw_m6 226 rfl) rfl
theorem q1528 : (Jvm.Cond.codeWith ({ cls := "ShorePoolsLaw", name := "isFlooded", desc := "(LShorePools;I[J)I" } : Jvm.MethodName) method_19_code (4 : Nat) (Option.some Jvm.ClassFile.FieldType.int) [((0 : Nat), (16 : Nat), (19 : Nat), (13 : Nat))]) ∈ lw_all := lw_g (lw_at lw_m6 227 rfl) rfl
theorem q1529 : (Jvm.Cond.methodLink "ShorePoolsLaw" (67 : Nat) ({ cls := "ShorePools", name := "isFlooded", desc := "(I)Z" } : Jvm.MethodName)) ∈ lw_all := lw_g (lw_at lw_m6 228 rfl) rfl
theorem q1533 : (Jvm.Cond.methodLink "ShorePoolsLaw" (245 : Nat) ({ cls := "ShorePoolsLaw", name := "warmthOf", desc := "(LShorePools;I[J)I" } : Jvm.MethodName)) ∈ lw_all := lw_g (lw_at lw_m6 232 rfl) rfl
theorem q1534 : (Jvm.Cond.static ({ cls := "ShorePoolsLaw", name := "warmthOf", desc := "(LShorePools;I[J)I" } : Jvm.MethodName)) ∈ lw_all := lw_g (lw_at lw_m6 233 rfl) rfl
theorem q1535 : (Jvm.Cond.codeWith ({ cls := "ShorePoolsLaw", name := "warmthOf", desc := "(LShorePools;I[J)I" } : Jvm.MethodName) method_20_code (4 : Nat) (Option.some Jvm.ClassFile.FieldType.int) [((0 : Nat), (9 : Nat), (12 : Nat), (13 : Nat))]) ∈ lw_all := lw_g (lw_at lw_m6 234 rfl) rfl
theorem q1536 : (Jvm.Cond.methodLink "ShorePoolsLaw" (71 : Nat) ({ cls := "ShorePools", name := "warmthOf", desc := "(I)I" } : Jvm.MethodName)) ∈ lw_all := lw_g (lw_at lw_m6 235 rfl) rfl
theorem q1540 : (Jvm.Cond.methodLink "ShorePoolsLaw" (248 : Nat) ({ cls := "ShorePoolsLaw", name := "weedOf", desc := "(LShorePools;I[J)I" } : Jvm.MethodName)) ∈ lw_all := lw_g (lw_at lw_m6 239 rfl) rfl
theorem q1541 : (Jvm.Cond.static ({ cls := "ShorePoolsLaw", name := "weedOf", desc := "(LShorePools;I[J)I" } : Jvm.MethodName)) ∈ lw_all := lw_g (lw_at lw_m7 0 rfl) rfl
theorem q1542 : (Jvm.Cond.codeWith ({ cls := "ShorePoolsLaw", name := "weedOf", desc := "(LShorePools;I[J)I" } : Jvm.MethodName) method_21_code (4 : Nat) (Option.some Jvm.ClassFile.FieldType.int) [((0 : Nat), (9 : Nat), (12 : Nat), (13 : Nat))]) ∈ lw_all := lw_g (lw_at lw_m7 1 rfl) rfl
theorem q1543 : (Jvm.Cond.methodLink "ShorePoolsLaw" (74 : Nat) ({ cls := "ShorePools", name := "weedOf", desc := "(I)I" } : Jvm.MethodName)) ∈ lw_all := lw_g (lw_at lw_m7 2 rfl) rfl
theorem q1547 : (Jvm.Cond.methodLink "ShorePoolsLaw" (251 : Nat) ({ cls := "ShorePoolsLaw", name := "hoursToFlood", desc := "(LShorePools;I[J)I" } : Jvm.MethodName)) ∈ lw_all := lw_g (lw_at lw_m7 6 rfl) rfl
theorem q1548 : (Jvm.Cond.static ({ cls := "ShorePoolsLaw", name := "hoursToFlood", desc := "(LShorePools;I[J)I" } : Jvm.MethodName)) ∈ lw_all := lw_g (lw_at lw_m7 7 rfl) rfl
theorem q1549 : (Jvm.Cond.codeWith ({ cls := "ShorePoolsLaw", name := "hoursToFlood", desc := "(LShorePools;I[J)I" } : Jvm.MethodName) method_22_code (4 : Nat) (Option.some Jvm.ClassFile.FieldType.int) [((0 : Nat), (9 : Nat), (12 : Nat), (13 : Nat))]) ∈ lw_all := lw_g (lw_at lw_m7 8 rfl) rfl
theorem q1550 : (Jvm.Cond.methodLink "ShorePoolsLaw" (77 : Nat) ({ cls := "ShorePools", name := "hoursToFlood", desc := "(I)I" } : Jvm.MethodName)) ∈ lw_all := lw_g (lw_at lw_m7 9 rfl) rfl
theorem q1554 : (Jvm.Cond.methodLink "ShorePoolsLaw" (254 : Nat) ({ cls := "ShorePoolsLaw", name := "floodHours", desc := "(LShorePools;I[J)I" } : Jvm.MethodName)) ∈ lw_all := lw_g (lw_at lw_m7 13 rfl) rfl
theorem q1555 : (Jvm.Cond.static ({ cls := "ShorePoolsLaw", name := "floodHours", desc := "(LShorePools;I[J)I" } : Jvm.MethodName)) ∈ lw_all := lw_g (lw_at lw_m7 14 rfl) rfl
theorem q1556 : (Jvm.Cond.codeWith ({ cls := "ShorePoolsLaw", name := "floodHours", desc := "(LShorePools;I[J)I" } : Jvm.MethodName) method_23_code (4 : Nat) (Option.some Jvm.ClassFile.FieldType.int) [((0 : Nat), (9 : Nat), (12 : Nat), (13 : Nat))]) ∈ lw_all := lw_g (lw_at lw_m7 15 rfl) rfl
theorem q1557 : (Jvm.Cond.methodLink "ShorePoolsLaw" (80 : Nat) ({ cls := "ShorePools", name := "floodHours", desc := "(I)I" } : Jvm.MethodName)) ∈ lw_all := lw_g (lw_at lw_m7 16 rfl) rfl
theorem q1561 : (Jvm.Cond.methodLink "ShorePoolsLaw" (257 : Nat) ({ cls := "ShorePoolsLaw", name := "floodHoursByCounting", desc := "(LShorePools;I[J)I" } : Jvm.MethodName)) ∈ lw_all := lw_g (lw_at lw_m7 20 rfl) rfl
theorem q1562 : (Jvm.Cond.static ({ cls := "ShorePoolsLaw", name := "floodHoursByCounting", desc := "(LShorePools;I[J)I" } : Jvm.MethodName)) ∈ lw_all := lw_g (lw_at lw_m7 21 rfl) rfl
theorem q1563 : (Jvm.Cond.codeWith ({ cls := "ShorePoolsLaw", name := "floodHoursByCounting", desc := "(LShorePools;I[J)I" } : Jvm.MethodName) method_24_code (4 : Nat) (Option.some Jvm.ClassFile.FieldType.int) [((0 : Nat), (9 : Nat), (12 : Nat), (13 : Nat))]) ∈ lw_all := lw_g (lw_at lw_m7 22 rfl) rfl
theorem q1564 : (Jvm.Cond.methodLink "ShorePoolsLaw" (83 : Nat) ({ cls := "ShorePools", name := "floodHoursByCounting", desc := "(I)I" } : Jvm.MethodName)) ∈ lw_all := lw_g (lw_at lw_m7 23 rfl) rfl
theorem q1568 : (Jvm.Cond.methodLink "ShorePoolsLaw" (268 : Nat) ({ cls := "ShorePoolsLaw", name := "fateOfLimpet", desc := "(LShorePools;I[J)I" } : Jvm.MethodName)) ∈ lw_all := lw_g (lw_at lw_m7 27 rfl) rfl
theorem q1569 : (Jvm.Cond.static ({ cls := "ShorePoolsLaw", name := "fateOfLimpet", desc := "(LShorePools;I[J)I" } : Jvm.MethodName)) ∈ lw_all := lw_g (lw_at lw_m7 28 rfl) rfl
theorem q1570 : (Jvm.Cond.codeWith ({ cls := "ShorePoolsLaw", name := "fateOfLimpet", desc := "(LShorePools;I[J)I" } : Jvm.MethodName) method_25_code (4 : Nat) (Option.some Jvm.ClassFile.FieldType.int) [((0 : Nat), (9 : Nat), (12 : Nat), (13 : Nat))]) ∈ lw_all := lw_g (lw_at lw_m7 29 rfl) rfl
theorem q1571 : (Jvm.Cond.methodLink "ShorePoolsLaw" (86 : Nat) ({ cls := "ShorePools", name := "fateOfLimpet", desc := "(I)I" } : Jvm.MethodName)) ∈ lw_all := lw_g (lw_at lw_m7 30 rfl) rfl
theorem q1579 : (Jvm.Cond.methodLink "ShorePoolsLaw" (271 : Nat) ({ cls := "ShorePoolsLaw", name := "poolOfLimpet", desc := "(LShorePools;I[J)I" } : Jvm.MethodName)) ∈ lw_all := lw_g (lw_at lw_m7 38 rfl) rfl
theorem q1580 : (Jvm.Cond.static ({ cls := "ShorePoolsLaw", name := "poolOfLimpet", desc := "(LShorePools;I[J)I" } : Jvm.MethodName)) ∈ lw_all := lw_g (lw_at lw_m7 39 rfl) rfl
theorem q1581 : (Jvm.Cond.codeWith ({ cls := "ShorePoolsLaw", name := "poolOfLimpet", desc := "(LShorePools;I[J)I" } : Jvm.MethodName) method_26_code (4 : Nat) (Option.some Jvm.ClassFile.FieldType.int) [((0 : Nat), (9 : Nat), (12 : Nat), (13 : Nat))]) ∈ lw_all := lw_g (lw_at lw_m7 40 rfl) rfl
theorem q1582 : (Jvm.Cond.methodLink "ShorePoolsLaw" (89 : Nat) ({ cls := "ShorePools", name := "poolOfLimpet", desc := "(I)I" } : Jvm.MethodName)) ∈ lw_all := lw_g (lw_at lw_m7 41 rfl) rfl
theorem q1586 : (Jvm.Cond.methodLink "ShorePoolsLaw" (274 : Nat) ({ cls := "ShorePoolsLaw", name := "waterOf", desc := "(LShorePools;I[J)I" } : Jvm.MethodName)) ∈ lw_all := lw_g (lw_at lw_m7 45 rfl) rfl
theorem q1587 : (Jvm.Cond.static ({ cls := "ShorePoolsLaw", name := "waterOf", desc := "(LShorePools;I[J)I" } : Jvm.MethodName)) ∈ lw_all := lw_g (lw_at lw_m7 46 rfl) rfl
theorem q1588 : (Jvm.Cond.codeWith ({ cls := "ShorePoolsLaw", name := "waterOf", desc := "(LShorePools;I[J)I" } : Jvm.MethodName) method_27_code (4 : Nat) (Option.some Jvm.ClassFile.FieldType.int) [((0 : Nat), (9 : Nat), (12 : Nat), (13 : Nat))]) ∈ lw_all := lw_g (lw_at lw_m7 47 rfl) rfl
theorem q1589 : (Jvm.Cond.methodLink "ShorePoolsLaw" (92 : Nat) ({ cls := "ShorePools", name := "waterOf", desc := "(I)I" } : Jvm.MethodName)) ∈ lw_all := lw_g (lw_at lw_m7 48 rfl) rfl
theorem q1593 : (Jvm.Cond.methodLink "ShorePoolsLaw" (277 : Nat) ({ cls := "ShorePoolsLaw", name := "foodOf", desc := "(LShorePools;I[J)I" } : Jvm.MethodName)) ∈ lw_all := lw_g (lw_at lw_m7 52 rfl) rfl
theorem q1594 : (Jvm.Cond.static ({ cls := "ShorePoolsLaw", name := "foodOf", desc := "(LShorePools;I[J)I" } : Jvm.MethodName)) ∈ lw_all := lw_g (lw_at lw_m7 53 rfl) rfl
theorem q1595 : (Jvm.Cond.codeWith ({ cls := "ShorePoolsLaw", name := "foodOf", desc := "(LShorePools;I[J)I" } : Jvm.MethodName) method_28_code (4 : Nat) (Option.some Jvm.ClassFile.FieldType.int) [((0 : Nat), (9 : Nat), (12 : Nat), (13 : Nat))]) ∈ lw_all := lw_g (lw_at lw_m7 54 rfl) rfl
theorem q1596 : (Jvm.Cond.methodLink "ShorePoolsLaw" (95 : Nat) ({ cls := "ShorePools", name := "foodOf", desc := "(I)I" } : Jvm.MethodName)) ∈ lw_all := lw_g (lw_at lw_m7 55 rfl) rfl
theorem q1600 : (Jvm.Cond.methodLink "ShorePoolsLaw" (280 : Nat) ({ cls := "ShorePoolsLaw", name := "stepsOf", desc := "(LShorePools;I[J)I" } : Jvm.MethodName)) ∈ lw_all := lw_g (lw_at lw_m7 59 rfl) rfl
theorem q1601 : (Jvm.Cond.static ({ cls := "ShorePoolsLaw", name := "stepsOf", desc := "(LShorePools;I[J)I" } : Jvm.MethodName)) ∈ lw_all := lw_g (lw_at lw_m7 60 rfl) rfl
theorem q1602 : (Jvm.Cond.codeWith ({ cls := "ShorePoolsLaw", name := "stepsOf", desc := "(LShorePools;I[J)I" } : Jvm.MethodName) method_29_code (4 : Nat) (Option.some Jvm.ClassFile.FieldType.int) [((0 : Nat), (9 : Nat), (12 : Nat), (13 : Nat))]) ∈ lw_all := lw_g (lw_at lw_m7 61 rfl) rfl
theorem q1603 : (Jvm.Cond.methodLink "ShorePoolsLaw" (98 : Nat) ({ cls := "ShorePools", name := "stepsOf", desc := "(I)I" } : Jvm.MethodName)) ∈ lw_all := lw_g (lw_at lw_m7 62 rfl) rfl
theorem q1607 : (Jvm.Cond.methodLink "ShorePoolsLaw" (307 : Nat) ({ cls := "ShorePoolsLaw", name := "sizeOfShell", desc := "(LShorePools;I[J)I" } : Jvm.MethodName)) ∈ lw_all := lw_g (lw_at lw_m7 66 rfl) rfl
theorem q1608 : (Jvm.Cond.static ({ cls := "ShorePoolsLaw", name := "sizeOfShell", desc := "(LShorePools;I[J)I" } : Jvm.MethodName)) ∈ lw_all := lw_g (lw_at lw_m7 67 rfl) rfl
theorem q1609 : (Jvm.Cond.codeWith ({ cls := "ShorePoolsLaw", name := "sizeOfShell", desc := "(LShorePools;I[J)I" } : Jvm.MethodName) method_30_code (4 : Nat) (Option.some Jvm.ClassFile.FieldType.int) [((0 : Nat), (9 : Nat), (12 : Nat), (13 : Nat))]) ∈ lw_all := lw_g (lw_at lw_m7 68 rfl) rfl
theorem q1610 : (Jvm.Cond.methodLink "ShorePoolsLaw" (101 : Nat) ({ cls := "ShorePools", name := "sizeOfShell", desc := "(I)I" } : Jvm.MethodName)) ∈ lw_all := lw_g (lw_at lw_m7 69 rfl) rfl
theorem q1614 : (Jvm.Cond.methodLink "ShorePoolsLaw" (310 : Nat) ({ cls := "ShorePoolsLaw", name := "poolOfShell", desc := "(LShorePools;I[J)I" } : Jvm.MethodName)) ∈ lw_all := lw_g (lw_at lw_m7 73 rfl) rfl
theorem q1615 : (Jvm.Cond.static ({ cls := "ShorePoolsLaw", name := "poolOfShell", desc := "(LShorePools;I[J)I" } : Jvm.MethodName)) ∈ lw_all := lw_g (lw_at lw_m7 74 rfl) rfl
theorem q1616 : (Jvm.Cond.codeWith ({ cls := "ShorePoolsLaw", name := "poolOfShell", desc := "(LShorePools;I[J)I" } : Jvm.MethodName) method_31_code (4 : Nat) (Option.some Jvm.ClassFile.FieldType.int) [((0 : Nat), (9 : Nat), (12 : Nat), (13 : Nat))]) ∈ lw_all := lw_g (lw_at lw_m7 75 rfl) rfl
theorem q1617 : (Jvm.Cond.methodLink "ShorePoolsLaw" (104 : Nat) ({ cls := "ShorePools", name := "poolOfShell", desc := "(I)I" } : Jvm.MethodName)) ∈ lw_all := lw_g (lw_at lw_m7 76 rfl) rfl
theorem q1621 : (Jvm.Cond.methodLink "ShorePoolsLaw" (313 : Nat) ({ cls := "ShorePoolsLaw", name := "wearerOf", desc := "(LShorePools;I[J)I" } : Jvm.MethodName)) ∈ lw_all := lw_g (lw_at lw_m7 80 rfl) rfl
theorem q1622 : (Jvm.Cond.static ({ cls := "ShorePoolsLaw", name := "wearerOf", desc := "(LShorePools;I[J)I" } : Jvm.MethodName)) ∈ lw_all := lw_g (lw_at lw_m7 81 rfl) rfl
theorem q1623 : (Jvm.Cond.codeWith ({ cls := "ShorePoolsLaw", name := "wearerOf", desc := "(LShorePools;I[J)I" } : Jvm.MethodName) method_32_code (4 : Nat) (Option.some Jvm.ClassFile.FieldType.int) [((0 : Nat), (9 : Nat), (12 : Nat), (13 : Nat))]) ∈ lw_all := lw_g (lw_at lw_m7 82 rfl) rfl
theorem q1624 : (Jvm.Cond.methodLink "ShorePoolsLaw" (107 : Nat) ({ cls := "ShorePools", name := "wearerOf", desc := "(I)I" } : Jvm.MethodName)) ∈ lw_all := lw_g (lw_at lw_m7 83 rfl) rfl
theorem q1628 : (Jvm.Cond.methodLink "ShorePoolsLaw" (316 : Nat) ({ cls := "ShorePoolsLaw", name := "fateOfCrab", desc := "(LShorePools;I[J)I" } : Jvm.MethodName)) ∈ lw_all := lw_g (lw_at lw_m7 87 rfl) rfl
theorem q1629 : (Jvm.Cond.static ({ cls := "ShorePoolsLaw", name := "fateOfCrab", desc := "(LShorePools;I[J)I" } : Jvm.MethodName)) ∈ lw_all := lw_g (lw_at lw_m7 88 rfl) rfl
theorem q1630 : (Jvm.Cond.codeWith ({ cls := "ShorePoolsLaw", name := "fateOfCrab", desc := "(LShorePools;I[J)I" } : Jvm.MethodName) method_33_code (4 : Nat) (Option.some Jvm.ClassFile.FieldType.int) [((0 : Nat), (9 : Nat), (12 : Nat), (13 : Nat))]) ∈ lw_all := lw_g (lw_at lw_m7 89 rfl) rfl
theorem q1631 : (Jvm.Cond.methodLink "ShorePoolsLaw" (110 : Nat) ({ cls := "ShorePools", name := "fateOfCrab", desc := "(I)I" } : Jvm.MethodName)) ∈ lw_all := lw_g (lw_at lw_m7 90 rfl) rfl
theorem q1639 : (Jvm.Cond.methodLink "ShorePoolsLaw" (319 : Nat) ({ cls := "ShorePoolsLaw", name := "sizeOfCrab", desc := "(LShorePools;I[J)I" } : Jvm.MethodName)) ∈ lw_all := lw_g (lw_at lw_m7 98 rfl) rfl
theorem q1640 : (Jvm.Cond.static ({ cls := "ShorePoolsLaw", name := "sizeOfCrab", desc := "(LShorePools;I[J)I" } : Jvm.MethodName)) ∈ lw_all := lw_g (lw_at lw_m7 99 rfl) rfl
theorem q1641 : (Jvm.Cond.codeWith ({ cls := "ShorePoolsLaw", name := "sizeOfCrab", desc := "(LShorePools;I[J)I" } : Jvm.MethodName) method_34_code (4 : Nat) (Option.some Jvm.ClassFile.FieldType.int) [((0 : Nat), (9 : Nat), (12 : Nat), (13 : Nat))]) ∈ lw_all := lw_g (lw_at lw_m7 100 rfl) rfl
theorem q1642 : (Jvm.Cond.methodLink "ShorePoolsLaw" (113 : Nat) ({ cls := "ShorePools", name := "sizeOfCrab", desc := "(I)I" } : Jvm.MethodName)) ∈ lw_all := lw_g (lw_at lw_m7 101 rfl) rfl
theorem q1646 : (Jvm.Cond.methodLink "ShorePoolsLaw" (322 : Nat) ({ cls := "ShorePoolsLaw", name := "poolOfCrab", desc := "(LShorePools;I[J)I" } : Jvm.MethodName)) ∈ lw_all := lw_g (lw_at lw_m7 105 rfl) rfl
theorem q1647 : (Jvm.Cond.static ({ cls := "ShorePoolsLaw", name := "poolOfCrab", desc := "(LShorePools;I[J)I" } : Jvm.MethodName)) ∈ lw_all := lw_g (lw_at lw_m7 106 rfl) rfl
theorem q1648 : (Jvm.Cond.codeWith ({ cls := "ShorePoolsLaw", name := "poolOfCrab", desc := "(LShorePools;I[J)I" } : Jvm.MethodName) method_35_code (4 : Nat) (Option.some Jvm.ClassFile.FieldType.int) [((0 : Nat), (9 : Nat), (12 : Nat), (13 : Nat))]) ∈ lw_all := lw_g (lw_at lw_m7 107 rfl) rfl
theorem q1649 : (Jvm.Cond.methodLink "ShorePoolsLaw" (116 : Nat) ({ cls := "ShorePools", name := "poolOfCrab", desc := "(I)I" } : Jvm.MethodName)) ∈ lw_all := lw_g (lw_at lw_m7 108 rfl) rfl
theorem q1653 : (Jvm.Cond.methodLink "ShorePoolsLaw" (325 : Nat) ({ cls := "ShorePoolsLaw", name := "shellOf", desc := "(LShorePools;I[J)I" } : Jvm.MethodName)) ∈ lw_all := lw_g (lw_at lw_m7 112 rfl) rfl
theorem q1654 : (Jvm.Cond.static ({ cls := "ShorePoolsLaw", name := "shellOf", desc := "(LShorePools;I[J)I" } : Jvm.MethodName)) ∈ lw_all := lw_g (lw_at lw_m7 113 rfl) rfl
theorem q1655 : (Jvm.Cond.codeWith ({ cls := "ShorePoolsLaw", name := "shellOf", desc := "(LShorePools;I[J)I" } : Jvm.MethodName) method_36_code (4 : Nat) (Option.some Jvm.ClassFile.FieldType.int) [((0 : Nat), (9 : Nat), (12 : Nat), (13 : Nat))]) ∈ lw_all := lw_g (lw_at lw_m7 114 rfl) rfl
theorem q1656 : (Jvm.Cond.methodLink "ShorePoolsLaw" (119 : Nat) ({ cls := "ShorePools", name := "shellOf", desc := "(I)I" } : Jvm.MethodName)) ∈ lw_all := lw_g (lw_at lw_m7 115 rfl) rfl
theorem q1660 : (Jvm.Cond.methodLink "ShorePoolsLaw" (328 : Nat) ({ cls := "ShorePoolsLaw", name := "worth", desc := "(LShorePools;II[J)I" } : Jvm.MethodName)) ∈ lw_all := lw_g (lw_at lw_m7 119 rfl) rfl
theorem q1661 : (Jvm.Cond.static ({ cls := "ShorePoolsLaw", name := "worth", desc := "(LShorePools;II[J)I" } : Jvm.MethodName)) ∈ lw_all := lw_g (lw_at lw_m7 120 rfl) rfl
theorem q1662 : (Jvm.Cond.codeWith ({ cls := "ShorePoolsLaw", name := "worth", desc := "(LShorePools;II[J)I" } : Jvm.MethodName) method_37_code (5 : Nat) (Option.some Jvm.ClassFile.FieldType.int) [((0 : Nat), (10 : Nat), (13 : Nat), (13 : Nat))]) ∈ lw_all := lw_g (lw_at lw_m7 121 rfl) rfl
theorem q1663 : (Jvm.Cond.methodLink "ShorePoolsLaw" (122 : Nat) ({ cls := "ShorePools", name := "worth", desc := "(II)I" } : Jvm.MethodName)) ∈ lw_all := lw_g (lw_at lw_m7 122 rfl) rfl
theorem q1667 : (Jvm.Cond.methodLink "ShorePoolsLaw" (331 : Nat) ({ cls := "ShorePoolsLaw", name := "wouldTake", desc := "(LShorePools;I[J)I" } : Jvm.MethodName)) ∈ lw_all := lw_g (lw_at lw_m7 126 rfl) rfl
theorem q1668 : (Jvm.Cond.static ({ cls := "ShorePoolsLaw", name := "wouldTake", desc := "(LShorePools;I[J)I" } : Jvm.MethodName)) ∈ lw_all := lw_g (lw_at lw_m7 127 rfl) rfl
theorem q1669 : (Jvm.Cond.codeWith ({ cls := "ShorePoolsLaw", name := "wouldTake", desc := "(LShorePools;I[J)I" } : Jvm.MethodName) method_38_code (4 : Nat) (Option.some Jvm.ClassFile.FieldType.int) [((0 : Nat), (9 : Nat), (12 : Nat), (13 : Nat))]) ∈ lw_all := lw_g (lw_at lw_m7 128 rfl) rfl
theorem q1670 : (Jvm.Cond.methodLink "ShorePoolsLaw" (125 : Nat) ({ cls := "ShorePools", name := "wouldTake", desc := "(I)I" } : Jvm.MethodName)) ∈ lw_all := lw_g (lw_at lw_m7 129 rfl) rfl
theorem q1674 : (Jvm.Cond.methodLink "ShorePoolsLaw" (334 : Nat) ({ cls := "ShorePoolsLaw", name := "changesOf", desc := "(LShorePools;I[J)I" } : Jvm.MethodName)) ∈ lw_all := lw_g (lw_at lw_m7 133 rfl) rfl
theorem q1675 : (Jvm.Cond.static ({ cls := "ShorePoolsLaw", name := "changesOf", desc := "(LShorePools;I[J)I" } : Jvm.MethodName)) ∈ lw_all := lw_g (lw_at lw_m7 134 rfl) rfl
theorem q1676 : (Jvm.Cond.codeWith ({ cls := "ShorePoolsLaw", name := "changesOf", desc := "(LShorePools;I[J)I" } : Jvm.MethodName) method_39_code (4 : Nat) (Option.some Jvm.ClassFile.FieldType.int) [((0 : Nat), (9 : Nat), (12 : Nat), (13 : Nat))]) ∈ lw_all := lw_g (lw_at lw_m7 135 rfl) rfl
theorem q1677 : (Jvm.Cond.methodLink "ShorePoolsLaw" (128 : Nat) ({ cls := "ShorePools", name := "changesOf", desc := "(I)I" } : Jvm.MethodName)) ∈ lw_all := lw_g (lw_at lw_m7 136 rfl) rfl
theorem q1681 : (Jvm.Cond.methodLink "ShorePoolsLaw" (345 : Nat) ({ cls := "ShorePoolsLaw", name := "preyIn", desc := "(LShorePools;I[J)I" } : Jvm.MethodName)) ∈ lw_all := lw_g (lw_at lw_m7 140 rfl) rfl
theorem q1682 : (Jvm.Cond.static ({ cls := "ShorePoolsLaw", name := "preyIn", desc := "(LShorePools;I[J)I" } : Jvm.MethodName)) ∈ lw_all := lw_g (lw_at lw_m7 141 rfl) rfl
theorem q1683 : (Jvm.Cond.codeWith ({ cls := "ShorePoolsLaw", name := "preyIn", desc := "(LShorePools;I[J)I" } : Jvm.MethodName) method_40_code (4 : Nat) (Option.some Jvm.ClassFile.FieldType.int) [((0 : Nat), (9 : Nat), (12 : Nat), (13 : Nat))]) ∈ lw_all := lw_g (lw_at lw_m7 142 rfl) rfl
theorem q1684 : (Jvm.Cond.methodLink "ShorePoolsLaw" (131 : Nat) ({ cls := "ShorePools", name := "preyIn", desc := "(I)I" } : Jvm.MethodName)) ∈ lw_all := lw_g (lw_at lw_m7 143 rfl) rfl
theorem q1688 : (Jvm.Cond.methodLink "ShorePoolsLaw" (356 : Nat) ({ cls := "ShorePoolsLaw", name := "chainBy", desc := "(LShorePools;II[J)I" } : Jvm.MethodName)) ∈ lw_all := lw_g (lw_at lw_m7 147 rfl) rfl
theorem q1689 : (Jvm.Cond.static ({ cls := "ShorePoolsLaw", name := "chainBy", desc := "(LShorePools;II[J)I" } : Jvm.MethodName)) ∈ lw_all := lw_g (lw_at lw_m7 148 rfl) rfl
theorem q1690 : (Jvm.Cond.codeWith ({ cls := "ShorePoolsLaw", name := "chainBy", desc := "(LShorePools;II[J)I" } : Jvm.MethodName) method_41_code (5 : Nat) (Option.some Jvm.ClassFile.FieldType.int) [((0 : Nat), (10 : Nat), (13 : Nat), (13 : Nat)), ((0 : Nat), (10 : Nat), (17 : Nat), (21 : Nat))]) ∈ lw_all := lw_g (lw_at lw_m7 149 rfl) rfl
theorem q1691 : (Jvm.Cond.methodLink "ShorePoolsLaw" (134 : Nat) ({ cls := "ShorePools", name := "chainBy", desc := "(II)I" } : Jvm.MethodName)) ∈ lw_all := lw_g (lw_at lw_m7 150 rfl) rfl
theorem q1708 : (Jvm.Cond.methodLink "ShorePoolsLaw" (359 : Nat) ({ cls := "ShorePoolsLaw", name := "bestSize", desc := "(LShorePools;I[J)I" } : Jvm.MethodName)) ∈ lw_all := lw_g (lw_at lw_m7 167 rfl) rfl
theorem q1709 : (Jvm.Cond.static ({ cls := "ShorePoolsLaw", name := "bestSize", desc := "(LShorePools;I[J)I" } : Jvm.MethodName)) ∈ lw_all := lw_g (lw_at lw_m7 168 rfl) rfl
theorem q1710 : (Jvm.Cond.codeWith ({ cls := "ShorePoolsLaw", name := "bestSize", desc := "(LShorePools;I[J)I" } : Jvm.MethodName) method_42_code (4 : Nat) (Option.some Jvm.ClassFile.FieldType.int) [((0 : Nat), (9 : Nat), (12 : Nat), (13 : Nat))]) ∈ lw_all := lw_g (lw_at lw_m7 169 rfl) rfl
theorem q1711 : (Jvm.Cond.methodLink "ShorePoolsLaw" (137 : Nat) ({ cls := "ShorePools", name := "bestSize", desc := "(I)I" } : Jvm.MethodName)) ∈ lw_all := lw_g (lw_at lw_m7 170 rfl) rfl
theorem q1715 : (Jvm.Cond.methodLink "ShorePoolsLaw" (362 : Nat) ({ cls := "ShorePoolsLaw", name := "lostIn", desc := "(LShorePools;I[J)I" } : Jvm.MethodName)) ∈ lw_all := lw_g (lw_at lw_m7 174 rfl) rfl
theorem q1716 : (Jvm.Cond.static ({ cls := "ShorePoolsLaw", name := "lostIn", desc := "(LShorePools;I[J)I" } : Jvm.MethodName)) ∈ lw_all := lw_g (lw_at lw_m7 175 rfl) rfl
theorem q1717 : (Jvm.Cond.codeWith ({ cls := "ShorePoolsLaw", name := "lostIn", desc := "(LShorePools;I[J)I" } : Jvm.MethodName) method_43_code (4 : Nat) (Option.some Jvm.ClassFile.FieldType.int) [((0 : Nat), (9 : Nat), (12 : Nat), (21 : Nat))]) ∈ lw_all := lw_g (lw_at lw_m7 176 rfl) rfl
theorem q1718 : (Jvm.Cond.methodLink "ShorePoolsLaw" (140 : Nat) ({ cls := "ShorePools", name := "lostIn", desc := "(I)I" } : Jvm.MethodName)) ∈ lw_all := lw_g (lw_at lw_m7 177 rfl) rfl
theorem q1722 : (Jvm.Cond.methodLink "ShorePoolsLaw" (365 : Nat) ({ cls := "ShorePoolsLaw", name := "hoursToLive", desc := "(LShorePools;I[J)I" } : Jvm.MethodName)) ∈ lw_all := lw_g (lw_at lw_m7 181 rfl) rfl
theorem q1723 : (Jvm.Cond.static ({ cls := "ShorePoolsLaw", name := "hoursToLive", desc := "(LShorePools;I[J)I" } : Jvm.MethodName)) ∈ lw_all := lw_g (lw_at lw_m7 182 rfl) rfl
theorem q1724 : (Jvm.Cond.codeWith ({ cls := "ShorePoolsLaw", name := "hoursToLive", desc := "(LShorePools;I[J)I" } : Jvm.MethodName) method_44_code (4 : Nat) (Option.some Jvm.ClassFile.FieldType.int) [((0 : Nat), (9 : Nat), (12 : Nat), (13 : Nat)), ((0 : Nat), (9 : Nat), (15 : Nat), (15 : Nat))]) ∈ lw_all := lw_g (lw_at lw_m7 183 rfl) rfl
theorem q1725 : (Jvm.Cond.methodLink "ShorePoolsLaw" (143 : Nat) ({ cls := "ShorePools", name := "hoursToLive", desc := "(I)I" } : Jvm.MethodName)) ∈ lw_all := lw_g (lw_at lw_m7 184 rfl) rfl
theorem q1729 : (Jvm.Cond.methodLink "ShorePoolsLaw" (368 : Nat) ({ cls := "ShorePoolsLaw", name := "hoursToChange", desc := "(LShorePools;I[J)I" } : Jvm.MethodName)) ∈ lw_all := lw_g (lw_at lw_m7 188 rfl) rfl
theorem q1730 : (Jvm.Cond.static ({ cls := "ShorePoolsLaw", name := "hoursToChange", desc := "(LShorePools;I[J)I" } : Jvm.MethodName)) ∈ lw_all := lw_g (lw_at lw_m7 189 rfl) rfl
theorem q1731 : (Jvm.Cond.codeWith ({ cls := "ShorePoolsLaw", name := "hoursToChange", desc := "(LShorePools;I[J)I" } : Jvm.MethodName) method_45_code (4 : Nat) (Option.some Jvm.ClassFile.FieldType.int) [((0 : Nat), (9 : Nat), (12 : Nat), (13 : Nat)), ((0 : Nat), (9 : Nat), (15 : Nat), (15 : Nat))]) ∈ lw_all := lw_g (lw_at lw_m7 190 rfl) rfl
theorem q1732 : (Jvm.Cond.methodLink "ShorePoolsLaw" (146 : Nat) ({ cls := "ShorePools", name := "hoursToChange", desc := "(I)I" } : Jvm.MethodName)) ∈ lw_all := lw_g (lw_at lw_m7 191 rfl) rfl
theorem q1736 : (Jvm.Cond.classLink "ShorePoolsLaw" (150 : Nat) "ShorePoolsModel") ∈ lw_all := lw_g (lw_at lw_m7 195 rfl) rfl
theorem q1738 : (Jvm.Cond.methodLink "ShorePoolsLaw" (152 : Nat) ({ cls := "ShorePoolsModel", name := "<init>", desc := "()V" } : Jvm.MethodName)) ∈ lw_all := lw_g (lw_at lw_m7 197 rfl) rfl
theorem q1782 : (Jvm.Cond.methodLink "ShorePoolsLaw" (159 : Nat) ({ cls := "ShorePoolsModel", name := "thrown", desc := "()I" } : Jvm.MethodName)) ∈ lw_all := lw_g (lw_at lw_m8 1 rfl) rfl
theorem q1786 : (Jvm.Cond.methodLink "ShorePoolsLaw" (158 : Nat) ({ cls := "ShorePoolsModel", name := "addLimpet", desc := "(I)I" } : Jvm.MethodName)) ∈ lw_all := lw_g (lw_at lw_m8 5 rfl) rfl
theorem q1811 : (Jvm.Cond.methodLink "ShorePoolsLaw" (165 : Nat) ({ cls := "ShorePoolsModel", name := "addCrab", desc := "(II)I" } : Jvm.MethodName)) ∈ lw_all := lw_g (lw_at lw_m8 30 rfl) rfl
theorem q1822 : (Jvm.Cond.methodLink "ShorePoolsLaw" (168 : Nat) ({ cls := "ShorePoolsModel", name := "addShell", desc := "(II)I" } : Jvm.MethodName)) ∈ lw_all := lw_g (lw_at lw_m8 41 rfl) rfl
theorem q1837 : (Jvm.Cond.methodLink "ShorePoolsLaw" (171 : Nat) ({ cls := "ShorePoolsModel", name := "carryShell", desc := "(II)I" } : Jvm.MethodName)) ∈ lw_all := lw_g (lw_at lw_m8 56 rfl) rfl
theorem q1849 : (Jvm.Cond.methodLink "ShorePoolsLaw" (174 : Nat) ({ cls := "ShorePoolsModel", name := "setHeight", desc := "(II)I" } : Jvm.MethodName)) ∈ lw_all := lw_g (lw_at lw_m8 68 rfl) rfl
theorem q1853 : (Jvm.Cond.methodLink "ShorePoolsLaw" (177 : Nat) ({ cls := "ShorePoolsModel", name := "setTide", desc := "(II)I" } : Jvm.MethodName)) ∈ lw_all := lw_g (lw_at lw_m8 72 rfl) rfl
theorem q1861 : (Jvm.Cond.methodLink "ShorePoolsLaw" (180 : Nat) ({ cls := "ShorePoolsModel", name := "setHeat", desc := "(I)I" } : Jvm.MethodName)) ∈ lw_all := lw_g (lw_at lw_m8 80 rfl) rfl
theorem q1865 : (Jvm.Cond.methodLink "ShorePoolsLaw" (183 : Nat) ({ cls := "ShorePoolsModel", name := "setPause", desc := "(I)I" } : Jvm.MethodName)) ∈ lw_all := lw_g (lw_at lw_m8 84 rfl) rfl
theorem q1869 : (Jvm.Cond.methodLink "ShorePoolsLaw" (186 : Nat) ({ cls := "ShorePoolsModel", name := "pass", desc := "(I)I" } : Jvm.MethodName)) ∈ lw_all := lw_g (lw_at lw_m8 88 rfl) rfl
theorem q1961 : (Jvm.Cond.methodLink "ShorePoolsLaw" (190 : Nat) ({ cls := "ShorePoolsModel", name := "type", desc := "(C)I" } : Jvm.MethodName)) ∈ lw_all := lw_g (lw_at lw_m8 180 rfl) rfl
theorem q1965 : (Jvm.Cond.methodLink "ShorePoolsLaw" (194 : Nat) ({ cls := "ShorePoolsModel", name := "clearNote", desc := "()I" } : Jvm.MethodName)) ∈ lw_all := lw_g (lw_at lw_m8 184 rfl) rfl
theorem q1969 : (Jvm.Cond.methodLink "ShorePoolsLaw" (198 : Nat) ({ cls := "ShorePoolsModel", name := "noteError", desc := "()I" } : Jvm.MethodName)) ∈ lw_all := lw_g (lw_at lw_m8 188 rfl) rfl
theorem q1997 : (Jvm.Cond.methodLink "ShorePoolsLaw" (202 : Nat) ({ cls := "ShorePoolsModel", name := "impossibleOrder", desc := "()I" } : Jvm.MethodName)) ∈ lw_all := lw_g (lw_at lw_m8 216 rfl) rfl
theorem q2013 : (Jvm.Cond.methodLink "ShorePoolsLaw" (205 : Nat) ({ cls := "ShorePoolsModel", name := "carryOut", desc := "()I" } : Jvm.MethodName)) ∈ lw_all := lw_g (lw_at lw_m8 232 rfl) rfl
theorem q2017 : (Jvm.Cond.methodLink "ShorePoolsLaw" (208 : Nat) ({ cls := "ShorePoolsModel", name := "undo", desc := "()I" } : Jvm.MethodName)) ∈ lw_all := lw_g (lw_at lw_m8 236 rfl) rfl
theorem q2021 : (Jvm.Cond.methodLink "ShorePoolsLaw" (212 : Nat) ({ cls := "ShorePoolsModel", name := "takeSnapshot", desc := "()I" } : Jvm.MethodName)) ∈ lw_all := lw_g (lw_at lw_m9 0 rfl) rfl
theorem q2025 : (Jvm.Cond.methodLink "ShorePoolsLaw" (215 : Nat) ({ cls := "ShorePoolsModel", name := "restoreSnapshot", desc := "()I" } : Jvm.MethodName)) ∈ lw_all := lw_g (lw_at lw_m9 4 rfl) rfl
theorem q2029 : (Jvm.Cond.methodLink "ShorePoolsLaw" (219 : Nat) ({ cls := "ShorePoolsModel", name := "time", desc := "()I" } : Jvm.MethodName)) ∈ lw_all := lw_g (lw_at lw_m9 8 rfl) rfl
theorem q2037 : (Jvm.Cond.methodLink "ShorePoolsLaw" (223 : Nat) ({ cls := "ShorePoolsModel", name := "tide", desc := "()I" } : Jvm.MethodName)) ∈ lw_all := lw_g (lw_at lw_m9 16 rfl) rfl
theorem q2041 : (Jvm.Cond.methodLink "ShorePoolsLaw" (226 : Nat) ({ cls := "ShorePoolsModel", name := "tideAt", desc := "(I)I" } : Jvm.MethodName)) ∈ lw_all := lw_g (lw_at lw_m9 20 rfl) rfl
theorem q2045 : (Jvm.Cond.methodLink "ShorePoolsLaw" (230 : Nat) ({ cls := "ShorePoolsModel", name := "heat", desc := "()I" } : Jvm.MethodName)) ∈ lw_all := lw_g (lw_at lw_m9 24 rfl) rfl
theorem q2049 : (Jvm.Cond.methodLink "ShorePoolsLaw" (234 : Nat) ({ cls := "ShorePoolsModel", name := "pause", desc := "()I" } : Jvm.MethodName)) ∈ lw_all := lw_g (lw_at lw_m9 28 rfl) rfl
theorem q2053 : (Jvm.Cond.methodLink "ShorePoolsLaw" (237 : Nat) ({ cls := "ShorePoolsModel", name := "heightOf", desc := "(I)I" } : Jvm.MethodName)) ∈ lw_all := lw_g (lw_at lw_m9 32 rfl) rfl
theorem q2061 : (Jvm.Cond.methodLink "ShorePoolsLaw" (240 : Nat) ({ cls := "ShorePoolsModel", name := "isFlooded", desc := "(I)Z" } : Jvm.MethodName)) ∈ lw_all := lw_g (lw_at lw_m9 40 rfl) rfl
theorem q2065 : (Jvm.Cond.methodLink "ShorePoolsLaw" (244 : Nat) ({ cls := "ShorePoolsModel", name := "floodedPools", desc := "()I" } : Jvm.MethodName)) ∈ lw_all := lw_g (lw_at lw_m9 44 rfl) rfl
theorem q2069 : (Jvm.Cond.methodLink "ShorePoolsLaw" (247 : Nat) ({ cls := "ShorePoolsModel", name := "warmthOf", desc := "(I)I" } : Jvm.MethodName)) ∈ lw_all := lw_g (lw_at lw_m9 48 rfl) rfl
theorem q2073 : (Jvm.Cond.methodLink "ShorePoolsLaw" (250 : Nat) ({ cls := "ShorePoolsModel", name := "weedOf", desc := "(I)I" } : Jvm.MethodName)) ∈ lw_all := lw_g (lw_at lw_m9 52 rfl) rfl
theorem q2077 : (Jvm.Cond.methodLink "ShorePoolsLaw" (253 : Nat) ({ cls := "ShorePoolsModel", name := "hoursToFlood", desc := "(I)I" } : Jvm.MethodName)) ∈ lw_all := lw_g (lw_at lw_m9 56 rfl) rfl
theorem q2081 : (Jvm.Cond.methodLink "ShorePoolsLaw" (256 : Nat) ({ cls := "ShorePoolsModel", name := "floodHours", desc := "(I)I" } : Jvm.MethodName)) ∈ lw_all := lw_g (lw_at lw_m9 60 rfl) rfl
theorem q2085 : (Jvm.Cond.methodLink "ShorePoolsLaw" (259 : Nat) ({ cls := "ShorePoolsModel", name := "floodHoursByCounting", desc := "(I)I" } : Jvm.MethodName)) ∈ lw_all := lw_g (lw_at lw_m9 64 rfl) rfl
theorem q2089 : (Jvm.Cond.methodLink "ShorePoolsLaw" (263 : Nat) ({ cls := "ShorePoolsModel", name := "limpets", desc := "()I" } : Jvm.MethodName)) ∈ lw_all := lw_g (lw_at lw_m9 68 rfl) rfl
theorem q2093 : (Jvm.Cond.methodLink "ShorePoolsLaw" (267 : Nat) ({ cls := "ShorePoolsModel", name := "livingLimpets", desc := "()I" } : Jvm.MethodName)) ∈ lw_all := lw_g (lw_at lw_m9 72 rfl) rfl
theorem q2101 : (Jvm.Cond.methodLink "ShorePoolsLaw" (270 : Nat) ({ cls := "ShorePoolsModel", name := "fateOfLimpet", desc := "(I)I" } : Jvm.MethodName)) ∈ lw_all := lw_g (lw_at lw_m9 80 rfl) rfl
theorem q2113 : (Jvm.Cond.methodLink "ShorePoolsLaw" (273 : Nat) ({ cls := "ShorePoolsModel", name := "poolOfLimpet", desc := "(I)I" } : Jvm.MethodName)) ∈ lw_all := lw_g (lw_at lw_m9 92 rfl) rfl
theorem q2117 : (Jvm.Cond.methodLink "ShorePoolsLaw" (276 : Nat) ({ cls := "ShorePoolsModel", name := "waterOf", desc := "(I)I" } : Jvm.MethodName)) ∈ lw_all := lw_g (lw_at lw_m9 96 rfl) rfl
theorem q2121 : (Jvm.Cond.methodLink "ShorePoolsLaw" (279 : Nat) ({ cls := "ShorePoolsModel", name := "foodOf", desc := "(I)I" } : Jvm.MethodName)) ∈ lw_all := lw_g (lw_at lw_m9 100 rfl) rfl
theorem q2125 : (Jvm.Cond.methodLink "ShorePoolsLaw" (282 : Nat) ({ cls := "ShorePoolsModel", name := "stepsOf", desc := "(I)I" } : Jvm.MethodName)) ∈ lw_all := lw_g (lw_at lw_m9 104 rfl) rfl
theorem q2129 : (Jvm.Cond.methodLink "ShorePoolsLaw" (286 : Nat) ({ cls := "ShorePoolsModel", name := "driest", desc := "()I" } : Jvm.MethodName)) ∈ lw_all := lw_g (lw_at lw_m9 108 rfl) rfl
theorem q2133 : (Jvm.Cond.methodLink "ShorePoolsLaw" (290 : Nat) ({ cls := "ShorePoolsModel", name := "shells", desc := "()I" } : Jvm.MethodName)) ∈ lw_all := lw_g (lw_at lw_m9 112 rfl) rfl
theorem q2137 : (Jvm.Cond.methodLink "ShorePoolsLaw" (294 : Nat) ({ cls := "ShorePoolsModel", name := "crabs", desc := "()I" } : Jvm.MethodName)) ∈ lw_all := lw_g (lw_at lw_m9 116 rfl) rfl
theorem q2141 : (Jvm.Cond.methodLink "ShorePoolsLaw" (298 : Nat) ({ cls := "ShorePoolsModel", name := "livingCrabs", desc := "()I" } : Jvm.MethodName)) ∈ lw_all := lw_g (lw_at lw_m9 120 rfl) rfl
theorem q2149 : (Jvm.Cond.methodLink "ShorePoolsLaw" (302 : Nat) ({ cls := "ShorePoolsModel", name := "wornByShells", desc := "()I" } : Jvm.MethodName)) ∈ lw_all := lw_g (lw_at lw_m9 128 rfl) rfl
theorem q2153 : (Jvm.Cond.methodLink "ShorePoolsLaw" (306 : Nat) ({ cls := "ShorePoolsModel", name := "wornByCrabs", desc := "()I" } : Jvm.MethodName)) ∈ lw_all := lw_g (lw_at lw_m9 132 rfl) rfl
theorem q2157 : (Jvm.Cond.methodLink "ShorePoolsLaw" (309 : Nat) ({ cls := "ShorePoolsModel", name := "sizeOfShell", desc := "(I)I" } : Jvm.MethodName)) ∈ lw_all := lw_g (lw_at lw_m9 136 rfl) rfl
theorem q2165 : (Jvm.Cond.methodLink "ShorePoolsLaw" (312 : Nat) ({ cls := "ShorePoolsModel", name := "poolOfShell", desc := "(I)I" } : Jvm.MethodName)) ∈ lw_all := lw_g (lw_at lw_m9 144 rfl) rfl
theorem q2169 : (Jvm.Cond.methodLink "ShorePoolsLaw" (315 : Nat) ({ cls := "ShorePoolsModel", name := "wearerOf", desc := "(I)I" } : Jvm.MethodName)) ∈ lw_all := lw_g (lw_at lw_m9 148 rfl) rfl
theorem q2173 : (Jvm.Cond.methodLink "ShorePoolsLaw" (318 : Nat) ({ cls := "ShorePoolsModel", name := "fateOfCrab", desc := "(I)I" } : Jvm.MethodName)) ∈ lw_all := lw_g (lw_at lw_m9 152 rfl) rfl
theorem q2185 : (Jvm.Cond.methodLink "ShorePoolsLaw" (321 : Nat) ({ cls := "ShorePoolsModel", name := "sizeOfCrab", desc := "(I)I" } : Jvm.MethodName)) ∈ lw_all := lw_g (lw_at lw_m9 164 rfl) rfl
theorem q2189 : (Jvm.Cond.methodLink "ShorePoolsLaw" (324 : Nat) ({ cls := "ShorePoolsModel", name := "poolOfCrab", desc := "(I)I" } : Jvm.MethodName)) ∈ lw_all := lw_g (lw_at lw_m9 168 rfl) rfl
theorem q2193 : (Jvm.Cond.methodLink "ShorePoolsLaw" (327 : Nat) ({ cls := "ShorePoolsModel", name := "shellOf", desc := "(I)I" } : Jvm.MethodName)) ∈ lw_all := lw_g (lw_at lw_m9 172 rfl) rfl
theorem q2197 : (Jvm.Cond.methodLink "ShorePoolsLaw" (336 : Nat) ({ cls := "ShorePoolsModel", name := "changesOf", desc := "(I)I" } : Jvm.MethodName)) ∈ lw_all := lw_g (lw_at lw_m9 176 rfl) rfl
theorem q2201 : (Jvm.Cond.methodLink "ShorePoolsLaw" (330 : Nat) ({ cls := "ShorePoolsModel", name := "worth", desc := "(II)I" } : Jvm.MethodName)) ∈ lw_all := lw_g (lw_at lw_m9 180 rfl) rfl
theorem q2205 : (Jvm.Cond.methodLink "ShorePoolsLaw" (333 : Nat) ({ cls := "ShorePoolsModel", name := "wouldTake", desc := "(I)I" } : Jvm.MethodName)) ∈ lw_all := lw_g (lw_at lw_m9 184 rfl) rfl
theorem q2209 : (Jvm.Cond.methodLink "ShorePoolsLaw" (340 : Nat) ({ cls := "ShorePoolsModel", name := "heronAt", desc := "()I" } : Jvm.MethodName)) ∈ lw_all := lw_g (lw_at lw_m9 188 rfl) rfl
theorem q2213 : (Jvm.Cond.methodLink "ShorePoolsLaw" (344 : Nat) ({ cls := "ShorePoolsModel", name := "nextOfHeron", desc := "()I" } : Jvm.MethodName)) ∈ lw_all := lw_g (lw_at lw_m9 192 rfl) rfl
theorem q2217 : (Jvm.Cond.methodLink "ShorePoolsLaw" (347 : Nat) ({ cls := "ShorePoolsModel", name := "preyIn", desc := "(I)I" } : Jvm.MethodName)) ∈ lw_all := lw_g (lw_at lw_m9 196 rfl) rfl
theorem q2221 : (Jvm.Cond.methodLink "ShorePoolsLaw" (351 : Nat) ({ cls := "ShorePoolsModel", name := "taken", desc := "()I" } : Jvm.MethodName)) ∈ lw_all := lw_g (lw_at lw_m9 200 rfl) rfl
theorem q2225 : (Jvm.Cond.methodLink "ShorePoolsLaw" (355 : Nat) ({ cls := "ShorePoolsModel", name := "takenByFates", desc := "()I" } : Jvm.MethodName)) ∈ lw_all := lw_g (lw_at lw_m9 204 rfl) rfl
theorem q2229 : (Jvm.Cond.methodLink "ShorePoolsLaw" (358 : Nat) ({ cls := "ShorePoolsModel", name := "chainBy", desc := "(II)I" } : Jvm.MethodName)) ∈ lw_all := lw_g (lw_at lw_m9 208 rfl) rfl
theorem q2237 : (Jvm.Cond.methodLink "ShorePoolsLaw" (361 : Nat) ({ cls := "ShorePoolsModel", name := "bestSize", desc := "(I)I" } : Jvm.MethodName)) ∈ lw_all := lw_g (lw_at lw_m9 216 rfl) rfl
theorem q2241 : (Jvm.Cond.methodLink "ShorePoolsLaw" (364 : Nat) ({ cls := "ShorePoolsModel", name := "lostIn", desc := "(I)I" } : Jvm.MethodName)) ∈ lw_all := lw_g (lw_at lw_m9 220 rfl) rfl
theorem q2249 : (Jvm.Cond.methodLink "ShorePoolsLaw" (367 : Nat) ({ cls := "ShorePoolsModel", name := "hoursToLive", desc := "(I)I" } : Jvm.MethodName)) ∈ lw_all := lw_g (lw_at lw_m9 228 rfl) rfl
theorem q2253 : (Jvm.Cond.methodLink "ShorePoolsLaw" (370 : Nat) ({ cls := "ShorePoolsModel", name := "hoursToChange", desc := "(I)I" } : Jvm.MethodName)) ∈ lw_all := lw_g (lw_at lw_m9 232 rfl) rfl
theorem q2257 : (Jvm.Cond.methodLink "ShorePoolsLaw" (374 : Nat) ({ cls := "ShorePoolsModel", name := "mildestPause", desc := "()I" } : Jvm.MethodName)) ∈ lw_all := lw_g (lw_at lw_m9 236 rfl) rfl
theorem q2261 : (Jvm.Cond.methodLink "ShorePoolsLaw" (378 : Nat) ({ cls := "ShorePoolsModel", name := "recordedStates", desc := "()I" } : Jvm.MethodName)) ∈ lw_all := lw_g (lw_at lw_m10 0 rfl) rfl
/-! ShorePools$State -/
set_option maxRecDepth 100000
def RX2 : String := "ShorePools$State"
def TX2 : u_T := fun k => match k with
  | 0 => ("ShorePools$State", "limpets", "Ljava/util/ArrayList;", true)
  | 1 => ("ShorePools$State", "shells", "Ljava/util/ArrayList;", true)
  | 2 => ("ShorePools$State", "crabs", "Ljava/util/ArrayList;", true)
  | 3 => ("ShorePools$State", "heights", "[I", true)
  | 4 => ("ShorePools$State", "warmth", "[I", true)
  | 5 => ("ShorePools$State", "weed", "[I", true)
  | 6 => ("ShorePools$State", "time", "I", false)
  | 7 => ("ShorePools$State", "low", "I", false)
  | 8 => ("ShorePools$State", "high", "I", false)
  | 9 => ("ShorePools$State", "heat", "I", false)
  | 10 => ("ShorePools$State", "pause", "I", false)
  | 11 => ("ShorePools$State", "heron", "I", false)
  | 12 => ("ShorePools$State", "taken", "I", false)
  | _ => ("ShorePools$State", "lost", "I", false)
def tyX2 : Nat → FieldType := fun k => match k with
  | 0 => .object "java/util/ArrayList"
  | 1 => .object "java/util/ArrayList"
  | 2 => .object "java/util/ArrayList"
  | 3 => .array .int
  | 4 => .array .int
  | 5 => .array .int
  | 6 => .int
  | 7 => .int
  | 8 => .int
  | 9 => .int
  | 10 => .int
  | 11 => .int
  | 12 => .int
  | _ => .int
abbrev wsX20 : List Cond := u_ws RX2 TX2 14
set_option maxRecDepth 100000 in
theorem nmX2 : ∀ a, a < 14 → ∀ b, b < 14 → a ≠ b → (TX2 a).2.1 ≠ (TX2 b).2.1 := by decide +kernel
set_option maxRecDepth 100000 in
theorem tyX2_ok : ∀ k, k < 14 → parseFieldDescriptor (TX2 k).2.2.1 = some (tyX2 k) := by decide +kernel
abbrev cX2_init : ByteArray := prog_9_method_1_code
def yX2_init : MethodName := ⟨RX2, "<init>", "()V"⟩
def dkwX2_init_5 : List UInt8 := [180, 0, 31, 27, 16, 20, 79, 132, 1, 1, 167, 255, 219, 177]
abbrev dktX2_init_5 : List UInt8 := dkwX2_init_5 ++ []
def dkwX2_init_4 : List UInt8 := [162, 0, 37, 42, 180, 0, 24, 27, 8, 16, 7, 27, 104, 96, 79, 42, 180, 0, 28, 27, 16, 10, 79, 42]
abbrev dktX2_init_4 : List UInt8 := dkwX2_init_4 ++ dktX2_init_5
def dkwX2_init_3 : List UInt8 := [181, 0, 38, 42, 5, 181, 0, 41, 42, 6, 181, 0, 44, 42, 16, 7, 181, 0, 47, 3, 60, 27, 16, 8]
abbrev dktX2_init_3 : List UInt8 := dkwX2_init_3 ++ dktX2_init_4
def dkwX2_init_2 : List UInt8 := [16, 8, 188, 10, 181, 0, 28, 42, 16, 8, 188, 10, 181, 0, 31, 42, 16, 8, 181, 0, 34, 42, 16, 50]
abbrev dktX2_init_2 : List UInt8 := dkwX2_init_2 ++ dktX2_init_3
def dkwX2_init_1 : List UInt8 := [181, 0, 18, 42, 187, 0, 9, 89, 183, 0, 11, 181, 0, 21, 42, 16, 8, 188, 10, 181, 0, 24, 42]
abbrev dktX2_init_1 : List UInt8 := dkwX2_init_1 ++ dktX2_init_2
def dkwX2_init_0 : List UInt8 := [42, 183, 0, 3, 42, 187, 0, 9, 89, 183, 0, 11, 181, 0, 12, 42, 187, 0, 9, 89, 183, 0, 11]
abbrev dktX2_init_0 : List UInt8 := dkwX2_init_0 ++ dktX2_init_1
theorem dksX2_init_0 : cX2_init.data.toList.drop 0 = dktX2_init_0 := by decide +kernel
theorem dksX2_init_1 : cX2_init.data.toList.drop 23 = dktX2_init_1 := dk_seg dksX2_init_0 23 rfl rfl
theorem dksX2_init_2 : cX2_init.data.toList.drop 46 = dktX2_init_2 := dk_seg dksX2_init_1 23 rfl rfl
theorem dksX2_init_3 : cX2_init.data.toList.drop 70 = dktX2_init_3 := dk_seg dksX2_init_2 24 rfl rfl
theorem dksX2_init_4 : cX2_init.data.toList.drop 94 = dktX2_init_4 := dk_seg dksX2_init_3 24 rfl rfl
theorem dksX2_init_5 : cX2_init.data.toList.drop 118 = dktX2_init_5 := dk_seg dksX2_init_4 24 rfl rfl
theorem dX2_init_0 : decode cX2_init 0 = .ok (.aload_n 0, 1) := dk_42 (dk_at dksX2_init_0 0 rfl rfl)
theorem dX2_init_1 : decode cX2_init 1 = .ok (.invokespecial 3, 3) := dk_183 0 3 (dk_at dksX2_init_0 1 rfl rfl)
theorem dX2_init_4 : decode cX2_init 4 = .ok (.aload_n 0, 1) := dk_42 (dk_at dksX2_init_0 4 rfl rfl)
theorem dX2_init_5 : decode cX2_init 5 = .ok (.new 9, 3) := dk_187 0 9 (dk_at dksX2_init_0 5 rfl rfl)
theorem dX2_init_8 : decode cX2_init 8 = .ok (.dup, 1) := dk_89 (dk_at dksX2_init_0 8 rfl rfl)
theorem dX2_init_9 : decode cX2_init 9 = .ok (.invokespecial 11, 3) := dk_183 0 11 (dk_at dksX2_init_0 9 rfl rfl)
theorem dX2_init_12 : decode cX2_init 12 = .ok (.putfield 12, 3) := dk_181 0 12 (dk_at dksX2_init_0 12 rfl rfl)
theorem dX2_init_15 : decode cX2_init 15 = .ok (.aload_n 0, 1) := dk_42 (dk_at dksX2_init_0 15 rfl rfl)
theorem dX2_init_16 : decode cX2_init 16 = .ok (.new 9, 3) := dk_187 0 9 (dk_at dksX2_init_0 16 rfl rfl)
theorem dX2_init_19 : decode cX2_init 19 = .ok (.dup, 1) := dk_89 (dk_at dksX2_init_0 19 rfl rfl)
theorem dX2_init_20 : decode cX2_init 20 = .ok (.invokespecial 11, 3) := dk_183 0 11 (dk_at dksX2_init_0 20 rfl rfl)
theorem dX2_init_23 : decode cX2_init 23 = .ok (.putfield 18, 3) := dk_181 0 18 (dk_at dksX2_init_1 0 rfl rfl)
theorem dX2_init_26 : decode cX2_init 26 = .ok (.aload_n 0, 1) := dk_42 (dk_at dksX2_init_1 3 rfl rfl)
theorem dX2_init_27 : decode cX2_init 27 = .ok (.new 9, 3) := dk_187 0 9 (dk_at dksX2_init_1 4 rfl rfl)
theorem dX2_init_30 : decode cX2_init 30 = .ok (.dup, 1) := dk_89 (dk_at dksX2_init_1 7 rfl rfl)
theorem dX2_init_31 : decode cX2_init 31 = .ok (.invokespecial 11, 3) := dk_183 0 11 (dk_at dksX2_init_1 8 rfl rfl)
theorem dX2_init_34 : decode cX2_init 34 = .ok (.putfield 21, 3) := dk_181 0 21 (dk_at dksX2_init_1 11 rfl rfl)
theorem dX2_init_37 : decode cX2_init 37 = .ok (.aload_n 0, 1) := dk_42 (dk_at dksX2_init_1 14 rfl rfl)
theorem dX2_init_38 : decode cX2_init 38 = .ok (.bipush 8, 2) := dk_16 8 (dk_at dksX2_init_1 15 rfl rfl)
theorem dX2_init_40 : decode cX2_init 40 = .ok (.newarray .int, 2) := dk_188_10 (dk_at dksX2_init_1 17 rfl rfl)
theorem dX2_init_42 : decode cX2_init 42 = .ok (.putfield 24, 3) := dk_181 0 24 (dk_at dksX2_init_1 19 rfl rfl)
theorem dX2_init_45 : decode cX2_init 45 = .ok (.aload_n 0, 1) := dk_42 (dk_at dksX2_init_1 22 rfl rfl)
theorem dX2_init_46 : decode cX2_init 46 = .ok (.bipush 8, 2) := dk_16 8 (dk_at dksX2_init_2 0 rfl rfl)
theorem dX2_init_48 : decode cX2_init 48 = .ok (.newarray .int, 2) := dk_188_10 (dk_at dksX2_init_2 2 rfl rfl)
theorem dX2_init_50 : decode cX2_init 50 = .ok (.putfield 28, 3) := dk_181 0 28 (dk_at dksX2_init_2 4 rfl rfl)
theorem dX2_init_53 : decode cX2_init 53 = .ok (.aload_n 0, 1) := dk_42 (dk_at dksX2_init_2 7 rfl rfl)
theorem dX2_init_54 : decode cX2_init 54 = .ok (.bipush 8, 2) := dk_16 8 (dk_at dksX2_init_2 8 rfl rfl)
theorem dX2_init_56 : decode cX2_init 56 = .ok (.newarray .int, 2) := dk_188_10 (dk_at dksX2_init_2 10 rfl rfl)
theorem dX2_init_58 : decode cX2_init 58 = .ok (.putfield 31, 3) := dk_181 0 31 (dk_at dksX2_init_2 12 rfl rfl)
theorem dX2_init_61 : decode cX2_init 61 = .ok (.aload_n 0, 1) := dk_42 (dk_at dksX2_init_2 15 rfl rfl)
theorem dX2_init_62 : decode cX2_init 62 = .ok (.bipush 8, 2) := dk_16 8 (dk_at dksX2_init_2 16 rfl rfl)
theorem dX2_init_64 : decode cX2_init 64 = .ok (.putfield 34, 3) := dk_181 0 34 (dk_at dksX2_init_2 18 rfl rfl)
theorem dX2_init_67 : decode cX2_init 67 = .ok (.aload_n 0, 1) := dk_42 (dk_at dksX2_init_2 21 rfl rfl)
theorem dX2_init_68 : decode cX2_init 68 = .ok (.bipush 50, 2) := dk_16 50 (dk_at dksX2_init_2 22 rfl rfl)
theorem dX2_init_70 : decode cX2_init 70 = .ok (.putfield 38, 3) := dk_181 0 38 (dk_at dksX2_init_3 0 rfl rfl)
theorem dX2_init_73 : decode cX2_init 73 = .ok (.aload_n 0, 1) := dk_42 (dk_at dksX2_init_3 3 rfl rfl)
theorem dX2_init_74 : decode cX2_init 74 = .ok (.iconst 2, 1) := dk_5 (dk_at dksX2_init_3 4 rfl rfl)
theorem dX2_init_75 : decode cX2_init 75 = .ok (.putfield 41, 3) := dk_181 0 41 (dk_at dksX2_init_3 5 rfl rfl)
theorem dX2_init_78 : decode cX2_init 78 = .ok (.aload_n 0, 1) := dk_42 (dk_at dksX2_init_3 8 rfl rfl)
theorem dX2_init_79 : decode cX2_init 79 = .ok (.iconst 3, 1) := dk_6 (dk_at dksX2_init_3 9 rfl rfl)
theorem dX2_init_80 : decode cX2_init 80 = .ok (.putfield 44, 3) := dk_181 0 44 (dk_at dksX2_init_3 10 rfl rfl)
theorem dX2_init_83 : decode cX2_init 83 = .ok (.aload_n 0, 1) := dk_42 (dk_at dksX2_init_3 13 rfl rfl)
theorem dX2_init_84 : decode cX2_init 84 = .ok (.bipush 7, 2) := dk_16 7 (dk_at dksX2_init_3 14 rfl rfl)
theorem dX2_init_86 : decode cX2_init 86 = .ok (.putfield 47, 3) := dk_181 0 47 (dk_at dksX2_init_3 16 rfl rfl)
theorem dX2_init_89 : decode cX2_init 89 = .ok (.iconst 0, 1) := dk_3 (dk_at dksX2_init_3 19 rfl rfl)
theorem dX2_init_90 : decode cX2_init 90 = .ok (.istore_n 1, 1) := dk_60 (dk_at dksX2_init_3 20 rfl rfl)
theorem dX2_init_91 : decode cX2_init 91 = .ok (.iload_n 1, 1) := dk_27 (dk_at dksX2_init_3 21 rfl rfl)
theorem dX2_init_92 : decode cX2_init 92 = .ok (.bipush 8, 2) := dk_16 8 (dk_at dksX2_init_3 22 rfl rfl)
theorem dX2_init_94 : decode cX2_init 94 = .ok (.if_icmp .ge 37, 3) := dk_162 0 37 (dk_at dksX2_init_4 0 rfl rfl)
theorem dX2_init_97 : decode cX2_init 97 = .ok (.aload_n 0, 1) := dk_42 (dk_at dksX2_init_4 3 rfl rfl)
theorem dX2_init_98 : decode cX2_init 98 = .ok (.getfield 24, 3) := dk_180 0 24 (dk_at dksX2_init_4 4 rfl rfl)
theorem dX2_init_101 : decode cX2_init 101 = .ok (.iload_n 1, 1) := dk_27 (dk_at dksX2_init_4 7 rfl rfl)
theorem dX2_init_102 : decode cX2_init 102 = .ok (.iconst 5, 1) := dk_8 (dk_at dksX2_init_4 8 rfl rfl)
theorem dX2_init_103 : decode cX2_init 103 = .ok (.bipush 7, 2) := dk_16 7 (dk_at dksX2_init_4 9 rfl rfl)
theorem dX2_init_105 : decode cX2_init 105 = .ok (.iload_n 1, 1) := dk_27 (dk_at dksX2_init_4 11 rfl rfl)
theorem dX2_init_106 : decode cX2_init 106 = .ok (.imul, 1) := dk_104 (dk_at dksX2_init_4 12 rfl rfl)
theorem dX2_init_107 : decode cX2_init 107 = .ok (.iadd, 1) := dk_96 (dk_at dksX2_init_4 13 rfl rfl)
theorem dX2_init_108 : decode cX2_init 108 = .ok (.iastore, 1) := dk_79 (dk_at dksX2_init_4 14 rfl rfl)
theorem dX2_init_109 : decode cX2_init 109 = .ok (.aload_n 0, 1) := dk_42 (dk_at dksX2_init_4 15 rfl rfl)
theorem dX2_init_110 : decode cX2_init 110 = .ok (.getfield 28, 3) := dk_180 0 28 (dk_at dksX2_init_4 16 rfl rfl)
theorem dX2_init_113 : decode cX2_init 113 = .ok (.iload_n 1, 1) := dk_27 (dk_at dksX2_init_4 19 rfl rfl)
theorem dX2_init_114 : decode cX2_init 114 = .ok (.bipush 10, 2) := dk_16 10 (dk_at dksX2_init_4 20 rfl rfl)
theorem dX2_init_116 : decode cX2_init 116 = .ok (.iastore, 1) := dk_79 (dk_at dksX2_init_4 22 rfl rfl)
theorem dX2_init_117 : decode cX2_init 117 = .ok (.aload_n 0, 1) := dk_42 (dk_at dksX2_init_4 23 rfl rfl)
theorem dX2_init_118 : decode cX2_init 118 = .ok (.getfield 31, 3) := dk_180 0 31 (dk_at dksX2_init_5 0 rfl rfl)
theorem dX2_init_121 : decode cX2_init 121 = .ok (.iload_n 1, 1) := dk_27 (dk_at dksX2_init_5 3 rfl rfl)
theorem dX2_init_122 : decode cX2_init 122 = .ok (.bipush 20, 2) := dk_16 20 (dk_at dksX2_init_5 4 rfl rfl)
theorem dX2_init_124 : decode cX2_init 124 = .ok (.iastore, 1) := dk_79 (dk_at dksX2_init_5 6 rfl rfl)
theorem dX2_init_125 : decode cX2_init 125 = .ok (.iinc 1 1, 3) := dk_132 1 1 (dk_at dksX2_init_5 7 rfl rfl)
theorem dX2_init_128 : decode cX2_init 128 = .ok (.goto (-37), 3) := dk_167 255 219 (dk_at dksX2_init_5 10 rfl rfl)
theorem dX2_init_131 : decode cX2_init 131 = .ok (.return_, 1) := dk_177 (dk_at dksX2_init_5 13 rfl rfl)
abbrev cX2_copy : ByteArray := prog_9_method_2_code
def yX2_copy : MethodName := ⟨RX2, "copy", "()LShorePools$State;"⟩
def dkwX2_copy_10 : List UInt8 := [181, 0, 82, 43, 42, 180, 0, 85, 181, 0, 85, 43, 176]
abbrev dktX2_copy_10 : List UInt8 := dkwX2_copy_10 ++ []
def dkwX2_copy_9 : List UInt8 := [181, 0, 41, 43, 42, 180, 0, 44, 181, 0, 44, 43, 42, 180, 0, 47, 181, 0, 47, 43, 42, 180, 0, 82]
abbrev dktX2_copy_9 : List UInt8 := dkwX2_copy_9 ++ dktX2_copy_10
def dkwX2_copy_8 : List UInt8 := [181, 0, 79, 43, 42, 180, 0, 34, 181, 0, 34, 43, 42, 180, 0, 38, 181, 0, 38, 43, 42, 180, 0, 41]
abbrev dktX2_copy_8 : List UInt8 := dkwX2_copy_8 ++ dktX2_copy_9
def dkwX2_copy_7 : List UInt8 := [180, 0, 31, 28, 42, 180, 0, 31, 28, 46, 79, 132, 2, 1, 167, 255, 211, 43, 42, 180, 0, 79]
abbrev dktX2_copy_7 : List UInt8 := dkwX2_copy_7 ++ dktX2_copy_8
def dkwX2_copy_6 : List UInt8 := [180, 0, 24, 28, 42, 180, 0, 24, 28, 46, 79, 43, 180, 0, 28, 28, 42, 180, 0, 28, 28, 46, 79, 43]
abbrev dktX2_copy_6 : List UInt8 := dkwX2_copy_6 ++ dktX2_copy_7
def dkwX2_copy_5 : List UInt8 := [182, 0, 76, 182, 0, 65, 87, 132, 2, 1, 167, 255, 220, 3, 61, 28, 16, 8, 162, 0, 45, 43]
abbrev dktX2_copy_5 : List UInt8 := dkwX2_copy_5 ++ dktX2_copy_6
def dkwX2_copy_4 : List UInt8 := [180, 0, 21, 182, 0, 51, 162, 0, 31, 43, 180, 0, 21, 42, 180, 0, 21, 28, 182, 0, 55, 192, 0, 74]
abbrev dktX2_copy_4 : List UInt8 := dkwX2_copy_4 ++ dktX2_copy_5
def dkwX2_copy_3 : List UInt8 := [28, 182, 0, 55, 192, 0, 69, 182, 0, 71, 182, 0, 65, 87, 132, 2, 1, 167, 255, 220, 3, 61, 28, 42]
abbrev dktX2_copy_3 : List UInt8 := dkwX2_copy_3 ++ dktX2_copy_4
def dkwX2_copy_2 : List UInt8 := [167, 255, 220, 3, 61, 28, 42, 180, 0, 18, 182, 0, 51, 162, 0, 31, 43, 180, 0, 18, 42, 180, 0, 18]
abbrev dktX2_copy_2 : List UInt8 := dkwX2_copy_2 ++ dktX2_copy_3
def dkwX2_copy_1 : List UInt8 := [180, 0, 12, 42, 180, 0, 12, 28, 182, 0, 55, 192, 0, 59, 182, 0, 61, 182, 0, 65, 87, 132, 2, 1]
abbrev dktX2_copy_1 : List UInt8 := dkwX2_copy_1 ++ dktX2_copy_2
def dkwX2_copy_0 : List UInt8 := [187, 0, 13, 89, 183, 0, 50, 76, 3, 61, 28, 42, 180, 0, 12, 182, 0, 51, 162, 0, 31, 43]
abbrev dktX2_copy_0 : List UInt8 := dkwX2_copy_0 ++ dktX2_copy_1
theorem dksX2_copy_0 : cX2_copy.data.toList.drop 0 = dktX2_copy_0 := by decide +kernel
theorem dksX2_copy_1 : cX2_copy.data.toList.drop 22 = dktX2_copy_1 := dk_seg dksX2_copy_0 22 rfl rfl
theorem dksX2_copy_2 : cX2_copy.data.toList.drop 46 = dktX2_copy_2 := dk_seg dksX2_copy_1 24 rfl rfl
theorem dksX2_copy_3 : cX2_copy.data.toList.drop 70 = dktX2_copy_3 := dk_seg dksX2_copy_2 24 rfl rfl
theorem dksX2_copy_4 : cX2_copy.data.toList.drop 94 = dktX2_copy_4 := dk_seg dksX2_copy_3 24 rfl rfl
theorem dksX2_copy_5 : cX2_copy.data.toList.drop 118 = dktX2_copy_5 := dk_seg dksX2_copy_4 24 rfl rfl
theorem dksX2_copy_6 : cX2_copy.data.toList.drop 140 = dktX2_copy_6 := dk_seg dksX2_copy_5 22 rfl rfl
theorem dksX2_copy_7 : cX2_copy.data.toList.drop 164 = dktX2_copy_7 := dk_seg dksX2_copy_6 24 rfl rfl
theorem dksX2_copy_8 : cX2_copy.data.toList.drop 186 = dktX2_copy_8 := dk_seg dksX2_copy_7 22 rfl rfl
theorem dksX2_copy_9 : cX2_copy.data.toList.drop 210 = dktX2_copy_9 := dk_seg dksX2_copy_8 24 rfl rfl
theorem dksX2_copy_10 : cX2_copy.data.toList.drop 234 = dktX2_copy_10 := dk_seg dksX2_copy_9 24 rfl rfl
theorem dX2_copy_0 : decode cX2_copy 0 = .ok (.new 13, 3) := dk_187 0 13 (dk_at dksX2_copy_0 0 rfl rfl)
theorem dX2_copy_3 : decode cX2_copy 3 = .ok (.dup, 1) := dk_89 (dk_at dksX2_copy_0 3 rfl rfl)
theorem dX2_copy_4 : decode cX2_copy 4 = .ok (.invokespecial 50, 3) := dk_183 0 50 (dk_at dksX2_copy_0 4 rfl rfl)
theorem dX2_copy_7 : decode cX2_copy 7 = .ok (.astore_n 1, 1) := dk_76 (dk_at dksX2_copy_0 7 rfl rfl)
theorem dX2_copy_8 : decode cX2_copy 8 = .ok (.iconst 0, 1) := dk_3 (dk_at dksX2_copy_0 8 rfl rfl)
theorem dX2_copy_9 : decode cX2_copy 9 = .ok (.istore_n 2, 1) := dk_61 (dk_at dksX2_copy_0 9 rfl rfl)
theorem dX2_copy_10 : decode cX2_copy 10 = .ok (.iload_n 2, 1) := dk_28 (dk_at dksX2_copy_0 10 rfl rfl)
theorem dX2_copy_11 : decode cX2_copy 11 = .ok (.aload_n 0, 1) := dk_42 (dk_at dksX2_copy_0 11 rfl rfl)
theorem dX2_copy_12 : decode cX2_copy 12 = .ok (.getfield 12, 3) := dk_180 0 12 (dk_at dksX2_copy_0 12 rfl rfl)
theorem dX2_copy_15 : decode cX2_copy 15 = .ok (.invokevirtual 51, 3) := dk_182 0 51 (dk_at dksX2_copy_0 15 rfl rfl)
theorem dX2_copy_18 : decode cX2_copy 18 = .ok (.if_icmp .ge 31, 3) := dk_162 0 31 (dk_at dksX2_copy_0 18 rfl rfl)
theorem dX2_copy_21 : decode cX2_copy 21 = .ok (.aload_n 1, 1) := dk_43 (dk_at dksX2_copy_0 21 rfl rfl)
theorem dX2_copy_22 : decode cX2_copy 22 = .ok (.getfield 12, 3) := dk_180 0 12 (dk_at dksX2_copy_1 0 rfl rfl)
theorem dX2_copy_25 : decode cX2_copy 25 = .ok (.aload_n 0, 1) := dk_42 (dk_at dksX2_copy_1 3 rfl rfl)
theorem dX2_copy_26 : decode cX2_copy 26 = .ok (.getfield 12, 3) := dk_180 0 12 (dk_at dksX2_copy_1 4 rfl rfl)
theorem dX2_copy_29 : decode cX2_copy 29 = .ok (.iload_n 2, 1) := dk_28 (dk_at dksX2_copy_1 7 rfl rfl)
theorem dX2_copy_30 : decode cX2_copy 30 = .ok (.invokevirtual 55, 3) := dk_182 0 55 (dk_at dksX2_copy_1 8 rfl rfl)
theorem dX2_copy_33 : decode cX2_copy 33 = .ok (.checkcast 59, 3) := dk_192 0 59 (dk_at dksX2_copy_1 11 rfl rfl)
theorem dX2_copy_36 : decode cX2_copy 36 = .ok (.invokevirtual 61, 3) := dk_182 0 61 (dk_at dksX2_copy_1 14 rfl rfl)
theorem dX2_copy_39 : decode cX2_copy 39 = .ok (.invokevirtual 65, 3) := dk_182 0 65 (dk_at dksX2_copy_1 17 rfl rfl)
theorem dX2_copy_42 : decode cX2_copy 42 = .ok (.pop, 1) := dk_87 (dk_at dksX2_copy_1 20 rfl rfl)
theorem dX2_copy_43 : decode cX2_copy 43 = .ok (.iinc 2 1, 3) := dk_132 2 1 (dk_at dksX2_copy_1 21 rfl rfl)
theorem dX2_copy_46 : decode cX2_copy 46 = .ok (.goto (-36), 3) := dk_167 255 220 (dk_at dksX2_copy_2 0 rfl rfl)
theorem dX2_copy_49 : decode cX2_copy 49 = .ok (.iconst 0, 1) := dk_3 (dk_at dksX2_copy_2 3 rfl rfl)
theorem dX2_copy_50 : decode cX2_copy 50 = .ok (.istore_n 2, 1) := dk_61 (dk_at dksX2_copy_2 4 rfl rfl)
theorem dX2_copy_51 : decode cX2_copy 51 = .ok (.iload_n 2, 1) := dk_28 (dk_at dksX2_copy_2 5 rfl rfl)
theorem dX2_copy_52 : decode cX2_copy 52 = .ok (.aload_n 0, 1) := dk_42 (dk_at dksX2_copy_2 6 rfl rfl)
theorem dX2_copy_53 : decode cX2_copy 53 = .ok (.getfield 18, 3) := dk_180 0 18 (dk_at dksX2_copy_2 7 rfl rfl)
theorem dX2_copy_56 : decode cX2_copy 56 = .ok (.invokevirtual 51, 3) := dk_182 0 51 (dk_at dksX2_copy_2 10 rfl rfl)
theorem dX2_copy_59 : decode cX2_copy 59 = .ok (.if_icmp .ge 31, 3) := dk_162 0 31 (dk_at dksX2_copy_2 13 rfl rfl)
theorem dX2_copy_62 : decode cX2_copy 62 = .ok (.aload_n 1, 1) := dk_43 (dk_at dksX2_copy_2 16 rfl rfl)
theorem dX2_copy_63 : decode cX2_copy 63 = .ok (.getfield 18, 3) := dk_180 0 18 (dk_at dksX2_copy_2 17 rfl rfl)
theorem dX2_copy_66 : decode cX2_copy 66 = .ok (.aload_n 0, 1) := dk_42 (dk_at dksX2_copy_2 20 rfl rfl)
theorem dX2_copy_67 : decode cX2_copy 67 = .ok (.getfield 18, 3) := dk_180 0 18 (dk_at dksX2_copy_2 21 rfl rfl)
theorem dX2_copy_70 : decode cX2_copy 70 = .ok (.iload_n 2, 1) := dk_28 (dk_at dksX2_copy_3 0 rfl rfl)
theorem dX2_copy_71 : decode cX2_copy 71 = .ok (.invokevirtual 55, 3) := dk_182 0 55 (dk_at dksX2_copy_3 1 rfl rfl)
theorem dX2_copy_74 : decode cX2_copy 74 = .ok (.checkcast 69, 3) := dk_192 0 69 (dk_at dksX2_copy_3 4 rfl rfl)
theorem dX2_copy_77 : decode cX2_copy 77 = .ok (.invokevirtual 71, 3) := dk_182 0 71 (dk_at dksX2_copy_3 7 rfl rfl)
theorem dX2_copy_80 : decode cX2_copy 80 = .ok (.invokevirtual 65, 3) := dk_182 0 65 (dk_at dksX2_copy_3 10 rfl rfl)
theorem dX2_copy_83 : decode cX2_copy 83 = .ok (.pop, 1) := dk_87 (dk_at dksX2_copy_3 13 rfl rfl)
theorem dX2_copy_84 : decode cX2_copy 84 = .ok (.iinc 2 1, 3) := dk_132 2 1 (dk_at dksX2_copy_3 14 rfl rfl)
theorem dX2_copy_87 : decode cX2_copy 87 = .ok (.goto (-36), 3) := dk_167 255 220 (dk_at dksX2_copy_3 17 rfl rfl)
theorem dX2_copy_90 : decode cX2_copy 90 = .ok (.iconst 0, 1) := dk_3 (dk_at dksX2_copy_3 20 rfl rfl)
theorem dX2_copy_91 : decode cX2_copy 91 = .ok (.istore_n 2, 1) := dk_61 (dk_at dksX2_copy_3 21 rfl rfl)
theorem dX2_copy_92 : decode cX2_copy 92 = .ok (.iload_n 2, 1) := dk_28 (dk_at dksX2_copy_3 22 rfl rfl)
theorem dX2_copy_93 : decode cX2_copy 93 = .ok (.aload_n 0, 1) := dk_42 (dk_at dksX2_copy_3 23 rfl rfl)
theorem dX2_copy_94 : decode cX2_copy 94 = .ok (.getfield 21, 3) := dk_180 0 21 (dk_at dksX2_copy_4 0 rfl rfl)
theorem dX2_copy_97 : decode cX2_copy 97 = .ok (.invokevirtual 51, 3) := dk_182 0 51 (dk_at dksX2_copy_4 3 rfl rfl)
theorem dX2_copy_100 : decode cX2_copy 100 = .ok (.if_icmp .ge 31, 3) := dk_162 0 31 (dk_at dksX2_copy_4 6 rfl rfl)
theorem dX2_copy_103 : decode cX2_copy 103 = .ok (.aload_n 1, 1) := dk_43 (dk_at dksX2_copy_4 9 rfl rfl)
theorem dX2_copy_104 : decode cX2_copy 104 = .ok (.getfield 21, 3) := dk_180 0 21 (dk_at dksX2_copy_4 10 rfl rfl)
theorem dX2_copy_107 : decode cX2_copy 107 = .ok (.aload_n 0, 1) := dk_42 (dk_at dksX2_copy_4 13 rfl rfl)
theorem dX2_copy_108 : decode cX2_copy 108 = .ok (.getfield 21, 3) := dk_180 0 21 (dk_at dksX2_copy_4 14 rfl rfl)
theorem dX2_copy_111 : decode cX2_copy 111 = .ok (.iload_n 2, 1) := dk_28 (dk_at dksX2_copy_4 17 rfl rfl)
theorem dX2_copy_112 : decode cX2_copy 112 = .ok (.invokevirtual 55, 3) := dk_182 0 55 (dk_at dksX2_copy_4 18 rfl rfl)
theorem dX2_copy_115 : decode cX2_copy 115 = .ok (.checkcast 74, 3) := dk_192 0 74 (dk_at dksX2_copy_4 21 rfl rfl)
theorem dX2_copy_118 : decode cX2_copy 118 = .ok (.invokevirtual 76, 3) := dk_182 0 76 (dk_at dksX2_copy_5 0 rfl rfl)
theorem dX2_copy_121 : decode cX2_copy 121 = .ok (.invokevirtual 65, 3) := dk_182 0 65 (dk_at dksX2_copy_5 3 rfl rfl)
theorem dX2_copy_124 : decode cX2_copy 124 = .ok (.pop, 1) := dk_87 (dk_at dksX2_copy_5 6 rfl rfl)
theorem dX2_copy_125 : decode cX2_copy 125 = .ok (.iinc 2 1, 3) := dk_132 2 1 (dk_at dksX2_copy_5 7 rfl rfl)
theorem dX2_copy_128 : decode cX2_copy 128 = .ok (.goto (-36), 3) := dk_167 255 220 (dk_at dksX2_copy_5 10 rfl rfl)
theorem dX2_copy_131 : decode cX2_copy 131 = .ok (.iconst 0, 1) := dk_3 (dk_at dksX2_copy_5 13 rfl rfl)
theorem dX2_copy_132 : decode cX2_copy 132 = .ok (.istore_n 2, 1) := dk_61 (dk_at dksX2_copy_5 14 rfl rfl)
theorem dX2_copy_133 : decode cX2_copy 133 = .ok (.iload_n 2, 1) := dk_28 (dk_at dksX2_copy_5 15 rfl rfl)
theorem dX2_copy_134 : decode cX2_copy 134 = .ok (.bipush 8, 2) := dk_16 8 (dk_at dksX2_copy_5 16 rfl rfl)
theorem dX2_copy_136 : decode cX2_copy 136 = .ok (.if_icmp .ge 45, 3) := dk_162 0 45 (dk_at dksX2_copy_5 18 rfl rfl)
theorem dX2_copy_139 : decode cX2_copy 139 = .ok (.aload_n 1, 1) := dk_43 (dk_at dksX2_copy_5 21 rfl rfl)
theorem dX2_copy_140 : decode cX2_copy 140 = .ok (.getfield 24, 3) := dk_180 0 24 (dk_at dksX2_copy_6 0 rfl rfl)
theorem dX2_copy_143 : decode cX2_copy 143 = .ok (.iload_n 2, 1) := dk_28 (dk_at dksX2_copy_6 3 rfl rfl)
theorem dX2_copy_144 : decode cX2_copy 144 = .ok (.aload_n 0, 1) := dk_42 (dk_at dksX2_copy_6 4 rfl rfl)
theorem dX2_copy_145 : decode cX2_copy 145 = .ok (.getfield 24, 3) := dk_180 0 24 (dk_at dksX2_copy_6 5 rfl rfl)
theorem dX2_copy_148 : decode cX2_copy 148 = .ok (.iload_n 2, 1) := dk_28 (dk_at dksX2_copy_6 8 rfl rfl)
theorem dX2_copy_149 : decode cX2_copy 149 = .ok (.iaload, 1) := dk_46 (dk_at dksX2_copy_6 9 rfl rfl)
theorem dX2_copy_150 : decode cX2_copy 150 = .ok (.iastore, 1) := dk_79 (dk_at dksX2_copy_6 10 rfl rfl)
theorem dX2_copy_151 : decode cX2_copy 151 = .ok (.aload_n 1, 1) := dk_43 (dk_at dksX2_copy_6 11 rfl rfl)
theorem dX2_copy_152 : decode cX2_copy 152 = .ok (.getfield 28, 3) := dk_180 0 28 (dk_at dksX2_copy_6 12 rfl rfl)
theorem dX2_copy_155 : decode cX2_copy 155 = .ok (.iload_n 2, 1) := dk_28 (dk_at dksX2_copy_6 15 rfl rfl)
theorem dX2_copy_156 : decode cX2_copy 156 = .ok (.aload_n 0, 1) := dk_42 (dk_at dksX2_copy_6 16 rfl rfl)
theorem dX2_copy_157 : decode cX2_copy 157 = .ok (.getfield 28, 3) := dk_180 0 28 (dk_at dksX2_copy_6 17 rfl rfl)
theorem dX2_copy_160 : decode cX2_copy 160 = .ok (.iload_n 2, 1) := dk_28 (dk_at dksX2_copy_6 20 rfl rfl)
theorem dX2_copy_161 : decode cX2_copy 161 = .ok (.iaload, 1) := dk_46 (dk_at dksX2_copy_6 21 rfl rfl)
theorem dX2_copy_162 : decode cX2_copy 162 = .ok (.iastore, 1) := dk_79 (dk_at dksX2_copy_6 22 rfl rfl)
theorem dX2_copy_163 : decode cX2_copy 163 = .ok (.aload_n 1, 1) := dk_43 (dk_at dksX2_copy_6 23 rfl rfl)
theorem dX2_copy_164 : decode cX2_copy 164 = .ok (.getfield 31, 3) := dk_180 0 31 (dk_at dksX2_copy_7 0 rfl rfl)
theorem dX2_copy_167 : decode cX2_copy 167 = .ok (.iload_n 2, 1) := dk_28 (dk_at dksX2_copy_7 3 rfl rfl)
theorem dX2_copy_168 : decode cX2_copy 168 = .ok (.aload_n 0, 1) := dk_42 (dk_at dksX2_copy_7 4 rfl rfl)
theorem dX2_copy_169 : decode cX2_copy 169 = .ok (.getfield 31, 3) := dk_180 0 31 (dk_at dksX2_copy_7 5 rfl rfl)
theorem dX2_copy_172 : decode cX2_copy 172 = .ok (.iload_n 2, 1) := dk_28 (dk_at dksX2_copy_7 8 rfl rfl)
theorem dX2_copy_173 : decode cX2_copy 173 = .ok (.iaload, 1) := dk_46 (dk_at dksX2_copy_7 9 rfl rfl)
theorem dX2_copy_174 : decode cX2_copy 174 = .ok (.iastore, 1) := dk_79 (dk_at dksX2_copy_7 10 rfl rfl)
theorem dX2_copy_175 : decode cX2_copy 175 = .ok (.iinc 2 1, 3) := dk_132 2 1 (dk_at dksX2_copy_7 11 rfl rfl)
theorem dX2_copy_178 : decode cX2_copy 178 = .ok (.goto (-45), 3) := dk_167 255 211 (dk_at dksX2_copy_7 14 rfl rfl)
theorem dX2_copy_181 : decode cX2_copy 181 = .ok (.aload_n 1, 1) := dk_43 (dk_at dksX2_copy_7 17 rfl rfl)
theorem dX2_copy_182 : decode cX2_copy 182 = .ok (.aload_n 0, 1) := dk_42 (dk_at dksX2_copy_7 18 rfl rfl)
theorem dX2_copy_183 : decode cX2_copy 183 = .ok (.getfield 79, 3) := dk_180 0 79 (dk_at dksX2_copy_7 19 rfl rfl)
theorem dX2_copy_186 : decode cX2_copy 186 = .ok (.putfield 79, 3) := dk_181 0 79 (dk_at dksX2_copy_8 0 rfl rfl)
theorem dX2_copy_189 : decode cX2_copy 189 = .ok (.aload_n 1, 1) := dk_43 (dk_at dksX2_copy_8 3 rfl rfl)
theorem dX2_copy_190 : decode cX2_copy 190 = .ok (.aload_n 0, 1) := dk_42 (dk_at dksX2_copy_8 4 rfl rfl)
theorem dX2_copy_191 : decode cX2_copy 191 = .ok (.getfield 34, 3) := dk_180 0 34 (dk_at dksX2_copy_8 5 rfl rfl)
theorem dX2_copy_194 : decode cX2_copy 194 = .ok (.putfield 34, 3) := dk_181 0 34 (dk_at dksX2_copy_8 8 rfl rfl)
theorem dX2_copy_197 : decode cX2_copy 197 = .ok (.aload_n 1, 1) := dk_43 (dk_at dksX2_copy_8 11 rfl rfl)
theorem dX2_copy_198 : decode cX2_copy 198 = .ok (.aload_n 0, 1) := dk_42 (dk_at dksX2_copy_8 12 rfl rfl)
theorem dX2_copy_199 : decode cX2_copy 199 = .ok (.getfield 38, 3) := dk_180 0 38 (dk_at dksX2_copy_8 13 rfl rfl)
theorem dX2_copy_202 : decode cX2_copy 202 = .ok (.putfield 38, 3) := dk_181 0 38 (dk_at dksX2_copy_8 16 rfl rfl)
theorem dX2_copy_205 : decode cX2_copy 205 = .ok (.aload_n 1, 1) := dk_43 (dk_at dksX2_copy_8 19 rfl rfl)
theorem dX2_copy_206 : decode cX2_copy 206 = .ok (.aload_n 0, 1) := dk_42 (dk_at dksX2_copy_8 20 rfl rfl)
theorem dX2_copy_207 : decode cX2_copy 207 = .ok (.getfield 41, 3) := dk_180 0 41 (dk_at dksX2_copy_8 21 rfl rfl)
theorem dX2_copy_210 : decode cX2_copy 210 = .ok (.putfield 41, 3) := dk_181 0 41 (dk_at dksX2_copy_9 0 rfl rfl)
theorem dX2_copy_213 : decode cX2_copy 213 = .ok (.aload_n 1, 1) := dk_43 (dk_at dksX2_copy_9 3 rfl rfl)
theorem dX2_copy_214 : decode cX2_copy 214 = .ok (.aload_n 0, 1) := dk_42 (dk_at dksX2_copy_9 4 rfl rfl)
theorem dX2_copy_215 : decode cX2_copy 215 = .ok (.getfield 44, 3) := dk_180 0 44 (dk_at dksX2_copy_9 5 rfl rfl)
theorem dX2_copy_218 : decode cX2_copy 218 = .ok (.putfield 44, 3) := dk_181 0 44 (dk_at dksX2_copy_9 8 rfl rfl)
theorem dX2_copy_221 : decode cX2_copy 221 = .ok (.aload_n 1, 1) := dk_43 (dk_at dksX2_copy_9 11 rfl rfl)
theorem dX2_copy_222 : decode cX2_copy 222 = .ok (.aload_n 0, 1) := dk_42 (dk_at dksX2_copy_9 12 rfl rfl)
theorem dX2_copy_223 : decode cX2_copy 223 = .ok (.getfield 47, 3) := dk_180 0 47 (dk_at dksX2_copy_9 13 rfl rfl)
theorem dX2_copy_226 : decode cX2_copy 226 = .ok (.putfield 47, 3) := dk_181 0 47 (dk_at dksX2_copy_9 16 rfl rfl)
theorem dX2_copy_229 : decode cX2_copy 229 = .ok (.aload_n 1, 1) := dk_43 (dk_at dksX2_copy_9 19 rfl rfl)
theorem dX2_copy_230 : decode cX2_copy 230 = .ok (.aload_n 0, 1) := dk_42 (dk_at dksX2_copy_9 20 rfl rfl)
theorem dX2_copy_231 : decode cX2_copy 231 = .ok (.getfield 82, 3) := dk_180 0 82 (dk_at dksX2_copy_9 21 rfl rfl)
theorem dX2_copy_234 : decode cX2_copy 234 = .ok (.putfield 82, 3) := dk_181 0 82 (dk_at dksX2_copy_10 0 rfl rfl)
theorem dX2_copy_237 : decode cX2_copy 237 = .ok (.aload_n 1, 1) := dk_43 (dk_at dksX2_copy_10 3 rfl rfl)
theorem dX2_copy_238 : decode cX2_copy 238 = .ok (.aload_n 0, 1) := dk_42 (dk_at dksX2_copy_10 4 rfl rfl)
theorem dX2_copy_239 : decode cX2_copy 239 = .ok (.getfield 85, 3) := dk_180 0 85 (dk_at dksX2_copy_10 5 rfl rfl)
theorem dX2_copy_242 : decode cX2_copy 242 = .ok (.putfield 85, 3) := dk_181 0 85 (dk_at dksX2_copy_10 8 rfl rfl)
theorem dX2_copy_245 : decode cX2_copy 245 = .ok (.aload_n 1, 1) := dk_43 (dk_at dksX2_copy_10 11 rfl rfl)
theorem dX2_copy_246 : decode cX2_copy 246 = .ok (.areturn, 1) := dk_176 (dk_at dksX2_copy_10 12 rfl rfl)
theorem q103 : (Jvm.Cond.initialized "ShorePools$State") ∈ lw_all := lw_g (lw_at lw_m1 2 rfl) rfl
theorem q144 : (Jvm.Cond.instantiable "ShorePools$State" (14 : Nat)) ∈ lw_all := lw_g (lw_at lw_m1 43 rfl) rfl
theorem q146 : (Jvm.Cond.instanceMethod ({ cls := "ShorePools$State", name := "<init>", desc := "()V" } : Jvm.MethodName)) ∈ lw_all := lw_g (lw_at lw_m1 45 rfl) rfl
theorem q147 : (Jvm.Cond.code ({ cls := "ShorePools$State", name := "<init>", desc := "()V" } : Jvm.MethodName) prog_9_method_1_code (2 : Nat) (Option.none : Option Jvm.ClassFile.FieldType)) ∈ lw_all := lw_g (lw_at lw_m1 46 rfl) rfl
theorem q148 : (Jvm.Cond.methodLink "ShorePools$State" (3 : Nat) ({ cls := "java/lang/Object", name := "<init>", desc := "()V" } : Jvm.MethodName)) ∈ lw_all := lw_g (lw_at lw_m1 47 rfl) rfl
theorem q149 : (Jvm.Cond.classLink "ShorePools$State" (9 : Nat) "java/util/ArrayList") ∈ lw_all := lw_g (lw_at lw_m1 48 rfl) rfl
theorem q151 : (Jvm.Cond.methodLink "ShorePools$State" (11 : Nat) ({ cls := "java/util/ArrayList", name := "<init>", desc := "()V" } : Jvm.MethodName)) ∈ lw_all := lw_g (lw_at lw_m1 50 rfl) rfl
theorem q175 : (Jvm.Cond.fieldLink "ShorePools$State" (12 : Nat) "ShorePools$State" "limpets" "Ljava/util/ArrayList;") ∈ lw_all := lw_g (lw_at lw_m1 74 rfl) rfl
theorem q178 : (Jvm.Cond.fieldLink "ShorePools$State" (18 : Nat) "ShorePools$State" "shells" "Ljava/util/ArrayList;") ∈ lw_all := lw_g (lw_at lw_m1 77 rfl) rfl
theorem q181 : (Jvm.Cond.fieldLink "ShorePools$State" (21 : Nat) "ShorePools$State" "crabs" "Ljava/util/ArrayList;") ∈ lw_all := lw_g (lw_at lw_m1 80 rfl) rfl
theorem q184 : (Jvm.Cond.fieldLink "ShorePools$State" (24 : Nat) "ShorePools$State" "heights" "[I") ∈ lw_all := lw_g (lw_at lw_m1 83 rfl) rfl
theorem q187 : (Jvm.Cond.fieldLink "ShorePools$State" (28 : Nat) "ShorePools$State" "warmth" "[I") ∈ lw_all := lw_g (lw_at lw_m1 86 rfl) rfl
theorem q189 : (Jvm.Cond.fieldLink "ShorePools$State" (31 : Nat) "ShorePools$State" "weed" "[I") ∈ lw_all := lw_g (lw_at lw_m1 88 rfl) rfl
theorem q191 : (Jvm.Cond.fieldLink "ShorePools$State" (79 : Nat) "ShorePools$State" "time" "I") ∈ lw_all := lw_g (lw_at lw_m1 90 rfl) rfl
theorem q193 : (Jvm.Cond.fieldLink "ShorePools$State" (34 : Nat) "ShorePools$State" "low" "I") ∈ lw_all := lw_g (lw_at lw_m1 92 rfl) rfl
theorem q196 : (Jvm.Cond.fieldLink "ShorePools$State" (38 : Nat) "ShorePools$State" "high" "I") ∈ lw_all := lw_g (lw_at lw_m1 95 rfl) rfl
theorem q199 : (Jvm.Cond.fieldLink "ShorePools$State" (41 : Nat) "ShorePools$State" "heat" "I") ∈ lw_all := lw_g (lw_at lw_m1 98 rfl) rfl
theorem q201 : (Jvm.Cond.fieldLink "ShorePools$State" (44 : Nat) "ShorePools$State" "pause" "I") ∈ lw_all := lw_g (lw_at lw_m1 100 rfl) rfl
theorem q203 : (Jvm.Cond.fieldLink "ShorePools$State" (47 : Nat) "ShorePools$State" "heron" "I") ∈ lw_all := lw_g (lw_at lw_m1 102 rfl) rfl
theorem q205 : (Jvm.Cond.fieldLink "ShorePools$State" (82 : Nat) "ShorePools$State" "taken" "I") ∈ lw_all := lw_g (lw_at lw_m1 104 rfl) rfl
theorem q207 : (Jvm.Cond.fieldLink "ShorePools$State" (85 : Nat) "ShorePools$State" "lost" "I") ∈ lw_all := lw_g (lw_at lw_m1 106 rfl) rfl
theorem q209 : (Jvm.Cond.laysFinal "ShorePools$State" "ShorePools$State" "limpets" "Ljava/util/ArrayList;") ∈ lw_all := lw_g (lw_at lw_m1 108 rfl) rfl
theorem q210 : (Jvm.Cond.soleField "ShorePools$State" "limpets") ∈ lw_all := lw_g (lw_at lw_m1 109 rfl) rfl
theorem q211 : (Jvm.Cond.laysFinal "ShorePools$State" "ShorePools$State" "shells" "Ljava/util/ArrayList;") ∈ lw_all := lw_g (lw_at lw_m1 110 rfl) rfl
theorem q212 : (Jvm.Cond.soleField "ShorePools$State" "shells") ∈ lw_all := lw_g (lw_at lw_m1 111 rfl) rfl
theorem q213 : (Jvm.Cond.laysFinal "ShorePools$State" "ShorePools$State" "crabs" "Ljava/util/ArrayList;") ∈ lw_all := lw_g (lw_at lw_m1 112 rfl) rfl
theorem q214 : (Jvm.Cond.soleField "ShorePools$State" "crabs") ∈ lw_all := lw_g (lw_at lw_m1 113 rfl) rfl
theorem q215 : (Jvm.Cond.laysFinal "ShorePools$State" "ShorePools$State" "heights" "[I") ∈ lw_all := lw_g (lw_at lw_m1 114 rfl) rfl
theorem q216 : (Jvm.Cond.soleField "ShorePools$State" "heights") ∈ lw_all := lw_g (lw_at lw_m1 115 rfl) rfl
theorem q217 : (Jvm.Cond.laysFinal "ShorePools$State" "ShorePools$State" "warmth" "[I") ∈ lw_all := lw_g (lw_at lw_m1 116 rfl) rfl
theorem q218 : (Jvm.Cond.soleField "ShorePools$State" "warmth") ∈ lw_all := lw_g (lw_at lw_m1 117 rfl) rfl
theorem q219 : (Jvm.Cond.laysFinal "ShorePools$State" "ShorePools$State" "weed" "[I") ∈ lw_all := lw_g (lw_at lw_m1 118 rfl) rfl
theorem q220 : (Jvm.Cond.soleField "ShorePools$State" "weed") ∈ lw_all := lw_g (lw_at lw_m1 119 rfl) rfl
theorem q221 : (Jvm.Cond.lays "ShorePools$State" "ShorePools$State" "time" "I") ∈ lw_all := lw_g (lw_at lw_m1 120 rfl) rfl
theorem q222 : (Jvm.Cond.soleField "ShorePools$State" "time") ∈ lw_all := lw_g (lw_at lw_m1 121 rfl) rfl
theorem q223 : (Jvm.Cond.lays "ShorePools$State" "ShorePools$State" "low" "I") ∈ lw_all := lw_g (lw_at lw_m1 122 rfl) rfl
theorem q224 : (Jvm.Cond.soleField "ShorePools$State" "low") ∈ lw_all := lw_g (lw_at lw_m1 123 rfl) rfl
theorem q225 : (Jvm.Cond.lays "ShorePools$State" "ShorePools$State" "high" "I") ∈ lw_all := lw_g (lw_at lw_m1 124 rfl) rfl
theorem q226 : (Jvm.Cond.soleField "ShorePools$State" "high") ∈ lw_all := lw_g (lw_at lw_m1 125 rfl) rfl
theorem q227 : (Jvm.Cond.lays "ShorePools$State" "ShorePools$State" "heat" "I") ∈ lw_all := lw_g (lw_at lw_m1 126 rfl) rfl
theorem q228 : (Jvm.Cond.soleField "ShorePools$State" "heat") ∈ lw_all := lw_g (lw_at lw_m1 127 rfl) rfl
theorem q229 : (Jvm.Cond.lays "ShorePools$State" "ShorePools$State" "pause" "I") ∈ lw_all := lw_g (lw_at lw_m1 128 rfl) rfl
theorem q230 : (Jvm.Cond.soleField "ShorePools$State" "pause") ∈ lw_all := lw_g (lw_at lw_m1 129 rfl) rfl
theorem q231 : (Jvm.Cond.lays "ShorePools$State" "ShorePools$State" "heron" "I") ∈ lw_all := lw_g (lw_at lw_m1 130 rfl) rfl
theorem q232 : (Jvm.Cond.soleField "ShorePools$State" "heron") ∈ lw_all := lw_g (lw_at lw_m1 131 rfl) rfl
theorem q233 : (Jvm.Cond.lays "ShorePools$State" "ShorePools$State" "taken" "I") ∈ lw_all := lw_g (lw_at lw_m1 132 rfl) rfl
theorem q234 : (Jvm.Cond.soleField "ShorePools$State" "taken") ∈ lw_all := lw_g (lw_at lw_m1 133 rfl) rfl
theorem q235 : (Jvm.Cond.lays "ShorePools$State" "ShorePools$State" "lost" "I") ∈ lw_all := lw_g (lw_at lw_m1 134 rfl) rfl
theorem q236 : (Jvm.Cond.soleField "ShorePools$State" "lost") ∈ lw_all := lw_g (lw_at lw_m1 135 rfl) rfl
theorem q237 : (Jvm.Cond.superclass "ShorePools$State" "java/lang/Object") ∈ lw_all := lw_g (lw_at lw_m1 136 rfl) rfl
theorem q831 : (Jvm.Cond.instanceMethod ({ cls := "ShorePools$State", name := "copy", desc := "()LShorePools$State;" } : Jvm.MethodName)) ∈ lw_all := lw_g (lw_at lw_m4 10 rfl) rfl
theorem q832 : (Jvm.Cond.selects "ShorePools$State" ({ cls := "ShorePools$State", name := "copy", desc := "()LShorePools$State;" } : Jvm.MethodName) ({ cls := "ShorePools$State", name := "copy", desc := "()LShorePools$State;" } : Jvm.MethodName)) ∈ lw_all := lw_g (lw_at lw_m4 11 rfl) rfl
theorem q833 : (Jvm.Cond.code ({ cls := "ShorePools$State", name := "copy", desc := "()LShorePools$State;" } : Jvm.MethodName) prog_9_method_2_code (3 : Nat) (Option.some (Jvm.ClassFile.FieldType.object "ShorePools$State"))) ∈ lw_all := lw_g (lw_at lw_m4 12 rfl) rfl
theorem q834 : (Jvm.Cond.classLink "ShorePools$State" (13 : Nat) "ShorePools$State") ∈ lw_all := lw_g (lw_at lw_m4 13 rfl) rfl
theorem q835 : (Jvm.Cond.methodLink "ShorePools$State" (50 : Nat) ({ cls := "ShorePools$State", name := "<init>", desc := "()V" } : Jvm.MethodName)) ∈ lw_all := lw_g (lw_at lw_m4 14 rfl) rfl
theorem q836 : (Jvm.Cond.methodLink "ShorePools$State" (51 : Nat) ({ cls := "java/util/ArrayList", name := "size", desc := "()I" } : Jvm.MethodName)) ∈ lw_all := lw_g (lw_at lw_m4 15 rfl) rfl
theorem q840 : (Jvm.Cond.methodLink "ShorePools$State" (55 : Nat) ({ cls := "java/util/ArrayList", name := "get", desc := "(I)Ljava/lang/Object;" } : Jvm.MethodName)) ∈ lw_all := lw_g (lw_at lw_m4 19 rfl) rfl
theorem q852 : (Jvm.Cond.classLink "ShorePools$State" (59 : Nat) "ShorePools$Limpet") ∈ lw_all := lw_g (lw_at lw_m4 31 rfl) rfl
theorem q853 : (Jvm.Cond.methodLink "ShorePools$State" (61 : Nat) ({ cls := "ShorePools$Limpet", name := "copy", desc := "()LShorePools$Limpet;" } : Jvm.MethodName)) ∈ lw_all := lw_g (lw_at lw_m4 32 rfl) rfl
theorem q884 : (Jvm.Cond.methodLink "ShorePools$State" (65 : Nat) ({ cls := "java/util/ArrayList", name := "add", desc := "(Ljava/lang/Object;)Z" } : Jvm.MethodName)) ∈ lw_all := lw_g (lw_at lw_m4 63 rfl) rfl
theorem q913 : (Jvm.Cond.selects "ShorePools$State" ({ cls := "java/lang/Object", name := "getClass", desc := "()Ljava/lang/Class;" } : Jvm.MethodName) ({ cls := "java/lang/Object", name := "getClass", desc := "()Ljava/lang/Class;" } : Jvm.MethodName)) ∈ lw_all := lw_g (lw_at lw_m4 92 rfl) rfl
theorem q933 : (Jvm.Cond.classLink "ShorePools$State" (69 : Nat) "ShorePools$Shell") ∈ lw_all := lw_g (lw_at lw_m4 112 rfl) rfl
theorem q934 : (Jvm.Cond.methodLink "ShorePools$State" (71 : Nat) ({ cls := "ShorePools$Shell", name := "copy", desc := "()LShorePools$Shell;" } : Jvm.MethodName)) ∈ lw_all := lw_g (lw_at lw_m4 113 rfl) rfl
theorem q957 : (Jvm.Cond.classLink "ShorePools$State" (74 : Nat) "ShorePools$Crab") ∈ lw_all := lw_g (lw_at lw_m4 136 rfl) rfl
theorem q958 : (Jvm.Cond.methodLink "ShorePools$State" (76 : Nat) ({ cls := "ShorePools$Crab", name := "copy", desc := "()LShorePools$Crab;" } : Jvm.MethodName)) ∈ lw_all := lw_g (lw_at lw_m4 137 rfl) rfl
theorem q2286 : (Jvm.Cond.castable "ShorePools$State" "java/lang/Object") ∈ lw_tbl := lw_at lw_m10 25 rfl
theorem in_X2 : ∀ w ∈ wsX20, w ∈ lw_all := lw_in wsX20 [209, 211, 213, 215, 217, 219, 221, 223, 225, 227, 229, 231, 233, 235] (by decide +kernel) (by decide +kernel)
/-! ShorePools$Record -/
set_option maxRecDepth 100000
def RX4 : String := "ShorePools$Record"
def TX4 : u_T := fun k => match k with
  | 0 => ("ShorePools$Record", "state", "LShorePools$State;", true)
  | _ => ("ShorePools$Record", "before", "LShorePools$Record;", true)
def tyX4 : Nat → FieldType := fun k => match k with
  | 0 => .object "ShorePools$State"
  | _ => .object "ShorePools$Record"
abbrev wsX40 : List Cond := u_ws RX4 TX4 2
theorem nmX4 : ∀ a, a < 2 → ∀ b, b < 2 → a ≠ b → (TX4 a).2.1 ≠ (TX4 b).2.1 := by decide +kernel
theorem tyX4_ok : ∀ k, k < 2 → parseFieldDescriptor (TX4 k).2.2.1 = some (tyX4 k) := by decide +kernel
abbrev cX4_count : ByteArray := prog_6_method_2_code
def yX4_count : MethodName := ⟨RX4, "count", "(LShorePools$Record;)I"⟩
def dkwX4_count_0 : List UInt8 := [42, 199, 0, 7, 3, 167, 0, 12, 4, 42, 180, 0, 13, 184, 0, 17, 96, 172]
abbrev dktX4_count_0 : List UInt8 := dkwX4_count_0 ++ []
theorem dksX4_count_0 : cX4_count.data.toList.drop 0 = dktX4_count_0 := by decide +kernel
theorem dX4_count_0 : decode cX4_count 0 = .ok (.aload_n 0, 1) := dk_42 (dk_at dksX4_count_0 0 rfl rfl)
theorem dX4_count_1 : decode cX4_count 1 = .ok (.ifnonnull 7, 3) := dk_199 0 7 (dk_at dksX4_count_0 1 rfl rfl)
theorem dX4_count_4 : decode cX4_count 4 = .ok (.iconst 0, 1) := dk_3 (dk_at dksX4_count_0 4 rfl rfl)
theorem dX4_count_5 : decode cX4_count 5 = .ok (.goto 12, 3) := dk_167 0 12 (dk_at dksX4_count_0 5 rfl rfl)
theorem dX4_count_8 : decode cX4_count 8 = .ok (.iconst 1, 1) := dk_4 (dk_at dksX4_count_0 8 rfl rfl)
theorem dX4_count_9 : decode cX4_count 9 = .ok (.aload_n 0, 1) := dk_42 (dk_at dksX4_count_0 9 rfl rfl)
theorem dX4_count_10 : decode cX4_count 10 = .ok (.getfield 13, 3) := dk_180 0 13 (dk_at dksX4_count_0 10 rfl rfl)
theorem dX4_count_13 : decode cX4_count 13 = .ok (.invokestatic 17, 3) := dk_184 0 17 (dk_at dksX4_count_0 13 rfl rfl)
theorem dX4_count_16 : decode cX4_count 16 = .ok (.iadd, 1) := dk_96 (dk_at dksX4_count_0 16 rfl rfl)
theorem dX4_count_17 : decode cX4_count 17 = .ok (.ireturn, 1) := dk_172 (dk_at dksX4_count_0 17 rfl rfl)
abbrev cX4_latest : ByteArray := prog_6_method_3_code
def yX4_latest : MethodName := ⟨RX4, "latest", "(LShorePools$Record;I)LShorePools$Record;"⟩
def dkwX4_latest_1 : List UInt8 := [27, 4, 100, 184, 0, 21, 183, 0, 25, 176]
abbrev dktX4_latest_1 : List UInt8 := dkwX4_latest_1 ++ []
def dkwX4_latest_0 : List UInt8 := [42, 198, 0, 7, 27, 154, 0, 7, 1, 167, 0, 24, 187, 0, 8, 89, 42, 180, 0, 7, 42, 180, 0, 13]
abbrev dktX4_latest_0 : List UInt8 := dkwX4_latest_0 ++ dktX4_latest_1
theorem dksX4_latest_0 : cX4_latest.data.toList.drop 0 = dktX4_latest_0 := by decide +kernel
theorem dksX4_latest_1 : cX4_latest.data.toList.drop 24 = dktX4_latest_1 := dk_seg dksX4_latest_0 24 rfl rfl
theorem dX4_latest_0 : decode cX4_latest 0 = .ok (.aload_n 0, 1) := dk_42 (dk_at dksX4_latest_0 0 rfl rfl)
theorem dX4_latest_1 : decode cX4_latest 1 = .ok (.ifnull 7, 3) := dk_198 0 7 (dk_at dksX4_latest_0 1 rfl rfl)
theorem dX4_latest_4 : decode cX4_latest 4 = .ok (.iload_n 1, 1) := dk_27 (dk_at dksX4_latest_0 4 rfl rfl)
theorem dX4_latest_5 : decode cX4_latest 5 = .ok (.ifCond .ne 7, 3) := dk_154 0 7 (dk_at dksX4_latest_0 5 rfl rfl)
theorem dX4_latest_8 : decode cX4_latest 8 = .ok (.aconst_null, 1) := dk_1 (dk_at dksX4_latest_0 8 rfl rfl)
theorem dX4_latest_9 : decode cX4_latest 9 = .ok (.goto 24, 3) := dk_167 0 24 (dk_at dksX4_latest_0 9 rfl rfl)
theorem dX4_latest_12 : decode cX4_latest 12 = .ok (.new 8, 3) := dk_187 0 8 (dk_at dksX4_latest_0 12 rfl rfl)
theorem dX4_latest_15 : decode cX4_latest 15 = .ok (.dup, 1) := dk_89 (dk_at dksX4_latest_0 15 rfl rfl)
theorem dX4_latest_16 : decode cX4_latest 16 = .ok (.aload_n 0, 1) := dk_42 (dk_at dksX4_latest_0 16 rfl rfl)
theorem dX4_latest_17 : decode cX4_latest 17 = .ok (.getfield 7, 3) := dk_180 0 7 (dk_at dksX4_latest_0 17 rfl rfl)
theorem dX4_latest_20 : decode cX4_latest 20 = .ok (.aload_n 0, 1) := dk_42 (dk_at dksX4_latest_0 20 rfl rfl)
theorem dX4_latest_21 : decode cX4_latest 21 = .ok (.getfield 13, 3) := dk_180 0 13 (dk_at dksX4_latest_0 21 rfl rfl)
theorem dX4_latest_24 : decode cX4_latest 24 = .ok (.iload_n 1, 1) := dk_27 (dk_at dksX4_latest_1 0 rfl rfl)
theorem dX4_latest_25 : decode cX4_latest 25 = .ok (.iconst 1, 1) := dk_4 (dk_at dksX4_latest_1 1 rfl rfl)
theorem dX4_latest_26 : decode cX4_latest 26 = .ok (.isub, 1) := dk_100 (dk_at dksX4_latest_1 2 rfl rfl)
theorem dX4_latest_27 : decode cX4_latest 27 = .ok (.invokestatic 21, 3) := dk_184 0 21 (dk_at dksX4_latest_1 3 rfl rfl)
theorem dX4_latest_30 : decode cX4_latest 30 = .ok (.invokespecial 25, 3) := dk_183 0 25 (dk_at dksX4_latest_1 6 rfl rfl)
theorem dX4_latest_33 : decode cX4_latest 33 = .ok (.areturn, 1) := dk_176 (dk_at dksX4_latest_1 9 rfl rfl)
abbrev cX4_init : ByteArray := prog_6_method_1_code
def yX4_init : MethodName := ⟨RX4, "<init>", "(LShorePools$State;LShorePools$Record;)V"⟩
def dkwX4_init_0 : List UInt8 := [42, 183, 0, 1, 42, 43, 181, 0, 7, 42, 44, 181, 0, 13, 177]
abbrev dktX4_init_0 : List UInt8 := dkwX4_init_0 ++ []
theorem dksX4_init_0 : cX4_init.data.toList.drop 0 = dktX4_init_0 := by decide +kernel
theorem dX4_init_0 : decode cX4_init 0 = .ok (.aload_n 0, 1) := dk_42 (dk_at dksX4_init_0 0 rfl rfl)
theorem dX4_init_1 : decode cX4_init 1 = .ok (.invokespecial 1, 3) := dk_183 0 1 (dk_at dksX4_init_0 1 rfl rfl)
theorem dX4_init_4 : decode cX4_init 4 = .ok (.aload_n 0, 1) := dk_42 (dk_at dksX4_init_0 4 rfl rfl)
theorem dX4_init_5 : decode cX4_init 5 = .ok (.aload_n 1, 1) := dk_43 (dk_at dksX4_init_0 5 rfl rfl)
theorem dX4_init_6 : decode cX4_init 6 = .ok (.putfield 7, 3) := dk_181 0 7 (dk_at dksX4_init_0 6 rfl rfl)
theorem dX4_init_9 : decode cX4_init 9 = .ok (.aload_n 0, 1) := dk_42 (dk_at dksX4_init_0 9 rfl rfl)
theorem dX4_init_10 : decode cX4_init 10 = .ok (.aload_n 2, 1) := dk_44 (dk_at dksX4_init_0 10 rfl rfl)
theorem dX4_init_11 : decode cX4_init 11 = .ok (.putfield 13, 3) := dk_181 0 13 (dk_at dksX4_init_0 11 rfl rfl)
theorem dX4_init_14 : decode cX4_init 14 = .ok (.return_, 1) := dk_177 (dk_at dksX4_init_0 14 rfl rfl)
theorem q118 : (Jvm.Cond.initialized "ShorePools$Record") ∈ lw_all := lw_g (lw_at lw_m1 17 rfl) rfl
theorem q911 : (Jvm.Cond.selects "ShorePools$Record" ({ cls := "java/lang/Object", name := "getClass", desc := "()Ljava/lang/Class;" } : Jvm.MethodName) ({ cls := "java/lang/Object", name := "getClass", desc := "()Ljava/lang/Class;" } : Jvm.MethodName)) ∈ lw_all := lw_g (lw_at lw_m4 90 rfl) rfl
theorem q1263 : (Jvm.Cond.static ({ cls := "ShorePools$Record", name := "count", desc := "(LShorePools$Record;)I" } : Jvm.MethodName)) ∈ lw_all := lw_g (lw_at lw_m5 202 rfl) rfl
theorem q1264 : (Jvm.Cond.code ({ cls := "ShorePools$Record", name := "count", desc := "(LShorePools$Record;)I" } : Jvm.MethodName) prog_6_method_2_code (1 : Nat) (Option.some Jvm.ClassFile.FieldType.int)) ∈ lw_all := lw_g (lw_at lw_m5 203 rfl) rfl
theorem q1265 : (Jvm.Cond.methodLink "ShorePools$Record" (17 : Nat) ({ cls := "ShorePools$Record", name := "count", desc := "(LShorePools$Record;)I" } : Jvm.MethodName)) ∈ lw_all := lw_g (lw_at lw_m5 204 rfl) rfl
theorem q1327 : (Jvm.Cond.instantiable "ShorePools$Record" (2 : Nat)) ∈ lw_all := lw_g (lw_at lw_m6 26 rfl) rfl
theorem q1329 : (Jvm.Cond.static ({ cls := "ShorePools$Record", name := "latest", desc := "(LShorePools$Record;I)LShorePools$Record;" } : Jvm.MethodName)) ∈ lw_all := lw_g (lw_at lw_m6 28 rfl) rfl
theorem q1330 : (Jvm.Cond.code ({ cls := "ShorePools$Record", name := "latest", desc := "(LShorePools$Record;I)LShorePools$Record;" } : Jvm.MethodName) prog_6_method_3_code (2 : Nat) (Option.some (Jvm.ClassFile.FieldType.object "ShorePools$Record"))) ∈ lw_all := lw_g (lw_at lw_m6 29 rfl) rfl
theorem q1331 : (Jvm.Cond.classLink "ShorePools$Record" (8 : Nat) "ShorePools$Record") ∈ lw_all := lw_g (lw_at lw_m6 30 rfl) rfl
theorem q1332 : (Jvm.Cond.methodLink "ShorePools$Record" (21 : Nat) ({ cls := "ShorePools$Record", name := "latest", desc := "(LShorePools$Record;I)LShorePools$Record;" } : Jvm.MethodName)) ∈ lw_all := lw_g (lw_at lw_m6 31 rfl) rfl
theorem q1333 : (Jvm.Cond.methodLink "ShorePools$Record" (25 : Nat) ({ cls := "ShorePools$Record", name := "<init>", desc := "(LShorePools$State;LShorePools$Record;)V" } : Jvm.MethodName)) ∈ lw_all := lw_g (lw_at lw_m6 32 rfl) rfl
theorem q1334 : (Jvm.Cond.instanceMethod ({ cls := "ShorePools$Record", name := "<init>", desc := "(LShorePools$State;LShorePools$Record;)V" } : Jvm.MethodName)) ∈ lw_all := lw_g (lw_at lw_m6 33 rfl) rfl
theorem q1335 : (Jvm.Cond.code ({ cls := "ShorePools$Record", name := "<init>", desc := "(LShorePools$State;LShorePools$Record;)V" } : Jvm.MethodName) prog_6_method_1_code (3 : Nat) (Option.none : Option Jvm.ClassFile.FieldType)) ∈ lw_all := lw_g (lw_at lw_m6 34 rfl) rfl
theorem q1336 : (Jvm.Cond.methodLink "ShorePools$Record" (1 : Nat) ({ cls := "java/lang/Object", name := "<init>", desc := "()V" } : Jvm.MethodName)) ∈ lw_all := lw_g (lw_at lw_m6 35 rfl) rfl
theorem q1337 : (Jvm.Cond.fieldLink "ShorePools$Record" (7 : Nat) "ShorePools$Record" "state" "LShorePools$State;") ∈ lw_all := lw_g (lw_at lw_m6 36 rfl) rfl
theorem q1339 : (Jvm.Cond.fieldLink "ShorePools$Record" (13 : Nat) "ShorePools$Record" "before" "LShorePools$Record;") ∈ lw_all := lw_g (lw_at lw_m6 38 rfl) rfl
theorem q1341 : (Jvm.Cond.laysFinal "ShorePools$Record" "ShorePools$Record" "state" "LShorePools$State;") ∈ lw_all := lw_g (lw_at lw_m6 40 rfl) rfl
theorem q1342 : (Jvm.Cond.soleField "ShorePools$Record" "state") ∈ lw_all := lw_g (lw_at lw_m6 41 rfl) rfl
theorem q1343 : (Jvm.Cond.laysFinal "ShorePools$Record" "ShorePools$Record" "before" "LShorePools$Record;") ∈ lw_all := lw_g (lw_at lw_m6 42 rfl) rfl
theorem q1344 : (Jvm.Cond.soleField "ShorePools$Record" "before") ∈ lw_all := lw_g (lw_at lw_m6 43 rfl) rfl
theorem q1345 : (Jvm.Cond.superclass "ShorePools$Record" "java/lang/Object") ∈ lw_all := lw_g (lw_at lw_m6 44 rfl) rfl
theorem q2293 : (Jvm.Cond.castable "ShorePools$Record" "java/lang/Object") ∈ lw_tbl := lw_at lw_m10 32 rfl
theorem in_X4 : ∀ w ∈ wsX40, w ∈ lw_all := lw_in wsX40 [1341, 1343] (by decide +kernel) (by decide +kernel)
/-! ShorePools$Limpet -/
set_option maxRecDepth 100000
def RX5 : String := "ShorePools$Limpet"
def TX5 : u_T := fun k => match k with
  | 0 => ("ShorePools$Limpet", "pool", "I", true)
  | 1 => ("ShorePools$Limpet", "water", "I", false)
  | 2 => ("ShorePools$Limpet", "food", "I", false)
  | 3 => ("ShorePools$Limpet", "steps", "I", false)
  | _ => ("ShorePools$Limpet", "fate", "I", false)
def tyX5 : Nat → FieldType := fun k => match k with
  | 0 => .int
  | 1 => .int
  | 2 => .int
  | 3 => .int
  | _ => .int
abbrev wsX50 : List Cond := u_ws RX5 TX5 5
theorem nmX5 : ∀ a, a < 5 → ∀ b, b < 5 → a ≠ b → (TX5 a).2.1 ≠ (TX5 b).2.1 := by decide +kernel
theorem tyX5_ok : ∀ k, k < 5 → parseFieldDescriptor (TX5 k).2.2.1 = some (tyX5 k) := by decide +kernel
abbrev cX5_copy : ByteArray := prog_3_method_2_code
def yX5_copy : MethodName := ⟨RX5, "copy", "()LShorePools$Limpet;"⟩
def dkwX5_copy_1 : List UInt8 := [180, 0, 15, 181, 0, 15, 43, 42, 180, 0, 27, 181, 0, 27, 43, 42, 180, 0, 18, 181, 0, 18, 43, 176]
abbrev dktX5_copy_1 : List UInt8 := dkwX5_copy_1 ++ []
def dkwX5_copy_0 : List UInt8 := [187, 0, 10, 89, 42, 180, 0, 21, 183, 0, 24, 76, 43, 42, 180, 0, 9, 181, 0, 9, 43, 42]
abbrev dktX5_copy_0 : List UInt8 := dkwX5_copy_0 ++ dktX5_copy_1
theorem dksX5_copy_0 : cX5_copy.data.toList.drop 0 = dktX5_copy_0 := by decide +kernel
theorem dksX5_copy_1 : cX5_copy.data.toList.drop 22 = dktX5_copy_1 := dk_seg dksX5_copy_0 22 rfl rfl
theorem dX5_copy_0 : decode cX5_copy 0 = .ok (.new 10, 3) := dk_187 0 10 (dk_at dksX5_copy_0 0 rfl rfl)
theorem dX5_copy_3 : decode cX5_copy 3 = .ok (.dup, 1) := dk_89 (dk_at dksX5_copy_0 3 rfl rfl)
theorem dX5_copy_4 : decode cX5_copy 4 = .ok (.aload_n 0, 1) := dk_42 (dk_at dksX5_copy_0 4 rfl rfl)
theorem dX5_copy_5 : decode cX5_copy 5 = .ok (.getfield 21, 3) := dk_180 0 21 (dk_at dksX5_copy_0 5 rfl rfl)
theorem dX5_copy_8 : decode cX5_copy 8 = .ok (.invokespecial 24, 3) := dk_183 0 24 (dk_at dksX5_copy_0 8 rfl rfl)
theorem dX5_copy_11 : decode cX5_copy 11 = .ok (.astore_n 1, 1) := dk_76 (dk_at dksX5_copy_0 11 rfl rfl)
theorem dX5_copy_12 : decode cX5_copy 12 = .ok (.aload_n 1, 1) := dk_43 (dk_at dksX5_copy_0 12 rfl rfl)
theorem dX5_copy_13 : decode cX5_copy 13 = .ok (.aload_n 0, 1) := dk_42 (dk_at dksX5_copy_0 13 rfl rfl)
theorem dX5_copy_14 : decode cX5_copy 14 = .ok (.getfield 9, 3) := dk_180 0 9 (dk_at dksX5_copy_0 14 rfl rfl)
theorem dX5_copy_17 : decode cX5_copy 17 = .ok (.putfield 9, 3) := dk_181 0 9 (dk_at dksX5_copy_0 17 rfl rfl)
theorem dX5_copy_20 : decode cX5_copy 20 = .ok (.aload_n 1, 1) := dk_43 (dk_at dksX5_copy_0 20 rfl rfl)
theorem dX5_copy_21 : decode cX5_copy 21 = .ok (.aload_n 0, 1) := dk_42 (dk_at dksX5_copy_0 21 rfl rfl)
theorem dX5_copy_22 : decode cX5_copy 22 = .ok (.getfield 15, 3) := dk_180 0 15 (dk_at dksX5_copy_1 0 rfl rfl)
theorem dX5_copy_25 : decode cX5_copy 25 = .ok (.putfield 15, 3) := dk_181 0 15 (dk_at dksX5_copy_1 3 rfl rfl)
theorem dX5_copy_28 : decode cX5_copy 28 = .ok (.aload_n 1, 1) := dk_43 (dk_at dksX5_copy_1 6 rfl rfl)
theorem dX5_copy_29 : decode cX5_copy 29 = .ok (.aload_n 0, 1) := dk_42 (dk_at dksX5_copy_1 7 rfl rfl)
theorem dX5_copy_30 : decode cX5_copy 30 = .ok (.getfield 27, 3) := dk_180 0 27 (dk_at dksX5_copy_1 8 rfl rfl)
theorem dX5_copy_33 : decode cX5_copy 33 = .ok (.putfield 27, 3) := dk_181 0 27 (dk_at dksX5_copy_1 11 rfl rfl)
theorem dX5_copy_36 : decode cX5_copy 36 = .ok (.aload_n 1, 1) := dk_43 (dk_at dksX5_copy_1 14 rfl rfl)
theorem dX5_copy_37 : decode cX5_copy 37 = .ok (.aload_n 0, 1) := dk_42 (dk_at dksX5_copy_1 15 rfl rfl)
theorem dX5_copy_38 : decode cX5_copy 38 = .ok (.getfield 18, 3) := dk_180 0 18 (dk_at dksX5_copy_1 16 rfl rfl)
theorem dX5_copy_41 : decode cX5_copy 41 = .ok (.putfield 18, 3) := dk_181 0 18 (dk_at dksX5_copy_1 19 rfl rfl)
theorem dX5_copy_44 : decode cX5_copy 44 = .ok (.aload_n 1, 1) := dk_43 (dk_at dksX5_copy_1 22 rfl rfl)
theorem dX5_copy_45 : decode cX5_copy 45 = .ok (.areturn, 1) := dk_176 (dk_at dksX5_copy_1 23 rfl rfl)
abbrev cX5_init : ByteArray := prog_3_method_1_code
def yX5_init : MethodName := ⟨RX5, "<init>", "(I)V"⟩
def dkwX5_init_1 : List UInt8 := [181, 0, 21, 177]
abbrev dktX5_init_1 : List UInt8 := dkwX5_init_1 ++ []
def dkwX5_init_0 : List UInt8 := [42, 183, 0, 3, 42, 16, 12, 181, 0, 9, 42, 16, 10, 181, 0, 15, 42, 3, 181, 0, 18, 42, 27]
abbrev dktX5_init_0 : List UInt8 := dkwX5_init_0 ++ dktX5_init_1
theorem dksX5_init_0 : cX5_init.data.toList.drop 0 = dktX5_init_0 := by decide +kernel
theorem dksX5_init_1 : cX5_init.data.toList.drop 23 = dktX5_init_1 := dk_seg dksX5_init_0 23 rfl rfl
theorem dX5_init_0 : decode cX5_init 0 = .ok (.aload_n 0, 1) := dk_42 (dk_at dksX5_init_0 0 rfl rfl)
theorem dX5_init_1 : decode cX5_init 1 = .ok (.invokespecial 3, 3) := dk_183 0 3 (dk_at dksX5_init_0 1 rfl rfl)
theorem dX5_init_4 : decode cX5_init 4 = .ok (.aload_n 0, 1) := dk_42 (dk_at dksX5_init_0 4 rfl rfl)
theorem dX5_init_5 : decode cX5_init 5 = .ok (.bipush 12, 2) := dk_16 12 (dk_at dksX5_init_0 5 rfl rfl)
theorem dX5_init_7 : decode cX5_init 7 = .ok (.putfield 9, 3) := dk_181 0 9 (dk_at dksX5_init_0 7 rfl rfl)
theorem dX5_init_10 : decode cX5_init 10 = .ok (.aload_n 0, 1) := dk_42 (dk_at dksX5_init_0 10 rfl rfl)
theorem dX5_init_11 : decode cX5_init 11 = .ok (.bipush 10, 2) := dk_16 10 (dk_at dksX5_init_0 11 rfl rfl)
theorem dX5_init_13 : decode cX5_init 13 = .ok (.putfield 15, 3) := dk_181 0 15 (dk_at dksX5_init_0 13 rfl rfl)
theorem dX5_init_16 : decode cX5_init 16 = .ok (.aload_n 0, 1) := dk_42 (dk_at dksX5_init_0 16 rfl rfl)
theorem dX5_init_17 : decode cX5_init 17 = .ok (.iconst 0, 1) := dk_3 (dk_at dksX5_init_0 17 rfl rfl)
theorem dX5_init_18 : decode cX5_init 18 = .ok (.putfield 18, 3) := dk_181 0 18 (dk_at dksX5_init_0 18 rfl rfl)
theorem dX5_init_21 : decode cX5_init 21 = .ok (.aload_n 0, 1) := dk_42 (dk_at dksX5_init_0 21 rfl rfl)
theorem dX5_init_22 : decode cX5_init 22 = .ok (.iload_n 1, 1) := dk_27 (dk_at dksX5_init_0 22 rfl rfl)
theorem dX5_init_23 : decode cX5_init 23 = .ok (.putfield 21, 3) := dk_181 0 21 (dk_at dksX5_init_1 0 rfl rfl)
theorem dX5_init_26 : decode cX5_init 26 = .ok (.return_, 1) := dk_177 (dk_at dksX5_init_1 3 rfl rfl)
abbrev cX5_fate : ByteArray := prog_3_method_4_code
def yX5_fate : MethodName := ⟨RX5, "fate", "()I"⟩
theorem dX5_fate_0 : decode cX5_fate 0 = .ok (.aload_n 0, 1) := by decide +kernel
theorem dX5_fate_1 : decode cX5_fate 1 = .ok (.getfield 18, 3) := by decide +kernel
theorem dX5_fate_4 : decode cX5_fate 4 = .ok (.ireturn, 1) := by decide +kernel
abbrev cX5_pool : ByteArray := prog_3_method_3_code
def yX5_pool : MethodName := ⟨RX5, "pool", "()I"⟩
theorem dX5_pool_0 : decode cX5_pool 0 = .ok (.aload_n 0, 1) := by decide +kernel
theorem dX5_pool_1 : decode cX5_pool 1 = .ok (.getfield 21, 3) := by decide +kernel
theorem dX5_pool_4 : decode cX5_pool 4 = .ok (.ireturn, 1) := by decide +kernel
theorem q121 : (Jvm.Cond.initialized "ShorePools$Limpet") ∈ lw_all := lw_g (lw_at lw_m1 20 rfl) rfl
theorem q854 : (Jvm.Cond.instanceMethod ({ cls := "ShorePools$Limpet", name := "copy", desc := "()LShorePools$Limpet;" } : Jvm.MethodName)) ∈ lw_all := lw_g (lw_at lw_m4 33 rfl) rfl
theorem q855 : (Jvm.Cond.selects "ShorePools$Limpet" ({ cls := "ShorePools$Limpet", name := "copy", desc := "()LShorePools$Limpet;" } : Jvm.MethodName) ({ cls := "ShorePools$Limpet", name := "copy", desc := "()LShorePools$Limpet;" } : Jvm.MethodName)) ∈ lw_all := lw_g (lw_at lw_m4 34 rfl) rfl
theorem q856 : (Jvm.Cond.code ({ cls := "ShorePools$Limpet", name := "copy", desc := "()LShorePools$Limpet;" } : Jvm.MethodName) prog_3_method_2_code (2 : Nat) (Option.some (Jvm.ClassFile.FieldType.object "ShorePools$Limpet"))) ∈ lw_all := lw_g (lw_at lw_m4 35 rfl) rfl
theorem q857 : (Jvm.Cond.classLink "ShorePools$Limpet" (10 : Nat) "ShorePools$Limpet") ∈ lw_all := lw_g (lw_at lw_m4 36 rfl) rfl
theorem q858 : (Jvm.Cond.instantiable "ShorePools$Limpet" (5 : Nat)) ∈ lw_all := lw_g (lw_at lw_m4 37 rfl) rfl
theorem q859 : (Jvm.Cond.methodLink "ShorePools$Limpet" (24 : Nat) ({ cls := "ShorePools$Limpet", name := "<init>", desc := "(I)V" } : Jvm.MethodName)) ∈ lw_all := lw_g (lw_at lw_m4 38 rfl) rfl
theorem q860 : (Jvm.Cond.instanceMethod ({ cls := "ShorePools$Limpet", name := "<init>", desc := "(I)V" } : Jvm.MethodName)) ∈ lw_all := lw_g (lw_at lw_m4 39 rfl) rfl
theorem q861 : (Jvm.Cond.code ({ cls := "ShorePools$Limpet", name := "<init>", desc := "(I)V" } : Jvm.MethodName) prog_3_method_1_code (2 : Nat) (Option.none : Option Jvm.ClassFile.FieldType)) ∈ lw_all := lw_g (lw_at lw_m4 40 rfl) rfl
theorem q862 : (Jvm.Cond.methodLink "ShorePools$Limpet" (3 : Nat) ({ cls := "java/lang/Object", name := "<init>", desc := "()V" } : Jvm.MethodName)) ∈ lw_all := lw_g (lw_at lw_m4 41 rfl) rfl
theorem q863 : (Jvm.Cond.fieldLink "ShorePools$Limpet" (21 : Nat) "ShorePools$Limpet" "pool" "I") ∈ lw_all := lw_g (lw_at lw_m4 42 rfl) rfl
theorem q865 : (Jvm.Cond.fieldLink "ShorePools$Limpet" (9 : Nat) "ShorePools$Limpet" "water" "I") ∈ lw_all := lw_g (lw_at lw_m4 44 rfl) rfl
theorem q867 : (Jvm.Cond.fieldLink "ShorePools$Limpet" (15 : Nat) "ShorePools$Limpet" "food" "I") ∈ lw_all := lw_g (lw_at lw_m4 46 rfl) rfl
theorem q869 : (Jvm.Cond.fieldLink "ShorePools$Limpet" (27 : Nat) "ShorePools$Limpet" "steps" "I") ∈ lw_all := lw_g (lw_at lw_m4 48 rfl) rfl
theorem q871 : (Jvm.Cond.fieldLink "ShorePools$Limpet" (18 : Nat) "ShorePools$Limpet" "fate" "I") ∈ lw_all := lw_g (lw_at lw_m4 50 rfl) rfl
theorem q873 : (Jvm.Cond.laysFinal "ShorePools$Limpet" "ShorePools$Limpet" "pool" "I") ∈ lw_all := lw_g (lw_at lw_m4 52 rfl) rfl
theorem q874 : (Jvm.Cond.soleField "ShorePools$Limpet" "pool") ∈ lw_all := lw_g (lw_at lw_m4 53 rfl) rfl
theorem q875 : (Jvm.Cond.lays "ShorePools$Limpet" "ShorePools$Limpet" "water" "I") ∈ lw_all := lw_g (lw_at lw_m4 54 rfl) rfl
theorem q876 : (Jvm.Cond.soleField "ShorePools$Limpet" "water") ∈ lw_all := lw_g (lw_at lw_m4 55 rfl) rfl
theorem q877 : (Jvm.Cond.lays "ShorePools$Limpet" "ShorePools$Limpet" "food" "I") ∈ lw_all := lw_g (lw_at lw_m4 56 rfl) rfl
theorem q878 : (Jvm.Cond.soleField "ShorePools$Limpet" "food") ∈ lw_all := lw_g (lw_at lw_m4 57 rfl) rfl
theorem q879 : (Jvm.Cond.lays "ShorePools$Limpet" "ShorePools$Limpet" "steps" "I") ∈ lw_all := lw_g (lw_at lw_m4 58 rfl) rfl
theorem q880 : (Jvm.Cond.soleField "ShorePools$Limpet" "steps") ∈ lw_all := lw_g (lw_at lw_m4 59 rfl) rfl
theorem q881 : (Jvm.Cond.lays "ShorePools$Limpet" "ShorePools$Limpet" "fate" "I") ∈ lw_all := lw_g (lw_at lw_m4 60 rfl) rfl
theorem q882 : (Jvm.Cond.soleField "ShorePools$Limpet" "fate") ∈ lw_all := lw_g (lw_at lw_m4 61 rfl) rfl
theorem q883 : (Jvm.Cond.superclass "ShorePools$Limpet" "java/lang/Object") ∈ lw_all := lw_g (lw_at lw_m4 62 rfl) rfl
theorem q909 : (Jvm.Cond.selects "ShorePools$Limpet" ({ cls := "java/lang/Object", name := "getClass", desc := "()Ljava/lang/Class;" } : Jvm.MethodName) ({ cls := "java/lang/Object", name := "getClass", desc := "()Ljava/lang/Class;" } : Jvm.MethodName)) ∈ lw_all := lw_g (lw_at lw_m4 88 rfl) rfl
theorem q1036 : (Jvm.Cond.unhidden "ShorePools$Limpet" "lives" "()Z") ∈ lw_tbl := lw_at lw_m4 215 rfl
theorem q1050 : (Jvm.Cond.castable "ShorePools$Limpet" "ShorePools$Living") ∈ lw_tbl := lw_at lw_m4 229 rfl
theorem q1051 : (Jvm.Cond.selects "ShorePools$Limpet" ({ cls := "ShorePools$Living", name := "fate", desc := "()I" } : Jvm.MethodName) ({ cls := "ShorePools$Limpet", name := "fate", desc := "()I" } : Jvm.MethodName)) ∈ lw_all := lw_g (lw_at lw_m4 230 rfl) rfl
theorem q1052 : (Jvm.Cond.unhidden "ShorePools$Limpet" "fate" "()I") ∈ lw_tbl := lw_at lw_m4 231 rfl
theorem q1053 : (Jvm.Cond.instanceMethod ({ cls := "ShorePools$Limpet", name := "fate", desc := "()I" } : Jvm.MethodName)) ∈ lw_all := lw_g (lw_at lw_m4 232 rfl) rfl
theorem q1054 : (Jvm.Cond.publicMethod ({ cls := "ShorePools$Limpet", name := "fate", desc := "()I" } : Jvm.MethodName)) ∈ lw_tbl := lw_at lw_m4 233 rfl
theorem q1055 : (Jvm.Cond.code ({ cls := "ShorePools$Limpet", name := "fate", desc := "()I" } : Jvm.MethodName) prog_3_method_4_code (1 : Nat) (Option.some Jvm.ClassFile.FieldType.int)) ∈ lw_all := lw_g (lw_at lw_m4 234 rfl) rfl
theorem q1244 : (Jvm.Cond.selects "ShorePools$Limpet" ({ cls := "ShorePools$Living", name := "pool", desc := "()I" } : Jvm.MethodName) ({ cls := "ShorePools$Limpet", name := "pool", desc := "()I" } : Jvm.MethodName)) ∈ lw_all := lw_g (lw_at lw_m5 183 rfl) rfl
theorem q1245 : (Jvm.Cond.unhidden "ShorePools$Limpet" "pool" "()I") ∈ lw_tbl := lw_at lw_m5 184 rfl
theorem q1246 : (Jvm.Cond.instanceMethod ({ cls := "ShorePools$Limpet", name := "pool", desc := "()I" } : Jvm.MethodName)) ∈ lw_all := lw_g (lw_at lw_m5 185 rfl) rfl
theorem q1247 : (Jvm.Cond.publicMethod ({ cls := "ShorePools$Limpet", name := "pool", desc := "()I" } : Jvm.MethodName)) ∈ lw_tbl := lw_at lw_m5 186 rfl
theorem q1248 : (Jvm.Cond.code ({ cls := "ShorePools$Limpet", name := "pool", desc := "()I" } : Jvm.MethodName) prog_3_method_3_code (1 : Nat) (Option.some Jvm.ClassFile.FieldType.int)) ∈ lw_all := lw_g (lw_at lw_m5 187 rfl) rfl
theorem q1253 : (Jvm.Cond.unhidden "ShorePools$Limpet" "livesIn" "(I)Z") ∈ lw_tbl := lw_at lw_m5 192 rfl
theorem q2294 : (Jvm.Cond.castable "ShorePools$Limpet" "java/lang/Object") ∈ lw_tbl := lw_at lw_m10 33 rfl
theorem in_X5 : ∀ w ∈ wsX50, w ∈ lw_all := lw_in wsX50 [873, 875, 877, 879, 881] (by decide +kernel) (by decide +kernel)
/-! ShorePools$Shell -/
set_option maxRecDepth 100000
def RX6 : String := "ShorePools$Shell"
def TX6 : u_T := fun k => match k with
  | 0 => ("ShorePools$Shell", "size", "I", true)
  | 1 => ("ShorePools$Shell", "pool", "I", false)
  | _ => ("ShorePools$Shell", "wearer", "I", false)
def tyX6 : Nat → FieldType := fun k => match k with
  | 0 => .int
  | 1 => .int
  | _ => .int
abbrev wsX60 : List Cond := u_ws RX6 TX6 3
theorem nmX6 : ∀ a, a < 3 → ∀ b, b < 3 → a ≠ b → (TX6 a).2.1 ≠ (TX6 b).2.1 := by decide +kernel
theorem tyX6_ok : ∀ k, k < 3 → parseFieldDescriptor (TX6 k).2.2.1 = some (tyX6 k) := by decide +kernel
abbrev cX6_copy : ByteArray := prog_7_method_2_code
def yX6_copy : MethodName := ⟨RX6, "copy", "()LShorePools$Shell;"⟩
def dkwX6_copy_1 : List UInt8 := [43, 176]
abbrev dktX6_copy_1 : List UInt8 := dkwX6_copy_1 ++ []
def dkwX6_copy_0 : List UInt8 := [187, 0, 10, 89, 42, 180, 0, 15, 42, 180, 0, 18, 183, 0, 21, 76, 43, 42, 180, 0, 9, 181, 0, 9]
abbrev dktX6_copy_0 : List UInt8 := dkwX6_copy_0 ++ dktX6_copy_1
theorem dksX6_copy_0 : cX6_copy.data.toList.drop 0 = dktX6_copy_0 := by decide +kernel
theorem dksX6_copy_1 : cX6_copy.data.toList.drop 24 = dktX6_copy_1 := dk_seg dksX6_copy_0 24 rfl rfl
theorem dX6_copy_0 : decode cX6_copy 0 = .ok (.new 10, 3) := dk_187 0 10 (dk_at dksX6_copy_0 0 rfl rfl)
theorem dX6_copy_3 : decode cX6_copy 3 = .ok (.dup, 1) := dk_89 (dk_at dksX6_copy_0 3 rfl rfl)
theorem dX6_copy_4 : decode cX6_copy 4 = .ok (.aload_n 0, 1) := dk_42 (dk_at dksX6_copy_0 4 rfl rfl)
theorem dX6_copy_5 : decode cX6_copy 5 = .ok (.getfield 15, 3) := dk_180 0 15 (dk_at dksX6_copy_0 5 rfl rfl)
theorem dX6_copy_8 : decode cX6_copy 8 = .ok (.aload_n 0, 1) := dk_42 (dk_at dksX6_copy_0 8 rfl rfl)
theorem dX6_copy_9 : decode cX6_copy 9 = .ok (.getfield 18, 3) := dk_180 0 18 (dk_at dksX6_copy_0 9 rfl rfl)
theorem dX6_copy_12 : decode cX6_copy 12 = .ok (.invokespecial 21, 3) := dk_183 0 21 (dk_at dksX6_copy_0 12 rfl rfl)
theorem dX6_copy_15 : decode cX6_copy 15 = .ok (.astore_n 1, 1) := dk_76 (dk_at dksX6_copy_0 15 rfl rfl)
theorem dX6_copy_16 : decode cX6_copy 16 = .ok (.aload_n 1, 1) := dk_43 (dk_at dksX6_copy_0 16 rfl rfl)
theorem dX6_copy_17 : decode cX6_copy 17 = .ok (.aload_n 0, 1) := dk_42 (dk_at dksX6_copy_0 17 rfl rfl)
theorem dX6_copy_18 : decode cX6_copy 18 = .ok (.getfield 9, 3) := dk_180 0 9 (dk_at dksX6_copy_0 18 rfl rfl)
theorem dX6_copy_21 : decode cX6_copy 21 = .ok (.putfield 9, 3) := dk_181 0 9 (dk_at dksX6_copy_0 21 rfl rfl)
theorem dX6_copy_24 : decode cX6_copy 24 = .ok (.aload_n 1, 1) := dk_43 (dk_at dksX6_copy_1 0 rfl rfl)
theorem dX6_copy_25 : decode cX6_copy 25 = .ok (.areturn, 1) := dk_176 (dk_at dksX6_copy_1 1 rfl rfl)
abbrev cX6_init : ByteArray := prog_7_method_1_code
def yX6_init : MethodName := ⟨RX6, "<init>", "(II)V"⟩
def dkwX6_init_0 : List UInt8 := [42, 183, 0, 3, 42, 2, 181, 0, 9, 42, 27, 181, 0, 15, 42, 28, 181, 0, 18, 177]
abbrev dktX6_init_0 : List UInt8 := dkwX6_init_0 ++ []
theorem dksX6_init_0 : cX6_init.data.toList.drop 0 = dktX6_init_0 := by decide +kernel
theorem dX6_init_0 : decode cX6_init 0 = .ok (.aload_n 0, 1) := dk_42 (dk_at dksX6_init_0 0 rfl rfl)
theorem dX6_init_1 : decode cX6_init 1 = .ok (.invokespecial 3, 3) := dk_183 0 3 (dk_at dksX6_init_0 1 rfl rfl)
theorem dX6_init_4 : decode cX6_init 4 = .ok (.aload_n 0, 1) := dk_42 (dk_at dksX6_init_0 4 rfl rfl)
theorem dX6_init_5 : decode cX6_init 5 = .ok (.iconst (-1), 1) := dk_2 (dk_at dksX6_init_0 5 rfl rfl)
theorem dX6_init_6 : decode cX6_init 6 = .ok (.putfield 9, 3) := dk_181 0 9 (dk_at dksX6_init_0 6 rfl rfl)
theorem dX6_init_9 : decode cX6_init 9 = .ok (.aload_n 0, 1) := dk_42 (dk_at dksX6_init_0 9 rfl rfl)
theorem dX6_init_10 : decode cX6_init 10 = .ok (.iload_n 1, 1) := dk_27 (dk_at dksX6_init_0 10 rfl rfl)
theorem dX6_init_11 : decode cX6_init 11 = .ok (.putfield 15, 3) := dk_181 0 15 (dk_at dksX6_init_0 11 rfl rfl)
theorem dX6_init_14 : decode cX6_init 14 = .ok (.aload_n 0, 1) := dk_42 (dk_at dksX6_init_0 14 rfl rfl)
theorem dX6_init_15 : decode cX6_init 15 = .ok (.iload_n 2, 1) := dk_28 (dk_at dksX6_init_0 15 rfl rfl)
theorem dX6_init_16 : decode cX6_init 16 = .ok (.putfield 18, 3) := dk_181 0 18 (dk_at dksX6_init_0 16 rfl rfl)
theorem dX6_init_19 : decode cX6_init 19 = .ok (.return_, 1) := dk_177 (dk_at dksX6_init_0 19 rfl rfl)
abbrev cX6_size : ByteArray := prog_7_method_3_code
def yX6_size : MethodName := ⟨RX6, "size", "()I"⟩
theorem dX6_size_0 : decode cX6_size 0 = .ok (.aload_n 0, 1) := by decide +kernel
theorem dX6_size_1 : decode cX6_size 1 = .ok (.getfield 18, 3) := by decide +kernel
theorem dX6_size_4 : decode cX6_size 4 = .ok (.ireturn, 1) := by decide +kernel
abbrev cX6_liesIn : ByteArray := prog_7_method_4_code
def yX6_liesIn : MethodName := ⟨RX6, "liesIn", "(I)Z"⟩
def dkwX6_liesIn_0 : List UInt8 := [42, 180, 0, 9, 2, 160, 0, 15, 42, 180, 0, 15, 27, 160, 0, 7, 4, 167, 0, 4, 3, 172]
abbrev dktX6_liesIn_0 : List UInt8 := dkwX6_liesIn_0 ++ []
theorem dksX6_liesIn_0 : cX6_liesIn.data.toList.drop 0 = dktX6_liesIn_0 := by decide +kernel
theorem dX6_liesIn_0 : decode cX6_liesIn 0 = .ok (.aload_n 0, 1) := dk_42 (dk_at dksX6_liesIn_0 0 rfl rfl)
theorem dX6_liesIn_1 : decode cX6_liesIn 1 = .ok (.getfield 9, 3) := dk_180 0 9 (dk_at dksX6_liesIn_0 1 rfl rfl)
theorem dX6_liesIn_4 : decode cX6_liesIn 4 = .ok (.iconst (-1), 1) := dk_2 (dk_at dksX6_liesIn_0 4 rfl rfl)
theorem dX6_liesIn_5 : decode cX6_liesIn 5 = .ok (.if_icmp .ne 15, 3) := dk_160 0 15 (dk_at dksX6_liesIn_0 5 rfl rfl)
theorem dX6_liesIn_8 : decode cX6_liesIn 8 = .ok (.aload_n 0, 1) := dk_42 (dk_at dksX6_liesIn_0 8 rfl rfl)
theorem dX6_liesIn_9 : decode cX6_liesIn 9 = .ok (.getfield 15, 3) := dk_180 0 15 (dk_at dksX6_liesIn_0 9 rfl rfl)
theorem dX6_liesIn_12 : decode cX6_liesIn 12 = .ok (.iload_n 1, 1) := dk_27 (dk_at dksX6_liesIn_0 12 rfl rfl)
theorem dX6_liesIn_13 : decode cX6_liesIn 13 = .ok (.if_icmp .ne 7, 3) := dk_160 0 7 (dk_at dksX6_liesIn_0 13 rfl rfl)
theorem dX6_liesIn_16 : decode cX6_liesIn 16 = .ok (.iconst 1, 1) := dk_4 (dk_at dksX6_liesIn_0 16 rfl rfl)
theorem dX6_liesIn_17 : decode cX6_liesIn 17 = .ok (.goto 4, 3) := dk_167 0 4 (dk_at dksX6_liesIn_0 17 rfl rfl)
theorem dX6_liesIn_20 : decode cX6_liesIn 20 = .ok (.iconst 0, 1) := dk_3 (dk_at dksX6_liesIn_0 20 rfl rfl)
theorem dX6_liesIn_21 : decode cX6_liesIn 21 = .ok (.ireturn, 1) := dk_172 (dk_at dksX6_liesIn_0 21 rfl rfl)
theorem q126 : (Jvm.Cond.initialized "ShorePools$Shell") ∈ lw_all := lw_g (lw_at lw_m1 25 rfl) rfl
theorem q912 : (Jvm.Cond.selects "ShorePools$Shell" ({ cls := "java/lang/Object", name := "getClass", desc := "()Ljava/lang/Class;" } : Jvm.MethodName) ({ cls := "java/lang/Object", name := "getClass", desc := "()Ljava/lang/Class;" } : Jvm.MethodName)) ∈ lw_all := lw_g (lw_at lw_m4 91 rfl) rfl
theorem q935 : (Jvm.Cond.instanceMethod ({ cls := "ShorePools$Shell", name := "copy", desc := "()LShorePools$Shell;" } : Jvm.MethodName)) ∈ lw_all := lw_g (lw_at lw_m4 114 rfl) rfl
theorem q936 : (Jvm.Cond.selects "ShorePools$Shell" ({ cls := "ShorePools$Shell", name := "copy", desc := "()LShorePools$Shell;" } : Jvm.MethodName) ({ cls := "ShorePools$Shell", name := "copy", desc := "()LShorePools$Shell;" } : Jvm.MethodName)) ∈ lw_all := lw_g (lw_at lw_m4 115 rfl) rfl
theorem q937 : (Jvm.Cond.code ({ cls := "ShorePools$Shell", name := "copy", desc := "()LShorePools$Shell;" } : Jvm.MethodName) prog_7_method_2_code (2 : Nat) (Option.some (Jvm.ClassFile.FieldType.object "ShorePools$Shell"))) ∈ lw_all := lw_g (lw_at lw_m4 116 rfl) rfl
theorem q938 : (Jvm.Cond.classLink "ShorePools$Shell" (10 : Nat) "ShorePools$Shell") ∈ lw_all := lw_g (lw_at lw_m4 117 rfl) rfl
theorem q939 : (Jvm.Cond.instantiable "ShorePools$Shell" (3 : Nat)) ∈ lw_all := lw_g (lw_at lw_m4 118 rfl) rfl
theorem q940 : (Jvm.Cond.methodLink "ShorePools$Shell" (21 : Nat) ({ cls := "ShorePools$Shell", name := "<init>", desc := "(II)V" } : Jvm.MethodName)) ∈ lw_all := lw_g (lw_at lw_m4 119 rfl) rfl
theorem q941 : (Jvm.Cond.instanceMethod ({ cls := "ShorePools$Shell", name := "<init>", desc := "(II)V" } : Jvm.MethodName)) ∈ lw_all := lw_g (lw_at lw_m4 120 rfl) rfl
theorem q942 : (Jvm.Cond.code ({ cls := "ShorePools$Shell", name := "<init>", desc := "(II)V" } : Jvm.MethodName) prog_7_method_1_code (3 : Nat) (Option.none : Option Jvm.ClassFile.FieldType)) ∈ lw_all := lw_g (lw_at lw_m4 121 rfl) rfl
theorem q943 : (Jvm.Cond.methodLink "ShorePools$Shell" (3 : Nat) ({ cls := "java/lang/Object", name := "<init>", desc := "()V" } : Jvm.MethodName)) ∈ lw_all := lw_g (lw_at lw_m4 122 rfl) rfl
theorem q944 : (Jvm.Cond.fieldLink "ShorePools$Shell" (18 : Nat) "ShorePools$Shell" "size" "I") ∈ lw_all := lw_g (lw_at lw_m4 123 rfl) rfl
theorem q946 : (Jvm.Cond.fieldLink "ShorePools$Shell" (15 : Nat) "ShorePools$Shell" "pool" "I") ∈ lw_all := lw_g (lw_at lw_m4 125 rfl) rfl
theorem q948 : (Jvm.Cond.fieldLink "ShorePools$Shell" (9 : Nat) "ShorePools$Shell" "wearer" "I") ∈ lw_all := lw_g (lw_at lw_m4 127 rfl) rfl
theorem q950 : (Jvm.Cond.laysFinal "ShorePools$Shell" "ShorePools$Shell" "size" "I") ∈ lw_all := lw_g (lw_at lw_m4 129 rfl) rfl
theorem q951 : (Jvm.Cond.soleField "ShorePools$Shell" "size") ∈ lw_all := lw_g (lw_at lw_m4 130 rfl) rfl
theorem q952 : (Jvm.Cond.lays "ShorePools$Shell" "ShorePools$Shell" "pool" "I") ∈ lw_all := lw_g (lw_at lw_m4 131 rfl) rfl
theorem q953 : (Jvm.Cond.soleField "ShorePools$Shell" "pool") ∈ lw_all := lw_g (lw_at lw_m4 132 rfl) rfl
theorem q954 : (Jvm.Cond.lays "ShorePools$Shell" "ShorePools$Shell" "wearer" "I") ∈ lw_all := lw_g (lw_at lw_m4 133 rfl) rfl
theorem q955 : (Jvm.Cond.soleField "ShorePools$Shell" "wearer") ∈ lw_all := lw_g (lw_at lw_m4 134 rfl) rfl
theorem q956 : (Jvm.Cond.superclass "ShorePools$Shell" "java/lang/Object") ∈ lw_all := lw_g (lw_at lw_m4 135 rfl) rfl
theorem q1143 : (Jvm.Cond.unhidden "ShorePools$Shell" "isTightFor" "(LShorePools$Sized;)Z") ∈ lw_tbl := lw_at lw_m5 82 rfl
theorem q1165 : (Jvm.Cond.castable "ShorePools$Shell" "ShorePools$Sized") ∈ lw_tbl := lw_at lw_m5 104 rfl
theorem q1166 : (Jvm.Cond.selects "ShorePools$Shell" ({ cls := "ShorePools$Sized", name := "size", desc := "()I" } : Jvm.MethodName) ({ cls := "ShorePools$Shell", name := "size", desc := "()I" } : Jvm.MethodName)) ∈ lw_all := lw_g (lw_at lw_m5 105 rfl) rfl
theorem q1167 : (Jvm.Cond.unhidden "ShorePools$Shell" "size" "()I") ∈ lw_tbl := lw_at lw_m5 106 rfl
theorem q1168 : (Jvm.Cond.instanceMethod ({ cls := "ShorePools$Shell", name := "size", desc := "()I" } : Jvm.MethodName)) ∈ lw_all := lw_g (lw_at lw_m5 107 rfl) rfl
theorem q1169 : (Jvm.Cond.publicMethod ({ cls := "ShorePools$Shell", name := "size", desc := "()I" } : Jvm.MethodName)) ∈ lw_tbl := lw_at lw_m5 108 rfl
theorem q1170 : (Jvm.Cond.code ({ cls := "ShorePools$Shell", name := "size", desc := "()I" } : Jvm.MethodName) prog_7_method_3_code (1 : Nat) (Option.some Jvm.ClassFile.FieldType.int)) ∈ lw_all := lw_g (lw_at lw_m5 109 rfl) rfl
theorem q1171 : (Jvm.Cond.unhidden "ShorePools$Shell" "gapFor" "(LShorePools$Sized;)I") ∈ lw_tbl := lw_at lw_m5 110 rfl
theorem q1188 : (Jvm.Cond.instanceMethod ({ cls := "ShorePools$Shell", name := "liesIn", desc := "(I)Z" } : Jvm.MethodName)) ∈ lw_all := lw_g (lw_at lw_m5 127 rfl) rfl
theorem q1189 : (Jvm.Cond.selects "ShorePools$Shell" ({ cls := "ShorePools$Shell", name := "liesIn", desc := "(I)Z" } : Jvm.MethodName) ({ cls := "ShorePools$Shell", name := "liesIn", desc := "(I)Z" } : Jvm.MethodName)) ∈ lw_all := lw_g (lw_at lw_m5 128 rfl) rfl
theorem q1190 : (Jvm.Cond.code ({ cls := "ShorePools$Shell", name := "liesIn", desc := "(I)Z" } : Jvm.MethodName) prog_7_method_4_code (2 : Nat) (Option.some Jvm.ClassFile.FieldType.boolean)) ∈ lw_all := lw_g (lw_at lw_m5 129 rfl) rfl
theorem q2295 : (Jvm.Cond.castable "ShorePools$Shell" "java/lang/Object") ∈ lw_tbl := lw_at lw_m10 34 rfl
theorem in_X6 : ∀ w ∈ wsX60, w ∈ lw_all := lw_in wsX60 [950, 952, 954] (by decide +kernel) (by decide +kernel)
/-! ShorePools$Crab -/
set_option maxRecDepth 100000
def RX7 : String := "ShorePools$Crab"
def TX7 : u_T := fun k => match k with
  | 0 => ("ShorePools$Crab", "pool", "I", false)
  | 1 => ("ShorePools$Crab", "size", "I", false)
  | 2 => ("ShorePools$Crab", "shell", "I", false)
  | 3 => ("ShorePools$Crab", "changes", "I", false)
  | _ => ("ShorePools$Crab", "fate", "I", false)
def tyX7 : Nat → FieldType := fun k => match k with
  | 0 => .int
  | 1 => .int
  | 2 => .int
  | 3 => .int
  | _ => .int
abbrev wsX70 : List Cond := u_ws RX7 TX7 5
theorem nmX7 : ∀ a, a < 5 → ∀ b, b < 5 → a ≠ b → (TX7 a).2.1 ≠ (TX7 b).2.1 := by decide +kernel
theorem tyX7_ok : ∀ k, k < 5 → parseFieldDescriptor (TX7 k).2.2.1 = some (tyX7 k) := by decide +kernel
abbrev cX7_copy : ByteArray := prog_2_method_2_code
def yX7_copy : MethodName := ⟨RX7, "copy", "()LShorePools$Crab;"⟩
def dkwX7_copy_1 : List UInt8 := [43, 42, 180, 0, 27, 181, 0, 27, 43, 42, 180, 0, 15, 181, 0, 15, 43, 176]
abbrev dktX7_copy_1 : List UInt8 := dkwX7_copy_1 ++ []
def dkwX7_copy_0 : List UInt8 := [187, 0, 10, 89, 42, 180, 0, 18, 42, 180, 0, 21, 183, 0, 24, 76, 43, 42, 180, 0, 9, 181, 0, 9]
abbrev dktX7_copy_0 : List UInt8 := dkwX7_copy_0 ++ dktX7_copy_1
theorem dksX7_copy_0 : cX7_copy.data.toList.drop 0 = dktX7_copy_0 := by decide +kernel
theorem dksX7_copy_1 : cX7_copy.data.toList.drop 24 = dktX7_copy_1 := dk_seg dksX7_copy_0 24 rfl rfl
theorem dX7_copy_0 : decode cX7_copy 0 = .ok (.new 10, 3) := dk_187 0 10 (dk_at dksX7_copy_0 0 rfl rfl)
theorem dX7_copy_3 : decode cX7_copy 3 = .ok (.dup, 1) := dk_89 (dk_at dksX7_copy_0 3 rfl rfl)
theorem dX7_copy_4 : decode cX7_copy 4 = .ok (.aload_n 0, 1) := dk_42 (dk_at dksX7_copy_0 4 rfl rfl)
theorem dX7_copy_5 : decode cX7_copy 5 = .ok (.getfield 18, 3) := dk_180 0 18 (dk_at dksX7_copy_0 5 rfl rfl)
theorem dX7_copy_8 : decode cX7_copy 8 = .ok (.aload_n 0, 1) := dk_42 (dk_at dksX7_copy_0 8 rfl rfl)
theorem dX7_copy_9 : decode cX7_copy 9 = .ok (.getfield 21, 3) := dk_180 0 21 (dk_at dksX7_copy_0 9 rfl rfl)
theorem dX7_copy_12 : decode cX7_copy 12 = .ok (.invokespecial 24, 3) := dk_183 0 24 (dk_at dksX7_copy_0 12 rfl rfl)
theorem dX7_copy_15 : decode cX7_copy 15 = .ok (.astore_n 1, 1) := dk_76 (dk_at dksX7_copy_0 15 rfl rfl)
theorem dX7_copy_16 : decode cX7_copy 16 = .ok (.aload_n 1, 1) := dk_43 (dk_at dksX7_copy_0 16 rfl rfl)
theorem dX7_copy_17 : decode cX7_copy 17 = .ok (.aload_n 0, 1) := dk_42 (dk_at dksX7_copy_0 17 rfl rfl)
theorem dX7_copy_18 : decode cX7_copy 18 = .ok (.getfield 9, 3) := dk_180 0 9 (dk_at dksX7_copy_0 18 rfl rfl)
theorem dX7_copy_21 : decode cX7_copy 21 = .ok (.putfield 9, 3) := dk_181 0 9 (dk_at dksX7_copy_0 21 rfl rfl)
theorem dX7_copy_24 : decode cX7_copy 24 = .ok (.aload_n 1, 1) := dk_43 (dk_at dksX7_copy_1 0 rfl rfl)
theorem dX7_copy_25 : decode cX7_copy 25 = .ok (.aload_n 0, 1) := dk_42 (dk_at dksX7_copy_1 1 rfl rfl)
theorem dX7_copy_26 : decode cX7_copy 26 = .ok (.getfield 27, 3) := dk_180 0 27 (dk_at dksX7_copy_1 2 rfl rfl)
theorem dX7_copy_29 : decode cX7_copy 29 = .ok (.putfield 27, 3) := dk_181 0 27 (dk_at dksX7_copy_1 5 rfl rfl)
theorem dX7_copy_32 : decode cX7_copy 32 = .ok (.aload_n 1, 1) := dk_43 (dk_at dksX7_copy_1 8 rfl rfl)
theorem dX7_copy_33 : decode cX7_copy 33 = .ok (.aload_n 0, 1) := dk_42 (dk_at dksX7_copy_1 9 rfl rfl)
theorem dX7_copy_34 : decode cX7_copy 34 = .ok (.getfield 15, 3) := dk_180 0 15 (dk_at dksX7_copy_1 10 rfl rfl)
theorem dX7_copy_37 : decode cX7_copy 37 = .ok (.putfield 15, 3) := dk_181 0 15 (dk_at dksX7_copy_1 13 rfl rfl)
theorem dX7_copy_40 : decode cX7_copy 40 = .ok (.aload_n 1, 1) := dk_43 (dk_at dksX7_copy_1 16 rfl rfl)
theorem dX7_copy_41 : decode cX7_copy 41 = .ok (.areturn, 1) := dk_176 (dk_at dksX7_copy_1 17 rfl rfl)
abbrev cX7_init : ByteArray := prog_2_method_1_code
def yX7_init : MethodName := ⟨RX7, "<init>", "(II)V"⟩
def dkwX7_init_1 : List UInt8 := [177]
abbrev dktX7_init_1 : List UInt8 := dkwX7_init_1 ++ []
def dkwX7_init_0 : List UInt8 := [42, 183, 0, 3, 42, 2, 181, 0, 9, 42, 3, 181, 0, 15, 42, 27, 181, 0, 18, 42, 28, 181, 0, 21]
abbrev dktX7_init_0 : List UInt8 := dkwX7_init_0 ++ dktX7_init_1
theorem dksX7_init_0 : cX7_init.data.toList.drop 0 = dktX7_init_0 := by decide +kernel
theorem dksX7_init_1 : cX7_init.data.toList.drop 24 = dktX7_init_1 := dk_seg dksX7_init_0 24 rfl rfl
theorem dX7_init_0 : decode cX7_init 0 = .ok (.aload_n 0, 1) := dk_42 (dk_at dksX7_init_0 0 rfl rfl)
theorem dX7_init_1 : decode cX7_init 1 = .ok (.invokespecial 3, 3) := dk_183 0 3 (dk_at dksX7_init_0 1 rfl rfl)
theorem dX7_init_4 : decode cX7_init 4 = .ok (.aload_n 0, 1) := dk_42 (dk_at dksX7_init_0 4 rfl rfl)
theorem dX7_init_5 : decode cX7_init 5 = .ok (.iconst (-1), 1) := dk_2 (dk_at dksX7_init_0 5 rfl rfl)
theorem dX7_init_6 : decode cX7_init 6 = .ok (.putfield 9, 3) := dk_181 0 9 (dk_at dksX7_init_0 6 rfl rfl)
theorem dX7_init_9 : decode cX7_init 9 = .ok (.aload_n 0, 1) := dk_42 (dk_at dksX7_init_0 9 rfl rfl)
theorem dX7_init_10 : decode cX7_init 10 = .ok (.iconst 0, 1) := dk_3 (dk_at dksX7_init_0 10 rfl rfl)
theorem dX7_init_11 : decode cX7_init 11 = .ok (.putfield 15, 3) := dk_181 0 15 (dk_at dksX7_init_0 11 rfl rfl)
theorem dX7_init_14 : decode cX7_init 14 = .ok (.aload_n 0, 1) := dk_42 (dk_at dksX7_init_0 14 rfl rfl)
theorem dX7_init_15 : decode cX7_init 15 = .ok (.iload_n 1, 1) := dk_27 (dk_at dksX7_init_0 15 rfl rfl)
theorem dX7_init_16 : decode cX7_init 16 = .ok (.putfield 18, 3) := dk_181 0 18 (dk_at dksX7_init_0 16 rfl rfl)
theorem dX7_init_19 : decode cX7_init 19 = .ok (.aload_n 0, 1) := dk_42 (dk_at dksX7_init_0 19 rfl rfl)
theorem dX7_init_20 : decode cX7_init 20 = .ok (.iload_n 2, 1) := dk_28 (dk_at dksX7_init_0 20 rfl rfl)
theorem dX7_init_21 : decode cX7_init 21 = .ok (.putfield 21, 3) := dk_181 0 21 (dk_at dksX7_init_0 21 rfl rfl)
theorem dX7_init_24 : decode cX7_init 24 = .ok (.return_, 1) := dk_177 (dk_at dksX7_init_1 0 rfl rfl)
abbrev cX7_fate : ByteArray := prog_2_method_5_code
def yX7_fate : MethodName := ⟨RX7, "fate", "()I"⟩
theorem dX7_fate_0 : decode cX7_fate 0 = .ok (.aload_n 0, 1) := by decide +kernel
theorem dX7_fate_1 : decode cX7_fate 1 = .ok (.getfield 15, 3) := by decide +kernel
theorem dX7_fate_4 : decode cX7_fate 4 = .ok (.ireturn, 1) := by decide +kernel
abbrev cX7_size : ByteArray := prog_2_method_3_code
def yX7_size : MethodName := ⟨RX7, "size", "()I"⟩
theorem dX7_size_0 : decode cX7_size 0 = .ok (.aload_n 0, 1) := by decide +kernel
theorem dX7_size_1 : decode cX7_size 1 = .ok (.getfield 21, 3) := by decide +kernel
theorem dX7_size_4 : decode cX7_size 4 = .ok (.ireturn, 1) := by decide +kernel
abbrev cX7_pool : ByteArray := prog_2_method_4_code
def yX7_pool : MethodName := ⟨RX7, "pool", "()I"⟩
theorem dX7_pool_0 : decode cX7_pool 0 = .ok (.aload_n 0, 1) := by decide +kernel
theorem dX7_pool_1 : decode cX7_pool 1 = .ok (.getfield 18, 3) := by decide +kernel
theorem dX7_pool_4 : decode cX7_pool 4 = .ok (.ireturn, 1) := by decide +kernel
theorem q127 : (Jvm.Cond.initialized "ShorePools$Crab") ∈ lw_all := lw_g (lw_at lw_m1 26 rfl) rfl
theorem q908 : (Jvm.Cond.selects "ShorePools$Crab" ({ cls := "java/lang/Object", name := "getClass", desc := "()Ljava/lang/Class;" } : Jvm.MethodName) ({ cls := "java/lang/Object", name := "getClass", desc := "()Ljava/lang/Class;" } : Jvm.MethodName)) ∈ lw_all := lw_g (lw_at lw_m4 87 rfl) rfl
theorem q959 : (Jvm.Cond.instanceMethod ({ cls := "ShorePools$Crab", name := "copy", desc := "()LShorePools$Crab;" } : Jvm.MethodName)) ∈ lw_all := lw_g (lw_at lw_m4 138 rfl) rfl
theorem q960 : (Jvm.Cond.selects "ShorePools$Crab" ({ cls := "ShorePools$Crab", name := "copy", desc := "()LShorePools$Crab;" } : Jvm.MethodName) ({ cls := "ShorePools$Crab", name := "copy", desc := "()LShorePools$Crab;" } : Jvm.MethodName)) ∈ lw_all := lw_g (lw_at lw_m4 139 rfl) rfl
theorem q961 : (Jvm.Cond.code ({ cls := "ShorePools$Crab", name := "copy", desc := "()LShorePools$Crab;" } : Jvm.MethodName) prog_2_method_2_code (2 : Nat) (Option.some (Jvm.ClassFile.FieldType.object "ShorePools$Crab"))) ∈ lw_all := lw_g (lw_at lw_m4 140 rfl) rfl
theorem q962 : (Jvm.Cond.classLink "ShorePools$Crab" (10 : Nat) "ShorePools$Crab") ∈ lw_all := lw_g (lw_at lw_m4 141 rfl) rfl
theorem q963 : (Jvm.Cond.instantiable "ShorePools$Crab" (5 : Nat)) ∈ lw_all := lw_g (lw_at lw_m4 142 rfl) rfl
theorem q964 : (Jvm.Cond.methodLink "ShorePools$Crab" (24 : Nat) ({ cls := "ShorePools$Crab", name := "<init>", desc := "(II)V" } : Jvm.MethodName)) ∈ lw_all := lw_g (lw_at lw_m4 143 rfl) rfl
theorem q965 : (Jvm.Cond.instanceMethod ({ cls := "ShorePools$Crab", name := "<init>", desc := "(II)V" } : Jvm.MethodName)) ∈ lw_all := lw_g (lw_at lw_m4 144 rfl) rfl
theorem q966 : (Jvm.Cond.code ({ cls := "ShorePools$Crab", name := "<init>", desc := "(II)V" } : Jvm.MethodName) prog_2_method_1_code (3 : Nat) (Option.none : Option Jvm.ClassFile.FieldType)) ∈ lw_all := lw_g (lw_at lw_m4 145 rfl) rfl
theorem q967 : (Jvm.Cond.methodLink "ShorePools$Crab" (3 : Nat) ({ cls := "java/lang/Object", name := "<init>", desc := "()V" } : Jvm.MethodName)) ∈ lw_all := lw_g (lw_at lw_m4 146 rfl) rfl
theorem q968 : (Jvm.Cond.fieldLink "ShorePools$Crab" (18 : Nat) "ShorePools$Crab" "pool" "I") ∈ lw_all := lw_g (lw_at lw_m4 147 rfl) rfl
theorem q970 : (Jvm.Cond.fieldLink "ShorePools$Crab" (21 : Nat) "ShorePools$Crab" "size" "I") ∈ lw_all := lw_g (lw_at lw_m4 149 rfl) rfl
theorem q972 : (Jvm.Cond.fieldLink "ShorePools$Crab" (9 : Nat) "ShorePools$Crab" "shell" "I") ∈ lw_all := lw_g (lw_at lw_m4 151 rfl) rfl
theorem q974 : (Jvm.Cond.fieldLink "ShorePools$Crab" (27 : Nat) "ShorePools$Crab" "changes" "I") ∈ lw_all := lw_g (lw_at lw_m4 153 rfl) rfl
theorem q976 : (Jvm.Cond.fieldLink "ShorePools$Crab" (15 : Nat) "ShorePools$Crab" "fate" "I") ∈ lw_all := lw_g (lw_at lw_m4 155 rfl) rfl
theorem q978 : (Jvm.Cond.lays "ShorePools$Crab" "ShorePools$Crab" "pool" "I") ∈ lw_all := lw_g (lw_at lw_m4 157 rfl) rfl
theorem q979 : (Jvm.Cond.soleField "ShorePools$Crab" "pool") ∈ lw_all := lw_g (lw_at lw_m4 158 rfl) rfl
theorem q980 : (Jvm.Cond.lays "ShorePools$Crab" "ShorePools$Crab" "size" "I") ∈ lw_all := lw_g (lw_at lw_m4 159 rfl) rfl
theorem q981 : (Jvm.Cond.soleField "ShorePools$Crab" "size") ∈ lw_all := lw_g (lw_at lw_m4 160 rfl) rfl
theorem q982 : (Jvm.Cond.lays "ShorePools$Crab" "ShorePools$Crab" "shell" "I") ∈ lw_all := lw_g (lw_at lw_m4 161 rfl) rfl
theorem q983 : (Jvm.Cond.soleField "ShorePools$Crab" "shell") ∈ lw_all := lw_g (lw_at lw_m4 162 rfl) rfl
theorem q984 : (Jvm.Cond.lays "ShorePools$Crab" "ShorePools$Crab" "changes" "I") ∈ lw_all := lw_g (lw_at lw_m4 163 rfl) rfl
theorem q985 : (Jvm.Cond.soleField "ShorePools$Crab" "changes") ∈ lw_all := lw_g (lw_at lw_m4 164 rfl) rfl
theorem q986 : (Jvm.Cond.lays "ShorePools$Crab" "ShorePools$Crab" "fate" "I") ∈ lw_all := lw_g (lw_at lw_m4 165 rfl) rfl
theorem q987 : (Jvm.Cond.soleField "ShorePools$Crab" "fate") ∈ lw_all := lw_g (lw_at lw_m4 166 rfl) rfl
theorem q988 : (Jvm.Cond.superclass "ShorePools$Crab" "java/lang/Object") ∈ lw_all := lw_g (lw_at lw_m4 167 rfl) rfl
theorem q1044 : (Jvm.Cond.castable "ShorePools$Crab" "ShorePools$Living") ∈ lw_tbl := lw_at lw_m4 223 rfl
theorem q1045 : (Jvm.Cond.selects "ShorePools$Crab" ({ cls := "ShorePools$Living", name := "fate", desc := "()I" } : Jvm.MethodName) ({ cls := "ShorePools$Crab", name := "fate", desc := "()I" } : Jvm.MethodName)) ∈ lw_all := lw_g (lw_at lw_m4 224 rfl) rfl
theorem q1046 : (Jvm.Cond.unhidden "ShorePools$Crab" "fate" "()I") ∈ lw_tbl := lw_at lw_m4 225 rfl
theorem q1047 : (Jvm.Cond.instanceMethod ({ cls := "ShorePools$Crab", name := "fate", desc := "()I" } : Jvm.MethodName)) ∈ lw_all := lw_g (lw_at lw_m4 226 rfl) rfl
theorem q1048 : (Jvm.Cond.publicMethod ({ cls := "ShorePools$Crab", name := "fate", desc := "()I" } : Jvm.MethodName)) ∈ lw_tbl := lw_at lw_m4 227 rfl
theorem q1049 : (Jvm.Cond.code ({ cls := "ShorePools$Crab", name := "fate", desc := "()I" } : Jvm.MethodName) prog_2_method_5_code (1 : Nat) (Option.some Jvm.ClassFile.FieldType.int)) ∈ lw_all := lw_g (lw_at lw_m4 228 rfl) rfl
theorem q1073 : (Jvm.Cond.unhidden "ShorePools$Crab" "lives" "()Z") ∈ lw_tbl := lw_at lw_m5 12 rfl
theorem q1151 : (Jvm.Cond.castable "ShorePools$Crab" "ShorePools$Sized") ∈ lw_tbl := lw_at lw_m5 90 rfl
theorem q1152 : (Jvm.Cond.unhidden "ShorePools$Crab" "gapFor" "(LShorePools$Sized;)I") ∈ lw_tbl := lw_at lw_m5 91 rfl
theorem q1160 : (Jvm.Cond.selects "ShorePools$Crab" ({ cls := "ShorePools$Sized", name := "size", desc := "()I" } : Jvm.MethodName) ({ cls := "ShorePools$Crab", name := "size", desc := "()I" } : Jvm.MethodName)) ∈ lw_all := lw_g (lw_at lw_m5 99 rfl) rfl
theorem q1161 : (Jvm.Cond.unhidden "ShorePools$Crab" "size" "()I") ∈ lw_tbl := lw_at lw_m5 100 rfl
theorem q1162 : (Jvm.Cond.instanceMethod ({ cls := "ShorePools$Crab", name := "size", desc := "()I" } : Jvm.MethodName)) ∈ lw_all := lw_g (lw_at lw_m5 101 rfl) rfl
theorem q1163 : (Jvm.Cond.publicMethod ({ cls := "ShorePools$Crab", name := "size", desc := "()I" } : Jvm.MethodName)) ∈ lw_tbl := lw_at lw_m5 102 rfl
theorem q1164 : (Jvm.Cond.code ({ cls := "ShorePools$Crab", name := "size", desc := "()I" } : Jvm.MethodName) prog_2_method_3_code (1 : Nat) (Option.some Jvm.ClassFile.FieldType.int)) ∈ lw_all := lw_g (lw_at lw_m5 103 rfl) rfl
theorem q1228 : (Jvm.Cond.unhidden "ShorePools$Crab" "livesIn" "(I)Z") ∈ lw_tbl := lw_at lw_m5 167 rfl
theorem q1239 : (Jvm.Cond.selects "ShorePools$Crab" ({ cls := "ShorePools$Living", name := "pool", desc := "()I" } : Jvm.MethodName) ({ cls := "ShorePools$Crab", name := "pool", desc := "()I" } : Jvm.MethodName)) ∈ lw_all := lw_g (lw_at lw_m5 178 rfl) rfl
theorem q1240 : (Jvm.Cond.unhidden "ShorePools$Crab" "pool" "()I") ∈ lw_tbl := lw_at lw_m5 179 rfl
theorem q1241 : (Jvm.Cond.instanceMethod ({ cls := "ShorePools$Crab", name := "pool", desc := "()I" } : Jvm.MethodName)) ∈ lw_all := lw_g (lw_at lw_m5 180 rfl) rfl
theorem q1242 : (Jvm.Cond.publicMethod ({ cls := "ShorePools$Crab", name := "pool", desc := "()I" } : Jvm.MethodName)) ∈ lw_tbl := lw_at lw_m5 181 rfl
theorem q1243 : (Jvm.Cond.code ({ cls := "ShorePools$Crab", name := "pool", desc := "()I" } : Jvm.MethodName) prog_2_method_4_code (1 : Nat) (Option.some Jvm.ClassFile.FieldType.int)) ∈ lw_all := lw_g (lw_at lw_m5 182 rfl) rfl
theorem q2296 : (Jvm.Cond.castable "ShorePools$Crab" "java/lang/Object") ∈ lw_tbl := lw_at lw_m10 35 rfl
theorem in_X7 : ∀ w ∈ wsX70, w ∈ lw_all := lw_in wsX70 [978, 980, 982, 984, 986] (by decide +kernel) (by decide +kernel)
/-! ShorePools$Sized -/
set_option maxRecDepth 100000
def RX8 : String := "ShorePools$Sized"
abbrev cX8_isTightFor : ByteArray := prog_8_method_3_code
def yX8_isTightFor : MethodName := ⟨RX8, "isTightFor", "(LShorePools$Sized;)Z"⟩
def dkwX8_isTightFor_0 : List UInt8 := [42, 43, 185, 0, 7, 2, 0, 156, 0, 7, 4, 167, 0, 4, 3, 172]
abbrev dktX8_isTightFor_0 : List UInt8 := dkwX8_isTightFor_0 ++ []
theorem dksX8_isTightFor_0 : cX8_isTightFor.data.toList.drop 0 = dktX8_isTightFor_0 := by decide +kernel
theorem dX8_isTightFor_0 : decode cX8_isTightFor 0 = .ok (.aload_n 0, 1) := dk_42 (dk_at dksX8_isTightFor_0 0 rfl rfl)
theorem dX8_isTightFor_1 : decode cX8_isTightFor 1 = .ok (.aload_n 1, 1) := dk_43 (dk_at dksX8_isTightFor_0 1 rfl rfl)
theorem dX8_isTightFor_2 : decode cX8_isTightFor 2 = .ok (.invokeinterface 7 2, 5) := by decide +kernel
theorem dX8_isTightFor_7 : decode cX8_isTightFor 7 = .ok (.ifCond .ge 7, 3) := dk_156 0 7 (dk_at dksX8_isTightFor_0 7 rfl rfl)
theorem dX8_isTightFor_10 : decode cX8_isTightFor 10 = .ok (.iconst 1, 1) := dk_4 (dk_at dksX8_isTightFor_0 10 rfl rfl)
theorem dX8_isTightFor_11 : decode cX8_isTightFor 11 = .ok (.goto 4, 3) := dk_167 0 4 (dk_at dksX8_isTightFor_0 11 rfl rfl)
theorem dX8_isTightFor_14 : decode cX8_isTightFor 14 = .ok (.iconst 0, 1) := dk_3 (dk_at dksX8_isTightFor_0 14 rfl rfl)
theorem dX8_isTightFor_15 : decode cX8_isTightFor 15 = .ok (.ireturn, 1) := dk_172 (dk_at dksX8_isTightFor_0 15 rfl rfl)
abbrev cX8_gapFor : ByteArray := prog_8_method_2_code
def yX8_gapFor : MethodName := ⟨RX8, "gapFor", "(LShorePools$Sized;)I"⟩
def dkwX8_gapFor_0 : List UInt8 := [42, 185, 0, 1, 1, 0, 43, 185, 0, 1, 1, 0, 100, 172]
abbrev dktX8_gapFor_0 : List UInt8 := dkwX8_gapFor_0 ++ []
theorem dksX8_gapFor_0 : cX8_gapFor.data.toList.drop 0 = dktX8_gapFor_0 := by decide +kernel
theorem dX8_gapFor_0 : decode cX8_gapFor 0 = .ok (.aload_n 0, 1) := dk_42 (dk_at dksX8_gapFor_0 0 rfl rfl)
theorem dX8_gapFor_1 : decode cX8_gapFor 1 = .ok (.invokeinterface 1 1, 5) := by decide +kernel
theorem dX8_gapFor_6 : decode cX8_gapFor 6 = .ok (.aload_n 1, 1) := dk_43 (dk_at dksX8_gapFor_0 6 rfl rfl)
theorem dX8_gapFor_7 : decode cX8_gapFor 7 = .ok (.invokeinterface 1 1, 5) := by decide +kernel
theorem dX8_gapFor_12 : decode cX8_gapFor 12 = .ok (.isub, 1) := dk_100 (dk_at dksX8_gapFor_0 12 rfl rfl)
theorem dX8_gapFor_13 : decode cX8_gapFor 13 = .ok (.ireturn, 1) := dk_172 (dk_at dksX8_gapFor_0 13 rfl rfl)
abbrev cX8_worth : ByteArray := prog_8_method_4_code
def yX8_worth : MethodName := ⟨RX8, "worth", "(LShorePools$Sized;LShorePools$Sized;)I"⟩
def dkwX8_worth_0 : List UInt8 := [42, 43, 185, 0, 7, 2, 0, 184, 0, 11, 172]
abbrev dktX8_worth_0 : List UInt8 := dkwX8_worth_0 ++ []
theorem dksX8_worth_0 : cX8_worth.data.toList.drop 0 = dktX8_worth_0 := by decide +kernel
theorem dX8_worth_0 : decode cX8_worth 0 = .ok (.aload_n 0, 1) := dk_42 (dk_at dksX8_worth_0 0 rfl rfl)
theorem dX8_worth_1 : decode cX8_worth 1 = .ok (.aload_n 1, 1) := dk_43 (dk_at dksX8_worth_0 1 rfl rfl)
theorem dX8_worth_2 : decode cX8_worth 2 = .ok (.invokeinterface 7 2, 5) := by decide +kernel
theorem dX8_worth_7 : decode cX8_worth 7 = .ok (.invokestatic 11, 3) := dk_184 0 11 (dk_at dksX8_worth_0 7 rfl rfl)
theorem dX8_worth_10 : decode cX8_worth 10 = .ok (.ireturn, 1) := dk_172 (dk_at dksX8_worth_0 10 rfl rfl)
abbrev cX8_worthOfGap : ByteArray := prog_8_method_5_code
def yX8_worthOfGap : MethodName := ⟨RX8, "worthOfGap", "(I)I"⟩
def dkwX8_worthOfGap_1 : List UInt8 := [156, 0, 8, 16, 10, 167, 0, 4, 3, 100, 172]
abbrev dktX8_worthOfGap_1 : List UInt8 := dkwX8_worthOfGap_1 ++ []
def dkwX8_worthOfGap_0 : List UInt8 := [26, 4, 164, 0, 9, 26, 4, 100, 167, 0, 6, 4, 26, 100, 60, 16, 20, 6, 27, 104, 100, 26]
abbrev dktX8_worthOfGap_0 : List UInt8 := dkwX8_worthOfGap_0 ++ dktX8_worthOfGap_1
theorem dksX8_worthOfGap_0 : cX8_worthOfGap.data.toList.drop 0 = dktX8_worthOfGap_0 := by decide +kernel
theorem dksX8_worthOfGap_1 : cX8_worthOfGap.data.toList.drop 22 = dktX8_worthOfGap_1 := dk_seg dksX8_worthOfGap_0 22 rfl rfl
theorem dX8_worthOfGap_0 : decode cX8_worthOfGap 0 = .ok (.iload_n 0, 1) := dk_26 (dk_at dksX8_worthOfGap_0 0 rfl rfl)
theorem dX8_worthOfGap_1 : decode cX8_worthOfGap 1 = .ok (.iconst 1, 1) := dk_4 (dk_at dksX8_worthOfGap_0 1 rfl rfl)
theorem dX8_worthOfGap_2 : decode cX8_worthOfGap 2 = .ok (.if_icmp .le 9, 3) := dk_164 0 9 (dk_at dksX8_worthOfGap_0 2 rfl rfl)
theorem dX8_worthOfGap_5 : decode cX8_worthOfGap 5 = .ok (.iload_n 0, 1) := dk_26 (dk_at dksX8_worthOfGap_0 5 rfl rfl)
theorem dX8_worthOfGap_6 : decode cX8_worthOfGap 6 = .ok (.iconst 1, 1) := dk_4 (dk_at dksX8_worthOfGap_0 6 rfl rfl)
theorem dX8_worthOfGap_7 : decode cX8_worthOfGap 7 = .ok (.isub, 1) := dk_100 (dk_at dksX8_worthOfGap_0 7 rfl rfl)
theorem dX8_worthOfGap_8 : decode cX8_worthOfGap 8 = .ok (.goto 6, 3) := dk_167 0 6 (dk_at dksX8_worthOfGap_0 8 rfl rfl)
theorem dX8_worthOfGap_11 : decode cX8_worthOfGap 11 = .ok (.iconst 1, 1) := dk_4 (dk_at dksX8_worthOfGap_0 11 rfl rfl)
theorem dX8_worthOfGap_12 : decode cX8_worthOfGap 12 = .ok (.iload_n 0, 1) := dk_26 (dk_at dksX8_worthOfGap_0 12 rfl rfl)
theorem dX8_worthOfGap_13 : decode cX8_worthOfGap 13 = .ok (.isub, 1) := dk_100 (dk_at dksX8_worthOfGap_0 13 rfl rfl)
theorem dX8_worthOfGap_14 : decode cX8_worthOfGap 14 = .ok (.istore_n 1, 1) := dk_60 (dk_at dksX8_worthOfGap_0 14 rfl rfl)
theorem dX8_worthOfGap_15 : decode cX8_worthOfGap 15 = .ok (.bipush 20, 2) := dk_16 20 (dk_at dksX8_worthOfGap_0 15 rfl rfl)
theorem dX8_worthOfGap_17 : decode cX8_worthOfGap 17 = .ok (.iconst 3, 1) := dk_6 (dk_at dksX8_worthOfGap_0 17 rfl rfl)
theorem dX8_worthOfGap_18 : decode cX8_worthOfGap 18 = .ok (.iload_n 1, 1) := dk_27 (dk_at dksX8_worthOfGap_0 18 rfl rfl)
theorem dX8_worthOfGap_19 : decode cX8_worthOfGap 19 = .ok (.imul, 1) := dk_104 (dk_at dksX8_worthOfGap_0 19 rfl rfl)
theorem dX8_worthOfGap_20 : decode cX8_worthOfGap 20 = .ok (.isub, 1) := dk_100 (dk_at dksX8_worthOfGap_0 20 rfl rfl)
theorem dX8_worthOfGap_21 : decode cX8_worthOfGap 21 = .ok (.iload_n 0, 1) := dk_26 (dk_at dksX8_worthOfGap_0 21 rfl rfl)
theorem dX8_worthOfGap_22 : decode cX8_worthOfGap 22 = .ok (.ifCond .ge 8, 3) := dk_156 0 8 (dk_at dksX8_worthOfGap_1 0 rfl rfl)
theorem dX8_worthOfGap_25 : decode cX8_worthOfGap 25 = .ok (.bipush 10, 2) := dk_16 10 (dk_at dksX8_worthOfGap_1 3 rfl rfl)
theorem dX8_worthOfGap_27 : decode cX8_worthOfGap 27 = .ok (.goto 4, 3) := dk_167 0 4 (dk_at dksX8_worthOfGap_1 5 rfl rfl)
theorem dX8_worthOfGap_30 : decode cX8_worthOfGap 30 = .ok (.iconst 0, 1) := dk_3 (dk_at dksX8_worthOfGap_1 8 rfl rfl)
theorem dX8_worthOfGap_31 : decode cX8_worthOfGap 31 = .ok (.isub, 1) := dk_100 (dk_at dksX8_worthOfGap_1 9 rfl rfl)
theorem dX8_worthOfGap_32 : decode cX8_worthOfGap 32 = .ok (.ireturn, 1) := dk_172 (dk_at dksX8_worthOfGap_1 10 rfl rfl)
theorem q129 : (Jvm.Cond.initialized "ShorePools$Sized") ∈ lw_all := lw_g (lw_at lw_m1 28 rfl) rfl
theorem q1142 : (Jvm.Cond.declares ({ cls := "ShorePools$Sized", name := "isTightFor", desc := "(LShorePools$Sized;)Z" } : Jvm.MethodName)) ∈ lw_tbl := lw_at lw_m5 81 rfl
theorem q1144 : (Jvm.Cond.instanceMethod ({ cls := "ShorePools$Sized", name := "isTightFor", desc := "(LShorePools$Sized;)Z" } : Jvm.MethodName)) ∈ lw_all := lw_g (lw_at lw_m5 83 rfl) rfl
theorem q1145 : (Jvm.Cond.publicMethod ({ cls := "ShorePools$Sized", name := "isTightFor", desc := "(LShorePools$Sized;)Z" } : Jvm.MethodName)) ∈ lw_tbl := lw_at lw_m5 84 rfl
theorem q1146 : (Jvm.Cond.code ({ cls := "ShorePools$Sized", name := "isTightFor", desc := "(LShorePools$Sized;)Z" } : Jvm.MethodName) prog_8_method_3_code (2 : Nat) (Option.some Jvm.ClassFile.FieldType.boolean)) ∈ lw_all := lw_g (lw_at lw_m5 85 rfl) rfl
theorem q1147 : (Jvm.Cond.interfaceEntry "ShorePools$Sized" (7 : Nat)) ∈ lw_tbl := lw_at lw_m5 86 rfl
theorem q1148 : (Jvm.Cond.methodLink "ShorePools$Sized" (7 : Nat) ({ cls := "ShorePools$Sized", name := "gapFor", desc := "(LShorePools$Sized;)I" } : Jvm.MethodName)) ∈ lw_all := lw_g (lw_at lw_m5 87 rfl) rfl
theorem q1149 : (Jvm.Cond.interfaceMethod "ShorePools$Sized" "ShorePools$Sized" "gapFor" "(LShorePools$Sized;)I") ∈ lw_tbl := lw_at lw_m5 88 rfl
theorem q1150 : (Jvm.Cond.declares ({ cls := "ShorePools$Sized", name := "gapFor", desc := "(LShorePools$Sized;)I" } : Jvm.MethodName)) ∈ lw_tbl := lw_at lw_m5 89 rfl
theorem q1153 : (Jvm.Cond.instanceMethod ({ cls := "ShorePools$Sized", name := "gapFor", desc := "(LShorePools$Sized;)I" } : Jvm.MethodName)) ∈ lw_all := lw_g (lw_at lw_m5 92 rfl) rfl
theorem q1154 : (Jvm.Cond.publicMethod ({ cls := "ShorePools$Sized", name := "gapFor", desc := "(LShorePools$Sized;)I" } : Jvm.MethodName)) ∈ lw_tbl := lw_at lw_m5 93 rfl
theorem q1155 : (Jvm.Cond.code ({ cls := "ShorePools$Sized", name := "gapFor", desc := "(LShorePools$Sized;)I" } : Jvm.MethodName) prog_8_method_2_code (2 : Nat) (Option.some Jvm.ClassFile.FieldType.int)) ∈ lw_all := lw_g (lw_at lw_m5 94 rfl) rfl
theorem q1156 : (Jvm.Cond.interfaceEntry "ShorePools$Sized" (1 : Nat)) ∈ lw_tbl := lw_at lw_m5 95 rfl
theorem q1157 : (Jvm.Cond.methodLink "ShorePools$Sized" (1 : Nat) ({ cls := "ShorePools$Sized", name := "size", desc := "()I" } : Jvm.MethodName)) ∈ lw_all := lw_g (lw_at lw_m5 96 rfl) rfl
theorem q1158 : (Jvm.Cond.interfaceMethod "ShorePools$Sized" "ShorePools$Sized" "size" "()I") ∈ lw_tbl := lw_at lw_m5 97 rfl
theorem q1159 : (Jvm.Cond.declares ({ cls := "ShorePools$Sized", name := "size", desc := "()I" } : Jvm.MethodName)) ∈ lw_tbl := lw_at lw_m5 98 rfl
theorem q1178 : (Jvm.Cond.static ({ cls := "ShorePools$Sized", name := "worth", desc := "(LShorePools$Sized;LShorePools$Sized;)I" } : Jvm.MethodName)) ∈ lw_all := lw_g (lw_at lw_m5 117 rfl) rfl
theorem q1179 : (Jvm.Cond.code ({ cls := "ShorePools$Sized", name := "worth", desc := "(LShorePools$Sized;LShorePools$Sized;)I" } : Jvm.MethodName) prog_8_method_4_code (2 : Nat) (Option.some Jvm.ClassFile.FieldType.int)) ∈ lw_all := lw_g (lw_at lw_m5 118 rfl) rfl
theorem q1180 : (Jvm.Cond.methodLink "ShorePools$Sized" (11 : Nat) ({ cls := "ShorePools$Sized", name := "worthOfGap", desc := "(I)I" } : Jvm.MethodName)) ∈ lw_all := lw_g (lw_at lw_m5 119 rfl) rfl
theorem q1181 : (Jvm.Cond.static ({ cls := "ShorePools$Sized", name := "worthOfGap", desc := "(I)I" } : Jvm.MethodName)) ∈ lw_all := lw_g (lw_at lw_m5 120 rfl) rfl
theorem q1182 : (Jvm.Cond.code ({ cls := "ShorePools$Sized", name := "worthOfGap", desc := "(I)I" } : Jvm.MethodName) prog_8_method_5_code (2 : Nat) (Option.some Jvm.ClassFile.FieldType.int)) ∈ lw_all := lw_g (lw_at lw_m5 121 rfl) rfl
/-! ShorePools$Reader -/
set_option maxRecDepth 100000
def RX9 : String := "ShorePools$Reader"
def TX9 : u_T := fun k => match k with
  | 0 => ("ShorePools$Reader", "at", "I", false)
  | 1 => ("ShorePools$Reader", "order", "Ljava/lang/String;", false)
  | 2 => ("ShorePools$Reader", "first", "I", false)
  | 3 => ("ShorePools$Reader", "second", "I", false)
  | _ => ("ShorePools$Reader", "this$0", "LShorePools;", true)
def tyX9 : Nat → FieldType := fun k => match k with
  | 0 => .int
  | 1 => .object "java/lang/String"
  | 2 => .int
  | 3 => .int
  | _ => .object "ShorePools"
abbrev wsX90 : List Cond := u_ws RX9 TX9 5
theorem nmX9 : ∀ a, a < 5 → ∀ b, b < 5 → a ≠ b → (TX9 a).2.1 ≠ (TX9 b).2.1 := by decide +kernel
theorem tyX9_ok : ∀ k, k < 5 → parseFieldDescriptor (TX9 k).2.2.1 = some (tyX9 k) := by decide +kernel
abbrev cX9_init : ByteArray := prog_5_method_1_code
def yX9_init : MethodName := ⟨RX9, "<init>", "(LShorePools;)V"⟩
def dkwX9_init_0 : List UInt8 := [42, 43, 181, 0, 3, 42, 183, 0, 9, 177]
abbrev dktX9_init_0 : List UInt8 := dkwX9_init_0 ++ []
theorem dksX9_init_0 : cX9_init.data.toList.drop 0 = dktX9_init_0 := by decide +kernel
theorem dX9_init_0 : decode cX9_init 0 = .ok (.aload_n 0, 1) := dk_42 (dk_at dksX9_init_0 0 rfl rfl)
theorem dX9_init_1 : decode cX9_init 1 = .ok (.aload_n 1, 1) := dk_43 (dk_at dksX9_init_0 1 rfl rfl)
theorem dX9_init_2 : decode cX9_init 2 = .ok (.putfield 3, 3) := dk_181 0 3 (dk_at dksX9_init_0 2 rfl rfl)
theorem dX9_init_5 : decode cX9_init 5 = .ok (.aload_n 0, 1) := dk_42 (dk_at dksX9_init_0 5 rfl rfl)
theorem dX9_init_6 : decode cX9_init 6 = .ok (.invokespecial 9, 3) := dk_183 0 9 (dk_at dksX9_init_0 6 rfl rfl)
theorem dX9_init_9 : decode cX9_init 9 = .ok (.return_, 1) := dk_177 (dk_at dksX9_init_0 9 rfl rfl)
abbrev cX9_error : ByteArray := prog_5_method_10_code
def yX9_error : MethodName := ⟨RX9, "error", "()I"⟩
def dkwX9_error_2 : List UInt8 := [172]
abbrev dktX9_error_2 : List UInt8 := dkwX9_error_2 ++ []
def dkwX9_error_1 : List UInt8 := [180, 0, 15, 42, 180, 0, 3, 180, 0, 19, 182, 0, 23, 160, 0, 7, 2, 167, 0, 7, 42, 180, 0, 15]
abbrev dktX9_error_1 : List UInt8 := dkwX9_error_1 ++ dktX9_error_2
def dkwX9_error_0 : List UInt8 := [42, 182, 0, 93, 154, 0, 8, 42, 180, 0, 15, 172, 42, 16, 59, 182, 0, 51, 154, 255, 238, 42]
abbrev dktX9_error_0 : List UInt8 := dkwX9_error_0 ++ dktX9_error_1
theorem dksX9_error_0 : cX9_error.data.toList.drop 0 = dktX9_error_0 := by decide +kernel
theorem dksX9_error_1 : cX9_error.data.toList.drop 22 = dktX9_error_1 := dk_seg dksX9_error_0 22 rfl rfl
theorem dksX9_error_2 : cX9_error.data.toList.drop 46 = dktX9_error_2 := dk_seg dksX9_error_1 24 rfl rfl
theorem dX9_error_0 : decode cX9_error 0 = .ok (.aload_n 0, 1) := dk_42 (dk_at dksX9_error_0 0 rfl rfl)
theorem dX9_error_1 : decode cX9_error 1 = .ok (.invokevirtual 93, 3) := dk_182 0 93 (dk_at dksX9_error_0 1 rfl rfl)
theorem dX9_error_4 : decode cX9_error 4 = .ok (.ifCond .ne 8, 3) := dk_154 0 8 (dk_at dksX9_error_0 4 rfl rfl)
theorem dX9_error_7 : decode cX9_error 7 = .ok (.aload_n 0, 1) := dk_42 (dk_at dksX9_error_0 7 rfl rfl)
theorem dX9_error_8 : decode cX9_error 8 = .ok (.getfield 15, 3) := dk_180 0 15 (dk_at dksX9_error_0 8 rfl rfl)
theorem dX9_error_11 : decode cX9_error 11 = .ok (.ireturn, 1) := dk_172 (dk_at dksX9_error_0 11 rfl rfl)
theorem dX9_error_12 : decode cX9_error 12 = .ok (.aload_n 0, 1) := dk_42 (dk_at dksX9_error_0 12 rfl rfl)
theorem dX9_error_13 : decode cX9_error 13 = .ok (.bipush 59, 2) := dk_16 59 (dk_at dksX9_error_0 13 rfl rfl)
theorem dX9_error_15 : decode cX9_error 15 = .ok (.invokevirtual 51, 3) := dk_182 0 51 (dk_at dksX9_error_0 15 rfl rfl)
theorem dX9_error_18 : decode cX9_error 18 = .ok (.ifCond .ne (-18), 3) := dk_154 255 238 (dk_at dksX9_error_0 18 rfl rfl)
theorem dX9_error_21 : decode cX9_error 21 = .ok (.aload_n 0, 1) := dk_42 (dk_at dksX9_error_0 21 rfl rfl)
theorem dX9_error_22 : decode cX9_error 22 = .ok (.getfield 15, 3) := dk_180 0 15 (dk_at dksX9_error_1 0 rfl rfl)
theorem dX9_error_25 : decode cX9_error 25 = .ok (.aload_n 0, 1) := dk_42 (dk_at dksX9_error_1 3 rfl rfl)
theorem dX9_error_26 : decode cX9_error 26 = .ok (.getfield 3, 3) := dk_180 0 3 (dk_at dksX9_error_1 4 rfl rfl)
theorem dX9_error_29 : decode cX9_error 29 = .ok (.getfield 19, 3) := dk_180 0 19 (dk_at dksX9_error_1 7 rfl rfl)
theorem dX9_error_32 : decode cX9_error 32 = .ok (.invokevirtual 23, 3) := dk_182 0 23 (dk_at dksX9_error_1 10 rfl rfl)
theorem dX9_error_35 : decode cX9_error 35 = .ok (.if_icmp .ne 7, 3) := dk_160 0 7 (dk_at dksX9_error_1 13 rfl rfl)
theorem dX9_error_38 : decode cX9_error 38 = .ok (.iconst (-1), 1) := dk_2 (dk_at dksX9_error_1 16 rfl rfl)
theorem dX9_error_39 : decode cX9_error 39 = .ok (.goto 7, 3) := dk_167 0 7 (dk_at dksX9_error_1 17 rfl rfl)
theorem dX9_error_42 : decode cX9_error 42 = .ok (.aload_n 0, 1) := dk_42 (dk_at dksX9_error_1 20 rfl rfl)
theorem dX9_error_43 : decode cX9_error 43 = .ok (.getfield 15, 3) := dk_180 0 15 (dk_at dksX9_error_1 21 rfl rfl)
theorem dX9_error_46 : decode cX9_error 46 = .ok (.ireturn, 1) := dk_172 (dk_at dksX9_error_2 0 rfl rfl)
abbrev cX9_readOrder : ByteArray := prog_5_method_9_code
def yX9_readOrder : MethodName := ⟨RX9, "readOrder", "()Z"⟩
def dkwX9_readOrder_10 : List UInt8 := [182, 0, 90, 172, 42, 4, 16, 99, 182, 0, 55, 172, 42, 89, 180, 0, 15, 4, 100, 181, 0, 15, 3, 172]
abbrev dktX9_readOrder_10 : List UInt8 := dkwX9_readOrder_10 ++ []
def dkwX9_readOrder_9 : List UInt8 := [42, 182, 0, 47, 172, 42, 4, 16, 20, 182, 0, 87, 172, 42, 3, 16, 60, 182, 0, 87, 172, 42]
abbrev dktX9_readOrder_9 : List UInt8 := dkwX9_readOrder_9 ++ dktX9_readOrder_10
def dkwX9_readOrder_8 : List UInt8 := [170, 0, 0, 0, 0, 72, 0, 0, 0, 0, 0, 0, 0, 5, 0, 0, 0, 38, 0, 0, 0, 43, 0, 0, 0, 43, 0, 0, 0, 51, 0, 0, 0, 59, 0, 0, 0, 64]
abbrev dktX9_readOrder_8 : List UInt8 := dkwX9_readOrder_8 ++ dktX9_readOrder_9
def dkwX9_readOrder_7 : List UInt8 := [18, 85, 182, 0, 73, 153, 0, 5, 8, 61, 28]
abbrev dktX9_readOrder_7 : List UInt8 := dkwX9_readOrder_7 ++ dktX9_readOrder_8
def dkwX9_readOrder_6 : List UInt8 := [153, 0, 33, 6, 61, 167, 0, 28, 43, 18, 83, 182, 0, 73, 153, 0, 19, 7, 61, 167, 0, 14, 43]
abbrev dktX9_readOrder_6 : List UInt8 := dkwX9_readOrder_6 ++ dktX9_readOrder_7
def dkwX9_readOrder_5 : List UInt8 := [61, 167, 0, 56, 43, 18, 79, 182, 0, 73, 153, 0, 47, 5, 61, 167, 0, 42, 43, 18, 81, 182, 0, 73]
abbrev dktX9_readOrder_5 : List UInt8 := dkwX9_readOrder_5 ++ dktX9_readOrder_6
def dkwX9_readOrder_4 : List UInt8 := [43, 18, 71, 182, 0, 73, 153, 0, 75, 3, 61, 167, 0, 70, 43, 18, 77, 182, 0, 73, 153, 0, 61, 4]
abbrev dktX9_readOrder_4 : List UInt8 := dkwX9_readOrder_4 ++ dktX9_readOrder_5
def dkwX9_readOrder_3 : List UInt8 := [171, 0, 0, 0, 0, 0, 0, 141, 0, 0, 0, 6, 0, 0, 0, 99, 0, 0, 0, 74, 0, 0, 0, 104, 0, 0, 0, 102, 0, 0, 0, 108, 0, 0, 0, 60, 0, 0, 0, 115, 0, 0, 0, 88, 0, 0, 0, 116, 0, 0, 0, 116, 0, 0, 0, 119, 0, 0, 0, 130]
abbrev dktX9_readOrder_3 : List UInt8 := dkwX9_readOrder_3 ++ dktX9_readOrder_4
def dkwX9_readOrder_2 : List UInt8 := [4, 96, 181, 0, 15, 42, 180, 0, 62, 76, 2, 61, 43, 182, 0, 66]
abbrev dktX9_readOrder_2 : List UInt8 := dkwX9_readOrder_2 ++ dktX9_readOrder_3
def dkwX9_readOrder_1 : List UInt8 := [180, 0, 19, 42, 180, 0, 15, 42, 180, 0, 15, 4, 96, 182, 0, 58, 181, 0, 62, 42, 89, 180, 0, 15]
abbrev dktX9_readOrder_1 : List UInt8 := dkwX9_readOrder_1 ++ dktX9_readOrder_2
def dkwX9_readOrder_0 : List UInt8 := [42, 180, 0, 15, 42, 180, 0, 3, 180, 0, 19, 182, 0, 23, 160, 0, 5, 3, 172, 42, 42, 180, 0, 3]
abbrev dktX9_readOrder_0 : List UInt8 := dkwX9_readOrder_0 ++ dktX9_readOrder_1
theorem dksX9_readOrder_0 : cX9_readOrder.data.toList.drop 0 = dktX9_readOrder_0 := by decide +kernel
theorem dksX9_readOrder_1 : cX9_readOrder.data.toList.drop 24 = dktX9_readOrder_1 := dk_seg dksX9_readOrder_0 24 rfl rfl
theorem dksX9_readOrder_2 : cX9_readOrder.data.toList.drop 48 = dktX9_readOrder_2 := dk_seg dksX9_readOrder_1 24 rfl rfl
theorem dksX9_readOrder_3 : cX9_readOrder.data.toList.drop 64 = dktX9_readOrder_3 := dk_seg dksX9_readOrder_2 16 rfl rfl
theorem dksX9_readOrder_4 : cX9_readOrder.data.toList.drop 124 = dktX9_readOrder_4 := dk_seg dksX9_readOrder_3 60 rfl rfl
theorem dksX9_readOrder_5 : cX9_readOrder.data.toList.drop 148 = dktX9_readOrder_5 := dk_seg dksX9_readOrder_4 24 rfl rfl
theorem dksX9_readOrder_6 : cX9_readOrder.data.toList.drop 172 = dktX9_readOrder_6 := dk_seg dksX9_readOrder_5 24 rfl rfl
theorem dksX9_readOrder_7 : cX9_readOrder.data.toList.drop 195 = dktX9_readOrder_7 := dk_seg dksX9_readOrder_6 23 rfl rfl
theorem dksX9_readOrder_8 : cX9_readOrder.data.toList.drop 206 = dktX9_readOrder_8 := dk_seg dksX9_readOrder_7 11 rfl rfl
theorem dksX9_readOrder_9 : cX9_readOrder.data.toList.drop 244 = dktX9_readOrder_9 := dk_seg dksX9_readOrder_8 38 rfl rfl
theorem dksX9_readOrder_10 : cX9_readOrder.data.toList.drop 266 = dktX9_readOrder_10 := dk_seg dksX9_readOrder_9 22 rfl rfl
theorem dX9_readOrder_0 : decode cX9_readOrder 0 = .ok (.aload_n 0, 1) := dk_42 (dk_at dksX9_readOrder_0 0 rfl rfl)
theorem dX9_readOrder_1 : decode cX9_readOrder 1 = .ok (.getfield 15, 3) := dk_180 0 15 (dk_at dksX9_readOrder_0 1 rfl rfl)
theorem dX9_readOrder_4 : decode cX9_readOrder 4 = .ok (.aload_n 0, 1) := dk_42 (dk_at dksX9_readOrder_0 4 rfl rfl)
theorem dX9_readOrder_5 : decode cX9_readOrder 5 = .ok (.getfield 3, 3) := dk_180 0 3 (dk_at dksX9_readOrder_0 5 rfl rfl)
theorem dX9_readOrder_8 : decode cX9_readOrder 8 = .ok (.getfield 19, 3) := dk_180 0 19 (dk_at dksX9_readOrder_0 8 rfl rfl)
theorem dX9_readOrder_11 : decode cX9_readOrder 11 = .ok (.invokevirtual 23, 3) := dk_182 0 23 (dk_at dksX9_readOrder_0 11 rfl rfl)
theorem dX9_readOrder_14 : decode cX9_readOrder 14 = .ok (.if_icmp .ne 5, 3) := dk_160 0 5 (dk_at dksX9_readOrder_0 14 rfl rfl)
theorem dX9_readOrder_17 : decode cX9_readOrder 17 = .ok (.iconst 0, 1) := dk_3 (dk_at dksX9_readOrder_0 17 rfl rfl)
theorem dX9_readOrder_18 : decode cX9_readOrder 18 = .ok (.ireturn, 1) := dk_172 (dk_at dksX9_readOrder_0 18 rfl rfl)
theorem dX9_readOrder_19 : decode cX9_readOrder 19 = .ok (.aload_n 0, 1) := dk_42 (dk_at dksX9_readOrder_0 19 rfl rfl)
theorem dX9_readOrder_20 : decode cX9_readOrder 20 = .ok (.aload_n 0, 1) := dk_42 (dk_at dksX9_readOrder_0 20 rfl rfl)
theorem dX9_readOrder_21 : decode cX9_readOrder 21 = .ok (.getfield 3, 3) := dk_180 0 3 (dk_at dksX9_readOrder_0 21 rfl rfl)
theorem dX9_readOrder_24 : decode cX9_readOrder 24 = .ok (.getfield 19, 3) := dk_180 0 19 (dk_at dksX9_readOrder_1 0 rfl rfl)
theorem dX9_readOrder_27 : decode cX9_readOrder 27 = .ok (.aload_n 0, 1) := dk_42 (dk_at dksX9_readOrder_1 3 rfl rfl)
theorem dX9_readOrder_28 : decode cX9_readOrder 28 = .ok (.getfield 15, 3) := dk_180 0 15 (dk_at dksX9_readOrder_1 4 rfl rfl)
theorem dX9_readOrder_31 : decode cX9_readOrder 31 = .ok (.aload_n 0, 1) := dk_42 (dk_at dksX9_readOrder_1 7 rfl rfl)
theorem dX9_readOrder_32 : decode cX9_readOrder 32 = .ok (.getfield 15, 3) := dk_180 0 15 (dk_at dksX9_readOrder_1 8 rfl rfl)
theorem dX9_readOrder_35 : decode cX9_readOrder 35 = .ok (.iconst 1, 1) := dk_4 (dk_at dksX9_readOrder_1 11 rfl rfl)
theorem dX9_readOrder_36 : decode cX9_readOrder 36 = .ok (.iadd, 1) := dk_96 (dk_at dksX9_readOrder_1 12 rfl rfl)
theorem dX9_readOrder_37 : decode cX9_readOrder 37 = .ok (.invokevirtual 58, 3) := dk_182 0 58 (dk_at dksX9_readOrder_1 13 rfl rfl)
theorem dX9_readOrder_40 : decode cX9_readOrder 40 = .ok (.putfield 62, 3) := dk_181 0 62 (dk_at dksX9_readOrder_1 16 rfl rfl)
theorem dX9_readOrder_43 : decode cX9_readOrder 43 = .ok (.aload_n 0, 1) := dk_42 (dk_at dksX9_readOrder_1 19 rfl rfl)
theorem dX9_readOrder_44 : decode cX9_readOrder 44 = .ok (.dup, 1) := dk_89 (dk_at dksX9_readOrder_1 20 rfl rfl)
theorem dX9_readOrder_45 : decode cX9_readOrder 45 = .ok (.getfield 15, 3) := dk_180 0 15 (dk_at dksX9_readOrder_1 21 rfl rfl)
theorem dX9_readOrder_48 : decode cX9_readOrder 48 = .ok (.iconst 1, 1) := dk_4 (dk_at dksX9_readOrder_2 0 rfl rfl)
theorem dX9_readOrder_49 : decode cX9_readOrder 49 = .ok (.iadd, 1) := dk_96 (dk_at dksX9_readOrder_2 1 rfl rfl)
theorem dX9_readOrder_50 : decode cX9_readOrder 50 = .ok (.putfield 15, 3) := dk_181 0 15 (dk_at dksX9_readOrder_2 2 rfl rfl)
theorem dX9_readOrder_53 : decode cX9_readOrder 53 = .ok (.aload_n 0, 1) := dk_42 (dk_at dksX9_readOrder_2 5 rfl rfl)
theorem dX9_readOrder_54 : decode cX9_readOrder 54 = .ok (.getfield 62, 3) := dk_180 0 62 (dk_at dksX9_readOrder_2 6 rfl rfl)
theorem dX9_readOrder_57 : decode cX9_readOrder 57 = .ok (.astore_n 1, 1) := dk_76 (dk_at dksX9_readOrder_2 9 rfl rfl)
theorem dX9_readOrder_58 : decode cX9_readOrder 58 = .ok (.iconst (-1), 1) := dk_2 (dk_at dksX9_readOrder_2 10 rfl rfl)
theorem dX9_readOrder_59 : decode cX9_readOrder 59 = .ok (.istore_n 2, 1) := dk_61 (dk_at dksX9_readOrder_2 11 rfl rfl)
theorem dX9_readOrder_60 : decode cX9_readOrder 60 = .ok (.aload_n 1, 1) := dk_43 (dk_at dksX9_readOrder_2 12 rfl rfl)
theorem dX9_readOrder_61 : decode cX9_readOrder 61 = .ok (.invokevirtual 66, 3) := dk_182 0 66 (dk_at dksX9_readOrder_2 13 rfl rfl)
theorem dX9_readOrder_64 : decode cX9_readOrder 64 = .ok (.lookupswitch 141 #[(99, 74), (104, 102), (108, 60), (115, 88), (116, 116), (119, 130)], 60) := by decide +kernel
theorem dX9_readOrder_124 : decode cX9_readOrder 124 = .ok (.aload_n 1, 1) := dk_43 (dk_at dksX9_readOrder_4 0 rfl rfl)
theorem dX9_readOrder_125 : decode cX9_readOrder 125 = .ok (.ldc 71, 2) := dk_18 71 (dk_at dksX9_readOrder_4 1 rfl rfl)
theorem dX9_readOrder_127 : decode cX9_readOrder 127 = .ok (.invokevirtual 73, 3) := dk_182 0 73 (dk_at dksX9_readOrder_4 3 rfl rfl)
theorem dX9_readOrder_130 : decode cX9_readOrder 130 = .ok (.ifCond .eq 75, 3) := dk_153 0 75 (dk_at dksX9_readOrder_4 6 rfl rfl)
theorem dX9_readOrder_133 : decode cX9_readOrder 133 = .ok (.iconst 0, 1) := dk_3 (dk_at dksX9_readOrder_4 9 rfl rfl)
theorem dX9_readOrder_134 : decode cX9_readOrder 134 = .ok (.istore_n 2, 1) := dk_61 (dk_at dksX9_readOrder_4 10 rfl rfl)
theorem dX9_readOrder_135 : decode cX9_readOrder 135 = .ok (.goto 70, 3) := dk_167 0 70 (dk_at dksX9_readOrder_4 11 rfl rfl)
theorem dX9_readOrder_138 : decode cX9_readOrder 138 = .ok (.aload_n 1, 1) := dk_43 (dk_at dksX9_readOrder_4 14 rfl rfl)
theorem dX9_readOrder_139 : decode cX9_readOrder 139 = .ok (.ldc 77, 2) := dk_18 77 (dk_at dksX9_readOrder_4 15 rfl rfl)
theorem dX9_readOrder_141 : decode cX9_readOrder 141 = .ok (.invokevirtual 73, 3) := dk_182 0 73 (dk_at dksX9_readOrder_4 17 rfl rfl)
theorem dX9_readOrder_144 : decode cX9_readOrder 144 = .ok (.ifCond .eq 61, 3) := dk_153 0 61 (dk_at dksX9_readOrder_4 20 rfl rfl)
theorem dX9_readOrder_147 : decode cX9_readOrder 147 = .ok (.iconst 1, 1) := dk_4 (dk_at dksX9_readOrder_4 23 rfl rfl)
theorem dX9_readOrder_148 : decode cX9_readOrder 148 = .ok (.istore_n 2, 1) := dk_61 (dk_at dksX9_readOrder_5 0 rfl rfl)
theorem dX9_readOrder_149 : decode cX9_readOrder 149 = .ok (.goto 56, 3) := dk_167 0 56 (dk_at dksX9_readOrder_5 1 rfl rfl)
theorem dX9_readOrder_152 : decode cX9_readOrder 152 = .ok (.aload_n 1, 1) := dk_43 (dk_at dksX9_readOrder_5 4 rfl rfl)
theorem dX9_readOrder_153 : decode cX9_readOrder 153 = .ok (.ldc 79, 2) := dk_18 79 (dk_at dksX9_readOrder_5 5 rfl rfl)
theorem dX9_readOrder_155 : decode cX9_readOrder 155 = .ok (.invokevirtual 73, 3) := dk_182 0 73 (dk_at dksX9_readOrder_5 7 rfl rfl)
theorem dX9_readOrder_158 : decode cX9_readOrder 158 = .ok (.ifCond .eq 47, 3) := dk_153 0 47 (dk_at dksX9_readOrder_5 10 rfl rfl)
theorem dX9_readOrder_161 : decode cX9_readOrder 161 = .ok (.iconst 2, 1) := dk_5 (dk_at dksX9_readOrder_5 13 rfl rfl)
theorem dX9_readOrder_162 : decode cX9_readOrder 162 = .ok (.istore_n 2, 1) := dk_61 (dk_at dksX9_readOrder_5 14 rfl rfl)
theorem dX9_readOrder_163 : decode cX9_readOrder 163 = .ok (.goto 42, 3) := dk_167 0 42 (dk_at dksX9_readOrder_5 15 rfl rfl)
theorem dX9_readOrder_166 : decode cX9_readOrder 166 = .ok (.aload_n 1, 1) := dk_43 (dk_at dksX9_readOrder_5 18 rfl rfl)
theorem dX9_readOrder_167 : decode cX9_readOrder 167 = .ok (.ldc 81, 2) := dk_18 81 (dk_at dksX9_readOrder_5 19 rfl rfl)
theorem dX9_readOrder_169 : decode cX9_readOrder 169 = .ok (.invokevirtual 73, 3) := dk_182 0 73 (dk_at dksX9_readOrder_5 21 rfl rfl)
theorem dX9_readOrder_172 : decode cX9_readOrder 172 = .ok (.ifCond .eq 33, 3) := dk_153 0 33 (dk_at dksX9_readOrder_6 0 rfl rfl)
theorem dX9_readOrder_175 : decode cX9_readOrder 175 = .ok (.iconst 3, 1) := dk_6 (dk_at dksX9_readOrder_6 3 rfl rfl)
theorem dX9_readOrder_176 : decode cX9_readOrder 176 = .ok (.istore_n 2, 1) := dk_61 (dk_at dksX9_readOrder_6 4 rfl rfl)
theorem dX9_readOrder_177 : decode cX9_readOrder 177 = .ok (.goto 28, 3) := dk_167 0 28 (dk_at dksX9_readOrder_6 5 rfl rfl)
theorem dX9_readOrder_180 : decode cX9_readOrder 180 = .ok (.aload_n 1, 1) := dk_43 (dk_at dksX9_readOrder_6 8 rfl rfl)
theorem dX9_readOrder_181 : decode cX9_readOrder 181 = .ok (.ldc 83, 2) := dk_18 83 (dk_at dksX9_readOrder_6 9 rfl rfl)
theorem dX9_readOrder_183 : decode cX9_readOrder 183 = .ok (.invokevirtual 73, 3) := dk_182 0 73 (dk_at dksX9_readOrder_6 11 rfl rfl)
theorem dX9_readOrder_186 : decode cX9_readOrder 186 = .ok (.ifCond .eq 19, 3) := dk_153 0 19 (dk_at dksX9_readOrder_6 14 rfl rfl)
theorem dX9_readOrder_189 : decode cX9_readOrder 189 = .ok (.iconst 4, 1) := dk_7 (dk_at dksX9_readOrder_6 17 rfl rfl)
theorem dX9_readOrder_190 : decode cX9_readOrder 190 = .ok (.istore_n 2, 1) := dk_61 (dk_at dksX9_readOrder_6 18 rfl rfl)
theorem dX9_readOrder_191 : decode cX9_readOrder 191 = .ok (.goto 14, 3) := dk_167 0 14 (dk_at dksX9_readOrder_6 19 rfl rfl)
theorem dX9_readOrder_194 : decode cX9_readOrder 194 = .ok (.aload_n 1, 1) := dk_43 (dk_at dksX9_readOrder_6 22 rfl rfl)
theorem dX9_readOrder_195 : decode cX9_readOrder 195 = .ok (.ldc 85, 2) := dk_18 85 (dk_at dksX9_readOrder_7 0 rfl rfl)
theorem dX9_readOrder_197 : decode cX9_readOrder 197 = .ok (.invokevirtual 73, 3) := dk_182 0 73 (dk_at dksX9_readOrder_7 2 rfl rfl)
theorem dX9_readOrder_200 : decode cX9_readOrder 200 = .ok (.ifCond .eq 5, 3) := dk_153 0 5 (dk_at dksX9_readOrder_7 5 rfl rfl)
theorem dX9_readOrder_203 : decode cX9_readOrder 203 = .ok (.iconst 5, 1) := dk_8 (dk_at dksX9_readOrder_7 8 rfl rfl)
theorem dX9_readOrder_204 : decode cX9_readOrder 204 = .ok (.istore_n 2, 1) := dk_61 (dk_at dksX9_readOrder_7 9 rfl rfl)
theorem dX9_readOrder_205 : decode cX9_readOrder 205 = .ok (.iload_n 2, 1) := dk_28 (dk_at dksX9_readOrder_7 10 rfl rfl)
theorem dX9_readOrder_206 : decode cX9_readOrder 206 = .ok (.tableswitch 72 0 5 #[38, 43, 43, 51, 59, 64], 38) := by decide +kernel
theorem dX9_readOrder_244 : decode cX9_readOrder 244 = .ok (.aload_n 0, 1) := dk_42 (dk_at dksX9_readOrder_9 0 rfl rfl)
theorem dX9_readOrder_245 : decode cX9_readOrder 245 = .ok (.invokevirtual 47, 3) := dk_182 0 47 (dk_at dksX9_readOrder_9 1 rfl rfl)
theorem dX9_readOrder_248 : decode cX9_readOrder 248 = .ok (.ireturn, 1) := dk_172 (dk_at dksX9_readOrder_9 4 rfl rfl)
theorem dX9_readOrder_249 : decode cX9_readOrder 249 = .ok (.aload_n 0, 1) := dk_42 (dk_at dksX9_readOrder_9 5 rfl rfl)
theorem dX9_readOrder_250 : decode cX9_readOrder 250 = .ok (.iconst 1, 1) := dk_4 (dk_at dksX9_readOrder_9 6 rfl rfl)
theorem dX9_readOrder_251 : decode cX9_readOrder 251 = .ok (.bipush 20, 2) := dk_16 20 (dk_at dksX9_readOrder_9 7 rfl rfl)
theorem dX9_readOrder_253 : decode cX9_readOrder 253 = .ok (.invokevirtual 87, 3) := dk_182 0 87 (dk_at dksX9_readOrder_9 9 rfl rfl)
theorem dX9_readOrder_256 : decode cX9_readOrder 256 = .ok (.ireturn, 1) := dk_172 (dk_at dksX9_readOrder_9 12 rfl rfl)
theorem dX9_readOrder_257 : decode cX9_readOrder 257 = .ok (.aload_n 0, 1) := dk_42 (dk_at dksX9_readOrder_9 13 rfl rfl)
theorem dX9_readOrder_258 : decode cX9_readOrder 258 = .ok (.iconst 0, 1) := dk_3 (dk_at dksX9_readOrder_9 14 rfl rfl)
theorem dX9_readOrder_259 : decode cX9_readOrder 259 = .ok (.bipush 60, 2) := dk_16 60 (dk_at dksX9_readOrder_9 15 rfl rfl)
theorem dX9_readOrder_261 : decode cX9_readOrder 261 = .ok (.invokevirtual 87, 3) := dk_182 0 87 (dk_at dksX9_readOrder_9 17 rfl rfl)
theorem dX9_readOrder_264 : decode cX9_readOrder 264 = .ok (.ireturn, 1) := dk_172 (dk_at dksX9_readOrder_9 20 rfl rfl)
theorem dX9_readOrder_265 : decode cX9_readOrder 265 = .ok (.aload_n 0, 1) := dk_42 (dk_at dksX9_readOrder_9 21 rfl rfl)
theorem dX9_readOrder_266 : decode cX9_readOrder 266 = .ok (.invokevirtual 90, 3) := dk_182 0 90 (dk_at dksX9_readOrder_10 0 rfl rfl)
theorem dX9_readOrder_269 : decode cX9_readOrder 269 = .ok (.ireturn, 1) := dk_172 (dk_at dksX9_readOrder_10 3 rfl rfl)
theorem dX9_readOrder_270 : decode cX9_readOrder 270 = .ok (.aload_n 0, 1) := dk_42 (dk_at dksX9_readOrder_10 4 rfl rfl)
theorem dX9_readOrder_271 : decode cX9_readOrder 271 = .ok (.iconst 1, 1) := dk_4 (dk_at dksX9_readOrder_10 5 rfl rfl)
theorem dX9_readOrder_272 : decode cX9_readOrder 272 = .ok (.bipush 99, 2) := dk_16 99 (dk_at dksX9_readOrder_10 6 rfl rfl)
theorem dX9_readOrder_274 : decode cX9_readOrder 274 = .ok (.invokevirtual 55, 3) := dk_182 0 55 (dk_at dksX9_readOrder_10 8 rfl rfl)
theorem dX9_readOrder_277 : decode cX9_readOrder 277 = .ok (.ireturn, 1) := dk_172 (dk_at dksX9_readOrder_10 11 rfl rfl)
theorem dX9_readOrder_278 : decode cX9_readOrder 278 = .ok (.aload_n 0, 1) := dk_42 (dk_at dksX9_readOrder_10 12 rfl rfl)
theorem dX9_readOrder_279 : decode cX9_readOrder 279 = .ok (.dup, 1) := dk_89 (dk_at dksX9_readOrder_10 13 rfl rfl)
theorem dX9_readOrder_280 : decode cX9_readOrder 280 = .ok (.getfield 15, 3) := dk_180 0 15 (dk_at dksX9_readOrder_10 14 rfl rfl)
theorem dX9_readOrder_283 : decode cX9_readOrder 283 = .ok (.iconst 1, 1) := dk_4 (dk_at dksX9_readOrder_10 17 rfl rfl)
theorem dX9_readOrder_284 : decode cX9_readOrder 284 = .ok (.isub, 1) := dk_100 (dk_at dksX9_readOrder_10 18 rfl rfl)
theorem dX9_readOrder_285 : decode cX9_readOrder 285 = .ok (.putfield 15, 3) := dk_181 0 15 (dk_at dksX9_readOrder_10 19 rfl rfl)
theorem dX9_readOrder_288 : decode cX9_readOrder 288 = .ok (.iconst 0, 1) := dk_3 (dk_at dksX9_readOrder_10 22 rfl rfl)
theorem dX9_readOrder_289 : decode cX9_readOrder 289 = .ok (.ireturn, 1) := dk_172 (dk_at dksX9_readOrder_10 23 rfl rfl)
abbrev cX9_readPool : ByteArray := prog_5_method_6_code
def yX9_readPool : MethodName := ⟨RX9, "readPool", "()Z"⟩
def dkwX9_readPool_1 : List UInt8 := [180, 0, 15, 90, 4, 96, 181, 0, 15, 182, 0, 29, 16, 48, 100, 181, 0, 44, 4, 172]
abbrev dktX9_readPool_1 : List UInt8 := dkwX9_readPool_1 ++ []
def dkwX9_readPool_0 : List UInt8 := [42, 16, 48, 16, 55, 182, 0, 33, 154, 0, 5, 3, 172, 42, 42, 180, 0, 3, 180, 0, 19, 42, 89]
abbrev dktX9_readPool_0 : List UInt8 := dkwX9_readPool_0 ++ dktX9_readPool_1
theorem dksX9_readPool_0 : cX9_readPool.data.toList.drop 0 = dktX9_readPool_0 := by decide +kernel
theorem dksX9_readPool_1 : cX9_readPool.data.toList.drop 23 = dktX9_readPool_1 := dk_seg dksX9_readPool_0 23 rfl rfl
theorem dX9_readPool_0 : decode cX9_readPool 0 = .ok (.aload_n 0, 1) := dk_42 (dk_at dksX9_readPool_0 0 rfl rfl)
theorem dX9_readPool_1 : decode cX9_readPool 1 = .ok (.bipush 48, 2) := dk_16 48 (dk_at dksX9_readPool_0 1 rfl rfl)
theorem dX9_readPool_3 : decode cX9_readPool 3 = .ok (.bipush 55, 2) := dk_16 55 (dk_at dksX9_readPool_0 3 rfl rfl)
theorem dX9_readPool_5 : decode cX9_readPool 5 = .ok (.invokevirtual 33, 3) := dk_182 0 33 (dk_at dksX9_readPool_0 5 rfl rfl)
theorem dX9_readPool_8 : decode cX9_readPool 8 = .ok (.ifCond .ne 5, 3) := dk_154 0 5 (dk_at dksX9_readPool_0 8 rfl rfl)
theorem dX9_readPool_11 : decode cX9_readPool 11 = .ok (.iconst 0, 1) := dk_3 (dk_at dksX9_readPool_0 11 rfl rfl)
theorem dX9_readPool_12 : decode cX9_readPool 12 = .ok (.ireturn, 1) := dk_172 (dk_at dksX9_readPool_0 12 rfl rfl)
theorem dX9_readPool_13 : decode cX9_readPool 13 = .ok (.aload_n 0, 1) := dk_42 (dk_at dksX9_readPool_0 13 rfl rfl)
theorem dX9_readPool_14 : decode cX9_readPool 14 = .ok (.aload_n 0, 1) := dk_42 (dk_at dksX9_readPool_0 14 rfl rfl)
theorem dX9_readPool_15 : decode cX9_readPool 15 = .ok (.getfield 3, 3) := dk_180 0 3 (dk_at dksX9_readPool_0 15 rfl rfl)
theorem dX9_readPool_18 : decode cX9_readPool 18 = .ok (.getfield 19, 3) := dk_180 0 19 (dk_at dksX9_readPool_0 18 rfl rfl)
theorem dX9_readPool_21 : decode cX9_readPool 21 = .ok (.aload_n 0, 1) := dk_42 (dk_at dksX9_readPool_0 21 rfl rfl)
theorem dX9_readPool_22 : decode cX9_readPool 22 = .ok (.dup, 1) := dk_89 (dk_at dksX9_readPool_0 22 rfl rfl)
theorem dX9_readPool_23 : decode cX9_readPool 23 = .ok (.getfield 15, 3) := dk_180 0 15 (dk_at dksX9_readPool_1 0 rfl rfl)
theorem dX9_readPool_26 : decode cX9_readPool 26 = .ok (.dup_x1, 1) := dk_90 (dk_at dksX9_readPool_1 3 rfl rfl)
theorem dX9_readPool_27 : decode cX9_readPool 27 = .ok (.iconst 1, 1) := dk_4 (dk_at dksX9_readPool_1 4 rfl rfl)
theorem dX9_readPool_28 : decode cX9_readPool 28 = .ok (.iadd, 1) := dk_96 (dk_at dksX9_readPool_1 5 rfl rfl)
theorem dX9_readPool_29 : decode cX9_readPool 29 = .ok (.putfield 15, 3) := dk_181 0 15 (dk_at dksX9_readPool_1 6 rfl rfl)
theorem dX9_readPool_32 : decode cX9_readPool 32 = .ok (.invokevirtual 29, 3) := dk_182 0 29 (dk_at dksX9_readPool_1 9 rfl rfl)
theorem dX9_readPool_35 : decode cX9_readPool 35 = .ok (.bipush 48, 2) := dk_16 48 (dk_at dksX9_readPool_1 12 rfl rfl)
theorem dX9_readPool_37 : decode cX9_readPool 37 = .ok (.isub, 1) := dk_100 (dk_at dksX9_readPool_1 14 rfl rfl)
theorem dX9_readPool_38 : decode cX9_readPool 38 = .ok (.putfield 44, 3) := dk_181 0 44 (dk_at dksX9_readPool_1 15 rfl rfl)
theorem dX9_readPool_41 : decode cX9_readPool 41 = .ok (.iconst 1, 1) := dk_4 (dk_at dksX9_readPool_1 18 rfl rfl)
theorem dX9_readPool_42 : decode cX9_readPool 42 = .ok (.ireturn, 1) := dk_172 (dk_at dksX9_readPool_1 19 rfl rfl)
abbrev cX9_isHere : ByteArray := prog_5_method_2_code
def yX9_isHere : MethodName := ⟨RX9, "isHere", "(II)Z"⟩
def dkwX9_isHere_2 : List UInt8 := [182, 0, 29, 28, 163, 0, 7, 4, 167, 0, 4, 3, 172]
abbrev dktX9_isHere_2 : List UInt8 := dkwX9_isHere_2 ++ []
def dkwX9_isHere_1 : List UInt8 := [42, 180, 0, 15, 182, 0, 29, 27, 161, 0, 25, 42, 180, 0, 3, 180, 0, 19, 42, 180, 0, 15]
abbrev dktX9_isHere_1 : List UInt8 := dkwX9_isHere_1 ++ dktX9_isHere_2
def dkwX9_isHere_0 : List UInt8 := [42, 180, 0, 15, 42, 180, 0, 3, 180, 0, 19, 182, 0, 23, 162, 0, 43, 42, 180, 0, 3, 180, 0, 19]
abbrev dktX9_isHere_0 : List UInt8 := dkwX9_isHere_0 ++ dktX9_isHere_1
theorem dksX9_isHere_0 : cX9_isHere.data.toList.drop 0 = dktX9_isHere_0 := by decide +kernel
theorem dksX9_isHere_1 : cX9_isHere.data.toList.drop 24 = dktX9_isHere_1 := dk_seg dksX9_isHere_0 24 rfl rfl
theorem dksX9_isHere_2 : cX9_isHere.data.toList.drop 46 = dktX9_isHere_2 := dk_seg dksX9_isHere_1 22 rfl rfl
theorem dX9_isHere_0 : decode cX9_isHere 0 = .ok (.aload_n 0, 1) := dk_42 (dk_at dksX9_isHere_0 0 rfl rfl)
theorem dX9_isHere_1 : decode cX9_isHere 1 = .ok (.getfield 15, 3) := dk_180 0 15 (dk_at dksX9_isHere_0 1 rfl rfl)
theorem dX9_isHere_4 : decode cX9_isHere 4 = .ok (.aload_n 0, 1) := dk_42 (dk_at dksX9_isHere_0 4 rfl rfl)
theorem dX9_isHere_5 : decode cX9_isHere 5 = .ok (.getfield 3, 3) := dk_180 0 3 (dk_at dksX9_isHere_0 5 rfl rfl)
theorem dX9_isHere_8 : decode cX9_isHere 8 = .ok (.getfield 19, 3) := dk_180 0 19 (dk_at dksX9_isHere_0 8 rfl rfl)
theorem dX9_isHere_11 : decode cX9_isHere 11 = .ok (.invokevirtual 23, 3) := dk_182 0 23 (dk_at dksX9_isHere_0 11 rfl rfl)
theorem dX9_isHere_14 : decode cX9_isHere 14 = .ok (.if_icmp .ge 43, 3) := dk_162 0 43 (dk_at dksX9_isHere_0 14 rfl rfl)
theorem dX9_isHere_17 : decode cX9_isHere 17 = .ok (.aload_n 0, 1) := dk_42 (dk_at dksX9_isHere_0 17 rfl rfl)
theorem dX9_isHere_18 : decode cX9_isHere 18 = .ok (.getfield 3, 3) := dk_180 0 3 (dk_at dksX9_isHere_0 18 rfl rfl)
theorem dX9_isHere_21 : decode cX9_isHere 21 = .ok (.getfield 19, 3) := dk_180 0 19 (dk_at dksX9_isHere_0 21 rfl rfl)
theorem dX9_isHere_24 : decode cX9_isHere 24 = .ok (.aload_n 0, 1) := dk_42 (dk_at dksX9_isHere_1 0 rfl rfl)
theorem dX9_isHere_25 : decode cX9_isHere 25 = .ok (.getfield 15, 3) := dk_180 0 15 (dk_at dksX9_isHere_1 1 rfl rfl)
theorem dX9_isHere_28 : decode cX9_isHere 28 = .ok (.invokevirtual 29, 3) := dk_182 0 29 (dk_at dksX9_isHere_1 4 rfl rfl)
theorem dX9_isHere_31 : decode cX9_isHere 31 = .ok (.iload_n 1, 1) := dk_27 (dk_at dksX9_isHere_1 7 rfl rfl)
theorem dX9_isHere_32 : decode cX9_isHere 32 = .ok (.if_icmp .lt 25, 3) := dk_161 0 25 (dk_at dksX9_isHere_1 8 rfl rfl)
theorem dX9_isHere_35 : decode cX9_isHere 35 = .ok (.aload_n 0, 1) := dk_42 (dk_at dksX9_isHere_1 11 rfl rfl)
theorem dX9_isHere_36 : decode cX9_isHere 36 = .ok (.getfield 3, 3) := dk_180 0 3 (dk_at dksX9_isHere_1 12 rfl rfl)
theorem dX9_isHere_39 : decode cX9_isHere 39 = .ok (.getfield 19, 3) := dk_180 0 19 (dk_at dksX9_isHere_1 15 rfl rfl)
theorem dX9_isHere_42 : decode cX9_isHere 42 = .ok (.aload_n 0, 1) := dk_42 (dk_at dksX9_isHere_1 18 rfl rfl)
theorem dX9_isHere_43 : decode cX9_isHere 43 = .ok (.getfield 15, 3) := dk_180 0 15 (dk_at dksX9_isHere_1 19 rfl rfl)
theorem dX9_isHere_46 : decode cX9_isHere 46 = .ok (.invokevirtual 29, 3) := dk_182 0 29 (dk_at dksX9_isHere_2 0 rfl rfl)
theorem dX9_isHere_49 : decode cX9_isHere 49 = .ok (.iload_n 2, 1) := dk_28 (dk_at dksX9_isHere_2 3 rfl rfl)
theorem dX9_isHere_50 : decode cX9_isHere 50 = .ok (.if_icmp .gt 7, 3) := dk_163 0 7 (dk_at dksX9_isHere_2 4 rfl rfl)
theorem dX9_isHere_53 : decode cX9_isHere 53 = .ok (.iconst 1, 1) := dk_4 (dk_at dksX9_isHere_2 7 rfl rfl)
theorem dX9_isHere_54 : decode cX9_isHere 54 = .ok (.goto 4, 3) := dk_167 0 4 (dk_at dksX9_isHere_2 8 rfl rfl)
theorem dX9_isHere_57 : decode cX9_isHere 57 = .ok (.iconst 0, 1) := dk_3 (dk_at dksX9_isHere_2 11 rfl rfl)
theorem dX9_isHere_58 : decode cX9_isHere 58 = .ok (.ireturn, 1) := dk_172 (dk_at dksX9_isHere_2 12 rfl rfl)
abbrev cX9_readAt : ByteArray := prog_5_method_7_code
def yX9_readAt : MethodName := ⟨RX9, "readAt", "(II)Z"⟩
def dkwX9_readAt_1 : List UInt8 := [153, 0, 7, 4, 167, 0, 4, 3, 172]
abbrev dktX9_readAt_1 : List UInt8 := dkwX9_readAt_1 ++ []
def dkwX9_readAt_0 : List UInt8 := [42, 182, 0, 47, 153, 0, 25, 42, 16, 64, 182, 0, 51, 153, 0, 16, 42, 27, 28, 182, 0, 55]
abbrev dktX9_readAt_0 : List UInt8 := dkwX9_readAt_0 ++ dktX9_readAt_1
theorem dksX9_readAt_0 : cX9_readAt.data.toList.drop 0 = dktX9_readAt_0 := by decide +kernel
theorem dksX9_readAt_1 : cX9_readAt.data.toList.drop 22 = dktX9_readAt_1 := dk_seg dksX9_readAt_0 22 rfl rfl
theorem dX9_readAt_0 : decode cX9_readAt 0 = .ok (.aload_n 0, 1) := dk_42 (dk_at dksX9_readAt_0 0 rfl rfl)
theorem dX9_readAt_1 : decode cX9_readAt 1 = .ok (.invokevirtual 47, 3) := dk_182 0 47 (dk_at dksX9_readAt_0 1 rfl rfl)
theorem dX9_readAt_4 : decode cX9_readAt 4 = .ok (.ifCond .eq 25, 3) := dk_153 0 25 (dk_at dksX9_readAt_0 4 rfl rfl)
theorem dX9_readAt_7 : decode cX9_readAt 7 = .ok (.aload_n 0, 1) := dk_42 (dk_at dksX9_readAt_0 7 rfl rfl)
theorem dX9_readAt_8 : decode cX9_readAt 8 = .ok (.bipush 64, 2) := dk_16 64 (dk_at dksX9_readAt_0 8 rfl rfl)
theorem dX9_readAt_10 : decode cX9_readAt 10 = .ok (.invokevirtual 51, 3) := dk_182 0 51 (dk_at dksX9_readAt_0 10 rfl rfl)
theorem dX9_readAt_13 : decode cX9_readAt 13 = .ok (.ifCond .eq 16, 3) := dk_153 0 16 (dk_at dksX9_readAt_0 13 rfl rfl)
theorem dX9_readAt_16 : decode cX9_readAt 16 = .ok (.aload_n 0, 1) := dk_42 (dk_at dksX9_readAt_0 16 rfl rfl)
theorem dX9_readAt_17 : decode cX9_readAt 17 = .ok (.iload_n 1, 1) := dk_27 (dk_at dksX9_readAt_0 17 rfl rfl)
theorem dX9_readAt_18 : decode cX9_readAt 18 = .ok (.iload_n 2, 1) := dk_28 (dk_at dksX9_readAt_0 18 rfl rfl)
theorem dX9_readAt_19 : decode cX9_readAt 19 = .ok (.invokevirtual 55, 3) := dk_182 0 55 (dk_at dksX9_readAt_0 19 rfl rfl)
theorem dX9_readAt_22 : decode cX9_readAt 22 = .ok (.ifCond .eq 7, 3) := dk_153 0 7 (dk_at dksX9_readAt_1 0 rfl rfl)
theorem dX9_readAt_25 : decode cX9_readAt 25 = .ok (.iconst 1, 1) := dk_4 (dk_at dksX9_readAt_1 3 rfl rfl)
theorem dX9_readAt_26 : decode cX9_readAt 26 = .ok (.goto 4, 3) := dk_167 0 4 (dk_at dksX9_readAt_1 4 rfl rfl)
theorem dX9_readAt_29 : decode cX9_readAt 29 = .ok (.iconst 0, 1) := dk_3 (dk_at dksX9_readAt_1 7 rfl rfl)
theorem dX9_readAt_30 : decode cX9_readAt 30 = .ok (.ireturn, 1) := dk_172 (dk_at dksX9_readAt_1 8 rfl rfl)
abbrev cX9_takeSign : ByteArray := prog_5_method_3_code
def yX9_takeSign : MethodName := ⟨RX9, "takeSign", "(I)Z"⟩
def dkwX9_takeSign_1 : List UInt8 := [181, 0, 15, 28, 172]
abbrev dktX9_takeSign_1 : List UInt8 := dkwX9_takeSign_1 ++ []
def dkwX9_takeSign_0 : List UInt8 := [42, 27, 27, 182, 0, 33, 61, 42, 89, 180, 0, 15, 28, 153, 0, 7, 4, 167, 0, 4, 3, 96]
abbrev dktX9_takeSign_0 : List UInt8 := dkwX9_takeSign_0 ++ dktX9_takeSign_1
theorem dksX9_takeSign_0 : cX9_takeSign.data.toList.drop 0 = dktX9_takeSign_0 := by decide +kernel
theorem dksX9_takeSign_1 : cX9_takeSign.data.toList.drop 22 = dktX9_takeSign_1 := dk_seg dksX9_takeSign_0 22 rfl rfl
theorem dX9_takeSign_0 : decode cX9_takeSign 0 = .ok (.aload_n 0, 1) := dk_42 (dk_at dksX9_takeSign_0 0 rfl rfl)
theorem dX9_takeSign_1 : decode cX9_takeSign 1 = .ok (.iload_n 1, 1) := dk_27 (dk_at dksX9_takeSign_0 1 rfl rfl)
theorem dX9_takeSign_2 : decode cX9_takeSign 2 = .ok (.iload_n 1, 1) := dk_27 (dk_at dksX9_takeSign_0 2 rfl rfl)
theorem dX9_takeSign_3 : decode cX9_takeSign 3 = .ok (.invokevirtual 33, 3) := dk_182 0 33 (dk_at dksX9_takeSign_0 3 rfl rfl)
theorem dX9_takeSign_6 : decode cX9_takeSign 6 = .ok (.istore_n 2, 1) := dk_61 (dk_at dksX9_takeSign_0 6 rfl rfl)
theorem dX9_takeSign_7 : decode cX9_takeSign 7 = .ok (.aload_n 0, 1) := dk_42 (dk_at dksX9_takeSign_0 7 rfl rfl)
theorem dX9_takeSign_8 : decode cX9_takeSign 8 = .ok (.dup, 1) := dk_89 (dk_at dksX9_takeSign_0 8 rfl rfl)
theorem dX9_takeSign_9 : decode cX9_takeSign 9 = .ok (.getfield 15, 3) := dk_180 0 15 (dk_at dksX9_takeSign_0 9 rfl rfl)
theorem dX9_takeSign_12 : decode cX9_takeSign 12 = .ok (.iload_n 2, 1) := dk_28 (dk_at dksX9_takeSign_0 12 rfl rfl)
theorem dX9_takeSign_13 : decode cX9_takeSign 13 = .ok (.ifCond .eq 7, 3) := dk_153 0 7 (dk_at dksX9_takeSign_0 13 rfl rfl)
theorem dX9_takeSign_16 : decode cX9_takeSign 16 = .ok (.iconst 1, 1) := dk_4 (dk_at dksX9_takeSign_0 16 rfl rfl)
theorem dX9_takeSign_17 : decode cX9_takeSign 17 = .ok (.goto 4, 3) := dk_167 0 4 (dk_at dksX9_takeSign_0 17 rfl rfl)
theorem dX9_takeSign_20 : decode cX9_takeSign 20 = .ok (.iconst 0, 1) := dk_3 (dk_at dksX9_takeSign_0 20 rfl rfl)
theorem dX9_takeSign_21 : decode cX9_takeSign 21 = .ok (.iadd, 1) := dk_96 (dk_at dksX9_takeSign_0 21 rfl rfl)
theorem dX9_takeSign_22 : decode cX9_takeSign 22 = .ok (.putfield 15, 3) := dk_181 0 15 (dk_at dksX9_takeSign_1 0 rfl rfl)
theorem dX9_takeSign_25 : decode cX9_takeSign 25 = .ok (.iload_n 2, 1) := dk_28 (dk_at dksX9_takeSign_1 3 rfl rfl)
theorem dX9_takeSign_26 : decode cX9_takeSign 26 = .ok (.ireturn, 1) := dk_172 (dk_at dksX9_takeSign_1 4 rfl rfl)
abbrev cX9_readNumber : ByteArray := prog_5_method_4_code
def yX9_readNumber : MethodName := ⟨RX9, "readNumber", "(II)Z"⟩
def dkwX9_readNumber_6 : List UInt8 := [96, 181, 0, 15, 4, 172, 21, 4, 172]
abbrev dktX9_readNumber_6 : List UInt8 := dkwX9_readNumber_6 ++ []
def dkwX9_readNumber_5 : List UInt8 := [21, 5, 27, 161, 0, 27, 21, 5, 28, 163, 0, 21, 42, 21, 5, 181, 0, 41, 42, 89, 180, 0, 15, 4]
abbrev dktX9_readNumber_5 : List UInt8 := dkwX9_readNumber_5 ++ dktX9_readNumber_6
def dkwX9_readNumber_4 : List UInt8 := [16, 10, 29, 104, 42, 180, 0, 3, 180, 0, 19, 42, 180, 0, 15, 182, 0, 29, 96, 16, 48, 100, 54, 5]
abbrev dktX9_readNumber_4 : List UInt8 := dkwX9_readNumber_4 ++ dktX9_readNumber_5
def dkwX9_readNumber_3 : List UInt8 := [180, 0, 15, 4, 96, 181, 0, 15, 29, 158, 0, 68, 42, 16, 48, 16, 57, 182, 0, 33, 153, 0, 57]
abbrev dktX9_readNumber_3 : List UInt8 := dkwX9_readNumber_3 ++ dktX9_readNumber_4
def dkwX9_readNumber_2 : List UInt8 := [21, 4, 154, 0, 15, 42, 29, 27, 28, 182, 0, 37, 154, 0, 5, 3, 172, 42, 29, 181, 0, 41, 42, 89]
abbrev dktX9_readNumber_2 : List UInt8 := dkwX9_readNumber_2 ++ dktX9_readNumber_3
def dkwX9_readNumber_1 : List UInt8 := [182, 0, 29, 16, 48, 100, 62, 29, 27, 161, 0, 12, 29, 28, 163, 0, 7, 4, 167, 0, 4, 3, 54, 4]
abbrev dktX9_readNumber_1 : List UInt8 := dkwX9_readNumber_1 ++ dktX9_readNumber_2
def dkwX9_readNumber_0 : List UInt8 := [42, 16, 48, 16, 57, 182, 0, 33, 154, 0, 5, 3, 172, 42, 180, 0, 3, 180, 0, 19, 42, 180, 0, 15]
abbrev dktX9_readNumber_0 : List UInt8 := dkwX9_readNumber_0 ++ dktX9_readNumber_1
theorem dksX9_readNumber_0 : cX9_readNumber.data.toList.drop 0 = dktX9_readNumber_0 := by decide +kernel
theorem dksX9_readNumber_1 : cX9_readNumber.data.toList.drop 24 = dktX9_readNumber_1 := dk_seg dksX9_readNumber_0 24 rfl rfl
theorem dksX9_readNumber_2 : cX9_readNumber.data.toList.drop 48 = dktX9_readNumber_2 := dk_seg dksX9_readNumber_1 24 rfl rfl
theorem dksX9_readNumber_3 : cX9_readNumber.data.toList.drop 72 = dktX9_readNumber_3 := dk_seg dksX9_readNumber_2 24 rfl rfl
theorem dksX9_readNumber_4 : cX9_readNumber.data.toList.drop 95 = dktX9_readNumber_4 := dk_seg dksX9_readNumber_3 23 rfl rfl
theorem dksX9_readNumber_5 : cX9_readNumber.data.toList.drop 119 = dktX9_readNumber_5 := dk_seg dksX9_readNumber_4 24 rfl rfl
theorem dksX9_readNumber_6 : cX9_readNumber.data.toList.drop 143 = dktX9_readNumber_6 := dk_seg dksX9_readNumber_5 24 rfl rfl
theorem dX9_readNumber_0 : decode cX9_readNumber 0 = .ok (.aload_n 0, 1) := dk_42 (dk_at dksX9_readNumber_0 0 rfl rfl)
theorem dX9_readNumber_1 : decode cX9_readNumber 1 = .ok (.bipush 48, 2) := dk_16 48 (dk_at dksX9_readNumber_0 1 rfl rfl)
theorem dX9_readNumber_3 : decode cX9_readNumber 3 = .ok (.bipush 57, 2) := dk_16 57 (dk_at dksX9_readNumber_0 3 rfl rfl)
theorem dX9_readNumber_5 : decode cX9_readNumber 5 = .ok (.invokevirtual 33, 3) := dk_182 0 33 (dk_at dksX9_readNumber_0 5 rfl rfl)
theorem dX9_readNumber_8 : decode cX9_readNumber 8 = .ok (.ifCond .ne 5, 3) := dk_154 0 5 (dk_at dksX9_readNumber_0 8 rfl rfl)
theorem dX9_readNumber_11 : decode cX9_readNumber 11 = .ok (.iconst 0, 1) := dk_3 (dk_at dksX9_readNumber_0 11 rfl rfl)
theorem dX9_readNumber_12 : decode cX9_readNumber 12 = .ok (.ireturn, 1) := dk_172 (dk_at dksX9_readNumber_0 12 rfl rfl)
theorem dX9_readNumber_13 : decode cX9_readNumber 13 = .ok (.aload_n 0, 1) := dk_42 (dk_at dksX9_readNumber_0 13 rfl rfl)
theorem dX9_readNumber_14 : decode cX9_readNumber 14 = .ok (.getfield 3, 3) := dk_180 0 3 (dk_at dksX9_readNumber_0 14 rfl rfl)
theorem dX9_readNumber_17 : decode cX9_readNumber 17 = .ok (.getfield 19, 3) := dk_180 0 19 (dk_at dksX9_readNumber_0 17 rfl rfl)
theorem dX9_readNumber_20 : decode cX9_readNumber 20 = .ok (.aload_n 0, 1) := dk_42 (dk_at dksX9_readNumber_0 20 rfl rfl)
theorem dX9_readNumber_21 : decode cX9_readNumber 21 = .ok (.getfield 15, 3) := dk_180 0 15 (dk_at dksX9_readNumber_0 21 rfl rfl)
theorem dX9_readNumber_24 : decode cX9_readNumber 24 = .ok (.invokevirtual 29, 3) := dk_182 0 29 (dk_at dksX9_readNumber_1 0 rfl rfl)
theorem dX9_readNumber_27 : decode cX9_readNumber 27 = .ok (.bipush 48, 2) := dk_16 48 (dk_at dksX9_readNumber_1 3 rfl rfl)
theorem dX9_readNumber_29 : decode cX9_readNumber 29 = .ok (.isub, 1) := dk_100 (dk_at dksX9_readNumber_1 5 rfl rfl)
theorem dX9_readNumber_30 : decode cX9_readNumber 30 = .ok (.istore_n 3, 1) := dk_62 (dk_at dksX9_readNumber_1 6 rfl rfl)
theorem dX9_readNumber_31 : decode cX9_readNumber 31 = .ok (.iload_n 3, 1) := dk_29 (dk_at dksX9_readNumber_1 7 rfl rfl)
theorem dX9_readNumber_32 : decode cX9_readNumber 32 = .ok (.iload_n 1, 1) := dk_27 (dk_at dksX9_readNumber_1 8 rfl rfl)
theorem dX9_readNumber_33 : decode cX9_readNumber 33 = .ok (.if_icmp .lt 12, 3) := dk_161 0 12 (dk_at dksX9_readNumber_1 9 rfl rfl)
theorem dX9_readNumber_36 : decode cX9_readNumber 36 = .ok (.iload_n 3, 1) := dk_29 (dk_at dksX9_readNumber_1 12 rfl rfl)
theorem dX9_readNumber_37 : decode cX9_readNumber 37 = .ok (.iload_n 2, 1) := dk_28 (dk_at dksX9_readNumber_1 13 rfl rfl)
theorem dX9_readNumber_38 : decode cX9_readNumber 38 = .ok (.if_icmp .gt 7, 3) := dk_163 0 7 (dk_at dksX9_readNumber_1 14 rfl rfl)
theorem dX9_readNumber_41 : decode cX9_readNumber 41 = .ok (.iconst 1, 1) := dk_4 (dk_at dksX9_readNumber_1 17 rfl rfl)
theorem dX9_readNumber_42 : decode cX9_readNumber 42 = .ok (.goto 4, 3) := dk_167 0 4 (dk_at dksX9_readNumber_1 18 rfl rfl)
theorem dX9_readNumber_45 : decode cX9_readNumber 45 = .ok (.iconst 0, 1) := dk_3 (dk_at dksX9_readNumber_1 21 rfl rfl)
theorem dX9_readNumber_46 : decode cX9_readNumber 46 = .ok (.istore 4, 2) := dk_54 4 (dk_at dksX9_readNumber_1 22 rfl rfl)
theorem dX9_readNumber_48 : decode cX9_readNumber 48 = .ok (.iload 4, 2) := dk_21 4 (dk_at dksX9_readNumber_2 0 rfl rfl)
theorem dX9_readNumber_50 : decode cX9_readNumber 50 = .ok (.ifCond .ne 15, 3) := dk_154 0 15 (dk_at dksX9_readNumber_2 2 rfl rfl)
theorem dX9_readNumber_53 : decode cX9_readNumber 53 = .ok (.aload_n 0, 1) := dk_42 (dk_at dksX9_readNumber_2 5 rfl rfl)
theorem dX9_readNumber_54 : decode cX9_readNumber 54 = .ok (.iload_n 3, 1) := dk_29 (dk_at dksX9_readNumber_2 6 rfl rfl)
theorem dX9_readNumber_55 : decode cX9_readNumber 55 = .ok (.iload_n 1, 1) := dk_27 (dk_at dksX9_readNumber_2 7 rfl rfl)
theorem dX9_readNumber_56 : decode cX9_readNumber 56 = .ok (.iload_n 2, 1) := dk_28 (dk_at dksX9_readNumber_2 8 rfl rfl)
theorem dX9_readNumber_57 : decode cX9_readNumber 57 = .ok (.invokevirtual 37, 3) := dk_182 0 37 (dk_at dksX9_readNumber_2 9 rfl rfl)
theorem dX9_readNumber_60 : decode cX9_readNumber 60 = .ok (.ifCond .ne 5, 3) := dk_154 0 5 (dk_at dksX9_readNumber_2 12 rfl rfl)
theorem dX9_readNumber_63 : decode cX9_readNumber 63 = .ok (.iconst 0, 1) := dk_3 (dk_at dksX9_readNumber_2 15 rfl rfl)
theorem dX9_readNumber_64 : decode cX9_readNumber 64 = .ok (.ireturn, 1) := dk_172 (dk_at dksX9_readNumber_2 16 rfl rfl)
theorem dX9_readNumber_65 : decode cX9_readNumber 65 = .ok (.aload_n 0, 1) := dk_42 (dk_at dksX9_readNumber_2 17 rfl rfl)
theorem dX9_readNumber_66 : decode cX9_readNumber 66 = .ok (.iload_n 3, 1) := dk_29 (dk_at dksX9_readNumber_2 18 rfl rfl)
theorem dX9_readNumber_67 : decode cX9_readNumber 67 = .ok (.putfield 41, 3) := dk_181 0 41 (dk_at dksX9_readNumber_2 19 rfl rfl)
theorem dX9_readNumber_70 : decode cX9_readNumber 70 = .ok (.aload_n 0, 1) := dk_42 (dk_at dksX9_readNumber_2 22 rfl rfl)
theorem dX9_readNumber_71 : decode cX9_readNumber 71 = .ok (.dup, 1) := dk_89 (dk_at dksX9_readNumber_2 23 rfl rfl)
theorem dX9_readNumber_72 : decode cX9_readNumber 72 = .ok (.getfield 15, 3) := dk_180 0 15 (dk_at dksX9_readNumber_3 0 rfl rfl)
theorem dX9_readNumber_75 : decode cX9_readNumber 75 = .ok (.iconst 1, 1) := dk_4 (dk_at dksX9_readNumber_3 3 rfl rfl)
theorem dX9_readNumber_76 : decode cX9_readNumber 76 = .ok (.iadd, 1) := dk_96 (dk_at dksX9_readNumber_3 4 rfl rfl)
theorem dX9_readNumber_77 : decode cX9_readNumber 77 = .ok (.putfield 15, 3) := dk_181 0 15 (dk_at dksX9_readNumber_3 5 rfl rfl)
theorem dX9_readNumber_80 : decode cX9_readNumber 80 = .ok (.iload_n 3, 1) := dk_29 (dk_at dksX9_readNumber_3 8 rfl rfl)
theorem dX9_readNumber_81 : decode cX9_readNumber 81 = .ok (.ifCond .le 68, 3) := dk_158 0 68 (dk_at dksX9_readNumber_3 9 rfl rfl)
theorem dX9_readNumber_84 : decode cX9_readNumber 84 = .ok (.aload_n 0, 1) := dk_42 (dk_at dksX9_readNumber_3 12 rfl rfl)
theorem dX9_readNumber_85 : decode cX9_readNumber 85 = .ok (.bipush 48, 2) := dk_16 48 (dk_at dksX9_readNumber_3 13 rfl rfl)
theorem dX9_readNumber_87 : decode cX9_readNumber 87 = .ok (.bipush 57, 2) := dk_16 57 (dk_at dksX9_readNumber_3 15 rfl rfl)
theorem dX9_readNumber_89 : decode cX9_readNumber 89 = .ok (.invokevirtual 33, 3) := dk_182 0 33 (dk_at dksX9_readNumber_3 17 rfl rfl)
theorem dX9_readNumber_92 : decode cX9_readNumber 92 = .ok (.ifCond .eq 57, 3) := dk_153 0 57 (dk_at dksX9_readNumber_3 20 rfl rfl)
theorem dX9_readNumber_95 : decode cX9_readNumber 95 = .ok (.bipush 10, 2) := dk_16 10 (dk_at dksX9_readNumber_4 0 rfl rfl)
theorem dX9_readNumber_97 : decode cX9_readNumber 97 = .ok (.iload_n 3, 1) := dk_29 (dk_at dksX9_readNumber_4 2 rfl rfl)
theorem dX9_readNumber_98 : decode cX9_readNumber 98 = .ok (.imul, 1) := dk_104 (dk_at dksX9_readNumber_4 3 rfl rfl)
theorem dX9_readNumber_99 : decode cX9_readNumber 99 = .ok (.aload_n 0, 1) := dk_42 (dk_at dksX9_readNumber_4 4 rfl rfl)
theorem dX9_readNumber_100 : decode cX9_readNumber 100 = .ok (.getfield 3, 3) := dk_180 0 3 (dk_at dksX9_readNumber_4 5 rfl rfl)
theorem dX9_readNumber_103 : decode cX9_readNumber 103 = .ok (.getfield 19, 3) := dk_180 0 19 (dk_at dksX9_readNumber_4 8 rfl rfl)
theorem dX9_readNumber_106 : decode cX9_readNumber 106 = .ok (.aload_n 0, 1) := dk_42 (dk_at dksX9_readNumber_4 11 rfl rfl)
theorem dX9_readNumber_107 : decode cX9_readNumber 107 = .ok (.getfield 15, 3) := dk_180 0 15 (dk_at dksX9_readNumber_4 12 rfl rfl)
theorem dX9_readNumber_110 : decode cX9_readNumber 110 = .ok (.invokevirtual 29, 3) := dk_182 0 29 (dk_at dksX9_readNumber_4 15 rfl rfl)
theorem dX9_readNumber_113 : decode cX9_readNumber 113 = .ok (.iadd, 1) := dk_96 (dk_at dksX9_readNumber_4 18 rfl rfl)
theorem dX9_readNumber_114 : decode cX9_readNumber 114 = .ok (.bipush 48, 2) := dk_16 48 (dk_at dksX9_readNumber_4 19 rfl rfl)
theorem dX9_readNumber_116 : decode cX9_readNumber 116 = .ok (.isub, 1) := dk_100 (dk_at dksX9_readNumber_4 21 rfl rfl)
theorem dX9_readNumber_117 : decode cX9_readNumber 117 = .ok (.istore 5, 2) := dk_54 5 (dk_at dksX9_readNumber_4 22 rfl rfl)
theorem dX9_readNumber_119 : decode cX9_readNumber 119 = .ok (.iload 5, 2) := dk_21 5 (dk_at dksX9_readNumber_5 0 rfl rfl)
theorem dX9_readNumber_121 : decode cX9_readNumber 121 = .ok (.iload_n 1, 1) := dk_27 (dk_at dksX9_readNumber_5 2 rfl rfl)
theorem dX9_readNumber_122 : decode cX9_readNumber 122 = .ok (.if_icmp .lt 27, 3) := dk_161 0 27 (dk_at dksX9_readNumber_5 3 rfl rfl)
theorem dX9_readNumber_125 : decode cX9_readNumber 125 = .ok (.iload 5, 2) := dk_21 5 (dk_at dksX9_readNumber_5 6 rfl rfl)
theorem dX9_readNumber_127 : decode cX9_readNumber 127 = .ok (.iload_n 2, 1) := dk_28 (dk_at dksX9_readNumber_5 8 rfl rfl)
theorem dX9_readNumber_128 : decode cX9_readNumber 128 = .ok (.if_icmp .gt 21, 3) := dk_163 0 21 (dk_at dksX9_readNumber_5 9 rfl rfl)
theorem dX9_readNumber_131 : decode cX9_readNumber 131 = .ok (.aload_n 0, 1) := dk_42 (dk_at dksX9_readNumber_5 12 rfl rfl)
theorem dX9_readNumber_132 : decode cX9_readNumber 132 = .ok (.iload 5, 2) := dk_21 5 (dk_at dksX9_readNumber_5 13 rfl rfl)
theorem dX9_readNumber_134 : decode cX9_readNumber 134 = .ok (.putfield 41, 3) := dk_181 0 41 (dk_at dksX9_readNumber_5 15 rfl rfl)
theorem dX9_readNumber_137 : decode cX9_readNumber 137 = .ok (.aload_n 0, 1) := dk_42 (dk_at dksX9_readNumber_5 18 rfl rfl)
theorem dX9_readNumber_138 : decode cX9_readNumber 138 = .ok (.dup, 1) := dk_89 (dk_at dksX9_readNumber_5 19 rfl rfl)
theorem dX9_readNumber_139 : decode cX9_readNumber 139 = .ok (.getfield 15, 3) := dk_180 0 15 (dk_at dksX9_readNumber_5 20 rfl rfl)
theorem dX9_readNumber_142 : decode cX9_readNumber 142 = .ok (.iconst 1, 1) := dk_4 (dk_at dksX9_readNumber_5 23 rfl rfl)
theorem dX9_readNumber_143 : decode cX9_readNumber 143 = .ok (.iadd, 1) := dk_96 (dk_at dksX9_readNumber_6 0 rfl rfl)
theorem dX9_readNumber_144 : decode cX9_readNumber 144 = .ok (.putfield 15, 3) := dk_181 0 15 (dk_at dksX9_readNumber_6 1 rfl rfl)
theorem dX9_readNumber_147 : decode cX9_readNumber 147 = .ok (.iconst 1, 1) := dk_4 (dk_at dksX9_readNumber_6 4 rfl rfl)
theorem dX9_readNumber_148 : decode cX9_readNumber 148 = .ok (.ireturn, 1) := dk_172 (dk_at dksX9_readNumber_6 5 rfl rfl)
theorem dX9_readNumber_149 : decode cX9_readNumber 149 = .ok (.iload 4, 2) := dk_21 4 (dk_at dksX9_readNumber_6 6 rfl rfl)
theorem dX9_readNumber_151 : decode cX9_readNumber 151 = .ok (.ireturn, 1) := dk_172 (dk_at dksX9_readNumber_6 8 rfl rfl)
abbrev cX9_canGoOn : ByteArray := prog_5_method_5_code
def yX9_canGoOn : MethodName := ⟨RX9, "canGoOn", "(III)Z"⟩
def dkwX9_canGoOn_1 : List UInt8 := [167, 0, 4, 3, 172]
abbrev dktX9_canGoOn_1 : List UInt8 := dkwX9_canGoOn_1 ++ []
def dkwX9_canGoOn_0 : List UInt8 := [27, 158, 0, 26, 16, 10, 27, 104, 29, 163, 0, 18, 16, 10, 27, 104, 16, 9, 96, 28, 161, 0, 7, 4]
abbrev dktX9_canGoOn_0 : List UInt8 := dkwX9_canGoOn_0 ++ dktX9_canGoOn_1
theorem dksX9_canGoOn_0 : cX9_canGoOn.data.toList.drop 0 = dktX9_canGoOn_0 := by decide +kernel
theorem dksX9_canGoOn_1 : cX9_canGoOn.data.toList.drop 24 = dktX9_canGoOn_1 := dk_seg dksX9_canGoOn_0 24 rfl rfl
theorem dX9_canGoOn_0 : decode cX9_canGoOn 0 = .ok (.iload_n 1, 1) := dk_27 (dk_at dksX9_canGoOn_0 0 rfl rfl)
theorem dX9_canGoOn_1 : decode cX9_canGoOn 1 = .ok (.ifCond .le 26, 3) := dk_158 0 26 (dk_at dksX9_canGoOn_0 1 rfl rfl)
theorem dX9_canGoOn_4 : decode cX9_canGoOn 4 = .ok (.bipush 10, 2) := dk_16 10 (dk_at dksX9_canGoOn_0 4 rfl rfl)
theorem dX9_canGoOn_6 : decode cX9_canGoOn 6 = .ok (.iload_n 1, 1) := dk_27 (dk_at dksX9_canGoOn_0 6 rfl rfl)
theorem dX9_canGoOn_7 : decode cX9_canGoOn 7 = .ok (.imul, 1) := dk_104 (dk_at dksX9_canGoOn_0 7 rfl rfl)
theorem dX9_canGoOn_8 : decode cX9_canGoOn 8 = .ok (.iload_n 3, 1) := dk_29 (dk_at dksX9_canGoOn_0 8 rfl rfl)
theorem dX9_canGoOn_9 : decode cX9_canGoOn 9 = .ok (.if_icmp .gt 18, 3) := dk_163 0 18 (dk_at dksX9_canGoOn_0 9 rfl rfl)
theorem dX9_canGoOn_12 : decode cX9_canGoOn 12 = .ok (.bipush 10, 2) := dk_16 10 (dk_at dksX9_canGoOn_0 12 rfl rfl)
theorem dX9_canGoOn_14 : decode cX9_canGoOn 14 = .ok (.iload_n 1, 1) := dk_27 (dk_at dksX9_canGoOn_0 14 rfl rfl)
theorem dX9_canGoOn_15 : decode cX9_canGoOn 15 = .ok (.imul, 1) := dk_104 (dk_at dksX9_canGoOn_0 15 rfl rfl)
theorem dX9_canGoOn_16 : decode cX9_canGoOn 16 = .ok (.bipush 9, 2) := dk_16 9 (dk_at dksX9_canGoOn_0 16 rfl rfl)
theorem dX9_canGoOn_18 : decode cX9_canGoOn 18 = .ok (.iadd, 1) := dk_96 (dk_at dksX9_canGoOn_0 18 rfl rfl)
theorem dX9_canGoOn_19 : decode cX9_canGoOn 19 = .ok (.iload_n 2, 1) := dk_28 (dk_at dksX9_canGoOn_0 19 rfl rfl)
theorem dX9_canGoOn_20 : decode cX9_canGoOn 20 = .ok (.if_icmp .lt 7, 3) := dk_161 0 7 (dk_at dksX9_canGoOn_0 20 rfl rfl)
theorem dX9_canGoOn_23 : decode cX9_canGoOn 23 = .ok (.iconst 1, 1) := dk_4 (dk_at dksX9_canGoOn_0 23 rfl rfl)
theorem dX9_canGoOn_24 : decode cX9_canGoOn 24 = .ok (.goto 4, 3) := dk_167 0 4 (dk_at dksX9_canGoOn_1 0 rfl rfl)
theorem dX9_canGoOn_27 : decode cX9_canGoOn 27 = .ok (.iconst 0, 1) := dk_3 (dk_at dksX9_canGoOn_1 3 rfl rfl)
theorem dX9_canGoOn_28 : decode cX9_canGoOn 28 = .ok (.ireturn, 1) := dk_172 (dk_at dksX9_canGoOn_1 4 rfl rfl)
abbrev cX9_readTide : ByteArray := prog_5_method_8_code
def yX9_readTide : MethodName := ⟨RX9, "readTide", "()Z"⟩
def dkwX9_readTide_1 : List UInt8 := [182, 0, 51, 153, 0, 18, 42, 16, 31, 16, 60, 182, 0, 55, 153, 0, 7, 4, 167, 0, 4, 3, 172]
abbrev dktX9_readTide_1 : List UInt8 := dkwX9_readTide_1 ++ []
def dkwX9_readTide_0 : List UInt8 := [42, 3, 16, 30, 182, 0, 55, 60, 42, 42, 180, 0, 41, 181, 0, 44, 27, 153, 0, 27, 42, 16, 45]
abbrev dktX9_readTide_0 : List UInt8 := dkwX9_readTide_0 ++ dktX9_readTide_1
theorem dksX9_readTide_0 : cX9_readTide.data.toList.drop 0 = dktX9_readTide_0 := by decide +kernel
theorem dksX9_readTide_1 : cX9_readTide.data.toList.drop 23 = dktX9_readTide_1 := dk_seg dksX9_readTide_0 23 rfl rfl
theorem dX9_readTide_0 : decode cX9_readTide 0 = .ok (.aload_n 0, 1) := dk_42 (dk_at dksX9_readTide_0 0 rfl rfl)
theorem dX9_readTide_1 : decode cX9_readTide 1 = .ok (.iconst 0, 1) := dk_3 (dk_at dksX9_readTide_0 1 rfl rfl)
theorem dX9_readTide_2 : decode cX9_readTide 2 = .ok (.bipush 30, 2) := dk_16 30 (dk_at dksX9_readTide_0 2 rfl rfl)
theorem dX9_readTide_4 : decode cX9_readTide 4 = .ok (.invokevirtual 55, 3) := dk_182 0 55 (dk_at dksX9_readTide_0 4 rfl rfl)
theorem dX9_readTide_7 : decode cX9_readTide 7 = .ok (.istore_n 1, 1) := dk_60 (dk_at dksX9_readTide_0 7 rfl rfl)
theorem dX9_readTide_8 : decode cX9_readTide 8 = .ok (.aload_n 0, 1) := dk_42 (dk_at dksX9_readTide_0 8 rfl rfl)
theorem dX9_readTide_9 : decode cX9_readTide 9 = .ok (.aload_n 0, 1) := dk_42 (dk_at dksX9_readTide_0 9 rfl rfl)
theorem dX9_readTide_10 : decode cX9_readTide 10 = .ok (.getfield 41, 3) := dk_180 0 41 (dk_at dksX9_readTide_0 10 rfl rfl)
theorem dX9_readTide_13 : decode cX9_readTide 13 = .ok (.putfield 44, 3) := dk_181 0 44 (dk_at dksX9_readTide_0 13 rfl rfl)
theorem dX9_readTide_16 : decode cX9_readTide 16 = .ok (.iload_n 1, 1) := dk_27 (dk_at dksX9_readTide_0 16 rfl rfl)
theorem dX9_readTide_17 : decode cX9_readTide 17 = .ok (.ifCond .eq 27, 3) := dk_153 0 27 (dk_at dksX9_readTide_0 17 rfl rfl)
theorem dX9_readTide_20 : decode cX9_readTide 20 = .ok (.aload_n 0, 1) := dk_42 (dk_at dksX9_readTide_0 20 rfl rfl)
theorem dX9_readTide_21 : decode cX9_readTide 21 = .ok (.bipush 45, 2) := dk_16 45 (dk_at dksX9_readTide_0 21 rfl rfl)
theorem dX9_readTide_23 : decode cX9_readTide 23 = .ok (.invokevirtual 51, 3) := dk_182 0 51 (dk_at dksX9_readTide_1 0 rfl rfl)
theorem dX9_readTide_26 : decode cX9_readTide 26 = .ok (.ifCond .eq 18, 3) := dk_153 0 18 (dk_at dksX9_readTide_1 3 rfl rfl)
theorem dX9_readTide_29 : decode cX9_readTide 29 = .ok (.aload_n 0, 1) := dk_42 (dk_at dksX9_readTide_1 6 rfl rfl)
theorem dX9_readTide_30 : decode cX9_readTide 30 = .ok (.bipush 31, 2) := dk_16 31 (dk_at dksX9_readTide_1 7 rfl rfl)
theorem dX9_readTide_32 : decode cX9_readTide 32 = .ok (.bipush 60, 2) := dk_16 60 (dk_at dksX9_readTide_1 9 rfl rfl)
theorem dX9_readTide_34 : decode cX9_readTide 34 = .ok (.invokevirtual 55, 3) := dk_182 0 55 (dk_at dksX9_readTide_1 11 rfl rfl)
theorem dX9_readTide_37 : decode cX9_readTide 37 = .ok (.ifCond .eq 7, 3) := dk_153 0 7 (dk_at dksX9_readTide_1 14 rfl rfl)
theorem dX9_readTide_40 : decode cX9_readTide 40 = .ok (.iconst 1, 1) := dk_4 (dk_at dksX9_readTide_1 17 rfl rfl)
theorem dX9_readTide_41 : decode cX9_readTide 41 = .ok (.goto 4, 3) := dk_167 0 4 (dk_at dksX9_readTide_1 18 rfl rfl)
theorem dX9_readTide_44 : decode cX9_readTide 44 = .ok (.iconst 0, 1) := dk_3 (dk_at dksX9_readTide_1 21 rfl rfl)
theorem dX9_readTide_45 : decode cX9_readTide 45 = .ok (.ireturn, 1) := dk_172 (dk_at dksX9_readTide_1 22 rfl rfl)
abbrev cX9_doAll : ByteArray := prog_5_method_13_code
def yX9_doAll : MethodName := ⟨RX9, "doAll", "()I"⟩
def dkwX9_doAll_1 : List UInt8 := [16, 59, 182, 0, 51, 154, 255, 229, 2, 172]
abbrev dktX9_doAll_1 : List UInt8 := dkwX9_doAll_1 ++ []
def dkwX9_doAll_0 : List UInt8 := [3, 60, 42, 182, 0, 93, 87, 42, 182, 0, 144, 154, 0, 5, 27, 172, 42, 182, 0, 147, 132, 1, 1, 42]
abbrev dktX9_doAll_0 : List UInt8 := dkwX9_doAll_0 ++ dktX9_doAll_1
theorem dksX9_doAll_0 : cX9_doAll.data.toList.drop 0 = dktX9_doAll_0 := by decide +kernel
theorem dksX9_doAll_1 : cX9_doAll.data.toList.drop 24 = dktX9_doAll_1 := dk_seg dksX9_doAll_0 24 rfl rfl
theorem dX9_doAll_0 : decode cX9_doAll 0 = .ok (.iconst 0, 1) := dk_3 (dk_at dksX9_doAll_0 0 rfl rfl)
theorem dX9_doAll_1 : decode cX9_doAll 1 = .ok (.istore_n 1, 1) := dk_60 (dk_at dksX9_doAll_0 1 rfl rfl)
theorem dX9_doAll_2 : decode cX9_doAll 2 = .ok (.aload_n 0, 1) := dk_42 (dk_at dksX9_doAll_0 2 rfl rfl)
theorem dX9_doAll_3 : decode cX9_doAll 3 = .ok (.invokevirtual 93, 3) := dk_182 0 93 (dk_at dksX9_doAll_0 3 rfl rfl)
theorem dX9_doAll_6 : decode cX9_doAll 6 = .ok (.pop, 1) := dk_87 (dk_at dksX9_doAll_0 6 rfl rfl)
theorem dX9_doAll_7 : decode cX9_doAll 7 = .ok (.aload_n 0, 1) := dk_42 (dk_at dksX9_doAll_0 7 rfl rfl)
theorem dX9_doAll_8 : decode cX9_doAll 8 = .ok (.invokevirtual 144, 3) := dk_182 0 144 (dk_at dksX9_doAll_0 8 rfl rfl)
theorem dX9_doAll_11 : decode cX9_doAll 11 = .ok (.ifCond .ne 5, 3) := dk_154 0 5 (dk_at dksX9_doAll_0 11 rfl rfl)
theorem dX9_doAll_14 : decode cX9_doAll 14 = .ok (.iload_n 1, 1) := dk_27 (dk_at dksX9_doAll_0 14 rfl rfl)
theorem dX9_doAll_15 : decode cX9_doAll 15 = .ok (.ireturn, 1) := dk_172 (dk_at dksX9_doAll_0 15 rfl rfl)
theorem dX9_doAll_16 : decode cX9_doAll 16 = .ok (.aload_n 0, 1) := dk_42 (dk_at dksX9_doAll_0 16 rfl rfl)
theorem dX9_doAll_17 : decode cX9_doAll 17 = .ok (.invokevirtual 147, 3) := dk_182 0 147 (dk_at dksX9_doAll_0 17 rfl rfl)
theorem dX9_doAll_20 : decode cX9_doAll 20 = .ok (.iinc 1 1, 3) := dk_132 1 1 (dk_at dksX9_doAll_0 20 rfl rfl)
theorem dX9_doAll_23 : decode cX9_doAll 23 = .ok (.aload_n 0, 1) := dk_42 (dk_at dksX9_doAll_0 23 rfl rfl)
theorem dX9_doAll_24 : decode cX9_doAll 24 = .ok (.bipush 59, 2) := dk_16 59 (dk_at dksX9_doAll_1 0 rfl rfl)
theorem dX9_doAll_26 : decode cX9_doAll 26 = .ok (.invokevirtual 51, 3) := dk_182 0 51 (dk_at dksX9_doAll_1 2 rfl rfl)
theorem dX9_doAll_29 : decode cX9_doAll 29 = .ok (.ifCond .ne (-27), 3) := dk_154 255 229 (dk_at dksX9_doAll_1 5 rfl rfl)
theorem dX9_doAll_32 : decode cX9_doAll 32 = .ok (.iconst (-1), 1) := dk_2 (dk_at dksX9_doAll_1 8 rfl rfl)
theorem dX9_doAll_33 : decode cX9_doAll 33 = .ok (.ireturn, 1) := dk_172 (dk_at dksX9_doAll_1 9 rfl rfl)
abbrev cX9_canDo : ByteArray := prog_5_method_11_code
def yX9_canDo : MethodName := ⟨RX9, "canDo", "()Z"⟩
def dkwX9_canDo_10 : List UInt8 := [167, 0, 4, 4, 172]
abbrev dktX9_canDo_10 : List UInt8 := dkwX9_canDo_10 ++ []
def dkwX9_canDo_9 : List UInt8 := [162, 0, 7, 4, 167, 0, 22, 3, 167, 0, 18, 42, 180, 0, 3, 42, 180, 0, 41, 182, 0, 117]
abbrev dktX9_canDo_9 : List UInt8 := dkwX9_canDo_9 ++ dktX9_canDo_10
def dkwX9_canDo_8 : List UInt8 := [167, 0, 48, 3, 167, 0, 44, 42, 180, 0, 3, 180, 0, 96, 180, 0, 114, 182, 0, 106, 16, 25]
abbrev dktX9_canDo_8 : List UInt8 := dkwX9_canDo_8 ++ dktX9_canDo_9
def dkwX9_canDo_7 : List UInt8 := [167, 0, 70, 42, 180, 0, 3, 180, 0, 96, 180, 0, 111, 182, 0, 106, 16, 15, 162, 0, 7, 4]
abbrev dktX9_canDo_7 : List UInt8 := dkwX9_canDo_7 ++ dktX9_canDo_8
def dkwX9_canDo_6 : List UInt8 := [42, 180, 0, 3, 180, 0, 96, 180, 0, 100, 182, 0, 106, 16, 20, 162, 0, 7, 4, 167, 0, 74, 3]
abbrev dktX9_canDo_6 : List UInt8 := dkwX9_canDo_6 ++ dktX9_canDo_7
def dkwX9_canDo_5 : List UInt8 := [170, 0, 0, 0, 0, 122, 0, 0, 0, 0, 0, 0, 0, 3, 0, 0, 0, 30, 0, 0, 0, 56, 0, 0, 0, 82, 0, 0, 0, 108]
abbrev dktX9_canDo_5 : List UInt8 := dkwX9_canDo_5 ++ dktX9_canDo_6
def dkwX9_canDo_4 : List UInt8 := [153, 0, 5, 6, 61, 28]
abbrev dktX9_canDo_4 : List UInt8 := dkwX9_canDo_4 ++ dktX9_canDo_5
def dkwX9_canDo_3 : List UInt8 := [61, 167, 0, 28, 43, 18, 79, 182, 0, 73, 153, 0, 19, 5, 61, 167, 0, 14, 43, 18, 85, 182, 0, 73]
abbrev dktX9_canDo_3 : List UInt8 := dkwX9_canDo_3 ++ dktX9_canDo_4
def dkwX9_canDo_2 : List UInt8 := [43, 18, 71, 182, 0, 73, 153, 0, 47, 3, 61, 167, 0, 42, 43, 18, 77, 182, 0, 73, 153, 0, 33, 4]
abbrev dktX9_canDo_2 : List UInt8 := dkwX9_canDo_2 ++ dktX9_canDo_3
def dkwX9_canDo_1 : List UInt8 := [171, 0, 0, 0, 94, 0, 0, 0, 4, 0, 0, 0, 99, 0, 0, 0, 55, 0, 0, 0, 108, 0, 0, 0, 41, 0, 0, 0, 115, 0, 0, 0, 69, 0, 0, 0, 119, 0, 0, 0, 83]
abbrev dktX9_canDo_1 : List UInt8 := dkwX9_canDo_1 ++ dktX9_canDo_2
def dkwX9_canDo_0 : List UInt8 := [42, 180, 0, 62, 76, 2, 61, 43, 182, 0, 66]
abbrev dktX9_canDo_0 : List UInt8 := dkwX9_canDo_0 ++ dktX9_canDo_1
theorem dksX9_canDo_0 : cX9_canDo.data.toList.drop 0 = dktX9_canDo_0 := by decide +kernel
theorem dksX9_canDo_1 : cX9_canDo.data.toList.drop 11 = dktX9_canDo_1 := dk_seg dksX9_canDo_0 11 rfl rfl
theorem dksX9_canDo_2 : cX9_canDo.data.toList.drop 52 = dktX9_canDo_2 := dk_seg dksX9_canDo_1 41 rfl rfl
theorem dksX9_canDo_3 : cX9_canDo.data.toList.drop 76 = dktX9_canDo_3 := dk_seg dksX9_canDo_2 24 rfl rfl
theorem dksX9_canDo_4 : cX9_canDo.data.toList.drop 100 = dktX9_canDo_4 := dk_seg dksX9_canDo_3 24 rfl rfl
theorem dksX9_canDo_5 : cX9_canDo.data.toList.drop 106 = dktX9_canDo_5 := dk_seg dksX9_canDo_4 6 rfl rfl
theorem dksX9_canDo_6 : cX9_canDo.data.toList.drop 136 = dktX9_canDo_6 := dk_seg dksX9_canDo_5 30 rfl rfl
theorem dksX9_canDo_7 : cX9_canDo.data.toList.drop 159 = dktX9_canDo_7 := dk_seg dksX9_canDo_6 23 rfl rfl
theorem dksX9_canDo_8 : cX9_canDo.data.toList.drop 181 = dktX9_canDo_8 := dk_seg dksX9_canDo_7 22 rfl rfl
theorem dksX9_canDo_9 : cX9_canDo.data.toList.drop 203 = dktX9_canDo_9 := dk_seg dksX9_canDo_8 22 rfl rfl
theorem dksX9_canDo_10 : cX9_canDo.data.toList.drop 225 = dktX9_canDo_10 := dk_seg dksX9_canDo_9 22 rfl rfl
theorem dX9_canDo_0 : decode cX9_canDo 0 = .ok (.aload_n 0, 1) := dk_42 (dk_at dksX9_canDo_0 0 rfl rfl)
theorem dX9_canDo_1 : decode cX9_canDo 1 = .ok (.getfield 62, 3) := dk_180 0 62 (dk_at dksX9_canDo_0 1 rfl rfl)
theorem dX9_canDo_4 : decode cX9_canDo 4 = .ok (.astore_n 1, 1) := dk_76 (dk_at dksX9_canDo_0 4 rfl rfl)
theorem dX9_canDo_5 : decode cX9_canDo 5 = .ok (.iconst (-1), 1) := dk_2 (dk_at dksX9_canDo_0 5 rfl rfl)
theorem dX9_canDo_6 : decode cX9_canDo 6 = .ok (.istore_n 2, 1) := dk_61 (dk_at dksX9_canDo_0 6 rfl rfl)
theorem dX9_canDo_7 : decode cX9_canDo 7 = .ok (.aload_n 1, 1) := dk_43 (dk_at dksX9_canDo_0 7 rfl rfl)
theorem dX9_canDo_8 : decode cX9_canDo 8 = .ok (.invokevirtual 66, 3) := dk_182 0 66 (dk_at dksX9_canDo_0 8 rfl rfl)
theorem dX9_canDo_11 : decode cX9_canDo 11 = .ok (.lookupswitch 94 #[(99, 55), (108, 41), (115, 69), (119, 83)], 41) := by decide +kernel
theorem dX9_canDo_52 : decode cX9_canDo 52 = .ok (.aload_n 1, 1) := dk_43 (dk_at dksX9_canDo_2 0 rfl rfl)
theorem dX9_canDo_53 : decode cX9_canDo 53 = .ok (.ldc 71, 2) := dk_18 71 (dk_at dksX9_canDo_2 1 rfl rfl)
theorem dX9_canDo_55 : decode cX9_canDo 55 = .ok (.invokevirtual 73, 3) := dk_182 0 73 (dk_at dksX9_canDo_2 3 rfl rfl)
theorem dX9_canDo_58 : decode cX9_canDo 58 = .ok (.ifCond .eq 47, 3) := dk_153 0 47 (dk_at dksX9_canDo_2 6 rfl rfl)
theorem dX9_canDo_61 : decode cX9_canDo 61 = .ok (.iconst 0, 1) := dk_3 (dk_at dksX9_canDo_2 9 rfl rfl)
theorem dX9_canDo_62 : decode cX9_canDo 62 = .ok (.istore_n 2, 1) := dk_61 (dk_at dksX9_canDo_2 10 rfl rfl)
theorem dX9_canDo_63 : decode cX9_canDo 63 = .ok (.goto 42, 3) := dk_167 0 42 (dk_at dksX9_canDo_2 11 rfl rfl)
theorem dX9_canDo_66 : decode cX9_canDo 66 = .ok (.aload_n 1, 1) := dk_43 (dk_at dksX9_canDo_2 14 rfl rfl)
theorem dX9_canDo_67 : decode cX9_canDo 67 = .ok (.ldc 77, 2) := dk_18 77 (dk_at dksX9_canDo_2 15 rfl rfl)
theorem dX9_canDo_69 : decode cX9_canDo 69 = .ok (.invokevirtual 73, 3) := dk_182 0 73 (dk_at dksX9_canDo_2 17 rfl rfl)
theorem dX9_canDo_72 : decode cX9_canDo 72 = .ok (.ifCond .eq 33, 3) := dk_153 0 33 (dk_at dksX9_canDo_2 20 rfl rfl)
theorem dX9_canDo_75 : decode cX9_canDo 75 = .ok (.iconst 1, 1) := dk_4 (dk_at dksX9_canDo_2 23 rfl rfl)
theorem dX9_canDo_76 : decode cX9_canDo 76 = .ok (.istore_n 2, 1) := dk_61 (dk_at dksX9_canDo_3 0 rfl rfl)
theorem dX9_canDo_77 : decode cX9_canDo 77 = .ok (.goto 28, 3) := dk_167 0 28 (dk_at dksX9_canDo_3 1 rfl rfl)
theorem dX9_canDo_80 : decode cX9_canDo 80 = .ok (.aload_n 1, 1) := dk_43 (dk_at dksX9_canDo_3 4 rfl rfl)
theorem dX9_canDo_81 : decode cX9_canDo 81 = .ok (.ldc 79, 2) := dk_18 79 (dk_at dksX9_canDo_3 5 rfl rfl)
theorem dX9_canDo_83 : decode cX9_canDo 83 = .ok (.invokevirtual 73, 3) := dk_182 0 73 (dk_at dksX9_canDo_3 7 rfl rfl)
theorem dX9_canDo_86 : decode cX9_canDo 86 = .ok (.ifCond .eq 19, 3) := dk_153 0 19 (dk_at dksX9_canDo_3 10 rfl rfl)
theorem dX9_canDo_89 : decode cX9_canDo 89 = .ok (.iconst 2, 1) := dk_5 (dk_at dksX9_canDo_3 13 rfl rfl)
theorem dX9_canDo_90 : decode cX9_canDo 90 = .ok (.istore_n 2, 1) := dk_61 (dk_at dksX9_canDo_3 14 rfl rfl)
theorem dX9_canDo_91 : decode cX9_canDo 91 = .ok (.goto 14, 3) := dk_167 0 14 (dk_at dksX9_canDo_3 15 rfl rfl)
theorem dX9_canDo_94 : decode cX9_canDo 94 = .ok (.aload_n 1, 1) := dk_43 (dk_at dksX9_canDo_3 18 rfl rfl)
theorem dX9_canDo_95 : decode cX9_canDo 95 = .ok (.ldc 85, 2) := dk_18 85 (dk_at dksX9_canDo_3 19 rfl rfl)
theorem dX9_canDo_97 : decode cX9_canDo 97 = .ok (.invokevirtual 73, 3) := dk_182 0 73 (dk_at dksX9_canDo_3 21 rfl rfl)
theorem dX9_canDo_100 : decode cX9_canDo 100 = .ok (.ifCond .eq 5, 3) := dk_153 0 5 (dk_at dksX9_canDo_4 0 rfl rfl)
theorem dX9_canDo_103 : decode cX9_canDo 103 = .ok (.iconst 3, 1) := dk_6 (dk_at dksX9_canDo_4 3 rfl rfl)
theorem dX9_canDo_104 : decode cX9_canDo 104 = .ok (.istore_n 2, 1) := dk_61 (dk_at dksX9_canDo_4 4 rfl rfl)
theorem dX9_canDo_105 : decode cX9_canDo 105 = .ok (.iload_n 2, 1) := dk_28 (dk_at dksX9_canDo_4 5 rfl rfl)
theorem dX9_canDo_106 : decode cX9_canDo 106 = .ok (.tableswitch 122 0 3 #[30, 56, 82, 108], 30) := by decide +kernel
theorem dX9_canDo_136 : decode cX9_canDo 136 = .ok (.aload_n 0, 1) := dk_42 (dk_at dksX9_canDo_6 0 rfl rfl)
theorem dX9_canDo_137 : decode cX9_canDo 137 = .ok (.getfield 3, 3) := dk_180 0 3 (dk_at dksX9_canDo_6 1 rfl rfl)
theorem dX9_canDo_140 : decode cX9_canDo 140 = .ok (.getfield 96, 3) := dk_180 0 96 (dk_at dksX9_canDo_6 4 rfl rfl)
theorem dX9_canDo_143 : decode cX9_canDo 143 = .ok (.getfield 100, 3) := dk_180 0 100 (dk_at dksX9_canDo_6 7 rfl rfl)
theorem dX9_canDo_146 : decode cX9_canDo 146 = .ok (.invokevirtual 106, 3) := dk_182 0 106 (dk_at dksX9_canDo_6 10 rfl rfl)
theorem dX9_canDo_149 : decode cX9_canDo 149 = .ok (.bipush 20, 2) := dk_16 20 (dk_at dksX9_canDo_6 13 rfl rfl)
theorem dX9_canDo_151 : decode cX9_canDo 151 = .ok (.if_icmp .ge 7, 3) := dk_162 0 7 (dk_at dksX9_canDo_6 15 rfl rfl)
theorem dX9_canDo_154 : decode cX9_canDo 154 = .ok (.iconst 1, 1) := dk_4 (dk_at dksX9_canDo_6 18 rfl rfl)
theorem dX9_canDo_155 : decode cX9_canDo 155 = .ok (.goto 74, 3) := dk_167 0 74 (dk_at dksX9_canDo_6 19 rfl rfl)
theorem dX9_canDo_158 : decode cX9_canDo 158 = .ok (.iconst 0, 1) := dk_3 (dk_at dksX9_canDo_6 22 rfl rfl)
theorem dX9_canDo_159 : decode cX9_canDo 159 = .ok (.goto 70, 3) := dk_167 0 70 (dk_at dksX9_canDo_7 0 rfl rfl)
theorem dX9_canDo_162 : decode cX9_canDo 162 = .ok (.aload_n 0, 1) := dk_42 (dk_at dksX9_canDo_7 3 rfl rfl)
theorem dX9_canDo_163 : decode cX9_canDo 163 = .ok (.getfield 3, 3) := dk_180 0 3 (dk_at dksX9_canDo_7 4 rfl rfl)
theorem dX9_canDo_166 : decode cX9_canDo 166 = .ok (.getfield 96, 3) := dk_180 0 96 (dk_at dksX9_canDo_7 7 rfl rfl)
theorem dX9_canDo_169 : decode cX9_canDo 169 = .ok (.getfield 111, 3) := dk_180 0 111 (dk_at dksX9_canDo_7 10 rfl rfl)
theorem dX9_canDo_172 : decode cX9_canDo 172 = .ok (.invokevirtual 106, 3) := dk_182 0 106 (dk_at dksX9_canDo_7 13 rfl rfl)
theorem dX9_canDo_175 : decode cX9_canDo 175 = .ok (.bipush 15, 2) := dk_16 15 (dk_at dksX9_canDo_7 16 rfl rfl)
theorem dX9_canDo_177 : decode cX9_canDo 177 = .ok (.if_icmp .ge 7, 3) := dk_162 0 7 (dk_at dksX9_canDo_7 18 rfl rfl)
theorem dX9_canDo_180 : decode cX9_canDo 180 = .ok (.iconst 1, 1) := dk_4 (dk_at dksX9_canDo_7 21 rfl rfl)
theorem dX9_canDo_181 : decode cX9_canDo 181 = .ok (.goto 48, 3) := dk_167 0 48 (dk_at dksX9_canDo_8 0 rfl rfl)
theorem dX9_canDo_184 : decode cX9_canDo 184 = .ok (.iconst 0, 1) := dk_3 (dk_at dksX9_canDo_8 3 rfl rfl)
theorem dX9_canDo_185 : decode cX9_canDo 185 = .ok (.goto 44, 3) := dk_167 0 44 (dk_at dksX9_canDo_8 4 rfl rfl)
theorem dX9_canDo_188 : decode cX9_canDo 188 = .ok (.aload_n 0, 1) := dk_42 (dk_at dksX9_canDo_8 7 rfl rfl)
theorem dX9_canDo_189 : decode cX9_canDo 189 = .ok (.getfield 3, 3) := dk_180 0 3 (dk_at dksX9_canDo_8 8 rfl rfl)
theorem dX9_canDo_192 : decode cX9_canDo 192 = .ok (.getfield 96, 3) := dk_180 0 96 (dk_at dksX9_canDo_8 11 rfl rfl)
theorem dX9_canDo_195 : decode cX9_canDo 195 = .ok (.getfield 114, 3) := dk_180 0 114 (dk_at dksX9_canDo_8 14 rfl rfl)
theorem dX9_canDo_198 : decode cX9_canDo 198 = .ok (.invokevirtual 106, 3) := dk_182 0 106 (dk_at dksX9_canDo_8 17 rfl rfl)
theorem dX9_canDo_201 : decode cX9_canDo 201 = .ok (.bipush 25, 2) := dk_16 25 (dk_at dksX9_canDo_8 20 rfl rfl)
theorem dX9_canDo_203 : decode cX9_canDo 203 = .ok (.if_icmp .ge 7, 3) := dk_162 0 7 (dk_at dksX9_canDo_9 0 rfl rfl)
theorem dX9_canDo_206 : decode cX9_canDo 206 = .ok (.iconst 1, 1) := dk_4 (dk_at dksX9_canDo_9 3 rfl rfl)
theorem dX9_canDo_207 : decode cX9_canDo 207 = .ok (.goto 22, 3) := dk_167 0 22 (dk_at dksX9_canDo_9 4 rfl rfl)
theorem dX9_canDo_210 : decode cX9_canDo 210 = .ok (.iconst 0, 1) := dk_3 (dk_at dksX9_canDo_9 7 rfl rfl)
theorem dX9_canDo_211 : decode cX9_canDo 211 = .ok (.goto 18, 3) := dk_167 0 18 (dk_at dksX9_canDo_9 8 rfl rfl)
theorem dX9_canDo_214 : decode cX9_canDo 214 = .ok (.aload_n 0, 1) := dk_42 (dk_at dksX9_canDo_9 11 rfl rfl)
theorem dX9_canDo_215 : decode cX9_canDo 215 = .ok (.getfield 3, 3) := dk_180 0 3 (dk_at dksX9_canDo_9 12 rfl rfl)
theorem dX9_canDo_218 : decode cX9_canDo 218 = .ok (.aload_n 0, 1) := dk_42 (dk_at dksX9_canDo_9 15 rfl rfl)
theorem dX9_canDo_219 : decode cX9_canDo 219 = .ok (.getfield 41, 3) := dk_180 0 41 (dk_at dksX9_canDo_9 16 rfl rfl)
theorem dX9_canDo_222 : decode cX9_canDo 222 = .ok (.invokevirtual 117, 3) := dk_182 0 117 (dk_at dksX9_canDo_9 19 rfl rfl)
theorem dX9_canDo_225 : decode cX9_canDo 225 = .ok (.goto 4, 3) := dk_167 0 4 (dk_at dksX9_canDo_10 0 rfl rfl)
theorem dX9_canDo_228 : decode cX9_canDo 228 = .ok (.iconst 1, 1) := dk_4 (dk_at dksX9_canDo_10 3 rfl rfl)
theorem dX9_canDo_229 : decode cX9_canDo 229 = .ok (.ireturn, 1) := dk_172 (dk_at dksX9_canDo_10 4 rfl rfl)
abbrev cX9_doOrder : ByteArray := prog_5_method_12_code
def yX9_doOrder : MethodName := ⟨RX9, "doOrder", "()V"⟩
def dkwX9_doOrder_11 : List UInt8 := [182, 0, 141, 87, 177]
abbrev dktX9_doOrder_11 : List UInt8 := dkwX9_doOrder_11 ++ []
def dkwX9_doOrder_10 : List UInt8 := [180, 0, 3, 180, 0, 96, 42, 180, 0, 41, 181, 0, 138, 167, 0, 15, 42, 180, 0, 3, 42, 180, 0, 41]
abbrev dktX9_doOrder_10 : List UInt8 := dkwX9_doOrder_10 ++ dktX9_doOrder_11
def dkwX9_doOrder_9 : List UInt8 := [180, 0, 41, 79, 167, 0, 46, 42, 180, 0, 3, 180, 0, 96, 42, 180, 0, 44, 181, 0, 135, 42]
abbrev dktX9_doOrder_9 : List UInt8 := dkwX9_doOrder_9 ++ dktX9_doOrder_10
def dkwX9_doOrder_8 : List UInt8 := [182, 0, 128, 87, 167, 0, 68, 42, 180, 0, 3, 180, 0, 96, 180, 0, 131, 42, 180, 0, 44, 42]
abbrev dktX9_doOrder_8 : List UInt8 := dkwX9_doOrder_8 ++ dktX9_doOrder_9
def dkwX9_doOrder_7 : List UInt8 := [180, 0, 41, 182, 0, 124, 87, 167, 0, 87, 42, 180, 0, 3, 42, 180, 0, 44, 42, 180, 0, 41]
abbrev dktX9_doOrder_7 : List UInt8 := dkwX9_doOrder_7 ++ dktX9_doOrder_8
def dkwX9_doOrder_6 : List UInt8 := [42, 180, 0, 3, 42, 180, 0, 44, 182, 0, 120, 87, 167, 0, 106, 42, 180, 0, 3, 42, 180, 0, 44, 42]
abbrev dktX9_doOrder_6 : List UInt8 := dkwX9_doOrder_6 ++ dktX9_doOrder_7
def dkwX9_doOrder_5 : List UInt8 := [170, 0, 0, 0, 0, 0, 0, 142, 0, 0, 0, 0, 0, 0, 0, 4, 0, 0, 0, 36, 0, 0, 0, 51, 0, 0, 0, 70, 0, 0, 0, 89, 0, 0, 0, 111]
abbrev dktX9_doOrder_5 : List UInt8 := dkwX9_doOrder_5 ++ dktX9_doOrder_6
def dkwX9_doOrder_4 : List UInt8 := [153, 0, 19, 6, 61, 167, 0, 14, 43, 18, 83, 182, 0, 73, 153, 0, 5, 7, 61, 28]
abbrev dktX9_doOrder_4 : List UInt8 := dkwX9_doOrder_4 ++ dktX9_doOrder_5
def dkwX9_doOrder_3 : List UInt8 := [61, 167, 0, 42, 43, 18, 79, 182, 0, 73, 153, 0, 33, 5, 61, 167, 0, 28, 43, 18, 81, 182, 0, 73]
abbrev dktX9_doOrder_3 : List UInt8 := dkwX9_doOrder_3 ++ dktX9_doOrder_4
def dkwX9_doOrder_2 : List UInt8 := [43, 18, 71, 182, 0, 73, 153, 0, 61, 3, 61, 167, 0, 56, 43, 18, 77, 182, 0, 73, 153, 0, 47, 4]
abbrev dktX9_doOrder_2 : List UInt8 := dkwX9_doOrder_2 ++ dktX9_doOrder_3
def dkwX9_doOrder_1 : List UInt8 := [171, 0, 0, 0, 116, 0, 0, 0, 5, 0, 0, 0, 99, 0, 0, 0, 63, 0, 0, 0, 104, 0, 0, 0, 91, 0, 0, 0, 108, 0, 0, 0, 49, 0, 0, 0, 115, 0, 0, 0, 77, 0, 0, 0, 116, 0, 0, 0, 105]
abbrev dktX9_doOrder_1 : List UInt8 := dkwX9_doOrder_1 ++ dktX9_doOrder_2
def dkwX9_doOrder_0 : List UInt8 := [42, 180, 0, 62, 76, 2, 61, 43, 182, 0, 66]
abbrev dktX9_doOrder_0 : List UInt8 := dkwX9_doOrder_0 ++ dktX9_doOrder_1
theorem dksX9_doOrder_0 : cX9_doOrder.data.toList.drop 0 = dktX9_doOrder_0 := by decide +kernel
theorem dksX9_doOrder_1 : cX9_doOrder.data.toList.drop 11 = dktX9_doOrder_1 := dk_seg dksX9_doOrder_0 11 rfl rfl
theorem dksX9_doOrder_2 : cX9_doOrder.data.toList.drop 60 = dktX9_doOrder_2 := dk_seg dksX9_doOrder_1 49 rfl rfl
theorem dksX9_doOrder_3 : cX9_doOrder.data.toList.drop 84 = dktX9_doOrder_3 := dk_seg dksX9_doOrder_2 24 rfl rfl
theorem dksX9_doOrder_4 : cX9_doOrder.data.toList.drop 108 = dktX9_doOrder_4 := dk_seg dksX9_doOrder_3 24 rfl rfl
theorem dksX9_doOrder_5 : cX9_doOrder.data.toList.drop 128 = dktX9_doOrder_5 := dk_seg dksX9_doOrder_4 20 rfl rfl
theorem dksX9_doOrder_6 : cX9_doOrder.data.toList.drop 164 = dktX9_doOrder_6 := dk_seg dksX9_doOrder_5 36 rfl rfl
theorem dksX9_doOrder_7 : cX9_doOrder.data.toList.drop 188 = dktX9_doOrder_7 := dk_seg dksX9_doOrder_6 24 rfl rfl
theorem dksX9_doOrder_8 : cX9_doOrder.data.toList.drop 210 = dktX9_doOrder_8 := dk_seg dksX9_doOrder_7 22 rfl rfl
theorem dksX9_doOrder_9 : cX9_doOrder.data.toList.drop 232 = dktX9_doOrder_9 := dk_seg dksX9_doOrder_8 22 rfl rfl
theorem dksX9_doOrder_10 : cX9_doOrder.data.toList.drop 254 = dktX9_doOrder_10 := dk_seg dksX9_doOrder_9 22 rfl rfl
theorem dksX9_doOrder_11 : cX9_doOrder.data.toList.drop 278 = dktX9_doOrder_11 := dk_seg dksX9_doOrder_10 24 rfl rfl
theorem dX9_doOrder_0 : decode cX9_doOrder 0 = .ok (.aload_n 0, 1) := dk_42 (dk_at dksX9_doOrder_0 0 rfl rfl)
theorem dX9_doOrder_1 : decode cX9_doOrder 1 = .ok (.getfield 62, 3) := dk_180 0 62 (dk_at dksX9_doOrder_0 1 rfl rfl)
theorem dX9_doOrder_4 : decode cX9_doOrder 4 = .ok (.astore_n 1, 1) := dk_76 (dk_at dksX9_doOrder_0 4 rfl rfl)
theorem dX9_doOrder_5 : decode cX9_doOrder 5 = .ok (.iconst (-1), 1) := dk_2 (dk_at dksX9_doOrder_0 5 rfl rfl)
theorem dX9_doOrder_6 : decode cX9_doOrder 6 = .ok (.istore_n 2, 1) := dk_61 (dk_at dksX9_doOrder_0 6 rfl rfl)
theorem dX9_doOrder_7 : decode cX9_doOrder 7 = .ok (.aload_n 1, 1) := dk_43 (dk_at dksX9_doOrder_0 7 rfl rfl)
theorem dX9_doOrder_8 : decode cX9_doOrder 8 = .ok (.invokevirtual 66, 3) := dk_182 0 66 (dk_at dksX9_doOrder_0 8 rfl rfl)
theorem dX9_doOrder_11 : decode cX9_doOrder 11 = .ok (.lookupswitch 116 #[(99, 63), (104, 91), (108, 49), (115, 77), (116, 105)], 49) := by decide +kernel
theorem dX9_doOrder_60 : decode cX9_doOrder 60 = .ok (.aload_n 1, 1) := dk_43 (dk_at dksX9_doOrder_2 0 rfl rfl)
theorem dX9_doOrder_61 : decode cX9_doOrder 61 = .ok (.ldc 71, 2) := dk_18 71 (dk_at dksX9_doOrder_2 1 rfl rfl)
theorem dX9_doOrder_63 : decode cX9_doOrder 63 = .ok (.invokevirtual 73, 3) := dk_182 0 73 (dk_at dksX9_doOrder_2 3 rfl rfl)
theorem dX9_doOrder_66 : decode cX9_doOrder 66 = .ok (.ifCond .eq 61, 3) := dk_153 0 61 (dk_at dksX9_doOrder_2 6 rfl rfl)
theorem dX9_doOrder_69 : decode cX9_doOrder 69 = .ok (.iconst 0, 1) := dk_3 (dk_at dksX9_doOrder_2 9 rfl rfl)
theorem dX9_doOrder_70 : decode cX9_doOrder 70 = .ok (.istore_n 2, 1) := dk_61 (dk_at dksX9_doOrder_2 10 rfl rfl)
theorem dX9_doOrder_71 : decode cX9_doOrder 71 = .ok (.goto 56, 3) := dk_167 0 56 (dk_at dksX9_doOrder_2 11 rfl rfl)
theorem dX9_doOrder_74 : decode cX9_doOrder 74 = .ok (.aload_n 1, 1) := dk_43 (dk_at dksX9_doOrder_2 14 rfl rfl)
theorem dX9_doOrder_75 : decode cX9_doOrder 75 = .ok (.ldc 77, 2) := dk_18 77 (dk_at dksX9_doOrder_2 15 rfl rfl)
theorem dX9_doOrder_77 : decode cX9_doOrder 77 = .ok (.invokevirtual 73, 3) := dk_182 0 73 (dk_at dksX9_doOrder_2 17 rfl rfl)
theorem dX9_doOrder_80 : decode cX9_doOrder 80 = .ok (.ifCond .eq 47, 3) := dk_153 0 47 (dk_at dksX9_doOrder_2 20 rfl rfl)
theorem dX9_doOrder_83 : decode cX9_doOrder 83 = .ok (.iconst 1, 1) := dk_4 (dk_at dksX9_doOrder_2 23 rfl rfl)
theorem dX9_doOrder_84 : decode cX9_doOrder 84 = .ok (.istore_n 2, 1) := dk_61 (dk_at dksX9_doOrder_3 0 rfl rfl)
theorem dX9_doOrder_85 : decode cX9_doOrder 85 = .ok (.goto 42, 3) := dk_167 0 42 (dk_at dksX9_doOrder_3 1 rfl rfl)
theorem dX9_doOrder_88 : decode cX9_doOrder 88 = .ok (.aload_n 1, 1) := dk_43 (dk_at dksX9_doOrder_3 4 rfl rfl)
theorem dX9_doOrder_89 : decode cX9_doOrder 89 = .ok (.ldc 79, 2) := dk_18 79 (dk_at dksX9_doOrder_3 5 rfl rfl)
theorem dX9_doOrder_91 : decode cX9_doOrder 91 = .ok (.invokevirtual 73, 3) := dk_182 0 73 (dk_at dksX9_doOrder_3 7 rfl rfl)
theorem dX9_doOrder_94 : decode cX9_doOrder 94 = .ok (.ifCond .eq 33, 3) := dk_153 0 33 (dk_at dksX9_doOrder_3 10 rfl rfl)
theorem dX9_doOrder_97 : decode cX9_doOrder 97 = .ok (.iconst 2, 1) := dk_5 (dk_at dksX9_doOrder_3 13 rfl rfl)
theorem dX9_doOrder_98 : decode cX9_doOrder 98 = .ok (.istore_n 2, 1) := dk_61 (dk_at dksX9_doOrder_3 14 rfl rfl)
theorem dX9_doOrder_99 : decode cX9_doOrder 99 = .ok (.goto 28, 3) := dk_167 0 28 (dk_at dksX9_doOrder_3 15 rfl rfl)
theorem dX9_doOrder_102 : decode cX9_doOrder 102 = .ok (.aload_n 1, 1) := dk_43 (dk_at dksX9_doOrder_3 18 rfl rfl)
theorem dX9_doOrder_103 : decode cX9_doOrder 103 = .ok (.ldc 81, 2) := dk_18 81 (dk_at dksX9_doOrder_3 19 rfl rfl)
theorem dX9_doOrder_105 : decode cX9_doOrder 105 = .ok (.invokevirtual 73, 3) := dk_182 0 73 (dk_at dksX9_doOrder_3 21 rfl rfl)
theorem dX9_doOrder_108 : decode cX9_doOrder 108 = .ok (.ifCond .eq 19, 3) := dk_153 0 19 (dk_at dksX9_doOrder_4 0 rfl rfl)
theorem dX9_doOrder_111 : decode cX9_doOrder 111 = .ok (.iconst 3, 1) := dk_6 (dk_at dksX9_doOrder_4 3 rfl rfl)
theorem dX9_doOrder_112 : decode cX9_doOrder 112 = .ok (.istore_n 2, 1) := dk_61 (dk_at dksX9_doOrder_4 4 rfl rfl)
theorem dX9_doOrder_113 : decode cX9_doOrder 113 = .ok (.goto 14, 3) := dk_167 0 14 (dk_at dksX9_doOrder_4 5 rfl rfl)
theorem dX9_doOrder_116 : decode cX9_doOrder 116 = .ok (.aload_n 1, 1) := dk_43 (dk_at dksX9_doOrder_4 8 rfl rfl)
theorem dX9_doOrder_117 : decode cX9_doOrder 117 = .ok (.ldc 83, 2) := dk_18 83 (dk_at dksX9_doOrder_4 9 rfl rfl)
theorem dX9_doOrder_119 : decode cX9_doOrder 119 = .ok (.invokevirtual 73, 3) := dk_182 0 73 (dk_at dksX9_doOrder_4 11 rfl rfl)
theorem dX9_doOrder_122 : decode cX9_doOrder 122 = .ok (.ifCond .eq 5, 3) := dk_153 0 5 (dk_at dksX9_doOrder_4 14 rfl rfl)
theorem dX9_doOrder_125 : decode cX9_doOrder 125 = .ok (.iconst 4, 1) := dk_7 (dk_at dksX9_doOrder_4 17 rfl rfl)
theorem dX9_doOrder_126 : decode cX9_doOrder 126 = .ok (.istore_n 2, 1) := dk_61 (dk_at dksX9_doOrder_4 18 rfl rfl)
theorem dX9_doOrder_127 : decode cX9_doOrder 127 = .ok (.iload_n 2, 1) := dk_28 (dk_at dksX9_doOrder_4 19 rfl rfl)
theorem dX9_doOrder_128 : decode cX9_doOrder 128 = .ok (.tableswitch 142 0 4 #[36, 51, 70, 89, 111], 36) := by decide +kernel
theorem dX9_doOrder_164 : decode cX9_doOrder 164 = .ok (.aload_n 0, 1) := dk_42 (dk_at dksX9_doOrder_6 0 rfl rfl)
theorem dX9_doOrder_165 : decode cX9_doOrder 165 = .ok (.getfield 3, 3) := dk_180 0 3 (dk_at dksX9_doOrder_6 1 rfl rfl)
theorem dX9_doOrder_168 : decode cX9_doOrder 168 = .ok (.aload_n 0, 1) := dk_42 (dk_at dksX9_doOrder_6 4 rfl rfl)
theorem dX9_doOrder_169 : decode cX9_doOrder 169 = .ok (.getfield 44, 3) := dk_180 0 44 (dk_at dksX9_doOrder_6 5 rfl rfl)
theorem dX9_doOrder_172 : decode cX9_doOrder 172 = .ok (.invokevirtual 120, 3) := dk_182 0 120 (dk_at dksX9_doOrder_6 8 rfl rfl)
theorem dX9_doOrder_175 : decode cX9_doOrder 175 = .ok (.pop, 1) := dk_87 (dk_at dksX9_doOrder_6 11 rfl rfl)
theorem dX9_doOrder_176 : decode cX9_doOrder 176 = .ok (.goto 106, 3) := dk_167 0 106 (dk_at dksX9_doOrder_6 12 rfl rfl)
theorem dX9_doOrder_179 : decode cX9_doOrder 179 = .ok (.aload_n 0, 1) := dk_42 (dk_at dksX9_doOrder_6 15 rfl rfl)
theorem dX9_doOrder_180 : decode cX9_doOrder 180 = .ok (.getfield 3, 3) := dk_180 0 3 (dk_at dksX9_doOrder_6 16 rfl rfl)
theorem dX9_doOrder_183 : decode cX9_doOrder 183 = .ok (.aload_n 0, 1) := dk_42 (dk_at dksX9_doOrder_6 19 rfl rfl)
theorem dX9_doOrder_184 : decode cX9_doOrder 184 = .ok (.getfield 44, 3) := dk_180 0 44 (dk_at dksX9_doOrder_6 20 rfl rfl)
theorem dX9_doOrder_187 : decode cX9_doOrder 187 = .ok (.aload_n 0, 1) := dk_42 (dk_at dksX9_doOrder_6 23 rfl rfl)
theorem dX9_doOrder_188 : decode cX9_doOrder 188 = .ok (.getfield 41, 3) := dk_180 0 41 (dk_at dksX9_doOrder_7 0 rfl rfl)
theorem dX9_doOrder_191 : decode cX9_doOrder 191 = .ok (.invokevirtual 124, 3) := dk_182 0 124 (dk_at dksX9_doOrder_7 3 rfl rfl)
theorem dX9_doOrder_194 : decode cX9_doOrder 194 = .ok (.pop, 1) := dk_87 (dk_at dksX9_doOrder_7 6 rfl rfl)
theorem dX9_doOrder_195 : decode cX9_doOrder 195 = .ok (.goto 87, 3) := dk_167 0 87 (dk_at dksX9_doOrder_7 7 rfl rfl)
theorem dX9_doOrder_198 : decode cX9_doOrder 198 = .ok (.aload_n 0, 1) := dk_42 (dk_at dksX9_doOrder_7 10 rfl rfl)
theorem dX9_doOrder_199 : decode cX9_doOrder 199 = .ok (.getfield 3, 3) := dk_180 0 3 (dk_at dksX9_doOrder_7 11 rfl rfl)
theorem dX9_doOrder_202 : decode cX9_doOrder 202 = .ok (.aload_n 0, 1) := dk_42 (dk_at dksX9_doOrder_7 14 rfl rfl)
theorem dX9_doOrder_203 : decode cX9_doOrder 203 = .ok (.getfield 44, 3) := dk_180 0 44 (dk_at dksX9_doOrder_7 15 rfl rfl)
theorem dX9_doOrder_206 : decode cX9_doOrder 206 = .ok (.aload_n 0, 1) := dk_42 (dk_at dksX9_doOrder_7 18 rfl rfl)
theorem dX9_doOrder_207 : decode cX9_doOrder 207 = .ok (.getfield 41, 3) := dk_180 0 41 (dk_at dksX9_doOrder_7 19 rfl rfl)
theorem dX9_doOrder_210 : decode cX9_doOrder 210 = .ok (.invokevirtual 128, 3) := dk_182 0 128 (dk_at dksX9_doOrder_8 0 rfl rfl)
theorem dX9_doOrder_213 : decode cX9_doOrder 213 = .ok (.pop, 1) := dk_87 (dk_at dksX9_doOrder_8 3 rfl rfl)
theorem dX9_doOrder_214 : decode cX9_doOrder 214 = .ok (.goto 68, 3) := dk_167 0 68 (dk_at dksX9_doOrder_8 4 rfl rfl)
theorem dX9_doOrder_217 : decode cX9_doOrder 217 = .ok (.aload_n 0, 1) := dk_42 (dk_at dksX9_doOrder_8 7 rfl rfl)
theorem dX9_doOrder_218 : decode cX9_doOrder 218 = .ok (.getfield 3, 3) := dk_180 0 3 (dk_at dksX9_doOrder_8 8 rfl rfl)
theorem dX9_doOrder_221 : decode cX9_doOrder 221 = .ok (.getfield 96, 3) := dk_180 0 96 (dk_at dksX9_doOrder_8 11 rfl rfl)
theorem dX9_doOrder_224 : decode cX9_doOrder 224 = .ok (.getfield 131, 3) := dk_180 0 131 (dk_at dksX9_doOrder_8 14 rfl rfl)
theorem dX9_doOrder_227 : decode cX9_doOrder 227 = .ok (.aload_n 0, 1) := dk_42 (dk_at dksX9_doOrder_8 17 rfl rfl)
theorem dX9_doOrder_228 : decode cX9_doOrder 228 = .ok (.getfield 44, 3) := dk_180 0 44 (dk_at dksX9_doOrder_8 18 rfl rfl)
theorem dX9_doOrder_231 : decode cX9_doOrder 231 = .ok (.aload_n 0, 1) := dk_42 (dk_at dksX9_doOrder_8 21 rfl rfl)
theorem dX9_doOrder_232 : decode cX9_doOrder 232 = .ok (.getfield 41, 3) := dk_180 0 41 (dk_at dksX9_doOrder_9 0 rfl rfl)
theorem dX9_doOrder_235 : decode cX9_doOrder 235 = .ok (.iastore, 1) := dk_79 (dk_at dksX9_doOrder_9 3 rfl rfl)
theorem dX9_doOrder_236 : decode cX9_doOrder 236 = .ok (.goto 46, 3) := dk_167 0 46 (dk_at dksX9_doOrder_9 4 rfl rfl)
theorem dX9_doOrder_239 : decode cX9_doOrder 239 = .ok (.aload_n 0, 1) := dk_42 (dk_at dksX9_doOrder_9 7 rfl rfl)
theorem dX9_doOrder_240 : decode cX9_doOrder 240 = .ok (.getfield 3, 3) := dk_180 0 3 (dk_at dksX9_doOrder_9 8 rfl rfl)
theorem dX9_doOrder_243 : decode cX9_doOrder 243 = .ok (.getfield 96, 3) := dk_180 0 96 (dk_at dksX9_doOrder_9 11 rfl rfl)
theorem dX9_doOrder_246 : decode cX9_doOrder 246 = .ok (.aload_n 0, 1) := dk_42 (dk_at dksX9_doOrder_9 14 rfl rfl)
theorem dX9_doOrder_247 : decode cX9_doOrder 247 = .ok (.getfield 44, 3) := dk_180 0 44 (dk_at dksX9_doOrder_9 15 rfl rfl)
theorem dX9_doOrder_250 : decode cX9_doOrder 250 = .ok (.putfield 135, 3) := dk_181 0 135 (dk_at dksX9_doOrder_9 18 rfl rfl)
theorem dX9_doOrder_253 : decode cX9_doOrder 253 = .ok (.aload_n 0, 1) := dk_42 (dk_at dksX9_doOrder_9 21 rfl rfl)
theorem dX9_doOrder_254 : decode cX9_doOrder 254 = .ok (.getfield 3, 3) := dk_180 0 3 (dk_at dksX9_doOrder_10 0 rfl rfl)
theorem dX9_doOrder_257 : decode cX9_doOrder 257 = .ok (.getfield 96, 3) := dk_180 0 96 (dk_at dksX9_doOrder_10 3 rfl rfl)
theorem dX9_doOrder_260 : decode cX9_doOrder 260 = .ok (.aload_n 0, 1) := dk_42 (dk_at dksX9_doOrder_10 6 rfl rfl)
theorem dX9_doOrder_261 : decode cX9_doOrder 261 = .ok (.getfield 41, 3) := dk_180 0 41 (dk_at dksX9_doOrder_10 7 rfl rfl)
theorem dX9_doOrder_264 : decode cX9_doOrder 264 = .ok (.putfield 138, 3) := dk_181 0 138 (dk_at dksX9_doOrder_10 10 rfl rfl)
theorem dX9_doOrder_267 : decode cX9_doOrder 267 = .ok (.goto 15, 3) := dk_167 0 15 (dk_at dksX9_doOrder_10 13 rfl rfl)
theorem dX9_doOrder_270 : decode cX9_doOrder 270 = .ok (.aload_n 0, 1) := dk_42 (dk_at dksX9_doOrder_10 16 rfl rfl)
theorem dX9_doOrder_271 : decode cX9_doOrder 271 = .ok (.getfield 3, 3) := dk_180 0 3 (dk_at dksX9_doOrder_10 17 rfl rfl)
theorem dX9_doOrder_274 : decode cX9_doOrder 274 = .ok (.aload_n 0, 1) := dk_42 (dk_at dksX9_doOrder_10 20 rfl rfl)
theorem dX9_doOrder_275 : decode cX9_doOrder 275 = .ok (.getfield 41, 3) := dk_180 0 41 (dk_at dksX9_doOrder_10 21 rfl rfl)
theorem dX9_doOrder_278 : decode cX9_doOrder 278 = .ok (.invokevirtual 141, 3) := dk_182 0 141 (dk_at dksX9_doOrder_11 0 rfl rfl)
theorem dX9_doOrder_281 : decode cX9_doOrder 281 = .ok (.pop, 1) := dk_87 (dk_at dksX9_doOrder_11 3 rfl rfl)
theorem dX9_doOrder_282 : decode cX9_doOrder 282 = .ok (.return_, 1) := dk_177 (dk_at dksX9_doOrder_11 4 rfl rfl)
theorem q134 : (Jvm.Cond.initialized "ShorePools$Reader") ∈ lw_all := lw_g (lw_at lw_m1 33 rfl) rfl
theorem q177 : (Jvm.Cond.fieldLink "ShorePools$Reader" (100 : Nat) "ShorePools$State" "limpets" "Ljava/util/ArrayList;") ∈ lw_all := lw_g (lw_at lw_m1 76 rfl) rfl
theorem q180 : (Jvm.Cond.fieldLink "ShorePools$Reader" (114 : Nat) "ShorePools$State" "shells" "Ljava/util/ArrayList;") ∈ lw_all := lw_g (lw_at lw_m1 79 rfl) rfl
theorem q183 : (Jvm.Cond.fieldLink "ShorePools$Reader" (111 : Nat) "ShorePools$State" "crabs" "Ljava/util/ArrayList;") ∈ lw_all := lw_g (lw_at lw_m1 82 rfl) rfl
theorem q186 : (Jvm.Cond.fieldLink "ShorePools$Reader" (131 : Nat) "ShorePools$State" "heights" "[I") ∈ lw_all := lw_g (lw_at lw_m1 85 rfl) rfl
theorem q195 : (Jvm.Cond.fieldLink "ShorePools$Reader" (135 : Nat) "ShorePools$State" "low" "I") ∈ lw_all := lw_g (lw_at lw_m1 94 rfl) rfl
theorem q198 : (Jvm.Cond.fieldLink "ShorePools$Reader" (138 : Nat) "ShorePools$State" "high" "I") ∈ lw_all := lw_g (lw_at lw_m1 97 rfl) rfl
theorem q273 : (Jvm.Cond.fieldLinkNest "ShorePools$Reader" (96 : Nat) "ShorePools" "now" "LShorePools$State;" "ShorePools") ∈ lw_tbl := lw_at lw_m1 172 rfl
theorem q277 : (Jvm.Cond.fieldLinkNest "ShorePools$Reader" (19 : Nat) "ShorePools" "note" "Ljava/lang/StringBuilder;" "ShorePools") ∈ lw_tbl := lw_at lw_m1 176 rfl
theorem q651 : (Jvm.Cond.instantiable "ShorePools$Reader" (5 : Nat)) ∈ lw_all := lw_g (lw_at lw_m3 70 rfl) rfl
theorem q653 : (Jvm.Cond.instanceMethod ({ cls := "ShorePools$Reader", name := "<init>", desc := "(LShorePools;)V" } : Jvm.MethodName)) ∈ lw_all := lw_g (lw_at lw_m3 72 rfl) rfl
theorem q654 : (Jvm.Cond.code ({ cls := "ShorePools$Reader", name := "<init>", desc := "(LShorePools;)V" } : Jvm.MethodName) prog_5_method_1_code (2 : Nat) (Option.none : Option Jvm.ClassFile.FieldType)) ∈ lw_all := lw_g (lw_at lw_m3 73 rfl) rfl
theorem q655 : (Jvm.Cond.methodLink "ShorePools$Reader" (9 : Nat) ({ cls := "java/lang/Object", name := "<init>", desc := "()V" } : Jvm.MethodName)) ∈ lw_all := lw_g (lw_at lw_m3 74 rfl) rfl
theorem q656 : (Jvm.Cond.fieldLink "ShorePools$Reader" (15 : Nat) "ShorePools$Reader" "at" "I") ∈ lw_all := lw_g (lw_at lw_m3 75 rfl) rfl
theorem q657 : (Jvm.Cond.fieldLink "ShorePools$Reader" (62 : Nat) "ShorePools$Reader" "order" "Ljava/lang/String;") ∈ lw_all := lw_g (lw_at lw_m3 76 rfl) rfl
theorem q658 : (Jvm.Cond.fieldLink "ShorePools$Reader" (44 : Nat) "ShorePools$Reader" "first" "I") ∈ lw_all := lw_g (lw_at lw_m3 77 rfl) rfl
theorem q659 : (Jvm.Cond.fieldLink "ShorePools$Reader" (41 : Nat) "ShorePools$Reader" "second" "I") ∈ lw_all := lw_g (lw_at lw_m3 78 rfl) rfl
theorem q660 : (Jvm.Cond.fieldLink "ShorePools$Reader" (3 : Nat) "ShorePools$Reader" "this$0" "LShorePools;") ∈ lw_all := lw_g (lw_at lw_m3 79 rfl) rfl
theorem q661 : (Jvm.Cond.lays "ShorePools$Reader" "ShorePools$Reader" "at" "I") ∈ lw_all := lw_g (lw_at lw_m3 80 rfl) rfl
theorem q662 : (Jvm.Cond.soleField "ShorePools$Reader" "at") ∈ lw_all := lw_g (lw_at lw_m3 81 rfl) rfl
theorem q663 : (Jvm.Cond.lays "ShorePools$Reader" "ShorePools$Reader" "order" "Ljava/lang/String;") ∈ lw_all := lw_g (lw_at lw_m3 82 rfl) rfl
theorem q664 : (Jvm.Cond.soleField "ShorePools$Reader" "order") ∈ lw_all := lw_g (lw_at lw_m3 83 rfl) rfl
theorem q665 : (Jvm.Cond.lays "ShorePools$Reader" "ShorePools$Reader" "first" "I") ∈ lw_all := lw_g (lw_at lw_m3 84 rfl) rfl
theorem q666 : (Jvm.Cond.soleField "ShorePools$Reader" "first") ∈ lw_all := lw_g (lw_at lw_m3 85 rfl) rfl
theorem q667 : (Jvm.Cond.lays "ShorePools$Reader" "ShorePools$Reader" "second" "I") ∈ lw_all := lw_g (lw_at lw_m3 86 rfl) rfl
theorem q668 : (Jvm.Cond.soleField "ShorePools$Reader" "second") ∈ lw_all := lw_g (lw_at lw_m3 87 rfl) rfl
theorem q669 : (Jvm.Cond.laysFinal "ShorePools$Reader" "ShorePools$Reader" "this$0" "LShorePools;") ∈ lw_all := lw_g (lw_at lw_m3 88 rfl) rfl
theorem q670 : (Jvm.Cond.soleField "ShorePools$Reader" "this$0") ∈ lw_all := lw_g (lw_at lw_m3 89 rfl) rfl
theorem q671 : (Jvm.Cond.superclass "ShorePools$Reader" "java/lang/Object") ∈ lw_all := lw_g (lw_at lw_m3 90 rfl) rfl
theorem q673 : (Jvm.Cond.instanceMethod ({ cls := "ShorePools$Reader", name := "error", desc := "()I" } : Jvm.MethodName)) ∈ lw_all := lw_g (lw_at lw_m3 92 rfl) rfl
theorem q674 : (Jvm.Cond.selects "ShorePools$Reader" ({ cls := "ShorePools$Reader", name := "error", desc := "()I" } : Jvm.MethodName) ({ cls := "ShorePools$Reader", name := "error", desc := "()I" } : Jvm.MethodName)) ∈ lw_all := lw_g (lw_at lw_m3 93 rfl) rfl
theorem q675 : (Jvm.Cond.code ({ cls := "ShorePools$Reader", name := "error", desc := "()I" } : Jvm.MethodName) prog_5_method_10_code (1 : Nat) (Option.some Jvm.ClassFile.FieldType.int)) ∈ lw_all := lw_g (lw_at lw_m3 94 rfl) rfl
theorem q676 : (Jvm.Cond.methodLink "ShorePools$Reader" (93 : Nat) ({ cls := "ShorePools$Reader", name := "readOrder", desc := "()Z" } : Jvm.MethodName)) ∈ lw_all := lw_g (lw_at lw_m3 95 rfl) rfl
theorem q677 : (Jvm.Cond.instanceMethod ({ cls := "ShorePools$Reader", name := "readOrder", desc := "()Z" } : Jvm.MethodName)) ∈ lw_all := lw_g (lw_at lw_m3 96 rfl) rfl
theorem q678 : (Jvm.Cond.selects "ShorePools$Reader" ({ cls := "ShorePools$Reader", name := "readOrder", desc := "()Z" } : Jvm.MethodName) ({ cls := "ShorePools$Reader", name := "readOrder", desc := "()Z" } : Jvm.MethodName)) ∈ lw_all := lw_g (lw_at lw_m3 97 rfl) rfl
theorem q679 : (Jvm.Cond.code ({ cls := "ShorePools$Reader", name := "readOrder", desc := "()Z" } : Jvm.MethodName) prog_5_method_9_code (3 : Nat) (Option.some Jvm.ClassFile.FieldType.boolean)) ∈ lw_all := lw_g (lw_at lw_m3 98 rfl) rfl
theorem q680 : (Jvm.Cond.methodLink "ShorePools$Reader" (23 : Nat) ({ cls := "java/lang/StringBuilder", name := "length", desc := "()I" } : Jvm.MethodName)) ∈ lw_all := lw_g (lw_at lw_m3 99 rfl) rfl
theorem q681 : (Jvm.Cond.methodLink "ShorePools$Reader" (58 : Nat) ({ cls := "java/lang/StringBuilder", name := "substring", desc := "(II)Ljava/lang/String;" } : Jvm.MethodName)) ∈ lw_all := lw_g (lw_at lw_m3 100 rfl) rfl
theorem q708 : (Jvm.Cond.methodLink "ShorePools$Reader" (66 : Nat) ({ cls := "java/lang/String", name := "hashCode", desc := "()I" } : Jvm.MethodName)) ∈ lw_all := lw_g (lw_at lw_m3 127 rfl) rfl
theorem q769 : (Jvm.Cond.stringRef "ShorePools$Reader" (71 : Nat) "l") ∈ lw_tbl := lw_at lw_m3 188 rfl
theorem q770 : (Jvm.Cond.methodLink "ShorePools$Reader" (73 : Nat) ({ cls := "java/lang/String", name := "equals", desc := "(Ljava/lang/Object;)Z" } : Jvm.MethodName)) ∈ lw_all := lw_g (lw_at lw_m3 189 rfl) rfl
theorem q778 : (Jvm.Cond.stringRef "ShorePools$Reader" (77 : Nat) "c") ∈ lw_tbl := lw_at lw_m3 197 rfl
theorem q779 : (Jvm.Cond.stringRef "ShorePools$Reader" (79 : Nat) "s") ∈ lw_tbl := lw_at lw_m3 198 rfl
theorem q780 : (Jvm.Cond.stringRef "ShorePools$Reader" (81 : Nat) "h") ∈ lw_tbl := lw_at lw_m3 199 rfl
theorem q781 : (Jvm.Cond.stringRef "ShorePools$Reader" (83 : Nat) "t") ∈ lw_tbl := lw_at lw_m3 200 rfl
theorem q782 : (Jvm.Cond.stringRef "ShorePools$Reader" (85 : Nat) "w") ∈ lw_tbl := lw_at lw_m3 201 rfl
theorem q783 : (Jvm.Cond.methodLink "ShorePools$Reader" (47 : Nat) ({ cls := "ShorePools$Reader", name := "readPool", desc := "()Z" } : Jvm.MethodName)) ∈ lw_all := lw_g (lw_at lw_m3 202 rfl) rfl
theorem q784 : (Jvm.Cond.privateMethod ({ cls := "ShorePools$Reader", name := "readPool", desc := "()Z" } : Jvm.MethodName)) ∈ lw_tbl := lw_at lw_m3 203 rfl
theorem q785 : (Jvm.Cond.instanceMethod ({ cls := "ShorePools$Reader", name := "readPool", desc := "()Z" } : Jvm.MethodName)) ∈ lw_all := lw_g (lw_at lw_m3 204 rfl) rfl
theorem q786 : (Jvm.Cond.code ({ cls := "ShorePools$Reader", name := "readPool", desc := "()Z" } : Jvm.MethodName) prog_5_method_6_code (1 : Nat) (Option.some Jvm.ClassFile.FieldType.boolean)) ∈ lw_all := lw_g (lw_at lw_m3 205 rfl) rfl
theorem q787 : (Jvm.Cond.methodLink "ShorePools$Reader" (33 : Nat) ({ cls := "ShorePools$Reader", name := "isHere", desc := "(II)Z" } : Jvm.MethodName)) ∈ lw_all := lw_g (lw_at lw_m3 206 rfl) rfl
theorem q788 : (Jvm.Cond.privateMethod ({ cls := "ShorePools$Reader", name := "isHere", desc := "(II)Z" } : Jvm.MethodName)) ∈ lw_tbl := lw_at lw_m3 207 rfl
theorem q789 : (Jvm.Cond.instanceMethod ({ cls := "ShorePools$Reader", name := "isHere", desc := "(II)Z" } : Jvm.MethodName)) ∈ lw_all := lw_g (lw_at lw_m3 208 rfl) rfl
theorem q790 : (Jvm.Cond.code ({ cls := "ShorePools$Reader", name := "isHere", desc := "(II)Z" } : Jvm.MethodName) prog_5_method_2_code (3 : Nat) (Option.some Jvm.ClassFile.FieldType.boolean)) ∈ lw_all := lw_g (lw_at lw_m3 209 rfl) rfl
theorem q791 : (Jvm.Cond.methodLink "ShorePools$Reader" (29 : Nat) ({ cls := "java/lang/StringBuilder", name := "charAt", desc := "(I)C" } : Jvm.MethodName)) ∈ lw_all := lw_g (lw_at lw_m3 210 rfl) rfl
theorem q806 : (Jvm.Cond.methodLink "ShorePools$Reader" (87 : Nat) ({ cls := "ShorePools$Reader", name := "readAt", desc := "(II)Z" } : Jvm.MethodName)) ∈ lw_all := lw_g (lw_at lw_m3 225 rfl) rfl
theorem q807 : (Jvm.Cond.privateMethod ({ cls := "ShorePools$Reader", name := "readAt", desc := "(II)Z" } : Jvm.MethodName)) ∈ lw_tbl := lw_at lw_m3 226 rfl
theorem q808 : (Jvm.Cond.instanceMethod ({ cls := "ShorePools$Reader", name := "readAt", desc := "(II)Z" } : Jvm.MethodName)) ∈ lw_all := lw_g (lw_at lw_m3 227 rfl) rfl
theorem q809 : (Jvm.Cond.code ({ cls := "ShorePools$Reader", name := "readAt", desc := "(II)Z" } : Jvm.MethodName) prog_5_method_7_code (3 : Nat) (Option.some Jvm.ClassFile.FieldType.boolean)) ∈ lw_all := lw_g (lw_at lw_m3 228 rfl) rfl
theorem q810 : (Jvm.Cond.methodLink "ShorePools$Reader" (51 : Nat) ({ cls := "ShorePools$Reader", name := "takeSign", desc := "(I)Z" } : Jvm.MethodName)) ∈ lw_all := lw_g (lw_at lw_m3 229 rfl) rfl
theorem q811 : (Jvm.Cond.privateMethod ({ cls := "ShorePools$Reader", name := "takeSign", desc := "(I)Z" } : Jvm.MethodName)) ∈ lw_tbl := lw_at lw_m3 230 rfl
theorem q812 : (Jvm.Cond.instanceMethod ({ cls := "ShorePools$Reader", name := "takeSign", desc := "(I)Z" } : Jvm.MethodName)) ∈ lw_all := lw_g (lw_at lw_m3 231 rfl) rfl
theorem q813 : (Jvm.Cond.code ({ cls := "ShorePools$Reader", name := "takeSign", desc := "(I)Z" } : Jvm.MethodName) prog_5_method_3_code (3 : Nat) (Option.some Jvm.ClassFile.FieldType.boolean)) ∈ lw_all := lw_g (lw_at lw_m3 232 rfl) rfl
theorem q814 : (Jvm.Cond.methodLink "ShorePools$Reader" (55 : Nat) ({ cls := "ShorePools$Reader", name := "readNumber", desc := "(II)Z" } : Jvm.MethodName)) ∈ lw_all := lw_g (lw_at lw_m3 233 rfl) rfl
theorem q815 : (Jvm.Cond.privateMethod ({ cls := "ShorePools$Reader", name := "readNumber", desc := "(II)Z" } : Jvm.MethodName)) ∈ lw_tbl := lw_at lw_m3 234 rfl
theorem q816 : (Jvm.Cond.instanceMethod ({ cls := "ShorePools$Reader", name := "readNumber", desc := "(II)Z" } : Jvm.MethodName)) ∈ lw_all := lw_g (lw_at lw_m3 235 rfl) rfl
theorem q817 : (Jvm.Cond.code ({ cls := "ShorePools$Reader", name := "readNumber", desc := "(II)Z" } : Jvm.MethodName) prog_5_method_4_code (6 : Nat) (Option.some Jvm.ClassFile.FieldType.boolean)) ∈ lw_all := lw_g (lw_at lw_m3 236 rfl) rfl
theorem q818 : (Jvm.Cond.methodLink "ShorePools$Reader" (37 : Nat) ({ cls := "ShorePools$Reader", name := "canGoOn", desc := "(III)Z" } : Jvm.MethodName)) ∈ lw_all := lw_g (lw_at lw_m3 237 rfl) rfl
theorem q819 : (Jvm.Cond.privateMethod ({ cls := "ShorePools$Reader", name := "canGoOn", desc := "(III)Z" } : Jvm.MethodName)) ∈ lw_tbl := lw_at lw_m3 238 rfl
theorem q820 : (Jvm.Cond.instanceMethod ({ cls := "ShorePools$Reader", name := "canGoOn", desc := "(III)Z" } : Jvm.MethodName)) ∈ lw_all := lw_g (lw_at lw_m3 239 rfl) rfl
theorem q821 : (Jvm.Cond.code ({ cls := "ShorePools$Reader", name := "canGoOn", desc := "(III)Z" } : Jvm.MethodName) prog_5_method_5_code (4 : Nat) (Option.some Jvm.ClassFile.FieldType.boolean)) ∈ lw_all := lw_g (lw_at lw_m4 0 rfl) rfl
theorem q822 : (Jvm.Cond.methodLink "ShorePools$Reader" (90 : Nat) ({ cls := "ShorePools$Reader", name := "readTide", desc := "()Z" } : Jvm.MethodName)) ∈ lw_all := lw_g (lw_at lw_m4 1 rfl) rfl
theorem q823 : (Jvm.Cond.privateMethod ({ cls := "ShorePools$Reader", name := "readTide", desc := "()Z" } : Jvm.MethodName)) ∈ lw_tbl := lw_at lw_m4 2 rfl
theorem q824 : (Jvm.Cond.instanceMethod ({ cls := "ShorePools$Reader", name := "readTide", desc := "()Z" } : Jvm.MethodName)) ∈ lw_all := lw_g (lw_at lw_m4 3 rfl) rfl
theorem q825 : (Jvm.Cond.code ({ cls := "ShorePools$Reader", name := "readTide", desc := "()Z" } : Jvm.MethodName) prog_5_method_8_code (2 : Nat) (Option.some Jvm.ClassFile.FieldType.boolean)) ∈ lw_all := lw_g (lw_at lw_m4 4 rfl) rfl
theorem q910 : (Jvm.Cond.selects "ShorePools$Reader" ({ cls := "java/lang/Object", name := "getClass", desc := "()Ljava/lang/Class;" } : Jvm.MethodName) ({ cls := "java/lang/Object", name := "getClass", desc := "()Ljava/lang/Class;" } : Jvm.MethodName)) ∈ lw_all := lw_g (lw_at lw_m4 89 rfl) rfl
theorem q1473 : (Jvm.Cond.instanceMethod ({ cls := "ShorePools$Reader", name := "doAll", desc := "()I" } : Jvm.MethodName)) ∈ lw_all := lw_g (lw_at lw_m6 172 rfl) rfl
theorem q1474 : (Jvm.Cond.selects "ShorePools$Reader" ({ cls := "ShorePools$Reader", name := "doAll", desc := "()I" } : Jvm.MethodName) ({ cls := "ShorePools$Reader", name := "doAll", desc := "()I" } : Jvm.MethodName)) ∈ lw_all := lw_g (lw_at lw_m6 173 rfl) rfl
theorem q1475 : (Jvm.Cond.code ({ cls := "ShorePools$Reader", name := "doAll", desc := "()I" } : Jvm.MethodName) prog_5_method_13_code (2 : Nat) (Option.some Jvm.ClassFile.FieldType.int)) ∈ lw_all := lw_g (lw_at lw_m6 174 rfl) rfl
theorem q1476 : (Jvm.Cond.methodLink "ShorePools$Reader" (144 : Nat) ({ cls := "ShorePools$Reader", name := "canDo", desc := "()Z" } : Jvm.MethodName)) ∈ lw_all := lw_g (lw_at lw_m6 175 rfl) rfl
theorem q1477 : (Jvm.Cond.privateMethod ({ cls := "ShorePools$Reader", name := "canDo", desc := "()Z" } : Jvm.MethodName)) ∈ lw_tbl := lw_at lw_m6 176 rfl
theorem q1478 : (Jvm.Cond.instanceMethod ({ cls := "ShorePools$Reader", name := "canDo", desc := "()Z" } : Jvm.MethodName)) ∈ lw_all := lw_g (lw_at lw_m6 177 rfl) rfl
theorem q1479 : (Jvm.Cond.code ({ cls := "ShorePools$Reader", name := "canDo", desc := "()Z" } : Jvm.MethodName) prog_5_method_11_code (3 : Nat) (Option.some Jvm.ClassFile.FieldType.boolean)) ∈ lw_all := lw_g (lw_at lw_m6 178 rfl) rfl
theorem q1480 : (Jvm.Cond.methodLink "ShorePools$Reader" (106 : Nat) ({ cls := "java/util/ArrayList", name := "size", desc := "()I" } : Jvm.MethodName)) ∈ lw_all := lw_g (lw_at lw_m6 179 rfl) rfl
theorem q1481 : (Jvm.Cond.methodLinkNest "ShorePools$Reader" (117 : Nat) ({ cls := "ShorePools", name := "canPass", desc := "(I)Z" } : Jvm.MethodName) "ShorePools") ∈ lw_tbl := lw_at lw_m6 180 rfl
theorem q1482 : (Jvm.Cond.methodLink "ShorePools$Reader" (147 : Nat) ({ cls := "ShorePools$Reader", name := "doOrder", desc := "()V" } : Jvm.MethodName)) ∈ lw_all := lw_g (lw_at lw_m6 181 rfl) rfl
theorem q1483 : (Jvm.Cond.privateMethod ({ cls := "ShorePools$Reader", name := "doOrder", desc := "()V" } : Jvm.MethodName)) ∈ lw_tbl := lw_at lw_m6 182 rfl
theorem q1484 : (Jvm.Cond.instanceMethod ({ cls := "ShorePools$Reader", name := "doOrder", desc := "()V" } : Jvm.MethodName)) ∈ lw_all := lw_g (lw_at lw_m6 183 rfl) rfl
theorem q1485 : (Jvm.Cond.code ({ cls := "ShorePools$Reader", name := "doOrder", desc := "()V" } : Jvm.MethodName) prog_5_method_12_code (3 : Nat) (Option.none : Option Jvm.ClassFile.FieldType)) ∈ lw_all := lw_g (lw_at lw_m6 184 rfl) rfl
theorem q1486 : (Jvm.Cond.methodLinkNest "ShorePools$Reader" (120 : Nat) ({ cls := "ShorePools", name := "limpetComes", desc := "(I)I" } : Jvm.MethodName) "ShorePools") ∈ lw_tbl := lw_at lw_m6 185 rfl
theorem q1487 : (Jvm.Cond.methodLinkNest "ShorePools$Reader" (124 : Nat) ({ cls := "ShorePools", name := "crabComes", desc := "(II)I" } : Jvm.MethodName) "ShorePools") ∈ lw_tbl := lw_at lw_m6 186 rfl
theorem q1488 : (Jvm.Cond.methodLinkNest "ShorePools$Reader" (128 : Nat) ({ cls := "ShorePools", name := "shellComes", desc := "(II)I" } : Jvm.MethodName) "ShorePools") ∈ lw_tbl := lw_at lw_m6 187 rfl
theorem q1489 : (Jvm.Cond.methodLinkNest "ShorePools$Reader" (141 : Nat) ({ cls := "ShorePools", name := "passes", desc := "(I)I" } : Jvm.MethodName) "ShorePools") ∈ lw_tbl := lw_at lw_m6 188 rfl
theorem q2300 : (Jvm.Cond.castable "ShorePools$Reader" "java/lang/Object") ∈ lw_tbl := lw_at lw_m10 39 rfl
theorem in_X9 : ∀ w ∈ wsX90, w ∈ lw_all := lw_in wsX90 [661, 663, 665, 667, 669] (by decide +kernel) (by decide +kernel)
/-! ShorePools$Living -/
set_option maxRecDepth 100000
def RX10 : String := "ShorePools$Living"
abbrev cX10_lives : ByteArray := prog_4_method_3_code
def yX10_lives : MethodName := ⟨RX10, "lives", "()Z"⟩
def dkwX10_lives_0 : List UInt8 := [42, 185, 0, 3, 1, 0, 154, 0, 7, 4, 167, 0, 4, 3, 172]
abbrev dktX10_lives_0 : List UInt8 := dkwX10_lives_0 ++ []
theorem dksX10_lives_0 : cX10_lives.data.toList.drop 0 = dktX10_lives_0 := by decide +kernel
theorem dX10_lives_0 : decode cX10_lives 0 = .ok (.aload_n 0, 1) := dk_42 (dk_at dksX10_lives_0 0 rfl rfl)
theorem dX10_lives_1 : decode cX10_lives 1 = .ok (.invokeinterface 3 1, 5) := by decide +kernel
theorem dX10_lives_6 : decode cX10_lives 6 = .ok (.ifCond .ne 7, 3) := dk_154 0 7 (dk_at dksX10_lives_0 6 rfl rfl)
theorem dX10_lives_9 : decode cX10_lives 9 = .ok (.iconst 1, 1) := dk_4 (dk_at dksX10_lives_0 9 rfl rfl)
theorem dX10_lives_10 : decode cX10_lives 10 = .ok (.goto 4, 3) := dk_167 0 4 (dk_at dksX10_lives_0 10 rfl rfl)
theorem dX10_lives_13 : decode cX10_lives 13 = .ok (.iconst 0, 1) := dk_3 (dk_at dksX10_lives_0 13 rfl rfl)
theorem dX10_lives_14 : decode cX10_lives 14 = .ok (.ireturn, 1) := dk_172 (dk_at dksX10_lives_0 14 rfl rfl)
abbrev cX10_livesIn : ByteArray := prog_4_method_4_code
def yX10_livesIn : MethodName := ⟨RX10, "livesIn", "(I)Z"⟩
def dkwX10_livesIn_1 : List UInt8 := [172]
abbrev dktX10_livesIn_1 : List UInt8 := dkwX10_livesIn_1 ++ []
def dkwX10_livesIn_0 : List UInt8 := [42, 185, 0, 9, 1, 0, 153, 0, 17, 42, 185, 0, 13, 1, 0, 27, 160, 0, 7, 4, 167, 0, 4, 3]
abbrev dktX10_livesIn_0 : List UInt8 := dkwX10_livesIn_0 ++ dktX10_livesIn_1
theorem dksX10_livesIn_0 : cX10_livesIn.data.toList.drop 0 = dktX10_livesIn_0 := by decide +kernel
theorem dksX10_livesIn_1 : cX10_livesIn.data.toList.drop 24 = dktX10_livesIn_1 := dk_seg dksX10_livesIn_0 24 rfl rfl
theorem dX10_livesIn_0 : decode cX10_livesIn 0 = .ok (.aload_n 0, 1) := dk_42 (dk_at dksX10_livesIn_0 0 rfl rfl)
theorem dX10_livesIn_1 : decode cX10_livesIn 1 = .ok (.invokeinterface 9 1, 5) := by decide +kernel
theorem dX10_livesIn_6 : decode cX10_livesIn 6 = .ok (.ifCond .eq 17, 3) := dk_153 0 17 (dk_at dksX10_livesIn_0 6 rfl rfl)
theorem dX10_livesIn_9 : decode cX10_livesIn 9 = .ok (.aload_n 0, 1) := dk_42 (dk_at dksX10_livesIn_0 9 rfl rfl)
theorem dX10_livesIn_10 : decode cX10_livesIn 10 = .ok (.invokeinterface 13 1, 5) := by decide +kernel
theorem dX10_livesIn_15 : decode cX10_livesIn 15 = .ok (.iload_n 1, 1) := dk_27 (dk_at dksX10_livesIn_0 15 rfl rfl)
theorem dX10_livesIn_16 : decode cX10_livesIn 16 = .ok (.if_icmp .ne 7, 3) := dk_160 0 7 (dk_at dksX10_livesIn_0 16 rfl rfl)
theorem dX10_livesIn_19 : decode cX10_livesIn 19 = .ok (.iconst 1, 1) := dk_4 (dk_at dksX10_livesIn_0 19 rfl rfl)
theorem dX10_livesIn_20 : decode cX10_livesIn 20 = .ok (.goto 4, 3) := dk_167 0 4 (dk_at dksX10_livesIn_0 20 rfl rfl)
theorem dX10_livesIn_23 : decode cX10_livesIn 23 = .ok (.iconst 0, 1) := dk_3 (dk_at dksX10_livesIn_0 23 rfl rfl)
theorem dX10_livesIn_24 : decode cX10_livesIn 24 = .ok (.ireturn, 1) := dk_172 (dk_at dksX10_livesIn_1 0 rfl rfl)
theorem q1035 : (Jvm.Cond.declares ({ cls := "ShorePools$Living", name := "lives", desc := "()Z" } : Jvm.MethodName)) ∈ lw_tbl := lw_at lw_m4 214 rfl
theorem q1037 : (Jvm.Cond.instanceMethod ({ cls := "ShorePools$Living", name := "lives", desc := "()Z" } : Jvm.MethodName)) ∈ lw_all := lw_g (lw_at lw_m4 216 rfl) rfl
theorem q1038 : (Jvm.Cond.publicMethod ({ cls := "ShorePools$Living", name := "lives", desc := "()Z" } : Jvm.MethodName)) ∈ lw_tbl := lw_at lw_m4 217 rfl
theorem q1039 : (Jvm.Cond.code ({ cls := "ShorePools$Living", name := "lives", desc := "()Z" } : Jvm.MethodName) prog_4_method_3_code (1 : Nat) (Option.some Jvm.ClassFile.FieldType.boolean)) ∈ lw_all := lw_g (lw_at lw_m4 218 rfl) rfl
theorem q1040 : (Jvm.Cond.interfaceEntry "ShorePools$Living" (3 : Nat)) ∈ lw_tbl := lw_at lw_m4 219 rfl
theorem q1041 : (Jvm.Cond.methodLink "ShorePools$Living" (3 : Nat) ({ cls := "ShorePools$Living", name := "fate", desc := "()I" } : Jvm.MethodName)) ∈ lw_all := lw_g (lw_at lw_m4 220 rfl) rfl
theorem q1042 : (Jvm.Cond.interfaceMethod "ShorePools$Living" "ShorePools$Living" "fate" "()I") ∈ lw_tbl := lw_at lw_m4 221 rfl
theorem q1043 : (Jvm.Cond.declares ({ cls := "ShorePools$Living", name := "fate", desc := "()I" } : Jvm.MethodName)) ∈ lw_tbl := lw_at lw_m4 222 rfl
theorem q1227 : (Jvm.Cond.declares ({ cls := "ShorePools$Living", name := "livesIn", desc := "(I)Z" } : Jvm.MethodName)) ∈ lw_tbl := lw_at lw_m5 166 rfl
theorem q1229 : (Jvm.Cond.instanceMethod ({ cls := "ShorePools$Living", name := "livesIn", desc := "(I)Z" } : Jvm.MethodName)) ∈ lw_all := lw_g (lw_at lw_m5 168 rfl) rfl
theorem q1230 : (Jvm.Cond.publicMethod ({ cls := "ShorePools$Living", name := "livesIn", desc := "(I)Z" } : Jvm.MethodName)) ∈ lw_tbl := lw_at lw_m5 169 rfl
theorem q1231 : (Jvm.Cond.code ({ cls := "ShorePools$Living", name := "livesIn", desc := "(I)Z" } : Jvm.MethodName) prog_4_method_4_code (2 : Nat) (Option.some Jvm.ClassFile.FieldType.boolean)) ∈ lw_all := lw_g (lw_at lw_m5 170 rfl) rfl
theorem q1232 : (Jvm.Cond.interfaceEntry "ShorePools$Living" (9 : Nat)) ∈ lw_tbl := lw_at lw_m5 171 rfl
theorem q1233 : (Jvm.Cond.methodLink "ShorePools$Living" (9 : Nat) ({ cls := "ShorePools$Living", name := "lives", desc := "()Z" } : Jvm.MethodName)) ∈ lw_all := lw_g (lw_at lw_m5 172 rfl) rfl
theorem q1234 : (Jvm.Cond.interfaceMethod "ShorePools$Living" "ShorePools$Living" "lives" "()Z") ∈ lw_tbl := lw_at lw_m5 173 rfl
theorem q1235 : (Jvm.Cond.interfaceEntry "ShorePools$Living" (13 : Nat)) ∈ lw_tbl := lw_at lw_m5 174 rfl
theorem q1236 : (Jvm.Cond.methodLink "ShorePools$Living" (13 : Nat) ({ cls := "ShorePools$Living", name := "pool", desc := "()I" } : Jvm.MethodName)) ∈ lw_all := lw_g (lw_at lw_m5 175 rfl) rfl
theorem q1237 : (Jvm.Cond.interfaceMethod "ShorePools$Living" "ShorePools$Living" "pool" "()I") ∈ lw_tbl := lw_at lw_m5 176 rfl
theorem q1238 : (Jvm.Cond.declares ({ cls := "ShorePools$Living", name := "pool", desc := "()I" } : Jvm.MethodName)) ∈ lw_tbl := lw_at lw_m5 177 rfl
theorem q2282 : (Jvm.Cond.initialized "ShorePools$Living") ∈ lw_all := lw_g (lw_at lw_m10 21 rfl) rfl
