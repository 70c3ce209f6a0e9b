/-! DialectdepotLaw -/
set_option maxRecDepth 100000
def RX0 : String := "DialectdepotLaw"
abbrev cX0_addStreet : ByteArray := method_3_code
def yX0_addStreet : MethodName := ⟨RX0, "addStreet", "(LDialectdepot;[J)I"⟩
def dkwX0_addStreet_0 : List UInt8 := [43, 3, 42, 182, 0, 7, 133, 80, 167, 0, 6, 77, 4, 172, 3, 172]
abbrev dktX0_addStreet_0 : List UInt8 := dkwX0_addStreet_0 ++ []
theorem dksX0_addStreet_0 : cX0_addStreet.data.toList.drop 0 = dktX0_addStreet_0 := by decide +kernel
theorem dX0_addStreet_0 : decode cX0_addStreet 0 = .ok (.aload_n 1, 1) := dk_43 (dk_at dksX0_addStreet_0 0 rfl rfl)
theorem dX0_addStreet_1 : decode cX0_addStreet 1 = .ok (.iconst 0, 1) := dk_3 (dk_at dksX0_addStreet_0 1 rfl rfl)
theorem dX0_addStreet_2 : decode cX0_addStreet 2 = .ok (.aload_n 0, 1) := dk_42 (dk_at dksX0_addStreet_0 2 rfl rfl)
theorem dX0_addStreet_3 : decode cX0_addStreet 3 = .ok (.invokevirtual 7, 3) := dk_182 0 7 (dk_at dksX0_addStreet_0 3 rfl rfl)
theorem dX0_addStreet_6 : decode cX0_addStreet 6 = .ok (.i2l, 1) := dk_133 (dk_at dksX0_addStreet_0 6 rfl rfl)
theorem dX0_addStreet_7 : decode cX0_addStreet 7 = .ok (.lastore, 1) := dk_80 (dk_at dksX0_addStreet_0 7 rfl rfl)
theorem dX0_addStreet_8 : decode cX0_addStreet 8 = .ok (.goto 6, 3) := dk_167 0 6 (dk_at dksX0_addStreet_0 8 rfl rfl)
theorem dX0_addStreet_11 : decode cX0_addStreet 11 = .ok (.astore_n 2, 1) := dk_77 (dk_at dksX0_addStreet_0 11 rfl rfl)
theorem dX0_addStreet_12 : decode cX0_addStreet 12 = .ok (.iconst 1, 1) := dk_4 (dk_at dksX0_addStreet_0 12 rfl rfl)
theorem dX0_addStreet_13 : decode cX0_addStreet 13 = .ok (.ireturn, 1) := dk_172 (dk_at dksX0_addStreet_0 13 rfl rfl)
theorem dX0_addStreet_14 : decode cX0_addStreet 14 = .ok (.iconst 0, 1) := dk_3 (dk_at dksX0_addStreet_0 14 rfl rfl)
theorem dX0_addStreet_15 : decode cX0_addStreet 15 = .ok (.ireturn, 1) := dk_172 (dk_at dksX0_addStreet_0 15 rfl rfl)
abbrev cX0_addName : ByteArray := method_4_code
def yX0_addName : MethodName := ⟨RX0, "addName", "(LDialectdepot;[J)I"⟩
def dkwX0_addName_0 : List UInt8 := [43, 3, 42, 182, 0, 15, 133, 80, 167, 0, 6, 77, 4, 172, 3, 172]
abbrev dktX0_addName_0 : List UInt8 := dkwX0_addName_0 ++ []
theorem dksX0_addName_0 : cX0_addName.data.toList.drop 0 = dktX0_addName_0 := by decide +kernel
theorem dX0_addName_0 : decode cX0_addName 0 = .ok (.aload_n 1, 1) := dk_43 (dk_at dksX0_addName_0 0 rfl rfl)
theorem dX0_addName_1 : decode cX0_addName 1 = .ok (.iconst 0, 1) := dk_3 (dk_at dksX0_addName_0 1 rfl rfl)
theorem dX0_addName_2 : decode cX0_addName 2 = .ok (.aload_n 0, 1) := dk_42 (dk_at dksX0_addName_0 2 rfl rfl)
theorem dX0_addName_3 : decode cX0_addName 3 = .ok (.invokevirtual 15, 3) := dk_182 0 15 (dk_at dksX0_addName_0 3 rfl rfl)
theorem dX0_addName_6 : decode cX0_addName 6 = .ok (.i2l, 1) := dk_133 (dk_at dksX0_addName_0 6 rfl rfl)
theorem dX0_addName_7 : decode cX0_addName 7 = .ok (.lastore, 1) := dk_80 (dk_at dksX0_addName_0 7 rfl rfl)
theorem dX0_addName_8 : decode cX0_addName 8 = .ok (.goto 6, 3) := dk_167 0 6 (dk_at dksX0_addName_0 8 rfl rfl)
theorem dX0_addName_11 : decode cX0_addName 11 = .ok (.astore_n 2, 1) := dk_77 (dk_at dksX0_addName_0 11 rfl rfl)
theorem dX0_addName_12 : decode cX0_addName 12 = .ok (.iconst 1, 1) := dk_4 (dk_at dksX0_addName_0 12 rfl rfl)
theorem dX0_addName_13 : decode cX0_addName 13 = .ok (.ireturn, 1) := dk_172 (dk_at dksX0_addName_0 13 rfl rfl)
theorem dX0_addName_14 : decode cX0_addName 14 = .ok (.iconst 0, 1) := dk_3 (dk_at dksX0_addName_0 14 rfl rfl)
theorem dX0_addName_15 : decode cX0_addName 15 = .ok (.ireturn, 1) := dk_172 (dk_at dksX0_addName_0 15 rfl rfl)
abbrev cX0_addUsage : ByteArray := method_5_code
def yX0_addUsage : MethodName := ⟨RX0, "addUsage", "(LDialectdepot;IIIII[J)I"⟩
def dkwX0_addUsage_1 : List UInt8 := [58, 7, 5, 172, 58, 7, 6, 172, 3, 172]
abbrev dktX0_addUsage_1 : List UInt8 := dkwX0_addUsage_1 ++ []
def dkwX0_addUsage_0 : List UInt8 := [25, 6, 3, 42, 27, 28, 29, 21, 4, 21, 5, 182, 0, 18, 133, 80, 167, 0, 15, 58, 7, 4, 172]
abbrev dktX0_addUsage_0 : List UInt8 := dkwX0_addUsage_0 ++ dktX0_addUsage_1
theorem dksX0_addUsage_0 : cX0_addUsage.data.toList.drop 0 = dktX0_addUsage_0 := by decide +kernel
theorem dksX0_addUsage_1 : cX0_addUsage.data.toList.drop 23 = dktX0_addUsage_1 := dk_seg dksX0_addUsage_0 23 rfl rfl
theorem dX0_addUsage_0 : decode cX0_addUsage 0 = .ok (.aload 6, 2) := dk_25 6 (dk_at dksX0_addUsage_0 0 rfl rfl)
theorem dX0_addUsage_2 : decode cX0_addUsage 2 = .ok (.iconst 0, 1) := dk_3 (dk_at dksX0_addUsage_0 2 rfl rfl)
theorem dX0_addUsage_3 : decode cX0_addUsage 3 = .ok (.aload_n 0, 1) := dk_42 (dk_at dksX0_addUsage_0 3 rfl rfl)
theorem dX0_addUsage_4 : decode cX0_addUsage 4 = .ok (.iload_n 1, 1) := dk_27 (dk_at dksX0_addUsage_0 4 rfl rfl)
theorem dX0_addUsage_5 : decode cX0_addUsage 5 = .ok (.iload_n 2, 1) := dk_28 (dk_at dksX0_addUsage_0 5 rfl rfl)
theorem dX0_addUsage_6 : decode cX0_addUsage 6 = .ok (.iload_n 3, 1) := dk_29 (dk_at dksX0_addUsage_0 6 rfl rfl)
theorem dX0_addUsage_7 : decode cX0_addUsage 7 = .ok (.iload 4, 2) := dk_21 4 (dk_at dksX0_addUsage_0 7 rfl rfl)
theorem dX0_addUsage_9 : decode cX0_addUsage 9 = .ok (.iload 5, 2) := dk_21 5 (dk_at dksX0_addUsage_0 9 rfl rfl)
theorem dX0_addUsage_11 : decode cX0_addUsage 11 = .ok (.invokevirtual 18, 3) := dk_182 0 18 (dk_at dksX0_addUsage_0 11 rfl rfl)
theorem dX0_addUsage_14 : decode cX0_addUsage 14 = .ok (.i2l, 1) := dk_133 (dk_at dksX0_addUsage_0 14 rfl rfl)
theorem dX0_addUsage_15 : decode cX0_addUsage 15 = .ok (.lastore, 1) := dk_80 (dk_at dksX0_addUsage_0 15 rfl rfl)
theorem dX0_addUsage_16 : decode cX0_addUsage 16 = .ok (.goto 15, 3) := dk_167 0 15 (dk_at dksX0_addUsage_0 16 rfl rfl)
theorem dX0_addUsage_19 : decode cX0_addUsage 19 = .ok (.astore 7, 2) := dk_58 7 (dk_at dksX0_addUsage_0 19 rfl rfl)
theorem dX0_addUsage_21 : decode cX0_addUsage 21 = .ok (.iconst 1, 1) := dk_4 (dk_at dksX0_addUsage_0 21 rfl rfl)
theorem dX0_addUsage_22 : decode cX0_addUsage 22 = .ok (.ireturn, 1) := dk_172 (dk_at dksX0_addUsage_0 22 rfl rfl)
theorem dX0_addUsage_23 : decode cX0_addUsage 23 = .ok (.astore 7, 2) := dk_58 7 (dk_at dksX0_addUsage_1 0 rfl rfl)
theorem dX0_addUsage_25 : decode cX0_addUsage 25 = .ok (.iconst 2, 1) := dk_5 (dk_at dksX0_addUsage_1 2 rfl rfl)
theorem dX0_addUsage_26 : decode cX0_addUsage 26 = .ok (.ireturn, 1) := dk_172 (dk_at dksX0_addUsage_1 3 rfl rfl)
theorem dX0_addUsage_27 : decode cX0_addUsage 27 = .ok (.astore 7, 2) := dk_58 7 (dk_at dksX0_addUsage_1 4 rfl rfl)
theorem dX0_addUsage_29 : decode cX0_addUsage 29 = .ok (.iconst 3, 1) := dk_6 (dk_at dksX0_addUsage_1 6 rfl rfl)
theorem dX0_addUsage_30 : decode cX0_addUsage 30 = .ok (.ireturn, 1) := dk_172 (dk_at dksX0_addUsage_1 7 rfl rfl)
theorem dX0_addUsage_31 : decode cX0_addUsage 31 = .ok (.iconst 0, 1) := dk_3 (dk_at dksX0_addUsage_1 8 rfl rfl)
theorem dX0_addUsage_32 : decode cX0_addUsage 32 = .ok (.ireturn, 1) := dk_172 (dk_at dksX0_addUsage_1 9 rfl rfl)
abbrev cX0_streetFor : ByteArray := method_6_code
def yX0_streetFor : MethodName := ⟨RX0, "streetFor", "(LDialectdepot;III[J)I"⟩
def dkwX0_streetFor_1 : List UInt8 := [172]
abbrev dktX0_streetFor_1 : List UInt8 := dkwX0_streetFor_1 ++ []
def dkwX0_streetFor_0 : List UInt8 := [25, 4, 3, 42, 27, 28, 29, 182, 0, 26, 133, 80, 167, 0, 11, 58, 5, 4, 172, 58, 5, 5, 172, 3]
abbrev dktX0_streetFor_0 : List UInt8 := dkwX0_streetFor_0 ++ dktX0_streetFor_1
theorem dksX0_streetFor_0 : cX0_streetFor.data.toList.drop 0 = dktX0_streetFor_0 := by decide +kernel
theorem dksX0_streetFor_1 : cX0_streetFor.data.toList.drop 24 = dktX0_streetFor_1 := dk_seg dksX0_streetFor_0 24 rfl rfl
theorem dX0_streetFor_0 : decode cX0_streetFor 0 = .ok (.aload 4, 2) := dk_25 4 (dk_at dksX0_streetFor_0 0 rfl rfl)
theorem dX0_streetFor_2 : decode cX0_streetFor 2 = .ok (.iconst 0, 1) := dk_3 (dk_at dksX0_streetFor_0 2 rfl rfl)
theorem dX0_streetFor_3 : decode cX0_streetFor 3 = .ok (.aload_n 0, 1) := dk_42 (dk_at dksX0_streetFor_0 3 rfl rfl)
theorem dX0_streetFor_4 : decode cX0_streetFor 4 = .ok (.iload_n 1, 1) := dk_27 (dk_at dksX0_streetFor_0 4 rfl rfl)
theorem dX0_streetFor_5 : decode cX0_streetFor 5 = .ok (.iload_n 2, 1) := dk_28 (dk_at dksX0_streetFor_0 5 rfl rfl)
theorem dX0_streetFor_6 : decode cX0_streetFor 6 = .ok (.iload_n 3, 1) := dk_29 (dk_at dksX0_streetFor_0 6 rfl rfl)
theorem dX0_streetFor_7 : decode cX0_streetFor 7 = .ok (.invokevirtual 26, 3) := dk_182 0 26 (dk_at dksX0_streetFor_0 7 rfl rfl)
theorem dX0_streetFor_10 : decode cX0_streetFor 10 = .ok (.i2l, 1) := dk_133 (dk_at dksX0_streetFor_0 10 rfl rfl)
theorem dX0_streetFor_11 : decode cX0_streetFor 11 = .ok (.lastore, 1) := dk_80 (dk_at dksX0_streetFor_0 11 rfl rfl)
theorem dX0_streetFor_12 : decode cX0_streetFor 12 = .ok (.goto 11, 3) := dk_167 0 11 (dk_at dksX0_streetFor_0 12 rfl rfl)
theorem dX0_streetFor_15 : decode cX0_streetFor 15 = .ok (.astore 5, 2) := dk_58 5 (dk_at dksX0_streetFor_0 15 rfl rfl)
theorem dX0_streetFor_17 : decode cX0_streetFor 17 = .ok (.iconst 1, 1) := dk_4 (dk_at dksX0_streetFor_0 17 rfl rfl)
theorem dX0_streetFor_18 : decode cX0_streetFor 18 = .ok (.ireturn, 1) := dk_172 (dk_at dksX0_streetFor_0 18 rfl rfl)
theorem dX0_streetFor_19 : decode cX0_streetFor 19 = .ok (.astore 5, 2) := dk_58 5 (dk_at dksX0_streetFor_0 19 rfl rfl)
theorem dX0_streetFor_21 : decode cX0_streetFor 21 = .ok (.iconst 2, 1) := dk_5 (dk_at dksX0_streetFor_0 21 rfl rfl)
theorem dX0_streetFor_22 : decode cX0_streetFor 22 = .ok (.ireturn, 1) := dk_172 (dk_at dksX0_streetFor_0 22 rfl rfl)
theorem dX0_streetFor_23 : decode cX0_streetFor 23 = .ok (.iconst 0, 1) := dk_3 (dk_at dksX0_streetFor_0 23 rfl rfl)
theorem dX0_streetFor_24 : decode cX0_streetFor 24 = .ok (.ireturn, 1) := dk_172 (dk_at dksX0_streetFor_1 0 rfl rfl)
abbrev cX0_addCarrier : ByteArray := method_7_code
def yX0_addCarrier : MethodName := ⟨RX0, "addCarrier", "(LDialectdepot;II[J)I"⟩
def dkwX0_addCarrier_0 : List UInt8 := [45, 3, 42, 27, 28, 182, 0, 30, 133, 80, 167, 0, 11, 58, 4, 4, 172, 58, 4, 5, 172, 3, 172]
abbrev dktX0_addCarrier_0 : List UInt8 := dkwX0_addCarrier_0 ++ []
theorem dksX0_addCarrier_0 : cX0_addCarrier.data.toList.drop 0 = dktX0_addCarrier_0 := by decide +kernel
theorem dX0_addCarrier_0 : decode cX0_addCarrier 0 = .ok (.aload_n 3, 1) := dk_45 (dk_at dksX0_addCarrier_0 0 rfl rfl)
theorem dX0_addCarrier_1 : decode cX0_addCarrier 1 = .ok (.iconst 0, 1) := dk_3 (dk_at dksX0_addCarrier_0 1 rfl rfl)
theorem dX0_addCarrier_2 : decode cX0_addCarrier 2 = .ok (.aload_n 0, 1) := dk_42 (dk_at dksX0_addCarrier_0 2 rfl rfl)
theorem dX0_addCarrier_3 : decode cX0_addCarrier 3 = .ok (.iload_n 1, 1) := dk_27 (dk_at dksX0_addCarrier_0 3 rfl rfl)
theorem dX0_addCarrier_4 : decode cX0_addCarrier 4 = .ok (.iload_n 2, 1) := dk_28 (dk_at dksX0_addCarrier_0 4 rfl rfl)
theorem dX0_addCarrier_5 : decode cX0_addCarrier 5 = .ok (.invokevirtual 30, 3) := dk_182 0 30 (dk_at dksX0_addCarrier_0 5 rfl rfl)
theorem dX0_addCarrier_8 : decode cX0_addCarrier 8 = .ok (.i2l, 1) := dk_133 (dk_at dksX0_addCarrier_0 8 rfl rfl)
theorem dX0_addCarrier_9 : decode cX0_addCarrier 9 = .ok (.lastore, 1) := dk_80 (dk_at dksX0_addCarrier_0 9 rfl rfl)
theorem dX0_addCarrier_10 : decode cX0_addCarrier 10 = .ok (.goto 11, 3) := dk_167 0 11 (dk_at dksX0_addCarrier_0 10 rfl rfl)
theorem dX0_addCarrier_13 : decode cX0_addCarrier 13 = .ok (.astore 4, 2) := dk_58 4 (dk_at dksX0_addCarrier_0 13 rfl rfl)
theorem dX0_addCarrier_15 : decode cX0_addCarrier 15 = .ok (.iconst 1, 1) := dk_4 (dk_at dksX0_addCarrier_0 15 rfl rfl)
theorem dX0_addCarrier_16 : decode cX0_addCarrier 16 = .ok (.ireturn, 1) := dk_172 (dk_at dksX0_addCarrier_0 16 rfl rfl)
theorem dX0_addCarrier_17 : decode cX0_addCarrier 17 = .ok (.astore 4, 2) := dk_58 4 (dk_at dksX0_addCarrier_0 17 rfl rfl)
theorem dX0_addCarrier_19 : decode cX0_addCarrier 19 = .ok (.iconst 2, 1) := dk_5 (dk_at dksX0_addCarrier_0 19 rfl rfl)
theorem dX0_addCarrier_20 : decode cX0_addCarrier 20 = .ok (.ireturn, 1) := dk_172 (dk_at dksX0_addCarrier_0 20 rfl rfl)
theorem dX0_addCarrier_21 : decode cX0_addCarrier 21 = .ok (.iconst 0, 1) := dk_3 (dk_at dksX0_addCarrier_0 21 rfl rfl)
theorem dX0_addCarrier_22 : decode cX0_addCarrier 22 = .ok (.ireturn, 1) := dk_172 (dk_at dksX0_addCarrier_0 22 rfl rfl)
abbrev cX0_setRound : ByteArray := method_8_code
def yX0_setRound : MethodName := ⟨RX0, "setRound", "(LDialectdepot;II[J)I"⟩
def dkwX0_setRound_0 : List UInt8 := [45, 3, 42, 27, 28, 182, 0, 34, 133, 80, 167, 0, 11, 58, 4, 4, 172, 58, 4, 5, 172, 3, 172]
abbrev dktX0_setRound_0 : List UInt8 := dkwX0_setRound_0 ++ []
theorem dksX0_setRound_0 : cX0_setRound.data.toList.drop 0 = dktX0_setRound_0 := by decide +kernel
theorem dX0_setRound_0 : decode cX0_setRound 0 = .ok (.aload_n 3, 1) := dk_45 (dk_at dksX0_setRound_0 0 rfl rfl)
theorem dX0_setRound_1 : decode cX0_setRound 1 = .ok (.iconst 0, 1) := dk_3 (dk_at dksX0_setRound_0 1 rfl rfl)
theorem dX0_setRound_2 : decode cX0_setRound 2 = .ok (.aload_n 0, 1) := dk_42 (dk_at dksX0_setRound_0 2 rfl rfl)
theorem dX0_setRound_3 : decode cX0_setRound 3 = .ok (.iload_n 1, 1) := dk_27 (dk_at dksX0_setRound_0 3 rfl rfl)
theorem dX0_setRound_4 : decode cX0_setRound 4 = .ok (.iload_n 2, 1) := dk_28 (dk_at dksX0_setRound_0 4 rfl rfl)
theorem dX0_setRound_5 : decode cX0_setRound 5 = .ok (.invokevirtual 34, 3) := dk_182 0 34 (dk_at dksX0_setRound_0 5 rfl rfl)
theorem dX0_setRound_8 : decode cX0_setRound 8 = .ok (.i2l, 1) := dk_133 (dk_at dksX0_setRound_0 8 rfl rfl)
theorem dX0_setRound_9 : decode cX0_setRound 9 = .ok (.lastore, 1) := dk_80 (dk_at dksX0_setRound_0 9 rfl rfl)
theorem dX0_setRound_10 : decode cX0_setRound 10 = .ok (.goto 11, 3) := dk_167 0 11 (dk_at dksX0_setRound_0 10 rfl rfl)
theorem dX0_setRound_13 : decode cX0_setRound 13 = .ok (.astore 4, 2) := dk_58 4 (dk_at dksX0_setRound_0 13 rfl rfl)
theorem dX0_setRound_15 : decode cX0_setRound 15 = .ok (.iconst 1, 1) := dk_4 (dk_at dksX0_setRound_0 15 rfl rfl)
theorem dX0_setRound_16 : decode cX0_setRound 16 = .ok (.ireturn, 1) := dk_172 (dk_at dksX0_setRound_0 16 rfl rfl)
theorem dX0_setRound_17 : decode cX0_setRound 17 = .ok (.astore 4, 2) := dk_58 4 (dk_at dksX0_setRound_0 17 rfl rfl)
theorem dX0_setRound_19 : decode cX0_setRound 19 = .ok (.iconst 2, 1) := dk_5 (dk_at dksX0_setRound_0 19 rfl rfl)
theorem dX0_setRound_20 : decode cX0_setRound 20 = .ok (.ireturn, 1) := dk_172 (dk_at dksX0_setRound_0 20 rfl rfl)
theorem dX0_setRound_21 : decode cX0_setRound 21 = .ok (.iconst 0, 1) := dk_3 (dk_at dksX0_setRound_0 21 rfl rfl)
theorem dX0_setRound_22 : decode cX0_setRound 22 = .ok (.ireturn, 1) := dk_172 (dk_at dksX0_setRound_0 22 rfl rfl)
abbrev cX0_setRoom : ByteArray := method_9_code
def yX0_setRoom : MethodName := ⟨RX0, "setRoom", "(LDialectdepot;II[J)I"⟩
def dkwX0_setRoom_0 : List UInt8 := [45, 3, 42, 27, 28, 182, 0, 37, 133, 80, 167, 0, 11, 58, 4, 4, 172, 58, 4, 5, 172, 3, 172]
abbrev dktX0_setRoom_0 : List UInt8 := dkwX0_setRoom_0 ++ []
theorem dksX0_setRoom_0 : cX0_setRoom.data.toList.drop 0 = dktX0_setRoom_0 := by decide +kernel
theorem dX0_setRoom_0 : decode cX0_setRoom 0 = .ok (.aload_n 3, 1) := dk_45 (dk_at dksX0_setRoom_0 0 rfl rfl)
theorem dX0_setRoom_1 : decode cX0_setRoom 1 = .ok (.iconst 0, 1) := dk_3 (dk_at dksX0_setRoom_0 1 rfl rfl)
theorem dX0_setRoom_2 : decode cX0_setRoom 2 = .ok (.aload_n 0, 1) := dk_42 (dk_at dksX0_setRoom_0 2 rfl rfl)
theorem dX0_setRoom_3 : decode cX0_setRoom 3 = .ok (.iload_n 1, 1) := dk_27 (dk_at dksX0_setRoom_0 3 rfl rfl)
theorem dX0_setRoom_4 : decode cX0_setRoom 4 = .ok (.iload_n 2, 1) := dk_28 (dk_at dksX0_setRoom_0 4 rfl rfl)
theorem dX0_setRoom_5 : decode cX0_setRoom 5 = .ok (.invokevirtual 37, 3) := dk_182 0 37 (dk_at dksX0_setRoom_0 5 rfl rfl)
theorem dX0_setRoom_8 : decode cX0_setRoom 8 = .ok (.i2l, 1) := dk_133 (dk_at dksX0_setRoom_0 8 rfl rfl)
theorem dX0_setRoom_9 : decode cX0_setRoom 9 = .ok (.lastore, 1) := dk_80 (dk_at dksX0_setRoom_0 9 rfl rfl)
theorem dX0_setRoom_10 : decode cX0_setRoom 10 = .ok (.goto 11, 3) := dk_167 0 11 (dk_at dksX0_setRoom_0 10 rfl rfl)
theorem dX0_setRoom_13 : decode cX0_setRoom 13 = .ok (.astore 4, 2) := dk_58 4 (dk_at dksX0_setRoom_0 13 rfl rfl)
theorem dX0_setRoom_15 : decode cX0_setRoom 15 = .ok (.iconst 1, 1) := dk_4 (dk_at dksX0_setRoom_0 15 rfl rfl)
theorem dX0_setRoom_16 : decode cX0_setRoom 16 = .ok (.ireturn, 1) := dk_172 (dk_at dksX0_setRoom_0 16 rfl rfl)
theorem dX0_setRoom_17 : decode cX0_setRoom 17 = .ok (.astore 4, 2) := dk_58 4 (dk_at dksX0_setRoom_0 17 rfl rfl)
theorem dX0_setRoom_19 : decode cX0_setRoom 19 = .ok (.iconst 2, 1) := dk_5 (dk_at dksX0_setRoom_0 19 rfl rfl)
theorem dX0_setRoom_20 : decode cX0_setRoom 20 = .ok (.ireturn, 1) := dk_172 (dk_at dksX0_setRoom_0 20 rfl rfl)
theorem dX0_setRoom_21 : decode cX0_setRoom 21 = .ok (.iconst 0, 1) := dk_3 (dk_at dksX0_setRoom_0 21 rfl rfl)
theorem dX0_setRoom_22 : decode cX0_setRoom 22 = .ok (.ireturn, 1) := dk_172 (dk_at dksX0_setRoom_0 22 rfl rfl)
abbrev cX0_lesson : ByteArray := method_10_code
def yX0_lesson : MethodName := ⟨RX0, "lesson", "(LDialectdepot;IIII[J)I"⟩
def dkwX0_lesson_1 : List UInt8 := [172, 3, 172]
abbrev dktX0_lesson_1 : List UInt8 := dkwX0_lesson_1 ++ []
def dkwX0_lesson_0 : List UInt8 := [25, 5, 3, 42, 27, 28, 29, 21, 4, 182, 0, 40, 133, 80, 167, 0, 11, 58, 6, 4, 172, 58, 6, 5]
abbrev dktX0_lesson_0 : List UInt8 := dkwX0_lesson_0 ++ dktX0_lesson_1
theorem dksX0_lesson_0 : cX0_lesson.data.toList.drop 0 = dktX0_lesson_0 := by decide +kernel
theorem dksX0_lesson_1 : cX0_lesson.data.toList.drop 24 = dktX0_lesson_1 := dk_seg dksX0_lesson_0 24 rfl rfl
theorem dX0_lesson_0 : decode cX0_lesson 0 = .ok (.aload 5, 2) := dk_25 5 (dk_at dksX0_lesson_0 0 rfl rfl)
theorem dX0_lesson_2 : decode cX0_lesson 2 = .ok (.iconst 0, 1) := dk_3 (dk_at dksX0_lesson_0 2 rfl rfl)
theorem dX0_lesson_3 : decode cX0_lesson 3 = .ok (.aload_n 0, 1) := dk_42 (dk_at dksX0_lesson_0 3 rfl rfl)
theorem dX0_lesson_4 : decode cX0_lesson 4 = .ok (.iload_n 1, 1) := dk_27 (dk_at dksX0_lesson_0 4 rfl rfl)
theorem dX0_lesson_5 : decode cX0_lesson 5 = .ok (.iload_n 2, 1) := dk_28 (dk_at dksX0_lesson_0 5 rfl rfl)
theorem dX0_lesson_6 : decode cX0_lesson 6 = .ok (.iload_n 3, 1) := dk_29 (dk_at dksX0_lesson_0 6 rfl rfl)
theorem dX0_lesson_7 : decode cX0_lesson 7 = .ok (.iload 4, 2) := dk_21 4 (dk_at dksX0_lesson_0 7 rfl rfl)
theorem dX0_lesson_9 : decode cX0_lesson 9 = .ok (.invokevirtual 40, 3) := dk_182 0 40 (dk_at dksX0_lesson_0 9 rfl rfl)
theorem dX0_lesson_12 : decode cX0_lesson 12 = .ok (.i2l, 1) := dk_133 (dk_at dksX0_lesson_0 12 rfl rfl)
theorem dX0_lesson_13 : decode cX0_lesson 13 = .ok (.lastore, 1) := dk_80 (dk_at dksX0_lesson_0 13 rfl rfl)
theorem dX0_lesson_14 : decode cX0_lesson 14 = .ok (.goto 11, 3) := dk_167 0 11 (dk_at dksX0_lesson_0 14 rfl rfl)
theorem dX0_lesson_17 : decode cX0_lesson 17 = .ok (.astore 6, 2) := dk_58 6 (dk_at dksX0_lesson_0 17 rfl rfl)
theorem dX0_lesson_19 : decode cX0_lesson 19 = .ok (.iconst 1, 1) := dk_4 (dk_at dksX0_lesson_0 19 rfl rfl)
theorem dX0_lesson_20 : decode cX0_lesson 20 = .ok (.ireturn, 1) := dk_172 (dk_at dksX0_lesson_0 20 rfl rfl)
theorem dX0_lesson_21 : decode cX0_lesson 21 = .ok (.astore 6, 2) := dk_58 6 (dk_at dksX0_lesson_0 21 rfl rfl)
theorem dX0_lesson_23 : decode cX0_lesson 23 = .ok (.iconst 2, 1) := dk_5 (dk_at dksX0_lesson_0 23 rfl rfl)
theorem dX0_lesson_24 : decode cX0_lesson 24 = .ok (.ireturn, 1) := dk_172 (dk_at dksX0_lesson_1 0 rfl rfl)
theorem dX0_lesson_25 : decode cX0_lesson 25 = .ok (.iconst 0, 1) := dk_3 (dk_at dksX0_lesson_1 1 rfl rfl)
theorem dX0_lesson_26 : decode cX0_lesson 26 = .ok (.ireturn, 1) := dk_172 (dk_at dksX0_lesson_1 2 rfl rfl)
abbrev cX0_tell : ByteArray := method_11_code
def yX0_tell : MethodName := ⟨RX0, "tell", "(LDialectdepot;IIII[J)I"⟩
def dkwX0_tell_1 : List UInt8 := [172, 3, 172]
abbrev dktX0_tell_1 : List UInt8 := dkwX0_tell_1 ++ []
def dkwX0_tell_0 : List UInt8 := [25, 5, 3, 42, 27, 28, 29, 21, 4, 182, 0, 44, 133, 80, 167, 0, 11, 58, 6, 4, 172, 58, 6, 5]
abbrev dktX0_tell_0 : List UInt8 := dkwX0_tell_0 ++ dktX0_tell_1
theorem dksX0_tell_0 : cX0_tell.data.toList.drop 0 = dktX0_tell_0 := by decide +kernel
theorem dksX0_tell_1 : cX0_tell.data.toList.drop 24 = dktX0_tell_1 := dk_seg dksX0_tell_0 24 rfl rfl
theorem dX0_tell_0 : decode cX0_tell 0 = .ok (.aload 5, 2) := dk_25 5 (dk_at dksX0_tell_0 0 rfl rfl)
theorem dX0_tell_2 : decode cX0_tell 2 = .ok (.iconst 0, 1) := dk_3 (dk_at dksX0_tell_0 2 rfl rfl)
theorem dX0_tell_3 : decode cX0_tell 3 = .ok (.aload_n 0, 1) := dk_42 (dk_at dksX0_tell_0 3 rfl rfl)
theorem dX0_tell_4 : decode cX0_tell 4 = .ok (.iload_n 1, 1) := dk_27 (dk_at dksX0_tell_0 4 rfl rfl)
theorem dX0_tell_5 : decode cX0_tell 5 = .ok (.iload_n 2, 1) := dk_28 (dk_at dksX0_tell_0 5 rfl rfl)
theorem dX0_tell_6 : decode cX0_tell 6 = .ok (.iload_n 3, 1) := dk_29 (dk_at dksX0_tell_0 6 rfl rfl)
theorem dX0_tell_7 : decode cX0_tell 7 = .ok (.iload 4, 2) := dk_21 4 (dk_at dksX0_tell_0 7 rfl rfl)
theorem dX0_tell_9 : decode cX0_tell 9 = .ok (.invokevirtual 44, 3) := dk_182 0 44 (dk_at dksX0_tell_0 9 rfl rfl)
theorem dX0_tell_12 : decode cX0_tell 12 = .ok (.i2l, 1) := dk_133 (dk_at dksX0_tell_0 12 rfl rfl)
theorem dX0_tell_13 : decode cX0_tell 13 = .ok (.lastore, 1) := dk_80 (dk_at dksX0_tell_0 13 rfl rfl)
theorem dX0_tell_14 : decode cX0_tell 14 = .ok (.goto 11, 3) := dk_167 0 11 (dk_at dksX0_tell_0 14 rfl rfl)
theorem dX0_tell_17 : decode cX0_tell 17 = .ok (.astore 6, 2) := dk_58 6 (dk_at dksX0_tell_0 17 rfl rfl)
theorem dX0_tell_19 : decode cX0_tell 19 = .ok (.iconst 1, 1) := dk_4 (dk_at dksX0_tell_0 19 rfl rfl)
theorem dX0_tell_20 : decode cX0_tell 20 = .ok (.ireturn, 1) := dk_172 (dk_at dksX0_tell_0 20 rfl rfl)
theorem dX0_tell_21 : decode cX0_tell 21 = .ok (.astore 6, 2) := dk_58 6 (dk_at dksX0_tell_0 21 rfl rfl)
theorem dX0_tell_23 : decode cX0_tell 23 = .ok (.iconst 2, 1) := dk_5 (dk_at dksX0_tell_0 23 rfl rfl)
theorem dX0_tell_24 : decode cX0_tell 24 = .ok (.ireturn, 1) := dk_172 (dk_at dksX0_tell_1 0 rfl rfl)
theorem dX0_tell_25 : decode cX0_tell 25 = .ok (.iconst 0, 1) := dk_3 (dk_at dksX0_tell_1 1 rfl rfl)
theorem dX0_tell_26 : decode cX0_tell 26 = .ok (.ireturn, 1) := dk_172 (dk_at dksX0_tell_1 2 rfl rfl)
abbrev cX0_feed : ByteArray := method_12_code
def yX0_feed : MethodName := ⟨RX0, "feed", "(LDialectdepot;II[J)I"⟩
def dkwX0_feed_0 : List UInt8 := [45, 3, 42, 27, 28, 182, 0, 47, 133, 80, 167, 0, 11, 58, 4, 4, 172, 58, 4, 5, 172, 3, 172]
abbrev dktX0_feed_0 : List UInt8 := dkwX0_feed_0 ++ []
theorem dksX0_feed_0 : cX0_feed.data.toList.drop 0 = dktX0_feed_0 := by decide +kernel
theorem dX0_feed_0 : decode cX0_feed 0 = .ok (.aload_n 3, 1) := dk_45 (dk_at dksX0_feed_0 0 rfl rfl)
theorem dX0_feed_1 : decode cX0_feed 1 = .ok (.iconst 0, 1) := dk_3 (dk_at dksX0_feed_0 1 rfl rfl)
theorem dX0_feed_2 : decode cX0_feed 2 = .ok (.aload_n 0, 1) := dk_42 (dk_at dksX0_feed_0 2 rfl rfl)
theorem dX0_feed_3 : decode cX0_feed 3 = .ok (.iload_n 1, 1) := dk_27 (dk_at dksX0_feed_0 3 rfl rfl)
theorem dX0_feed_4 : decode cX0_feed 4 = .ok (.iload_n 2, 1) := dk_28 (dk_at dksX0_feed_0 4 rfl rfl)
theorem dX0_feed_5 : decode cX0_feed 5 = .ok (.invokevirtual 47, 3) := dk_182 0 47 (dk_at dksX0_feed_0 5 rfl rfl)
theorem dX0_feed_8 : decode cX0_feed 8 = .ok (.i2l, 1) := dk_133 (dk_at dksX0_feed_0 8 rfl rfl)
theorem dX0_feed_9 : decode cX0_feed 9 = .ok (.lastore, 1) := dk_80 (dk_at dksX0_feed_0 9 rfl rfl)
theorem dX0_feed_10 : decode cX0_feed 10 = .ok (.goto 11, 3) := dk_167 0 11 (dk_at dksX0_feed_0 10 rfl rfl)
theorem dX0_feed_13 : decode cX0_feed 13 = .ok (.astore 4, 2) := dk_58 4 (dk_at dksX0_feed_0 13 rfl rfl)
theorem dX0_feed_15 : decode cX0_feed 15 = .ok (.iconst 1, 1) := dk_4 (dk_at dksX0_feed_0 15 rfl rfl)
theorem dX0_feed_16 : decode cX0_feed 16 = .ok (.ireturn, 1) := dk_172 (dk_at dksX0_feed_0 16 rfl rfl)
theorem dX0_feed_17 : decode cX0_feed 17 = .ok (.astore 4, 2) := dk_58 4 (dk_at dksX0_feed_0 17 rfl rfl)
theorem dX0_feed_19 : decode cX0_feed 19 = .ok (.iconst 2, 1) := dk_5 (dk_at dksX0_feed_0 19 rfl rfl)
theorem dX0_feed_20 : decode cX0_feed 20 = .ok (.ireturn, 1) := dk_172 (dk_at dksX0_feed_0 20 rfl rfl)
theorem dX0_feed_21 : decode cX0_feed 21 = .ok (.iconst 0, 1) := dk_3 (dk_at dksX0_feed_0 21 rfl rfl)
theorem dX0_feed_22 : decode cX0_feed 22 = .ok (.ireturn, 1) := dk_172 (dk_at dksX0_feed_0 22 rfl rfl)
abbrev cX0_post : ByteArray := method_13_code
def yX0_post : MethodName := ⟨RX0, "post", "(LDialectdepot;IIII[J)I"⟩
def dkwX0_post_1 : List UInt8 := [172, 58, 6, 6, 172, 3, 172]
abbrev dktX0_post_1 : List UInt8 := dkwX0_post_1 ++ []
def dkwX0_post_0 : List UInt8 := [25, 5, 3, 42, 27, 28, 29, 21, 4, 182, 0, 50, 133, 80, 167, 0, 15, 58, 6, 4, 172, 58, 6, 5]
abbrev dktX0_post_0 : List UInt8 := dkwX0_post_0 ++ dktX0_post_1
theorem dksX0_post_0 : cX0_post.data.toList.drop 0 = dktX0_post_0 := by decide +kernel
theorem dksX0_post_1 : cX0_post.data.toList.drop 24 = dktX0_post_1 := dk_seg dksX0_post_0 24 rfl rfl
theorem dX0_post_0 : decode cX0_post 0 = .ok (.aload 5, 2) := dk_25 5 (dk_at dksX0_post_0 0 rfl rfl)
theorem dX0_post_2 : decode cX0_post 2 = .ok (.iconst 0, 1) := dk_3 (dk_at dksX0_post_0 2 rfl rfl)
theorem dX0_post_3 : decode cX0_post 3 = .ok (.aload_n 0, 1) := dk_42 (dk_at dksX0_post_0 3 rfl rfl)
theorem dX0_post_4 : decode cX0_post 4 = .ok (.iload_n 1, 1) := dk_27 (dk_at dksX0_post_0 4 rfl rfl)
theorem dX0_post_5 : decode cX0_post 5 = .ok (.iload_n 2, 1) := dk_28 (dk_at dksX0_post_0 5 rfl rfl)
theorem dX0_post_6 : decode cX0_post 6 = .ok (.iload_n 3, 1) := dk_29 (dk_at dksX0_post_0 6 rfl rfl)
theorem dX0_post_7 : decode cX0_post 7 = .ok (.iload 4, 2) := dk_21 4 (dk_at dksX0_post_0 7 rfl rfl)
theorem dX0_post_9 : decode cX0_post 9 = .ok (.invokevirtual 50, 3) := dk_182 0 50 (dk_at dksX0_post_0 9 rfl rfl)
theorem dX0_post_12 : decode cX0_post 12 = .ok (.i2l, 1) := dk_133 (dk_at dksX0_post_0 12 rfl rfl)
theorem dX0_post_13 : decode cX0_post 13 = .ok (.lastore, 1) := dk_80 (dk_at dksX0_post_0 13 rfl rfl)
theorem dX0_post_14 : decode cX0_post 14 = .ok (.goto 15, 3) := dk_167 0 15 (dk_at dksX0_post_0 14 rfl rfl)
theorem dX0_post_17 : decode cX0_post 17 = .ok (.astore 6, 2) := dk_58 6 (dk_at dksX0_post_0 17 rfl rfl)
theorem dX0_post_19 : decode cX0_post 19 = .ok (.iconst 1, 1) := dk_4 (dk_at dksX0_post_0 19 rfl rfl)
theorem dX0_post_20 : decode cX0_post 20 = .ok (.ireturn, 1) := dk_172 (dk_at dksX0_post_0 20 rfl rfl)
theorem dX0_post_21 : decode cX0_post 21 = .ok (.astore 6, 2) := dk_58 6 (dk_at dksX0_post_0 21 rfl rfl)
theorem dX0_post_23 : decode cX0_post 23 = .ok (.iconst 2, 1) := dk_5 (dk_at dksX0_post_0 23 rfl rfl)
theorem dX0_post_24 : decode cX0_post 24 = .ok (.ireturn, 1) := dk_172 (dk_at dksX0_post_1 0 rfl rfl)
theorem dX0_post_25 : decode cX0_post 25 = .ok (.astore 6, 2) := dk_58 6 (dk_at dksX0_post_1 1 rfl rfl)
theorem dX0_post_27 : decode cX0_post 27 = .ok (.iconst 3, 1) := dk_6 (dk_at dksX0_post_1 3 rfl rfl)
theorem dX0_post_28 : decode cX0_post 28 = .ok (.ireturn, 1) := dk_172 (dk_at dksX0_post_1 4 rfl rfl)
theorem dX0_post_29 : decode cX0_post 29 = .ok (.iconst 0, 1) := dk_3 (dk_at dksX0_post_1 5 rfl rfl)
theorem dX0_post_30 : decode cX0_post 30 = .ok (.ireturn, 1) := dk_172 (dk_at dksX0_post_1 6 rfl rfl)
abbrev cX0_stateOf : ByteArray := method_14_code
def yX0_stateOf : MethodName := ⟨RX0, "stateOf", "(LDialectdepot;I[J)I"⟩
def dkwX0_stateOf_0 : List UInt8 := [44, 3, 42, 27, 182, 0, 53, 133, 80, 167, 0, 6, 78, 4, 172, 3, 172]
abbrev dktX0_stateOf_0 : List UInt8 := dkwX0_stateOf_0 ++ []
theorem dksX0_stateOf_0 : cX0_stateOf.data.toList.drop 0 = dktX0_stateOf_0 := by decide +kernel
theorem dX0_stateOf_0 : decode cX0_stateOf 0 = .ok (.aload_n 2, 1) := dk_44 (dk_at dksX0_stateOf_0 0 rfl rfl)
theorem dX0_stateOf_1 : decode cX0_stateOf 1 = .ok (.iconst 0, 1) := dk_3 (dk_at dksX0_stateOf_0 1 rfl rfl)
theorem dX0_stateOf_2 : decode cX0_stateOf 2 = .ok (.aload_n 0, 1) := dk_42 (dk_at dksX0_stateOf_0 2 rfl rfl)
theorem dX0_stateOf_3 : decode cX0_stateOf 3 = .ok (.iload_n 1, 1) := dk_27 (dk_at dksX0_stateOf_0 3 rfl rfl)
theorem dX0_stateOf_4 : decode cX0_stateOf 4 = .ok (.invokevirtual 53, 3) := dk_182 0 53 (dk_at dksX0_stateOf_0 4 rfl rfl)
theorem dX0_stateOf_7 : decode cX0_stateOf 7 = .ok (.i2l, 1) := dk_133 (dk_at dksX0_stateOf_0 7 rfl rfl)
theorem dX0_stateOf_8 : decode cX0_stateOf 8 = .ok (.lastore, 1) := dk_80 (dk_at dksX0_stateOf_0 8 rfl rfl)
theorem dX0_stateOf_9 : decode cX0_stateOf 9 = .ok (.goto 6, 3) := dk_167 0 6 (dk_at dksX0_stateOf_0 9 rfl rfl)
theorem dX0_stateOf_12 : decode cX0_stateOf 12 = .ok (.astore_n 3, 1) := dk_78 (dk_at dksX0_stateOf_0 12 rfl rfl)
theorem dX0_stateOf_13 : decode cX0_stateOf 13 = .ok (.iconst 1, 1) := dk_4 (dk_at dksX0_stateOf_0 13 rfl rfl)
theorem dX0_stateOf_14 : decode cX0_stateOf 14 = .ok (.ireturn, 1) := dk_172 (dk_at dksX0_stateOf_0 14 rfl rfl)
theorem dX0_stateOf_15 : decode cX0_stateOf 15 = .ok (.iconst 0, 1) := dk_3 (dk_at dksX0_stateOf_0 15 rfl rfl)
theorem dX0_stateOf_16 : decode cX0_stateOf 16 = .ok (.ireturn, 1) := dk_172 (dk_at dksX0_stateOf_0 16 rfl rfl)
abbrev cX0_timesBack : ByteArray := method_15_code
def yX0_timesBack : MethodName := ⟨RX0, "timesBack", "(LDialectdepot;I[J)I"⟩
def dkwX0_timesBack_0 : List UInt8 := [44, 3, 42, 27, 182, 0, 57, 133, 80, 167, 0, 6, 78, 4, 172, 3, 172]
abbrev dktX0_timesBack_0 : List UInt8 := dkwX0_timesBack_0 ++ []
theorem dksX0_timesBack_0 : cX0_timesBack.data.toList.drop 0 = dktX0_timesBack_0 := by decide +kernel
theorem dX0_timesBack_0 : decode cX0_timesBack 0 = .ok (.aload_n 2, 1) := dk_44 (dk_at dksX0_timesBack_0 0 rfl rfl)
theorem dX0_timesBack_1 : decode cX0_timesBack 1 = .ok (.iconst 0, 1) := dk_3 (dk_at dksX0_timesBack_0 1 rfl rfl)
theorem dX0_timesBack_2 : decode cX0_timesBack 2 = .ok (.aload_n 0, 1) := dk_42 (dk_at dksX0_timesBack_0 2 rfl rfl)
theorem dX0_timesBack_3 : decode cX0_timesBack 3 = .ok (.iload_n 1, 1) := dk_27 (dk_at dksX0_timesBack_0 3 rfl rfl)
theorem dX0_timesBack_4 : decode cX0_timesBack 4 = .ok (.invokevirtual 57, 3) := dk_182 0 57 (dk_at dksX0_timesBack_0 4 rfl rfl)
theorem dX0_timesBack_7 : decode cX0_timesBack 7 = .ok (.i2l, 1) := dk_133 (dk_at dksX0_timesBack_0 7 rfl rfl)
theorem dX0_timesBack_8 : decode cX0_timesBack 8 = .ok (.lastore, 1) := dk_80 (dk_at dksX0_timesBack_0 8 rfl rfl)
theorem dX0_timesBack_9 : decode cX0_timesBack 9 = .ok (.goto 6, 3) := dk_167 0 6 (dk_at dksX0_timesBack_0 9 rfl rfl)
theorem dX0_timesBack_12 : decode cX0_timesBack 12 = .ok (.astore_n 3, 1) := dk_78 (dk_at dksX0_timesBack_0 12 rfl rfl)
theorem dX0_timesBack_13 : decode cX0_timesBack 13 = .ok (.iconst 1, 1) := dk_4 (dk_at dksX0_timesBack_0 13 rfl rfl)
theorem dX0_timesBack_14 : decode cX0_timesBack 14 = .ok (.ireturn, 1) := dk_172 (dk_at dksX0_timesBack_0 14 rfl rfl)
theorem dX0_timesBack_15 : decode cX0_timesBack 15 = .ok (.iconst 0, 1) := dk_3 (dk_at dksX0_timesBack_0 15 rfl rfl)
theorem dX0_timesBack_16 : decode cX0_timesBack 16 = .ok (.ireturn, 1) := dk_172 (dk_at dksX0_timesBack_0 16 rfl rfl)
abbrev cX0_whyBack : ByteArray := method_16_code
def yX0_whyBack : MethodName := ⟨RX0, "whyBack", "(LDialectdepot;I[J)I"⟩
def dkwX0_whyBack_0 : List UInt8 := [44, 3, 42, 27, 182, 0, 60, 133, 80, 167, 0, 6, 78, 4, 172, 3, 172]
abbrev dktX0_whyBack_0 : List UInt8 := dkwX0_whyBack_0 ++ []
theorem dksX0_whyBack_0 : cX0_whyBack.data.toList.drop 0 = dktX0_whyBack_0 := by decide +kernel
theorem dX0_whyBack_0 : decode cX0_whyBack 0 = .ok (.aload_n 2, 1) := dk_44 (dk_at dksX0_whyBack_0 0 rfl rfl)
theorem dX0_whyBack_1 : decode cX0_whyBack 1 = .ok (.iconst 0, 1) := dk_3 (dk_at dksX0_whyBack_0 1 rfl rfl)
theorem dX0_whyBack_2 : decode cX0_whyBack 2 = .ok (.aload_n 0, 1) := dk_42 (dk_at dksX0_whyBack_0 2 rfl rfl)
theorem dX0_whyBack_3 : decode cX0_whyBack 3 = .ok (.iload_n 1, 1) := dk_27 (dk_at dksX0_whyBack_0 3 rfl rfl)
theorem dX0_whyBack_4 : decode cX0_whyBack 4 = .ok (.invokevirtual 60, 3) := dk_182 0 60 (dk_at dksX0_whyBack_0 4 rfl rfl)
theorem dX0_whyBack_7 : decode cX0_whyBack 7 = .ok (.i2l, 1) := dk_133 (dk_at dksX0_whyBack_0 7 rfl rfl)
theorem dX0_whyBack_8 : decode cX0_whyBack 8 = .ok (.lastore, 1) := dk_80 (dk_at dksX0_whyBack_0 8 rfl rfl)
theorem dX0_whyBack_9 : decode cX0_whyBack 9 = .ok (.goto 6, 3) := dk_167 0 6 (dk_at dksX0_whyBack_0 9 rfl rfl)
theorem dX0_whyBack_12 : decode cX0_whyBack 12 = .ok (.astore_n 3, 1) := dk_78 (dk_at dksX0_whyBack_0 12 rfl rfl)
theorem dX0_whyBack_13 : decode cX0_whyBack 13 = .ok (.iconst 1, 1) := dk_4 (dk_at dksX0_whyBack_0 13 rfl rfl)
theorem dX0_whyBack_14 : decode cX0_whyBack 14 = .ok (.ireturn, 1) := dk_172 (dk_at dksX0_whyBack_0 14 rfl rfl)
theorem dX0_whyBack_15 : decode cX0_whyBack 15 = .ok (.iconst 0, 1) := dk_3 (dk_at dksX0_whyBack_0 15 rfl rfl)
theorem dX0_whyBack_16 : decode cX0_whyBack 16 = .ok (.ireturn, 1) := dk_172 (dk_at dksX0_whyBack_0 16 rfl rfl)
abbrev cX0_daysWaited : ByteArray := method_17_code
def yX0_daysWaited : MethodName := ⟨RX0, "daysWaited", "(LDialectdepot;I[J)I"⟩
def dkwX0_daysWaited_0 : List UInt8 := [44, 3, 42, 27, 182, 0, 63, 133, 80, 167, 0, 6, 78, 4, 172, 3, 172]
abbrev dktX0_daysWaited_0 : List UInt8 := dkwX0_daysWaited_0 ++ []
theorem dksX0_daysWaited_0 : cX0_daysWaited.data.toList.drop 0 = dktX0_daysWaited_0 := by decide +kernel
theorem dX0_daysWaited_0 : decode cX0_daysWaited 0 = .ok (.aload_n 2, 1) := dk_44 (dk_at dksX0_daysWaited_0 0 rfl rfl)
theorem dX0_daysWaited_1 : decode cX0_daysWaited 1 = .ok (.iconst 0, 1) := dk_3 (dk_at dksX0_daysWaited_0 1 rfl rfl)
theorem dX0_daysWaited_2 : decode cX0_daysWaited 2 = .ok (.aload_n 0, 1) := dk_42 (dk_at dksX0_daysWaited_0 2 rfl rfl)
theorem dX0_daysWaited_3 : decode cX0_daysWaited 3 = .ok (.iload_n 1, 1) := dk_27 (dk_at dksX0_daysWaited_0 3 rfl rfl)
theorem dX0_daysWaited_4 : decode cX0_daysWaited 4 = .ok (.invokevirtual 63, 3) := dk_182 0 63 (dk_at dksX0_daysWaited_0 4 rfl rfl)
theorem dX0_daysWaited_7 : decode cX0_daysWaited 7 = .ok (.i2l, 1) := dk_133 (dk_at dksX0_daysWaited_0 7 rfl rfl)
theorem dX0_daysWaited_8 : decode cX0_daysWaited 8 = .ok (.lastore, 1) := dk_80 (dk_at dksX0_daysWaited_0 8 rfl rfl)
theorem dX0_daysWaited_9 : decode cX0_daysWaited 9 = .ok (.goto 6, 3) := dk_167 0 6 (dk_at dksX0_daysWaited_0 9 rfl rfl)
theorem dX0_daysWaited_12 : decode cX0_daysWaited 12 = .ok (.astore_n 3, 1) := dk_78 (dk_at dksX0_daysWaited_0 12 rfl rfl)
theorem dX0_daysWaited_13 : decode cX0_daysWaited 13 = .ok (.iconst 1, 1) := dk_4 (dk_at dksX0_daysWaited_0 13 rfl rfl)
theorem dX0_daysWaited_14 : decode cX0_daysWaited 14 = .ok (.ireturn, 1) := dk_172 (dk_at dksX0_daysWaited_0 14 rfl rfl)
theorem dX0_daysWaited_15 : decode cX0_daysWaited 15 = .ok (.iconst 0, 1) := dk_3 (dk_at dksX0_daysWaited_0 15 rfl rfl)
theorem dX0_daysWaited_16 : decode cX0_daysWaited 16 = .ok (.ireturn, 1) := dk_172 (dk_at dksX0_daysWaited_0 16 rfl rfl)
abbrev cX0_isWanted : ByteArray := method_18_code
def yX0_isWanted : MethodName := ⟨RX0, "isWanted", "(LDialectdepot;II[J)I"⟩
def dkwX0_isWanted_1 : List UInt8 := [3, 172]
abbrev dktX0_isWanted_1 : List UInt8 := dkwX0_isWanted_1 ++ []
def dkwX0_isWanted_0 : List UInt8 := [45, 3, 42, 27, 28, 182, 0, 66, 153, 0, 7, 10, 167, 0, 4, 9, 80, 167, 0, 7, 58, 4, 4, 172]
abbrev dktX0_isWanted_0 : List UInt8 := dkwX0_isWanted_0 ++ dktX0_isWanted_1
theorem dksX0_isWanted_0 : cX0_isWanted.data.toList.drop 0 = dktX0_isWanted_0 := by decide +kernel
theorem dksX0_isWanted_1 : cX0_isWanted.data.toList.drop 24 = dktX0_isWanted_1 := dk_seg dksX0_isWanted_0 24 rfl rfl
theorem dX0_isWanted_0 : decode cX0_isWanted 0 = .ok (.aload_n 3, 1) := dk_45 (dk_at dksX0_isWanted_0 0 rfl rfl)
theorem dX0_isWanted_1 : decode cX0_isWanted 1 = .ok (.iconst 0, 1) := dk_3 (dk_at dksX0_isWanted_0 1 rfl rfl)
theorem dX0_isWanted_2 : decode cX0_isWanted 2 = .ok (.aload_n 0, 1) := dk_42 (dk_at dksX0_isWanted_0 2 rfl rfl)
theorem dX0_isWanted_3 : decode cX0_isWanted 3 = .ok (.iload_n 1, 1) := dk_27 (dk_at dksX0_isWanted_0 3 rfl rfl)
theorem dX0_isWanted_4 : decode cX0_isWanted 4 = .ok (.iload_n 2, 1) := dk_28 (dk_at dksX0_isWanted_0 4 rfl rfl)
theorem dX0_isWanted_5 : decode cX0_isWanted 5 = .ok (.invokevirtual 66, 3) := dk_182 0 66 (dk_at dksX0_isWanted_0 5 rfl rfl)
theorem dX0_isWanted_8 : decode cX0_isWanted 8 = .ok (.ifCond .eq 7, 3) := dk_153 0 7 (dk_at dksX0_isWanted_0 8 rfl rfl)
theorem dX0_isWanted_11 : decode cX0_isWanted 11 = .ok (.lconst 1, 1) := dk_10 (dk_at dksX0_isWanted_0 11 rfl rfl)
theorem dX0_isWanted_12 : decode cX0_isWanted 12 = .ok (.goto 4, 3) := dk_167 0 4 (dk_at dksX0_isWanted_0 12 rfl rfl)
theorem dX0_isWanted_15 : decode cX0_isWanted 15 = .ok (.lconst 0, 1) := dk_9 (dk_at dksX0_isWanted_0 15 rfl rfl)
theorem dX0_isWanted_16 : decode cX0_isWanted 16 = .ok (.lastore, 1) := dk_80 (dk_at dksX0_isWanted_0 16 rfl rfl)
theorem dX0_isWanted_17 : decode cX0_isWanted 17 = .ok (.goto 7, 3) := dk_167 0 7 (dk_at dksX0_isWanted_0 17 rfl rfl)
theorem dX0_isWanted_20 : decode cX0_isWanted 20 = .ok (.astore 4, 2) := dk_58 4 (dk_at dksX0_isWanted_0 20 rfl rfl)
theorem dX0_isWanted_22 : decode cX0_isWanted 22 = .ok (.iconst 1, 1) := dk_4 (dk_at dksX0_isWanted_0 22 rfl rfl)
theorem dX0_isWanted_23 : decode cX0_isWanted 23 = .ok (.ireturn, 1) := dk_172 (dk_at dksX0_isWanted_0 23 rfl rfl)
theorem dX0_isWanted_24 : decode cX0_isWanted 24 = .ok (.iconst 0, 1) := dk_3 (dk_at dksX0_isWanted_1 0 rfl rfl)
theorem dX0_isWanted_25 : decode cX0_isWanted 25 = .ok (.ireturn, 1) := dk_172 (dk_at dksX0_isWanted_1 1 rfl rfl)
abbrev cX0_unwantedName : ByteArray := method_19_code
def yX0_unwantedName : MethodName := ⟨RX0, "unwantedName", "(LDialectdepot;I[J)I"⟩
def dkwX0_unwantedName_0 : List UInt8 := [44, 3, 42, 27, 182, 0, 70, 133, 80, 167, 0, 6, 78, 4, 172, 3, 172]
abbrev dktX0_unwantedName_0 : List UInt8 := dkwX0_unwantedName_0 ++ []
theorem dksX0_unwantedName_0 : cX0_unwantedName.data.toList.drop 0 = dktX0_unwantedName_0 := by decide +kernel
theorem dX0_unwantedName_0 : decode cX0_unwantedName 0 = .ok (.aload_n 2, 1) := dk_44 (dk_at dksX0_unwantedName_0 0 rfl rfl)
theorem dX0_unwantedName_1 : decode cX0_unwantedName 1 = .ok (.iconst 0, 1) := dk_3 (dk_at dksX0_unwantedName_0 1 rfl rfl)
theorem dX0_unwantedName_2 : decode cX0_unwantedName 2 = .ok (.aload_n 0, 1) := dk_42 (dk_at dksX0_unwantedName_0 2 rfl rfl)
theorem dX0_unwantedName_3 : decode cX0_unwantedName 3 = .ok (.iload_n 1, 1) := dk_27 (dk_at dksX0_unwantedName_0 3 rfl rfl)
theorem dX0_unwantedName_4 : decode cX0_unwantedName 4 = .ok (.invokevirtual 70, 3) := dk_182 0 70 (dk_at dksX0_unwantedName_0 4 rfl rfl)
theorem dX0_unwantedName_7 : decode cX0_unwantedName 7 = .ok (.i2l, 1) := dk_133 (dk_at dksX0_unwantedName_0 7 rfl rfl)
theorem dX0_unwantedName_8 : decode cX0_unwantedName 8 = .ok (.lastore, 1) := dk_80 (dk_at dksX0_unwantedName_0 8 rfl rfl)
theorem dX0_unwantedName_9 : decode cX0_unwantedName 9 = .ok (.goto 6, 3) := dk_167 0 6 (dk_at dksX0_unwantedName_0 9 rfl rfl)
theorem dX0_unwantedName_12 : decode cX0_unwantedName 12 = .ok (.astore_n 3, 1) := dk_78 (dk_at dksX0_unwantedName_0 12 rfl rfl)
theorem dX0_unwantedName_13 : decode cX0_unwantedName 13 = .ok (.iconst 1, 1) := dk_4 (dk_at dksX0_unwantedName_0 13 rfl rfl)
theorem dX0_unwantedName_14 : decode cX0_unwantedName 14 = .ok (.ireturn, 1) := dk_172 (dk_at dksX0_unwantedName_0 14 rfl rfl)
theorem dX0_unwantedName_15 : decode cX0_unwantedName 15 = .ok (.iconst 0, 1) := dk_3 (dk_at dksX0_unwantedName_0 15 rfl rfl)
theorem dX0_unwantedName_16 : decode cX0_unwantedName 16 = .ok (.ireturn, 1) := dk_172 (dk_at dksX0_unwantedName_0 16 rfl rfl)
abbrev cX0_isHeld : ByteArray := method_20_code
def yX0_isHeld : MethodName := ⟨RX0, "isHeld", "(LDialectdepot;I[J)I"⟩
def dkwX0_isHeld_0 : List UInt8 := [44, 3, 42, 27, 182, 0, 73, 153, 0, 7, 10, 167, 0, 4, 9, 80, 167, 0, 6, 78, 4, 172, 3, 172]
abbrev dktX0_isHeld_0 : List UInt8 := dkwX0_isHeld_0 ++ []
theorem dksX0_isHeld_0 : cX0_isHeld.data.toList.drop 0 = dktX0_isHeld_0 := by decide +kernel
theorem dX0_isHeld_0 : decode cX0_isHeld 0 = .ok (.aload_n 2, 1) := dk_44 (dk_at dksX0_isHeld_0 0 rfl rfl)
theorem dX0_isHeld_1 : decode cX0_isHeld 1 = .ok (.iconst 0, 1) := dk_3 (dk_at dksX0_isHeld_0 1 rfl rfl)
theorem dX0_isHeld_2 : decode cX0_isHeld 2 = .ok (.aload_n 0, 1) := dk_42 (dk_at dksX0_isHeld_0 2 rfl rfl)
theorem dX0_isHeld_3 : decode cX0_isHeld 3 = .ok (.iload_n 1, 1) := dk_27 (dk_at dksX0_isHeld_0 3 rfl rfl)
theorem dX0_isHeld_4 : decode cX0_isHeld 4 = .ok (.invokevirtual 73, 3) := dk_182 0 73 (dk_at dksX0_isHeld_0 4 rfl rfl)
theorem dX0_isHeld_7 : decode cX0_isHeld 7 = .ok (.ifCond .eq 7, 3) := dk_153 0 7 (dk_at dksX0_isHeld_0 7 rfl rfl)
theorem dX0_isHeld_10 : decode cX0_isHeld 10 = .ok (.lconst 1, 1) := dk_10 (dk_at dksX0_isHeld_0 10 rfl rfl)
theorem dX0_isHeld_11 : decode cX0_isHeld 11 = .ok (.goto 4, 3) := dk_167 0 4 (dk_at dksX0_isHeld_0 11 rfl rfl)
theorem dX0_isHeld_14 : decode cX0_isHeld 14 = .ok (.lconst 0, 1) := dk_9 (dk_at dksX0_isHeld_0 14 rfl rfl)
theorem dX0_isHeld_15 : decode cX0_isHeld 15 = .ok (.lastore, 1) := dk_80 (dk_at dksX0_isHeld_0 15 rfl rfl)
theorem dX0_isHeld_16 : decode cX0_isHeld 16 = .ok (.goto 6, 3) := dk_167 0 6 (dk_at dksX0_isHeld_0 16 rfl rfl)
theorem dX0_isHeld_19 : decode cX0_isHeld 19 = .ok (.astore_n 3, 1) := dk_78 (dk_at dksX0_isHeld_0 19 rfl rfl)
theorem dX0_isHeld_20 : decode cX0_isHeld 20 = .ok (.iconst 1, 1) := dk_4 (dk_at dksX0_isHeld_0 20 rfl rfl)
theorem dX0_isHeld_21 : decode cX0_isHeld 21 = .ok (.ireturn, 1) := dk_172 (dk_at dksX0_isHeld_0 21 rfl rfl)
theorem dX0_isHeld_22 : decode cX0_isHeld 22 = .ok (.iconst 0, 1) := dk_3 (dk_at dksX0_isHeld_0 22 rfl rfl)
theorem dX0_isHeld_23 : decode cX0_isHeld 23 = .ok (.ireturn, 1) := dk_172 (dk_at dksX0_isHeld_0 23 rfl rfl)
abbrev cX0_score : ByteArray := method_21_code
def yX0_score : MethodName := ⟨RX0, "score", "(LDialectdepot;III[J)I"⟩
def dkwX0_score_0 : List UInt8 := [25, 4, 3, 42, 27, 28, 29, 182, 0, 77, 133, 80, 167, 0, 7, 58, 5, 4, 172, 3, 172]
abbrev dktX0_score_0 : List UInt8 := dkwX0_score_0 ++ []
theorem dksX0_score_0 : cX0_score.data.toList.drop 0 = dktX0_score_0 := by decide +kernel
theorem dX0_score_0 : decode cX0_score 0 = .ok (.aload 4, 2) := dk_25 4 (dk_at dksX0_score_0 0 rfl rfl)
theorem dX0_score_2 : decode cX0_score 2 = .ok (.iconst 0, 1) := dk_3 (dk_at dksX0_score_0 2 rfl rfl)
theorem dX0_score_3 : decode cX0_score 3 = .ok (.aload_n 0, 1) := dk_42 (dk_at dksX0_score_0 3 rfl rfl)
theorem dX0_score_4 : decode cX0_score 4 = .ok (.iload_n 1, 1) := dk_27 (dk_at dksX0_score_0 4 rfl rfl)
theorem dX0_score_5 : decode cX0_score 5 = .ok (.iload_n 2, 1) := dk_28 (dk_at dksX0_score_0 5 rfl rfl)
theorem dX0_score_6 : decode cX0_score 6 = .ok (.iload_n 3, 1) := dk_29 (dk_at dksX0_score_0 6 rfl rfl)
theorem dX0_score_7 : decode cX0_score 7 = .ok (.invokevirtual 77, 3) := dk_182 0 77 (dk_at dksX0_score_0 7 rfl rfl)
theorem dX0_score_10 : decode cX0_score 10 = .ok (.i2l, 1) := dk_133 (dk_at dksX0_score_0 10 rfl rfl)
theorem dX0_score_11 : decode cX0_score 11 = .ok (.lastore, 1) := dk_80 (dk_at dksX0_score_0 11 rfl rfl)
theorem dX0_score_12 : decode cX0_score 12 = .ok (.goto 7, 3) := dk_167 0 7 (dk_at dksX0_score_0 12 rfl rfl)
theorem dX0_score_15 : decode cX0_score 15 = .ok (.astore 5, 2) := dk_58 5 (dk_at dksX0_score_0 15 rfl rfl)
theorem dX0_score_17 : decode cX0_score 17 = .ok (.iconst 1, 1) := dk_4 (dk_at dksX0_score_0 17 rfl rfl)
theorem dX0_score_18 : decode cX0_score 18 = .ok (.ireturn, 1) := dk_172 (dk_at dksX0_score_0 18 rfl rfl)
theorem dX0_score_19 : decode cX0_score 19 = .ok (.iconst 0, 1) := dk_3 (dk_at dksX0_score_0 19 rfl rfl)
theorem dX0_score_20 : decode cX0_score 20 = .ok (.ireturn, 1) := dk_172 (dk_at dksX0_score_0 20 rfl rfl)
abbrev cX0_choiceFor : ByteArray := method_22_code
def yX0_choiceFor : MethodName := ⟨RX0, "choiceFor", "(LDialectdepot;I[J)I"⟩
def dkwX0_choiceFor_0 : List UInt8 := [44, 3, 42, 27, 182, 0, 80, 133, 80, 167, 0, 6, 78, 4, 172, 3, 172]
abbrev dktX0_choiceFor_0 : List UInt8 := dkwX0_choiceFor_0 ++ []
theorem dksX0_choiceFor_0 : cX0_choiceFor.data.toList.drop 0 = dktX0_choiceFor_0 := by decide +kernel
theorem dX0_choiceFor_0 : decode cX0_choiceFor 0 = .ok (.aload_n 2, 1) := dk_44 (dk_at dksX0_choiceFor_0 0 rfl rfl)
theorem dX0_choiceFor_1 : decode cX0_choiceFor 1 = .ok (.iconst 0, 1) := dk_3 (dk_at dksX0_choiceFor_0 1 rfl rfl)
theorem dX0_choiceFor_2 : decode cX0_choiceFor 2 = .ok (.aload_n 0, 1) := dk_42 (dk_at dksX0_choiceFor_0 2 rfl rfl)
theorem dX0_choiceFor_3 : decode cX0_choiceFor 3 = .ok (.iload_n 1, 1) := dk_27 (dk_at dksX0_choiceFor_0 3 rfl rfl)
theorem dX0_choiceFor_4 : decode cX0_choiceFor 4 = .ok (.invokevirtual 80, 3) := dk_182 0 80 (dk_at dksX0_choiceFor_0 4 rfl rfl)
theorem dX0_choiceFor_7 : decode cX0_choiceFor 7 = .ok (.i2l, 1) := dk_133 (dk_at dksX0_choiceFor_0 7 rfl rfl)
theorem dX0_choiceFor_8 : decode cX0_choiceFor 8 = .ok (.lastore, 1) := dk_80 (dk_at dksX0_choiceFor_0 8 rfl rfl)
theorem dX0_choiceFor_9 : decode cX0_choiceFor 9 = .ok (.goto 6, 3) := dk_167 0 6 (dk_at dksX0_choiceFor_0 9 rfl rfl)
theorem dX0_choiceFor_12 : decode cX0_choiceFor 12 = .ok (.astore_n 3, 1) := dk_78 (dk_at dksX0_choiceFor_0 12 rfl rfl)
theorem dX0_choiceFor_13 : decode cX0_choiceFor 13 = .ok (.iconst 1, 1) := dk_4 (dk_at dksX0_choiceFor_0 13 rfl rfl)
theorem dX0_choiceFor_14 : decode cX0_choiceFor 14 = .ok (.ireturn, 1) := dk_172 (dk_at dksX0_choiceFor_0 14 rfl rfl)
theorem dX0_choiceFor_15 : decode cX0_choiceFor 15 = .ok (.iconst 0, 1) := dk_3 (dk_at dksX0_choiceFor_0 15 rfl rfl)
theorem dX0_choiceFor_16 : decode cX0_choiceFor 16 = .ok (.ireturn, 1) := dk_172 (dk_at dksX0_choiceFor_0 16 rfl rfl)
abbrev cX0_nextDay : ByteArray := method_23_code
def yX0_nextDay : MethodName := ⟨RX0, "nextDay", "(LDialectdepot;[J)I"⟩
def dkwX0_nextDay_0 : List UInt8 := [43, 3, 42, 182, 0, 83, 133, 80, 167, 0, 6, 77, 4, 172, 3, 172]
abbrev dktX0_nextDay_0 : List UInt8 := dkwX0_nextDay_0 ++ []
theorem dksX0_nextDay_0 : cX0_nextDay.data.toList.drop 0 = dktX0_nextDay_0 := by decide +kernel
theorem dX0_nextDay_0 : decode cX0_nextDay 0 = .ok (.aload_n 1, 1) := dk_43 (dk_at dksX0_nextDay_0 0 rfl rfl)
theorem dX0_nextDay_1 : decode cX0_nextDay 1 = .ok (.iconst 0, 1) := dk_3 (dk_at dksX0_nextDay_0 1 rfl rfl)
theorem dX0_nextDay_2 : decode cX0_nextDay 2 = .ok (.aload_n 0, 1) := dk_42 (dk_at dksX0_nextDay_0 2 rfl rfl)
theorem dX0_nextDay_3 : decode cX0_nextDay 3 = .ok (.invokevirtual 83, 3) := dk_182 0 83 (dk_at dksX0_nextDay_0 3 rfl rfl)
theorem dX0_nextDay_6 : decode cX0_nextDay 6 = .ok (.i2l, 1) := dk_133 (dk_at dksX0_nextDay_0 6 rfl rfl)
theorem dX0_nextDay_7 : decode cX0_nextDay 7 = .ok (.lastore, 1) := dk_80 (dk_at dksX0_nextDay_0 7 rfl rfl)
theorem dX0_nextDay_8 : decode cX0_nextDay 8 = .ok (.goto 6, 3) := dk_167 0 6 (dk_at dksX0_nextDay_0 8 rfl rfl)
theorem dX0_nextDay_11 : decode cX0_nextDay 11 = .ok (.astore_n 2, 1) := dk_77 (dk_at dksX0_nextDay_0 11 rfl rfl)
theorem dX0_nextDay_12 : decode cX0_nextDay 12 = .ok (.iconst 1, 1) := dk_4 (dk_at dksX0_nextDay_0 12 rfl rfl)
theorem dX0_nextDay_13 : decode cX0_nextDay 13 = .ok (.ireturn, 1) := dk_172 (dk_at dksX0_nextDay_0 13 rfl rfl)
theorem dX0_nextDay_14 : decode cX0_nextDay 14 = .ok (.iconst 0, 1) := dk_3 (dk_at dksX0_nextDay_0 14 rfl rfl)
theorem dX0_nextDay_15 : decode cX0_nextDay 15 = .ok (.ireturn, 1) := dk_172 (dk_at dksX0_nextDay_0 15 rfl rfl)
abbrev cX0_attemptParcel : ByteArray := method_24_code
def yX0_attemptParcel : MethodName := ⟨RX0, "attemptParcel", "(LDialectdepot;I[J)I"⟩
def dkwX0_attemptParcel_0 : List UInt8 := [44, 3, 42, 27, 182, 0, 86, 133, 80, 167, 0, 6, 78, 4, 172, 3, 172]
abbrev dktX0_attemptParcel_0 : List UInt8 := dkwX0_attemptParcel_0 ++ []
theorem dksX0_attemptParcel_0 : cX0_attemptParcel.data.toList.drop 0 = dktX0_attemptParcel_0 := by decide +kernel
theorem dX0_attemptParcel_0 : decode cX0_attemptParcel 0 = .ok (.aload_n 2, 1) := dk_44 (dk_at dksX0_attemptParcel_0 0 rfl rfl)
theorem dX0_attemptParcel_1 : decode cX0_attemptParcel 1 = .ok (.iconst 0, 1) := dk_3 (dk_at dksX0_attemptParcel_0 1 rfl rfl)
theorem dX0_attemptParcel_2 : decode cX0_attemptParcel 2 = .ok (.aload_n 0, 1) := dk_42 (dk_at dksX0_attemptParcel_0 2 rfl rfl)
theorem dX0_attemptParcel_3 : decode cX0_attemptParcel 3 = .ok (.iload_n 1, 1) := dk_27 (dk_at dksX0_attemptParcel_0 3 rfl rfl)
theorem dX0_attemptParcel_4 : decode cX0_attemptParcel 4 = .ok (.invokevirtual 86, 3) := dk_182 0 86 (dk_at dksX0_attemptParcel_0 4 rfl rfl)
theorem dX0_attemptParcel_7 : decode cX0_attemptParcel 7 = .ok (.i2l, 1) := dk_133 (dk_at dksX0_attemptParcel_0 7 rfl rfl)
theorem dX0_attemptParcel_8 : decode cX0_attemptParcel 8 = .ok (.lastore, 1) := dk_80 (dk_at dksX0_attemptParcel_0 8 rfl rfl)
theorem dX0_attemptParcel_9 : decode cX0_attemptParcel 9 = .ok (.goto 6, 3) := dk_167 0 6 (dk_at dksX0_attemptParcel_0 9 rfl rfl)
theorem dX0_attemptParcel_12 : decode cX0_attemptParcel 12 = .ok (.astore_n 3, 1) := dk_78 (dk_at dksX0_attemptParcel_0 12 rfl rfl)
theorem dX0_attemptParcel_13 : decode cX0_attemptParcel 13 = .ok (.iconst 1, 1) := dk_4 (dk_at dksX0_attemptParcel_0 13 rfl rfl)
theorem dX0_attemptParcel_14 : decode cX0_attemptParcel 14 = .ok (.ireturn, 1) := dk_172 (dk_at dksX0_attemptParcel_0 14 rfl rfl)
theorem dX0_attemptParcel_15 : decode cX0_attemptParcel 15 = .ok (.iconst 0, 1) := dk_3 (dk_at dksX0_attemptParcel_0 15 rfl rfl)
theorem dX0_attemptParcel_16 : decode cX0_attemptParcel 16 = .ok (.ireturn, 1) := dk_172 (dk_at dksX0_attemptParcel_0 16 rfl rfl)
abbrev cX0_attemptCarrier : ByteArray := method_25_code
def yX0_attemptCarrier : MethodName := ⟨RX0, "attemptCarrier", "(LDialectdepot;I[J)I"⟩
def dkwX0_attemptCarrier_0 : List UInt8 := [44, 3, 42, 27, 182, 0, 89, 133, 80, 167, 0, 6, 78, 4, 172, 3, 172]
abbrev dktX0_attemptCarrier_0 : List UInt8 := dkwX0_attemptCarrier_0 ++ []
theorem dksX0_attemptCarrier_0 : cX0_attemptCarrier.data.toList.drop 0 = dktX0_attemptCarrier_0 := by decide +kernel
theorem dX0_attemptCarrier_0 : decode cX0_attemptCarrier 0 = .ok (.aload_n 2, 1) := dk_44 (dk_at dksX0_attemptCarrier_0 0 rfl rfl)
theorem dX0_attemptCarrier_1 : decode cX0_attemptCarrier 1 = .ok (.iconst 0, 1) := dk_3 (dk_at dksX0_attemptCarrier_0 1 rfl rfl)
theorem dX0_attemptCarrier_2 : decode cX0_attemptCarrier 2 = .ok (.aload_n 0, 1) := dk_42 (dk_at dksX0_attemptCarrier_0 2 rfl rfl)
theorem dX0_attemptCarrier_3 : decode cX0_attemptCarrier 3 = .ok (.iload_n 1, 1) := dk_27 (dk_at dksX0_attemptCarrier_0 3 rfl rfl)
theorem dX0_attemptCarrier_4 : decode cX0_attemptCarrier 4 = .ok (.invokevirtual 89, 3) := dk_182 0 89 (dk_at dksX0_attemptCarrier_0 4 rfl rfl)
theorem dX0_attemptCarrier_7 : decode cX0_attemptCarrier 7 = .ok (.i2l, 1) := dk_133 (dk_at dksX0_attemptCarrier_0 7 rfl rfl)
theorem dX0_attemptCarrier_8 : decode cX0_attemptCarrier 8 = .ok (.lastore, 1) := dk_80 (dk_at dksX0_attemptCarrier_0 8 rfl rfl)
theorem dX0_attemptCarrier_9 : decode cX0_attemptCarrier 9 = .ok (.goto 6, 3) := dk_167 0 6 (dk_at dksX0_attemptCarrier_0 9 rfl rfl)
theorem dX0_attemptCarrier_12 : decode cX0_attemptCarrier 12 = .ok (.astore_n 3, 1) := dk_78 (dk_at dksX0_attemptCarrier_0 12 rfl rfl)
theorem dX0_attemptCarrier_13 : decode cX0_attemptCarrier 13 = .ok (.iconst 1, 1) := dk_4 (dk_at dksX0_attemptCarrier_0 13 rfl rfl)
theorem dX0_attemptCarrier_14 : decode cX0_attemptCarrier 14 = .ok (.ireturn, 1) := dk_172 (dk_at dksX0_attemptCarrier_0 14 rfl rfl)
theorem dX0_attemptCarrier_15 : decode cX0_attemptCarrier 15 = .ok (.iconst 0, 1) := dk_3 (dk_at dksX0_attemptCarrier_0 15 rfl rfl)
theorem dX0_attemptCarrier_16 : decode cX0_attemptCarrier 16 = .ok (.ireturn, 1) := dk_172 (dk_at dksX0_attemptCarrier_0 16 rfl rfl)
abbrev cX0_attemptStreet : ByteArray := method_26_code
def yX0_attemptStreet : MethodName := ⟨RX0, "attemptStreet", "(LDialectdepot;I[J)I"⟩
def dkwX0_attemptStreet_0 : List UInt8 := [44, 3, 42, 27, 182, 0, 92, 133, 80, 167, 0, 6, 78, 4, 172, 3, 172]
abbrev dktX0_attemptStreet_0 : List UInt8 := dkwX0_attemptStreet_0 ++ []
theorem dksX0_attemptStreet_0 : cX0_attemptStreet.data.toList.drop 0 = dktX0_attemptStreet_0 := by decide +kernel
theorem dX0_attemptStreet_0 : decode cX0_attemptStreet 0 = .ok (.aload_n 2, 1) := dk_44 (dk_at dksX0_attemptStreet_0 0 rfl rfl)
theorem dX0_attemptStreet_1 : decode cX0_attemptStreet 1 = .ok (.iconst 0, 1) := dk_3 (dk_at dksX0_attemptStreet_0 1 rfl rfl)
theorem dX0_attemptStreet_2 : decode cX0_attemptStreet 2 = .ok (.aload_n 0, 1) := dk_42 (dk_at dksX0_attemptStreet_0 2 rfl rfl)
theorem dX0_attemptStreet_3 : decode cX0_attemptStreet 3 = .ok (.iload_n 1, 1) := dk_27 (dk_at dksX0_attemptStreet_0 3 rfl rfl)
theorem dX0_attemptStreet_4 : decode cX0_attemptStreet 4 = .ok (.invokevirtual 92, 3) := dk_182 0 92 (dk_at dksX0_attemptStreet_0 4 rfl rfl)
theorem dX0_attemptStreet_7 : decode cX0_attemptStreet 7 = .ok (.i2l, 1) := dk_133 (dk_at dksX0_attemptStreet_0 7 rfl rfl)
theorem dX0_attemptStreet_8 : decode cX0_attemptStreet 8 = .ok (.lastore, 1) := dk_80 (dk_at dksX0_attemptStreet_0 8 rfl rfl)
theorem dX0_attemptStreet_9 : decode cX0_attemptStreet 9 = .ok (.goto 6, 3) := dk_167 0 6 (dk_at dksX0_attemptStreet_0 9 rfl rfl)
theorem dX0_attemptStreet_12 : decode cX0_attemptStreet 12 = .ok (.astore_n 3, 1) := dk_78 (dk_at dksX0_attemptStreet_0 12 rfl rfl)
theorem dX0_attemptStreet_13 : decode cX0_attemptStreet 13 = .ok (.iconst 1, 1) := dk_4 (dk_at dksX0_attemptStreet_0 13 rfl rfl)
theorem dX0_attemptStreet_14 : decode cX0_attemptStreet 14 = .ok (.ireturn, 1) := dk_172 (dk_at dksX0_attemptStreet_0 14 rfl rfl)
theorem dX0_attemptStreet_15 : decode cX0_attemptStreet 15 = .ok (.iconst 0, 1) := dk_3 (dk_at dksX0_attemptStreet_0 15 rfl rfl)
theorem dX0_attemptStreet_16 : decode cX0_attemptStreet 16 = .ok (.ireturn, 1) := dk_172 (dk_at dksX0_attemptStreet_0 16 rfl rfl)
abbrev cX0_attemptDay : ByteArray := method_27_code
def yX0_attemptDay : MethodName := ⟨RX0, "attemptDay", "(LDialectdepot;I[J)I"⟩
def dkwX0_attemptDay_0 : List UInt8 := [44, 3, 42, 27, 182, 0, 95, 133, 80, 167, 0, 6, 78, 4, 172, 3, 172]
abbrev dktX0_attemptDay_0 : List UInt8 := dkwX0_attemptDay_0 ++ []
theorem dksX0_attemptDay_0 : cX0_attemptDay.data.toList.drop 0 = dktX0_attemptDay_0 := by decide +kernel
theorem dX0_attemptDay_0 : decode cX0_attemptDay 0 = .ok (.aload_n 2, 1) := dk_44 (dk_at dksX0_attemptDay_0 0 rfl rfl)
theorem dX0_attemptDay_1 : decode cX0_attemptDay 1 = .ok (.iconst 0, 1) := dk_3 (dk_at dksX0_attemptDay_0 1 rfl rfl)
theorem dX0_attemptDay_2 : decode cX0_attemptDay 2 = .ok (.aload_n 0, 1) := dk_42 (dk_at dksX0_attemptDay_0 2 rfl rfl)
theorem dX0_attemptDay_3 : decode cX0_attemptDay 3 = .ok (.iload_n 1, 1) := dk_27 (dk_at dksX0_attemptDay_0 3 rfl rfl)
theorem dX0_attemptDay_4 : decode cX0_attemptDay 4 = .ok (.invokevirtual 95, 3) := dk_182 0 95 (dk_at dksX0_attemptDay_0 4 rfl rfl)
theorem dX0_attemptDay_7 : decode cX0_attemptDay 7 = .ok (.i2l, 1) := dk_133 (dk_at dksX0_attemptDay_0 7 rfl rfl)
theorem dX0_attemptDay_8 : decode cX0_attemptDay 8 = .ok (.lastore, 1) := dk_80 (dk_at dksX0_attemptDay_0 8 rfl rfl)
theorem dX0_attemptDay_9 : decode cX0_attemptDay 9 = .ok (.goto 6, 3) := dk_167 0 6 (dk_at dksX0_attemptDay_0 9 rfl rfl)
theorem dX0_attemptDay_12 : decode cX0_attemptDay 12 = .ok (.astore_n 3, 1) := dk_78 (dk_at dksX0_attemptDay_0 12 rfl rfl)
theorem dX0_attemptDay_13 : decode cX0_attemptDay 13 = .ok (.iconst 1, 1) := dk_4 (dk_at dksX0_attemptDay_0 13 rfl rfl)
theorem dX0_attemptDay_14 : decode cX0_attemptDay 14 = .ok (.ireturn, 1) := dk_172 (dk_at dksX0_attemptDay_0 14 rfl rfl)
theorem dX0_attemptDay_15 : decode cX0_attemptDay 15 = .ok (.iconst 0, 1) := dk_3 (dk_at dksX0_attemptDay_0 15 rfl rfl)
theorem dX0_attemptDay_16 : decode cX0_attemptDay 16 = .ok (.ireturn, 1) := dk_172 (dk_at dksX0_attemptDay_0 16 rfl rfl)
abbrev cX0_wasDelivered : ByteArray := method_28_code
def yX0_wasDelivered : MethodName := ⟨RX0, "wasDelivered", "(LDialectdepot;I[J)I"⟩
def dkwX0_wasDelivered_0 : List UInt8 := [44, 3, 42, 27, 182, 0, 98, 153, 0, 7, 10, 167, 0, 4, 9, 80, 167, 0, 6, 78, 4, 172, 3, 172]
abbrev dktX0_wasDelivered_0 : List UInt8 := dkwX0_wasDelivered_0 ++ []
theorem dksX0_wasDelivered_0 : cX0_wasDelivered.data.toList.drop 0 = dktX0_wasDelivered_0 := by decide +kernel
theorem dX0_wasDelivered_0 : decode cX0_wasDelivered 0 = .ok (.aload_n 2, 1) := dk_44 (dk_at dksX0_wasDelivered_0 0 rfl rfl)
theorem dX0_wasDelivered_1 : decode cX0_wasDelivered 1 = .ok (.iconst 0, 1) := dk_3 (dk_at dksX0_wasDelivered_0 1 rfl rfl)
theorem dX0_wasDelivered_2 : decode cX0_wasDelivered 2 = .ok (.aload_n 0, 1) := dk_42 (dk_at dksX0_wasDelivered_0 2 rfl rfl)
theorem dX0_wasDelivered_3 : decode cX0_wasDelivered 3 = .ok (.iload_n 1, 1) := dk_27 (dk_at dksX0_wasDelivered_0 3 rfl rfl)
theorem dX0_wasDelivered_4 : decode cX0_wasDelivered 4 = .ok (.invokevirtual 98, 3) := dk_182 0 98 (dk_at dksX0_wasDelivered_0 4 rfl rfl)
theorem dX0_wasDelivered_7 : decode cX0_wasDelivered 7 = .ok (.ifCond .eq 7, 3) := dk_153 0 7 (dk_at dksX0_wasDelivered_0 7 rfl rfl)
theorem dX0_wasDelivered_10 : decode cX0_wasDelivered 10 = .ok (.lconst 1, 1) := dk_10 (dk_at dksX0_wasDelivered_0 10 rfl rfl)
theorem dX0_wasDelivered_11 : decode cX0_wasDelivered 11 = .ok (.goto 4, 3) := dk_167 0 4 (dk_at dksX0_wasDelivered_0 11 rfl rfl)
theorem dX0_wasDelivered_14 : decode cX0_wasDelivered 14 = .ok (.lconst 0, 1) := dk_9 (dk_at dksX0_wasDelivered_0 14 rfl rfl)
theorem dX0_wasDelivered_15 : decode cX0_wasDelivered 15 = .ok (.lastore, 1) := dk_80 (dk_at dksX0_wasDelivered_0 15 rfl rfl)
theorem dX0_wasDelivered_16 : decode cX0_wasDelivered 16 = .ok (.goto 6, 3) := dk_167 0 6 (dk_at dksX0_wasDelivered_0 16 rfl rfl)
theorem dX0_wasDelivered_19 : decode cX0_wasDelivered 19 = .ok (.astore_n 3, 1) := dk_78 (dk_at dksX0_wasDelivered_0 19 rfl rfl)
theorem dX0_wasDelivered_20 : decode cX0_wasDelivered 20 = .ok (.iconst 1, 1) := dk_4 (dk_at dksX0_wasDelivered_0 20 rfl rfl)
theorem dX0_wasDelivered_21 : decode cX0_wasDelivered 21 = .ok (.ireturn, 1) := dk_172 (dk_at dksX0_wasDelivered_0 21 rfl rfl)
theorem dX0_wasDelivered_22 : decode cX0_wasDelivered 22 = .ok (.iconst 0, 1) := dk_3 (dk_at dksX0_wasDelivered_0 22 rfl rfl)
theorem dX0_wasDelivered_23 : decode cX0_wasDelivered 23 = .ok (.ireturn, 1) := dk_172 (dk_at dksX0_wasDelivered_0 23 rfl rfl)
abbrev cX0_claim : ByteArray := method_29_code
def yX0_claim : MethodName := ⟨RX0, "claim", "(LDialectdepot;III[J)I"⟩
def dkwX0_claim_1 : List UInt8 := [58, 5, 6, 172, 3, 172]
abbrev dktX0_claim_1 : List UInt8 := dkwX0_claim_1 ++ []
def dkwX0_claim_0 : List UInt8 := [25, 4, 3, 42, 27, 28, 29, 182, 0, 101, 133, 80, 167, 0, 15, 58, 5, 4, 172, 58, 5, 5, 172]
abbrev dktX0_claim_0 : List UInt8 := dkwX0_claim_0 ++ dktX0_claim_1
theorem dksX0_claim_0 : cX0_claim.data.toList.drop 0 = dktX0_claim_0 := by decide +kernel
theorem dksX0_claim_1 : cX0_claim.data.toList.drop 23 = dktX0_claim_1 := dk_seg dksX0_claim_0 23 rfl rfl
theorem dX0_claim_0 : decode cX0_claim 0 = .ok (.aload 4, 2) := dk_25 4 (dk_at dksX0_claim_0 0 rfl rfl)
theorem dX0_claim_2 : decode cX0_claim 2 = .ok (.iconst 0, 1) := dk_3 (dk_at dksX0_claim_0 2 rfl rfl)
theorem dX0_claim_3 : decode cX0_claim 3 = .ok (.aload_n 0, 1) := dk_42 (dk_at dksX0_claim_0 3 rfl rfl)
theorem dX0_claim_4 : decode cX0_claim 4 = .ok (.iload_n 1, 1) := dk_27 (dk_at dksX0_claim_0 4 rfl rfl)
theorem dX0_claim_5 : decode cX0_claim 5 = .ok (.iload_n 2, 1) := dk_28 (dk_at dksX0_claim_0 5 rfl rfl)
theorem dX0_claim_6 : decode cX0_claim 6 = .ok (.iload_n 3, 1) := dk_29 (dk_at dksX0_claim_0 6 rfl rfl)
theorem dX0_claim_7 : decode cX0_claim 7 = .ok (.invokevirtual 101, 3) := dk_182 0 101 (dk_at dksX0_claim_0 7 rfl rfl)
theorem dX0_claim_10 : decode cX0_claim 10 = .ok (.i2l, 1) := dk_133 (dk_at dksX0_claim_0 10 rfl rfl)
theorem dX0_claim_11 : decode cX0_claim 11 = .ok (.lastore, 1) := dk_80 (dk_at dksX0_claim_0 11 rfl rfl)
theorem dX0_claim_12 : decode cX0_claim 12 = .ok (.goto 15, 3) := dk_167 0 15 (dk_at dksX0_claim_0 12 rfl rfl)
theorem dX0_claim_15 : decode cX0_claim 15 = .ok (.astore 5, 2) := dk_58 5 (dk_at dksX0_claim_0 15 rfl rfl)
theorem dX0_claim_17 : decode cX0_claim 17 = .ok (.iconst 1, 1) := dk_4 (dk_at dksX0_claim_0 17 rfl rfl)
theorem dX0_claim_18 : decode cX0_claim 18 = .ok (.ireturn, 1) := dk_172 (dk_at dksX0_claim_0 18 rfl rfl)
theorem dX0_claim_19 : decode cX0_claim 19 = .ok (.astore 5, 2) := dk_58 5 (dk_at dksX0_claim_0 19 rfl rfl)
theorem dX0_claim_21 : decode cX0_claim 21 = .ok (.iconst 2, 1) := dk_5 (dk_at dksX0_claim_0 21 rfl rfl)
theorem dX0_claim_22 : decode cX0_claim 22 = .ok (.ireturn, 1) := dk_172 (dk_at dksX0_claim_0 22 rfl rfl)
theorem dX0_claim_23 : decode cX0_claim 23 = .ok (.astore 5, 2) := dk_58 5 (dk_at dksX0_claim_1 0 rfl rfl)
theorem dX0_claim_25 : decode cX0_claim 25 = .ok (.iconst 3, 1) := dk_6 (dk_at dksX0_claim_1 2 rfl rfl)
theorem dX0_claim_26 : decode cX0_claim 26 = .ok (.ireturn, 1) := dk_172 (dk_at dksX0_claim_1 3 rfl rfl)
theorem dX0_claim_27 : decode cX0_claim 27 = .ok (.iconst 0, 1) := dk_3 (dk_at dksX0_claim_1 4 rfl rfl)
theorem dX0_claim_28 : decode cX0_claim 28 = .ok (.ireturn, 1) := dk_172 (dk_at dksX0_claim_1 5 rfl rfl)
abbrev cX0_withdraw : ByteArray := method_30_code
def yX0_withdraw : MethodName := ⟨RX0, "withdraw", "(LDialectdepot;II[J)I"⟩
def dkwX0_withdraw_1 : List UInt8 := [172, 3, 172]
abbrev dktX0_withdraw_1 : List UInt8 := dkwX0_withdraw_1 ++ []
def dkwX0_withdraw_0 : List UInt8 := [45, 3, 42, 27, 28, 182, 0, 104, 133, 80, 167, 0, 15, 58, 4, 4, 172, 58, 4, 5, 172, 58, 4, 6]
abbrev dktX0_withdraw_0 : List UInt8 := dkwX0_withdraw_0 ++ dktX0_withdraw_1
theorem dksX0_withdraw_0 : cX0_withdraw.data.toList.drop 0 = dktX0_withdraw_0 := by decide +kernel
theorem dksX0_withdraw_1 : cX0_withdraw.data.toList.drop 24 = dktX0_withdraw_1 := dk_seg dksX0_withdraw_0 24 rfl rfl
theorem dX0_withdraw_0 : decode cX0_withdraw 0 = .ok (.aload_n 3, 1) := dk_45 (dk_at dksX0_withdraw_0 0 rfl rfl)
theorem dX0_withdraw_1 : decode cX0_withdraw 1 = .ok (.iconst 0, 1) := dk_3 (dk_at dksX0_withdraw_0 1 rfl rfl)
theorem dX0_withdraw_2 : decode cX0_withdraw 2 = .ok (.aload_n 0, 1) := dk_42 (dk_at dksX0_withdraw_0 2 rfl rfl)
theorem dX0_withdraw_3 : decode cX0_withdraw 3 = .ok (.iload_n 1, 1) := dk_27 (dk_at dksX0_withdraw_0 3 rfl rfl)
theorem dX0_withdraw_4 : decode cX0_withdraw 4 = .ok (.iload_n 2, 1) := dk_28 (dk_at dksX0_withdraw_0 4 rfl rfl)
theorem dX0_withdraw_5 : decode cX0_withdraw 5 = .ok (.invokevirtual 104, 3) := dk_182 0 104 (dk_at dksX0_withdraw_0 5 rfl rfl)
theorem dX0_withdraw_8 : decode cX0_withdraw 8 = .ok (.i2l, 1) := dk_133 (dk_at dksX0_withdraw_0 8 rfl rfl)
theorem dX0_withdraw_9 : decode cX0_withdraw 9 = .ok (.lastore, 1) := dk_80 (dk_at dksX0_withdraw_0 9 rfl rfl)
theorem dX0_withdraw_10 : decode cX0_withdraw 10 = .ok (.goto 15, 3) := dk_167 0 15 (dk_at dksX0_withdraw_0 10 rfl rfl)
theorem dX0_withdraw_13 : decode cX0_withdraw 13 = .ok (.astore 4, 2) := dk_58 4 (dk_at dksX0_withdraw_0 13 rfl rfl)
theorem dX0_withdraw_15 : decode cX0_withdraw 15 = .ok (.iconst 1, 1) := dk_4 (dk_at dksX0_withdraw_0 15 rfl rfl)
theorem dX0_withdraw_16 : decode cX0_withdraw 16 = .ok (.ireturn, 1) := dk_172 (dk_at dksX0_withdraw_0 16 rfl rfl)
theorem dX0_withdraw_17 : decode cX0_withdraw 17 = .ok (.astore 4, 2) := dk_58 4 (dk_at dksX0_withdraw_0 17 rfl rfl)
theorem dX0_withdraw_19 : decode cX0_withdraw 19 = .ok (.iconst 2, 1) := dk_5 (dk_at dksX0_withdraw_0 19 rfl rfl)
theorem dX0_withdraw_20 : decode cX0_withdraw 20 = .ok (.ireturn, 1) := dk_172 (dk_at dksX0_withdraw_0 20 rfl rfl)
theorem dX0_withdraw_21 : decode cX0_withdraw 21 = .ok (.astore 4, 2) := dk_58 4 (dk_at dksX0_withdraw_0 21 rfl rfl)
theorem dX0_withdraw_23 : decode cX0_withdraw 23 = .ok (.iconst 3, 1) := dk_6 (dk_at dksX0_withdraw_0 23 rfl rfl)
theorem dX0_withdraw_24 : decode cX0_withdraw 24 = .ok (.ireturn, 1) := dk_172 (dk_at dksX0_withdraw_1 0 rfl rfl)
theorem dX0_withdraw_25 : decode cX0_withdraw 25 = .ok (.iconst 0, 1) := dk_3 (dk_at dksX0_withdraw_1 1 rfl rfl)
theorem dX0_withdraw_26 : decode cX0_withdraw 26 = .ok (.ireturn, 1) := dk_172 (dk_at dksX0_withdraw_1 2 rfl rfl)
abbrev cX0_claimOf : ByteArray := method_31_code
def yX0_claimOf : MethodName := ⟨RX0, "claimOf", "(LDialectdepot;II[J)I"⟩
def dkwX0_claimOf_0 : List UInt8 := [45, 3, 42, 27, 28, 182, 0, 107, 133, 80, 167, 0, 11, 58, 4, 4, 172, 58, 4, 5, 172, 3, 172]
abbrev dktX0_claimOf_0 : List UInt8 := dkwX0_claimOf_0 ++ []
theorem dksX0_claimOf_0 : cX0_claimOf.data.toList.drop 0 = dktX0_claimOf_0 := by decide +kernel
theorem dX0_claimOf_0 : decode cX0_claimOf 0 = .ok (.aload_n 3, 1) := dk_45 (dk_at dksX0_claimOf_0 0 rfl rfl)
theorem dX0_claimOf_1 : decode cX0_claimOf 1 = .ok (.iconst 0, 1) := dk_3 (dk_at dksX0_claimOf_0 1 rfl rfl)
theorem dX0_claimOf_2 : decode cX0_claimOf 2 = .ok (.aload_n 0, 1) := dk_42 (dk_at dksX0_claimOf_0 2 rfl rfl)
theorem dX0_claimOf_3 : decode cX0_claimOf 3 = .ok (.iload_n 1, 1) := dk_27 (dk_at dksX0_claimOf_0 3 rfl rfl)
theorem dX0_claimOf_4 : decode cX0_claimOf 4 = .ok (.iload_n 2, 1) := dk_28 (dk_at dksX0_claimOf_0 4 rfl rfl)
theorem dX0_claimOf_5 : decode cX0_claimOf 5 = .ok (.invokevirtual 107, 3) := dk_182 0 107 (dk_at dksX0_claimOf_0 5 rfl rfl)
theorem dX0_claimOf_8 : decode cX0_claimOf 8 = .ok (.i2l, 1) := dk_133 (dk_at dksX0_claimOf_0 8 rfl rfl)
theorem dX0_claimOf_9 : decode cX0_claimOf 9 = .ok (.lastore, 1) := dk_80 (dk_at dksX0_claimOf_0 9 rfl rfl)
theorem dX0_claimOf_10 : decode cX0_claimOf 10 = .ok (.goto 11, 3) := dk_167 0 11 (dk_at dksX0_claimOf_0 10 rfl rfl)
theorem dX0_claimOf_13 : decode cX0_claimOf 13 = .ok (.astore 4, 2) := dk_58 4 (dk_at dksX0_claimOf_0 13 rfl rfl)
theorem dX0_claimOf_15 : decode cX0_claimOf 15 = .ok (.iconst 1, 1) := dk_4 (dk_at dksX0_claimOf_0 15 rfl rfl)
theorem dX0_claimOf_16 : decode cX0_claimOf 16 = .ok (.ireturn, 1) := dk_172 (dk_at dksX0_claimOf_0 16 rfl rfl)
theorem dX0_claimOf_17 : decode cX0_claimOf 17 = .ok (.astore 4, 2) := dk_58 4 (dk_at dksX0_claimOf_0 17 rfl rfl)
theorem dX0_claimOf_19 : decode cX0_claimOf 19 = .ok (.iconst 2, 1) := dk_5 (dk_at dksX0_claimOf_0 19 rfl rfl)
theorem dX0_claimOf_20 : decode cX0_claimOf 20 = .ok (.ireturn, 1) := dk_172 (dk_at dksX0_claimOf_0 20 rfl rfl)
theorem dX0_claimOf_21 : decode cX0_claimOf 21 = .ok (.iconst 0, 1) := dk_3 (dk_at dksX0_claimOf_0 21 rfl rfl)
theorem dX0_claimOf_22 : decode cX0_claimOf 22 = .ok (.ireturn, 1) := dk_172 (dk_at dksX0_claimOf_0 22 rfl rfl)
abbrev cX0_disputeDay : ByteArray := method_32_code
def yX0_disputeDay : MethodName := ⟨RX0, "disputeDay", "(LDialectdepot;I[J)I"⟩
def dkwX0_disputeDay_0 : List UInt8 := [44, 3, 42, 27, 182, 0, 110, 133, 80, 167, 0, 6, 78, 4, 172, 3, 172]
abbrev dktX0_disputeDay_0 : List UInt8 := dkwX0_disputeDay_0 ++ []
theorem dksX0_disputeDay_0 : cX0_disputeDay.data.toList.drop 0 = dktX0_disputeDay_0 := by decide +kernel
theorem dX0_disputeDay_0 : decode cX0_disputeDay 0 = .ok (.aload_n 2, 1) := dk_44 (dk_at dksX0_disputeDay_0 0 rfl rfl)
theorem dX0_disputeDay_1 : decode cX0_disputeDay 1 = .ok (.iconst 0, 1) := dk_3 (dk_at dksX0_disputeDay_0 1 rfl rfl)
theorem dX0_disputeDay_2 : decode cX0_disputeDay 2 = .ok (.aload_n 0, 1) := dk_42 (dk_at dksX0_disputeDay_0 2 rfl rfl)
theorem dX0_disputeDay_3 : decode cX0_disputeDay 3 = .ok (.iload_n 1, 1) := dk_27 (dk_at dksX0_disputeDay_0 3 rfl rfl)
theorem dX0_disputeDay_4 : decode cX0_disputeDay 4 = .ok (.invokevirtual 110, 3) := dk_182 0 110 (dk_at dksX0_disputeDay_0 4 rfl rfl)
theorem dX0_disputeDay_7 : decode cX0_disputeDay 7 = .ok (.i2l, 1) := dk_133 (dk_at dksX0_disputeDay_0 7 rfl rfl)
theorem dX0_disputeDay_8 : decode cX0_disputeDay 8 = .ok (.lastore, 1) := dk_80 (dk_at dksX0_disputeDay_0 8 rfl rfl)
theorem dX0_disputeDay_9 : decode cX0_disputeDay 9 = .ok (.goto 6, 3) := dk_167 0 6 (dk_at dksX0_disputeDay_0 9 rfl rfl)
theorem dX0_disputeDay_12 : decode cX0_disputeDay 12 = .ok (.astore_n 3, 1) := dk_78 (dk_at dksX0_disputeDay_0 12 rfl rfl)
theorem dX0_disputeDay_13 : decode cX0_disputeDay 13 = .ok (.iconst 1, 1) := dk_4 (dk_at dksX0_disputeDay_0 13 rfl rfl)
theorem dX0_disputeDay_14 : decode cX0_disputeDay 14 = .ok (.ireturn, 1) := dk_172 (dk_at dksX0_disputeDay_0 14 rfl rfl)
theorem dX0_disputeDay_15 : decode cX0_disputeDay 15 = .ok (.iconst 0, 1) := dk_3 (dk_at dksX0_disputeDay_0 15 rfl rfl)
theorem dX0_disputeDay_16 : decode cX0_disputeDay 16 = .ok (.ireturn, 1) := dk_172 (dk_at dksX0_disputeDay_0 16 rfl rfl)
abbrev cX0_ruledStreet : ByteArray := method_33_code
def yX0_ruledStreet : MethodName := ⟨RX0, "ruledStreet", "(LDialectdepot;I[J)I"⟩
def dkwX0_ruledStreet_0 : List UInt8 := [44, 3, 42, 27, 182, 0, 113, 133, 80, 167, 0, 6, 78, 4, 172, 3, 172]
abbrev dktX0_ruledStreet_0 : List UInt8 := dkwX0_ruledStreet_0 ++ []
theorem dksX0_ruledStreet_0 : cX0_ruledStreet.data.toList.drop 0 = dktX0_ruledStreet_0 := by decide +kernel
theorem dX0_ruledStreet_0 : decode cX0_ruledStreet 0 = .ok (.aload_n 2, 1) := dk_44 (dk_at dksX0_ruledStreet_0 0 rfl rfl)
theorem dX0_ruledStreet_1 : decode cX0_ruledStreet 1 = .ok (.iconst 0, 1) := dk_3 (dk_at dksX0_ruledStreet_0 1 rfl rfl)
theorem dX0_ruledStreet_2 : decode cX0_ruledStreet 2 = .ok (.aload_n 0, 1) := dk_42 (dk_at dksX0_ruledStreet_0 2 rfl rfl)
theorem dX0_ruledStreet_3 : decode cX0_ruledStreet 3 = .ok (.iload_n 1, 1) := dk_27 (dk_at dksX0_ruledStreet_0 3 rfl rfl)
theorem dX0_ruledStreet_4 : decode cX0_ruledStreet 4 = .ok (.invokevirtual 113, 3) := dk_182 0 113 (dk_at dksX0_ruledStreet_0 4 rfl rfl)
theorem dX0_ruledStreet_7 : decode cX0_ruledStreet 7 = .ok (.i2l, 1) := dk_133 (dk_at dksX0_ruledStreet_0 7 rfl rfl)
theorem dX0_ruledStreet_8 : decode cX0_ruledStreet 8 = .ok (.lastore, 1) := dk_80 (dk_at dksX0_ruledStreet_0 8 rfl rfl)
theorem dX0_ruledStreet_9 : decode cX0_ruledStreet 9 = .ok (.goto 6, 3) := dk_167 0 6 (dk_at dksX0_ruledStreet_0 9 rfl rfl)
theorem dX0_ruledStreet_12 : decode cX0_ruledStreet 12 = .ok (.astore_n 3, 1) := dk_78 (dk_at dksX0_ruledStreet_0 12 rfl rfl)
theorem dX0_ruledStreet_13 : decode cX0_ruledStreet 13 = .ok (.iconst 1, 1) := dk_4 (dk_at dksX0_ruledStreet_0 13 rfl rfl)
theorem dX0_ruledStreet_14 : decode cX0_ruledStreet 14 = .ok (.ireturn, 1) := dk_172 (dk_at dksX0_ruledStreet_0 14 rfl rfl)
theorem dX0_ruledStreet_15 : decode cX0_ruledStreet 15 = .ok (.iconst 0, 1) := dk_3 (dk_at dksX0_ruledStreet_0 15 rfl rfl)
theorem dX0_ruledStreet_16 : decode cX0_ruledStreet 16 = .ok (.ireturn, 1) := dk_172 (dk_at dksX0_ruledStreet_0 16 rfl rfl)
abbrev cX0_evidence : ByteArray := method_34_code
def yX0_evidence : MethodName := ⟨RX0, "evidence", "(LDialectdepot;II[J)I"⟩
def dkwX0_evidence_0 : List UInt8 := [45, 3, 42, 27, 28, 182, 0, 116, 133, 80, 167, 0, 7, 58, 4, 4, 172, 3, 172]
abbrev dktX0_evidence_0 : List UInt8 := dkwX0_evidence_0 ++ []
theorem dksX0_evidence_0 : cX0_evidence.data.toList.drop 0 = dktX0_evidence_0 := by decide +kernel
theorem dX0_evidence_0 : decode cX0_evidence 0 = .ok (.aload_n 3, 1) := dk_45 (dk_at dksX0_evidence_0 0 rfl rfl)
theorem dX0_evidence_1 : decode cX0_evidence 1 = .ok (.iconst 0, 1) := dk_3 (dk_at dksX0_evidence_0 1 rfl rfl)
theorem dX0_evidence_2 : decode cX0_evidence 2 = .ok (.aload_n 0, 1) := dk_42 (dk_at dksX0_evidence_0 2 rfl rfl)
theorem dX0_evidence_3 : decode cX0_evidence 3 = .ok (.iload_n 1, 1) := dk_27 (dk_at dksX0_evidence_0 3 rfl rfl)
theorem dX0_evidence_4 : decode cX0_evidence 4 = .ok (.iload_n 2, 1) := dk_28 (dk_at dksX0_evidence_0 4 rfl rfl)
theorem dX0_evidence_5 : decode cX0_evidence 5 = .ok (.invokevirtual 116, 3) := dk_182 0 116 (dk_at dksX0_evidence_0 5 rfl rfl)
theorem dX0_evidence_8 : decode cX0_evidence 8 = .ok (.i2l, 1) := dk_133 (dk_at dksX0_evidence_0 8 rfl rfl)
theorem dX0_evidence_9 : decode cX0_evidence 9 = .ok (.lastore, 1) := dk_80 (dk_at dksX0_evidence_0 9 rfl rfl)
theorem dX0_evidence_10 : decode cX0_evidence 10 = .ok (.goto 7, 3) := dk_167 0 7 (dk_at dksX0_evidence_0 10 rfl rfl)
theorem dX0_evidence_13 : decode cX0_evidence 13 = .ok (.astore 4, 2) := dk_58 4 (dk_at dksX0_evidence_0 13 rfl rfl)
theorem dX0_evidence_15 : decode cX0_evidence 15 = .ok (.iconst 1, 1) := dk_4 (dk_at dksX0_evidence_0 15 rfl rfl)
theorem dX0_evidence_16 : decode cX0_evidence 16 = .ok (.ireturn, 1) := dk_172 (dk_at dksX0_evidence_0 16 rfl rfl)
theorem dX0_evidence_17 : decode cX0_evidence 17 = .ok (.iconst 0, 1) := dk_3 (dk_at dksX0_evidence_0 17 rfl rfl)
theorem dX0_evidence_18 : decode cX0_evidence 18 = .ok (.ireturn, 1) := dk_172 (dk_at dksX0_evidence_0 18 rfl rfl)
abbrev cX0_appeal : ByteArray := method_35_code
def yX0_appeal : MethodName := ⟨RX0, "appeal", "(LDialectdepot;II[J)I"⟩
def dkwX0_appeal_1 : List UInt8 := [58, 4, 5, 172, 58, 4, 6, 172, 3, 172]
abbrev dktX0_appeal_1 : List UInt8 := dkwX0_appeal_1 ++ []
def dkwX0_appeal_0 : List UInt8 := [45, 3, 42, 27, 28, 182, 0, 119, 153, 0, 7, 10, 167, 0, 4, 9, 80, 167, 0, 15, 58, 4, 4, 172]
abbrev dktX0_appeal_0 : List UInt8 := dkwX0_appeal_0 ++ dktX0_appeal_1
theorem dksX0_appeal_0 : cX0_appeal.data.toList.drop 0 = dktX0_appeal_0 := by decide +kernel
theorem dksX0_appeal_1 : cX0_appeal.data.toList.drop 24 = dktX0_appeal_1 := dk_seg dksX0_appeal_0 24 rfl rfl
theorem dX0_appeal_0 : decode cX0_appeal 0 = .ok (.aload_n 3, 1) := dk_45 (dk_at dksX0_appeal_0 0 rfl rfl)
theorem dX0_appeal_1 : decode cX0_appeal 1 = .ok (.iconst 0, 1) := dk_3 (dk_at dksX0_appeal_0 1 rfl rfl)
theorem dX0_appeal_2 : decode cX0_appeal 2 = .ok (.aload_n 0, 1) := dk_42 (dk_at dksX0_appeal_0 2 rfl rfl)
theorem dX0_appeal_3 : decode cX0_appeal 3 = .ok (.iload_n 1, 1) := dk_27 (dk_at dksX0_appeal_0 3 rfl rfl)
theorem dX0_appeal_4 : decode cX0_appeal 4 = .ok (.iload_n 2, 1) := dk_28 (dk_at dksX0_appeal_0 4 rfl rfl)
theorem dX0_appeal_5 : decode cX0_appeal 5 = .ok (.invokevirtual 119, 3) := dk_182 0 119 (dk_at dksX0_appeal_0 5 rfl rfl)
theorem dX0_appeal_8 : decode cX0_appeal 8 = .ok (.ifCond .eq 7, 3) := dk_153 0 7 (dk_at dksX0_appeal_0 8 rfl rfl)
theorem dX0_appeal_11 : decode cX0_appeal 11 = .ok (.lconst 1, 1) := dk_10 (dk_at dksX0_appeal_0 11 rfl rfl)
theorem dX0_appeal_12 : decode cX0_appeal 12 = .ok (.goto 4, 3) := dk_167 0 4 (dk_at dksX0_appeal_0 12 rfl rfl)
theorem dX0_appeal_15 : decode cX0_appeal 15 = .ok (.lconst 0, 1) := dk_9 (dk_at dksX0_appeal_0 15 rfl rfl)
theorem dX0_appeal_16 : decode cX0_appeal 16 = .ok (.lastore, 1) := dk_80 (dk_at dksX0_appeal_0 16 rfl rfl)
theorem dX0_appeal_17 : decode cX0_appeal 17 = .ok (.goto 15, 3) := dk_167 0 15 (dk_at dksX0_appeal_0 17 rfl rfl)
theorem dX0_appeal_20 : decode cX0_appeal 20 = .ok (.astore 4, 2) := dk_58 4 (dk_at dksX0_appeal_0 20 rfl rfl)
theorem dX0_appeal_22 : decode cX0_appeal 22 = .ok (.iconst 1, 1) := dk_4 (dk_at dksX0_appeal_0 22 rfl rfl)
theorem dX0_appeal_23 : decode cX0_appeal 23 = .ok (.ireturn, 1) := dk_172 (dk_at dksX0_appeal_0 23 rfl rfl)
theorem dX0_appeal_24 : decode cX0_appeal 24 = .ok (.astore 4, 2) := dk_58 4 (dk_at dksX0_appeal_1 0 rfl rfl)
theorem dX0_appeal_26 : decode cX0_appeal 26 = .ok (.iconst 2, 1) := dk_5 (dk_at dksX0_appeal_1 2 rfl rfl)
theorem dX0_appeal_27 : decode cX0_appeal 27 = .ok (.ireturn, 1) := dk_172 (dk_at dksX0_appeal_1 3 rfl rfl)
theorem dX0_appeal_28 : decode cX0_appeal 28 = .ok (.astore 4, 2) := dk_58 4 (dk_at dksX0_appeal_1 4 rfl rfl)
theorem dX0_appeal_30 : decode cX0_appeal 30 = .ok (.iconst 3, 1) := dk_6 (dk_at dksX0_appeal_1 6 rfl rfl)
theorem dX0_appeal_31 : decode cX0_appeal 31 = .ok (.ireturn, 1) := dk_172 (dk_at dksX0_appeal_1 7 rfl rfl)
theorem dX0_appeal_32 : decode cX0_appeal 32 = .ok (.iconst 0, 1) := dk_3 (dk_at dksX0_appeal_1 8 rfl rfl)
theorem dX0_appeal_33 : decode cX0_appeal 33 = .ok (.ireturn, 1) := dk_172 (dk_at dksX0_appeal_1 9 rfl rfl)
theorem q65 : (Jvm.Cond.initialized "DialectdepotLaw") ∈ lw_all := lw_g (lw_at lw_m1 0 rfl) rfl
theorem q114 : (Jvm.Cond.classLink "DialectdepotLaw" (8 : Nat) "Dialectdepot") ∈ lw_all := lw_g (lw_at lw_m1 49 rfl) rfl
theorem q116 : (Jvm.Cond.methodLink "DialectdepotLaw" (122 : Nat) ({ cls := "Dialectdepot", name := "<init>", desc := "()V" } : Jvm.MethodName)) ∈ lw_all := lw_g (lw_at lw_m1 51 rfl) rfl
theorem q330 : (Jvm.Cond.methodLink "DialectdepotLaw" (169 : Nat) ({ cls := "Dialectdepot", name := "parcels", desc := "()I" } : Jvm.MethodName)) ∈ lw_all := lw_g (lw_at lw_m2 25 rfl) rfl
theorem q334 : (Jvm.Cond.methodLink "DialectdepotLaw" (204 : Nat) ({ cls := "Dialectdepot", name := "day", desc := "()I" } : Jvm.MethodName)) ∈ lw_all := lw_g (lw_at lw_m2 29 rfl) rfl
theorem q338 : (Jvm.Cond.methodLink "DialectdepotLaw" (208 : Nat) ({ cls := "Dialectdepot", name := "attempts", desc := "()I" } : Jvm.MethodName)) ∈ lw_all := lw_g (lw_at lw_m2 33 rfl) rfl
theorem q342 : (Jvm.Cond.methodLink "DialectdepotLaw" (248 : Nat) ({ cls := "Dialectdepot", name := "givenUp", desc := "()I" } : Jvm.MethodName)) ∈ lw_all := lw_g (lw_at lw_m2 37 rfl) rfl
theorem q346 : (Jvm.Cond.methodLink "DialectdepotLaw" (252 : Nat) ({ cls := "Dialectdepot", name := "givenUpThoughKnown", desc := "()I" } : Jvm.MethodName)) ∈ lw_all := lw_g (lw_at lw_m2 41 rfl) rfl
theorem q350 : (Jvm.Cond.methodLink "DialectdepotLaw" (256 : Nat) ({ cls := "Dialectdepot", name := "errors", desc := "()I" } : Jvm.MethodName)) ∈ lw_all := lw_g (lw_at lw_m2 45 rfl) rfl
theorem q410 : (Jvm.Cond.methodLink "DialectdepotLaw" (260 : Nat) ({ cls := "Dialectdepot", name := "meanAttempts", desc := "()D" } : Jvm.MethodName)) ∈ lw_all := lw_g (lw_at lw_m2 105 rfl) rfl
theorem q415 : (Jvm.Cond.methodLink "DialectdepotLaw" (265 : Nat) ({ cls := "Dialectdepot", name := "deliveredShare", desc := "()F" } : Jvm.MethodName)) ∈ lw_all := lw_g (lw_at lw_m2 110 rfl) rfl
theorem q428 : (Jvm.Cond.methodLink "DialectdepotLaw" (126 : Nat) ({ cls := "DialectdepotLaw", name := "addStreet", desc := "(LDialectdepot;[J)I" } : Jvm.MethodName)) ∈ lw_all := lw_g (lw_at lw_m2 123 rfl) rfl
theorem q429 : (Jvm.Cond.static ({ cls := "DialectdepotLaw", name := "addStreet", desc := "(LDialectdepot;[J)I" } : Jvm.MethodName)) ∈ lw_all := lw_g (lw_at lw_m2 124 rfl) rfl
theorem q430 : (Jvm.Cond.codeWith ({ cls := "DialectdepotLaw", name := "addStreet", desc := "(LDialectdepot;[J)I" } : Jvm.MethodName) method_3_code (3 : Nat) (Option.some Jvm.ClassFile.FieldType.int) [((0 : Nat), (8 : Nat), (11 : Nat), (13 : Nat))]) ∈ lw_all := lw_g (lw_at lw_m2 125 rfl) rfl
theorem q431 : (Jvm.Cond.classLink "DialectdepotLaw" (13 : Nat) "java/lang/IllegalStateException") ∈ lw_all := lw_g (lw_at lw_m2 126 rfl) rfl
theorem q432 : (Jvm.Cond.methodLink "DialectdepotLaw" (7 : Nat) ({ cls := "Dialectdepot", name := "addStreet", desc := "()I" } : Jvm.MethodName)) ∈ lw_all := lw_g (lw_at lw_m2 127 rfl) rfl
theorem q512 : (Jvm.Cond.methodLink "DialectdepotLaw" (135 : Nat) ({ cls := "DialectdepotLaw", name := "addName", desc := "(LDialectdepot;[J)I" } : Jvm.MethodName)) ∈ lw_all := lw_g (lw_at lw_m2 207 rfl) rfl
theorem q513 : (Jvm.Cond.static ({ cls := "DialectdepotLaw", name := "addName", desc := "(LDialectdepot;[J)I" } : Jvm.MethodName)) ∈ lw_all := lw_g (lw_at lw_m2 208 rfl) rfl
theorem q514 : (Jvm.Cond.codeWith ({ cls := "DialectdepotLaw", name := "addName", desc := "(LDialectdepot;[J)I" } : Jvm.MethodName) method_4_code (3 : Nat) (Option.some Jvm.ClassFile.FieldType.int) [((0 : Nat), (8 : Nat), (11 : Nat), (13 : Nat))]) ∈ lw_all := lw_g (lw_at lw_m2 209 rfl) rfl
theorem q515 : (Jvm.Cond.methodLink "DialectdepotLaw" (15 : Nat) ({ cls := "Dialectdepot", name := "addName", desc := "()I" } : Jvm.MethodName)) ∈ lw_all := lw_g (lw_at lw_m2 210 rfl) rfl
theorem q961 : (Jvm.Cond.methodLink "DialectdepotLaw" (138 : Nat) ({ cls := "DialectdepotLaw", name := "addUsage", desc := "(LDialectdepot;IIIII[J)I" } : Jvm.MethodName)) ∈ lw_all := lw_g (lw_at lw_m4 176 rfl) rfl
theorem q962 : (Jvm.Cond.static ({ cls := "DialectdepotLaw", name := "addUsage", desc := "(LDialectdepot;IIIII[J)I" } : Jvm.MethodName)) ∈ lw_all := lw_g (lw_at lw_m4 177 rfl) rfl
theorem q963 : (Jvm.Cond.codeWith ({ cls := "DialectdepotLaw", name := "addUsage", desc := "(LDialectdepot;IIIII[J)I" } : Jvm.MethodName) method_5_code (8 : Nat) (Option.some Jvm.ClassFile.FieldType.int) [((0 : Nat), (16 : Nat), (19 : Nat), (22 : Nat)), ((0 : Nat), (16 : Nat), (23 : Nat), (24 : Nat)), ((0 : Nat), (16 : Nat), (27 : Nat), (13 : Nat))]) ∈ lw_all := lw_g (lw_at lw_m4 178 rfl) rfl
theorem q964 : (Jvm.Cond.classLink "DialectdepotLaw" (22 : Nat) "java/lang/IndexOutOfBoundsException") ∈ lw_all := lw_g (lw_at lw_m4 179 rfl) rfl
theorem q967 : (Jvm.Cond.classLink "DialectdepotLaw" (24 : Nat) "java/lang/IllegalArgumentException") ∈ lw_all := lw_g (lw_at lw_m4 182 rfl) rfl
theorem q968 : (Jvm.Cond.methodLink "DialectdepotLaw" (18 : Nat) ({ cls := "Dialectdepot", name := "addUsage", desc := "(IIIII)I" } : Jvm.MethodName)) ∈ lw_all := lw_g (lw_at lw_m4 183 rfl) rfl
theorem q1045 : (Jvm.Cond.methodLink "DialectdepotLaw" (142 : Nat) ({ cls := "DialectdepotLaw", name := "streetFor", desc := "(LDialectdepot;III[J)I" } : Jvm.MethodName)) ∈ lw_all := lw_g (lw_at lw_m5 20 rfl) rfl
theorem q1046 : (Jvm.Cond.static ({ cls := "DialectdepotLaw", name := "streetFor", desc := "(LDialectdepot;III[J)I" } : Jvm.MethodName)) ∈ lw_all := lw_g (lw_at lw_m5 21 rfl) rfl
theorem q1047 : (Jvm.Cond.codeWith ({ cls := "DialectdepotLaw", name := "streetFor", desc := "(LDialectdepot;III[J)I" } : Jvm.MethodName) method_6_code (6 : Nat) (Option.some Jvm.ClassFile.FieldType.int) [((0 : Nat), (12 : Nat), (15 : Nat), (22 : Nat)), ((0 : Nat), (12 : Nat), (19 : Nat), (24 : Nat))]) ∈ lw_all := lw_g (lw_at lw_m5 22 rfl) rfl
theorem q1048 : (Jvm.Cond.methodLink "DialectdepotLaw" (26 : Nat) ({ cls := "Dialectdepot", name := "streetFor", desc := "(III)I" } : Jvm.MethodName)) ∈ lw_all := lw_g (lw_at lw_m5 23 rfl) rfl
theorem q1056 : (Jvm.Cond.methodLink "DialectdepotLaw" (146 : Nat) ({ cls := "DialectdepotLaw", name := "addCarrier", desc := "(LDialectdepot;II[J)I" } : Jvm.MethodName)) ∈ lw_all := lw_g (lw_at lw_m5 31 rfl) rfl
theorem q1057 : (Jvm.Cond.static ({ cls := "DialectdepotLaw", name := "addCarrier", desc := "(LDialectdepot;II[J)I" } : Jvm.MethodName)) ∈ lw_all := lw_g (lw_at lw_m5 32 rfl) rfl
theorem q1058 : (Jvm.Cond.codeWith ({ cls := "DialectdepotLaw", name := "addCarrier", desc := "(LDialectdepot;II[J)I" } : Jvm.MethodName) method_7_code (5 : Nat) (Option.some Jvm.ClassFile.FieldType.int) [((0 : Nat), (10 : Nat), (13 : Nat), (24 : Nat)), ((0 : Nat), (10 : Nat), (17 : Nat), (13 : Nat))]) ∈ lw_all := lw_g (lw_at lw_m5 33 rfl) rfl
theorem q1059 : (Jvm.Cond.methodLink "DialectdepotLaw" (30 : Nat) ({ cls := "Dialectdepot", name := "addCarrier", desc := "(II)I" } : Jvm.MethodName)) ∈ lw_all := lw_g (lw_at lw_m5 34 rfl) rfl
theorem q1099 : (Jvm.Cond.methodLink "DialectdepotLaw" (150 : Nat) ({ cls := "DialectdepotLaw", name := "setRound", desc := "(LDialectdepot;II[J)I" } : Jvm.MethodName)) ∈ lw_all := lw_g (lw_at lw_m5 74 rfl) rfl
theorem q1100 : (Jvm.Cond.static ({ cls := "DialectdepotLaw", name := "setRound", desc := "(LDialectdepot;II[J)I" } : Jvm.MethodName)) ∈ lw_all := lw_g (lw_at lw_m5 75 rfl) rfl
theorem q1101 : (Jvm.Cond.codeWith ({ cls := "DialectdepotLaw", name := "setRound", desc := "(LDialectdepot;II[J)I" } : Jvm.MethodName) method_8_code (5 : Nat) (Option.some Jvm.ClassFile.FieldType.int) [((0 : Nat), (10 : Nat), (13 : Nat), (22 : Nat)), ((0 : Nat), (10 : Nat), (17 : Nat), (24 : Nat))]) ∈ lw_all := lw_g (lw_at lw_m5 76 rfl) rfl
theorem q1102 : (Jvm.Cond.methodLink "DialectdepotLaw" (34 : Nat) ({ cls := "Dialectdepot", name := "setRound", desc := "(II)I" } : Jvm.MethodName)) ∈ lw_all := lw_g (lw_at lw_m5 77 rfl) rfl
theorem q1106 : (Jvm.Cond.methodLink "DialectdepotLaw" (153 : Nat) ({ cls := "DialectdepotLaw", name := "setRoom", desc := "(LDialectdepot;II[J)I" } : Jvm.MethodName)) ∈ lw_all := lw_g (lw_at lw_m5 81 rfl) rfl
theorem q1107 : (Jvm.Cond.static ({ cls := "DialectdepotLaw", name := "setRoom", desc := "(LDialectdepot;II[J)I" } : Jvm.MethodName)) ∈ lw_all := lw_g (lw_at lw_m5 82 rfl) rfl
theorem q1108 : (Jvm.Cond.codeWith ({ cls := "DialectdepotLaw", name := "setRoom", desc := "(LDialectdepot;II[J)I" } : Jvm.MethodName) method_9_code (5 : Nat) (Option.some Jvm.ClassFile.FieldType.int) [((0 : Nat), (10 : Nat), (13 : Nat), (22 : Nat)), ((0 : Nat), (10 : Nat), (17 : Nat), (24 : Nat))]) ∈ lw_all := lw_g (lw_at lw_m5 83 rfl) rfl
theorem q1109 : (Jvm.Cond.methodLink "DialectdepotLaw" (37 : Nat) ({ cls := "Dialectdepot", name := "setRoom", desc := "(II)I" } : Jvm.MethodName)) ∈ lw_all := lw_g (lw_at lw_m5 84 rfl) rfl
theorem q1113 : (Jvm.Cond.methodLink "DialectdepotLaw" (156 : Nat) ({ cls := "DialectdepotLaw", name := "lesson", desc := "(LDialectdepot;IIII[J)I" } : Jvm.MethodName)) ∈ lw_all := lw_g (lw_at lw_m5 88 rfl) rfl
theorem q1114 : (Jvm.Cond.static ({ cls := "DialectdepotLaw", name := "lesson", desc := "(LDialectdepot;IIII[J)I" } : Jvm.MethodName)) ∈ lw_all := lw_g (lw_at lw_m5 89 rfl) rfl
theorem q1115 : (Jvm.Cond.codeWith ({ cls := "DialectdepotLaw", name := "lesson", desc := "(LDialectdepot;IIII[J)I" } : Jvm.MethodName) method_10_code (7 : Nat) (Option.some Jvm.ClassFile.FieldType.int) [((0 : Nat), (14 : Nat), (17 : Nat), (22 : Nat)), ((0 : Nat), (14 : Nat), (21 : Nat), (24 : Nat))]) ∈ lw_all := lw_g (lw_at lw_m5 90 rfl) rfl
theorem q1116 : (Jvm.Cond.methodLink "DialectdepotLaw" (40 : Nat) ({ cls := "Dialectdepot", name := "lesson", desc := "(IIII)I" } : Jvm.MethodName)) ∈ lw_all := lw_g (lw_at lw_m5 91 rfl) rfl
theorem q1123 : (Jvm.Cond.methodLink "DialectdepotLaw" (160 : Nat) ({ cls := "DialectdepotLaw", name := "tell", desc := "(LDialectdepot;IIII[J)I" } : Jvm.MethodName)) ∈ lw_all := lw_g (lw_at lw_m5 98 rfl) rfl
theorem q1124 : (Jvm.Cond.static ({ cls := "DialectdepotLaw", name := "tell", desc := "(LDialectdepot;IIII[J)I" } : Jvm.MethodName)) ∈ lw_all := lw_g (lw_at lw_m5 99 rfl) rfl
theorem q1125 : (Jvm.Cond.codeWith ({ cls := "DialectdepotLaw", name := "tell", desc := "(LDialectdepot;IIII[J)I" } : Jvm.MethodName) method_11_code (7 : Nat) (Option.some Jvm.ClassFile.FieldType.int) [((0 : Nat), (14 : Nat), (17 : Nat), (22 : Nat)), ((0 : Nat), (14 : Nat), (21 : Nat), (24 : Nat))]) ∈ lw_all := lw_g (lw_at lw_m5 100 rfl) rfl
theorem q1126 : (Jvm.Cond.methodLink "DialectdepotLaw" (44 : Nat) ({ cls := "Dialectdepot", name := "tell", desc := "(IIII)I" } : Jvm.MethodName)) ∈ lw_all := lw_g (lw_at lw_m5 101 rfl) rfl
theorem q1143 : (Jvm.Cond.methodLink "DialectdepotLaw" (163 : Nat) ({ cls := "DialectdepotLaw", name := "feed", desc := "(LDialectdepot;II[J)I" } : Jvm.MethodName)) ∈ lw_all := lw_g (lw_at lw_m5 118 rfl) rfl
theorem q1144 : (Jvm.Cond.static ({ cls := "DialectdepotLaw", name := "feed", desc := "(LDialectdepot;II[J)I" } : Jvm.MethodName)) ∈ lw_all := lw_g (lw_at lw_m5 119 rfl) rfl
theorem q1145 : (Jvm.Cond.codeWith ({ cls := "DialectdepotLaw", name := "feed", desc := "(LDialectdepot;II[J)I" } : Jvm.MethodName) method_12_code (5 : Nat) (Option.some Jvm.ClassFile.FieldType.int) [((0 : Nat), (10 : Nat), (13 : Nat), (24 : Nat)), ((0 : Nat), (10 : Nat), (17 : Nat), (13 : Nat))]) ∈ lw_all := lw_g (lw_at lw_m5 120 rfl) rfl
theorem q1146 : (Jvm.Cond.methodLink "DialectdepotLaw" (47 : Nat) ({ cls := "Dialectdepot", name := "feed", desc := "(II)I" } : Jvm.MethodName)) ∈ lw_all := lw_g (lw_at lw_m5 121 rfl) rfl
theorem q1266 : (Jvm.Cond.methodLink "DialectdepotLaw" (166 : Nat) ({ cls := "DialectdepotLaw", name := "post", desc := "(LDialectdepot;IIII[J)I" } : Jvm.MethodName)) ∈ lw_all := lw_g (lw_at lw_m6 1 rfl) rfl
theorem q1267 : (Jvm.Cond.static ({ cls := "DialectdepotLaw", name := "post", desc := "(LDialectdepot;IIII[J)I" } : Jvm.MethodName)) ∈ lw_all := lw_g (lw_at lw_m6 2 rfl) rfl
theorem q1268 : (Jvm.Cond.codeWith ({ cls := "DialectdepotLaw", name := "post", desc := "(LDialectdepot;IIII[J)I" } : Jvm.MethodName) method_13_code (7 : Nat) (Option.some Jvm.ClassFile.FieldType.int) [((0 : Nat), (14 : Nat), (17 : Nat), (22 : Nat)), ((0 : Nat), (14 : Nat), (21 : Nat), (24 : Nat)), ((0 : Nat), (14 : Nat), (25 : Nat), (13 : Nat))]) ∈ lw_all := lw_g (lw_at lw_m6 3 rfl) rfl
theorem q1269 : (Jvm.Cond.methodLink "DialectdepotLaw" (50 : Nat) ({ cls := "Dialectdepot", name := "post", desc := "(IIII)I" } : Jvm.MethodName)) ∈ lw_all := lw_g (lw_at lw_m6 4 rfl) rfl
theorem q1533 : (Jvm.Cond.methodLink "DialectdepotLaw" (173 : Nat) ({ cls := "DialectdepotLaw", name := "stateOf", desc := "(LDialectdepot;I[J)I" } : Jvm.MethodName)) ∈ lw_all := lw_g (lw_at lw_m7 28 rfl) rfl
theorem q1534 : (Jvm.Cond.static ({ cls := "DialectdepotLaw", name := "stateOf", desc := "(LDialectdepot;I[J)I" } : Jvm.MethodName)) ∈ lw_all := lw_g (lw_at lw_m7 29 rfl) rfl
theorem q1535 : (Jvm.Cond.codeWith ({ cls := "DialectdepotLaw", name := "stateOf", desc := "(LDialectdepot;I[J)I" } : Jvm.MethodName) method_14_code (4 : Nat) (Option.some Jvm.ClassFile.FieldType.int) [((0 : Nat), (9 : Nat), (12 : Nat), (22 : Nat))]) ∈ lw_all := lw_g (lw_at lw_m7 30 rfl) rfl
theorem q1536 : (Jvm.Cond.methodLink "DialectdepotLaw" (53 : Nat) ({ cls := "Dialectdepot", name := "stateOf", desc := "(I)I" } : Jvm.MethodName)) ∈ lw_all := lw_g (lw_at lw_m7 31 rfl) rfl
theorem q1540 : (Jvm.Cond.methodLink "DialectdepotLaw" (177 : Nat) ({ cls := "DialectdepotLaw", name := "timesBack", desc := "(LDialectdepot;I[J)I" } : Jvm.MethodName)) ∈ lw_all := lw_g (lw_at lw_m7 35 rfl) rfl
theorem q1541 : (Jvm.Cond.static ({ cls := "DialectdepotLaw", name := "timesBack", desc := "(LDialectdepot;I[J)I" } : Jvm.MethodName)) ∈ lw_all := lw_g (lw_at lw_m7 36 rfl) rfl
theorem q1542 : (Jvm.Cond.codeWith ({ cls := "DialectdepotLaw", name := "timesBack", desc := "(LDialectdepot;I[J)I" } : Jvm.MethodName) method_15_code (4 : Nat) (Option.some Jvm.ClassFile.FieldType.int) [((0 : Nat), (9 : Nat), (12 : Nat), (22 : Nat))]) ∈ lw_all := lw_g (lw_at lw_m7 37 rfl) rfl
theorem q1543 : (Jvm.Cond.methodLink "DialectdepotLaw" (57 : Nat) ({ cls := "Dialectdepot", name := "timesBack", desc := "(I)I" } : Jvm.MethodName)) ∈ lw_all := lw_g (lw_at lw_m7 38 rfl) rfl
theorem q1547 : (Jvm.Cond.methodLink "DialectdepotLaw" (180 : Nat) ({ cls := "DialectdepotLaw", name := "whyBack", desc := "(LDialectdepot;I[J)I" } : Jvm.MethodName)) ∈ lw_all := lw_g (lw_at lw_m7 42 rfl) rfl
theorem q1548 : (Jvm.Cond.static ({ cls := "DialectdepotLaw", name := "whyBack", desc := "(LDialectdepot;I[J)I" } : Jvm.MethodName)) ∈ lw_all := lw_g (lw_at lw_m7 43 rfl) rfl
theorem q1549 : (Jvm.Cond.codeWith ({ cls := "DialectdepotLaw", name := "whyBack", desc := "(LDialectdepot;I[J)I" } : Jvm.MethodName) method_16_code (4 : Nat) (Option.some Jvm.ClassFile.FieldType.int) [((0 : Nat), (9 : Nat), (12 : Nat), (22 : Nat))]) ∈ lw_all := lw_g (lw_at lw_m7 44 rfl) rfl
theorem q1550 : (Jvm.Cond.methodLink "DialectdepotLaw" (60 : Nat) ({ cls := "Dialectdepot", name := "whyBack", desc := "(I)I" } : Jvm.MethodName)) ∈ lw_all := lw_g (lw_at lw_m7 45 rfl) rfl
theorem q1558 : (Jvm.Cond.methodLink "DialectdepotLaw" (183 : Nat) ({ cls := "DialectdepotLaw", name := "daysWaited", desc := "(LDialectdepot;I[J)I" } : Jvm.MethodName)) ∈ lw_all := lw_g (lw_at lw_m7 53 rfl) rfl
theorem q1559 : (Jvm.Cond.static ({ cls := "DialectdepotLaw", name := "daysWaited", desc := "(LDialectdepot;I[J)I" } : Jvm.MethodName)) ∈ lw_all := lw_g (lw_at lw_m7 54 rfl) rfl
theorem q1560 : (Jvm.Cond.codeWith ({ cls := "DialectdepotLaw", name := "daysWaited", desc := "(LDialectdepot;I[J)I" } : Jvm.MethodName) method_17_code (4 : Nat) (Option.some Jvm.ClassFile.FieldType.int) [((0 : Nat), (9 : Nat), (12 : Nat), (22 : Nat))]) ∈ lw_all := lw_g (lw_at lw_m7 55 rfl) rfl
theorem q1561 : (Jvm.Cond.methodLink "DialectdepotLaw" (63 : Nat) ({ cls := "Dialectdepot", name := "daysWaited", desc := "(I)I" } : Jvm.MethodName)) ∈ lw_all := lw_g (lw_at lw_m7 56 rfl) rfl
theorem q1565 : (Jvm.Cond.methodLink "DialectdepotLaw" (186 : Nat) ({ cls := "DialectdepotLaw", name := "isWanted", desc := "(LDialectdepot;II[J)I" } : Jvm.MethodName)) ∈ lw_all := lw_g (lw_at lw_m7 60 rfl) rfl
theorem q1566 : (Jvm.Cond.static ({ cls := "DialectdepotLaw", name := "isWanted", desc := "(LDialectdepot;II[J)I" } : Jvm.MethodName)) ∈ lw_all := lw_g (lw_at lw_m7 61 rfl) rfl
theorem q1567 : (Jvm.Cond.codeWith ({ cls := "DialectdepotLaw", name := "isWanted", desc := "(LDialectdepot;II[J)I" } : Jvm.MethodName) method_18_code (5 : Nat) (Option.some Jvm.ClassFile.FieldType.int) [((0 : Nat), (17 : Nat), (20 : Nat), (22 : Nat))]) ∈ lw_all := lw_g (lw_at lw_m7 62 rfl) rfl
theorem q1568 : (Jvm.Cond.methodLink "DialectdepotLaw" (66 : Nat) ({ cls := "Dialectdepot", name := "isWanted", desc := "(II)Z" } : Jvm.MethodName)) ∈ lw_all := lw_g (lw_at lw_m7 63 rfl) rfl
theorem q1572 : (Jvm.Cond.methodLink "DialectdepotLaw" (189 : Nat) ({ cls := "DialectdepotLaw", name := "unwantedName", desc := "(LDialectdepot;I[J)I" } : Jvm.MethodName)) ∈ lw_all := lw_g (lw_at lw_m7 67 rfl) rfl
theorem q1573 : (Jvm.Cond.static ({ cls := "DialectdepotLaw", name := "unwantedName", desc := "(LDialectdepot;I[J)I" } : Jvm.MethodName)) ∈ lw_all := lw_g (lw_at lw_m7 68 rfl) rfl
theorem q1574 : (Jvm.Cond.codeWith ({ cls := "DialectdepotLaw", name := "unwantedName", desc := "(LDialectdepot;I[J)I" } : Jvm.MethodName) method_19_code (4 : Nat) (Option.some Jvm.ClassFile.FieldType.int) [((0 : Nat), (9 : Nat), (12 : Nat), (22 : Nat))]) ∈ lw_all := lw_g (lw_at lw_m7 69 rfl) rfl
theorem q1575 : (Jvm.Cond.methodLink "DialectdepotLaw" (70 : Nat) ({ cls := "Dialectdepot", name := "unwantedName", desc := "(I)I" } : Jvm.MethodName)) ∈ lw_all := lw_g (lw_at lw_m7 70 rfl) rfl
theorem q1579 : (Jvm.Cond.methodLink "DialectdepotLaw" (192 : Nat) ({ cls := "DialectdepotLaw", name := "isHeld", desc := "(LDialectdepot;I[J)I" } : Jvm.MethodName)) ∈ lw_all := lw_g (lw_at lw_m7 74 rfl) rfl
theorem q1580 : (Jvm.Cond.static ({ cls := "DialectdepotLaw", name := "isHeld", desc := "(LDialectdepot;I[J)I" } : Jvm.MethodName)) ∈ lw_all := lw_g (lw_at lw_m7 75 rfl) rfl
theorem q1581 : (Jvm.Cond.codeWith ({ cls := "DialectdepotLaw", name := "isHeld", desc := "(LDialectdepot;I[J)I" } : Jvm.MethodName) method_20_code (4 : Nat) (Option.some Jvm.ClassFile.FieldType.int) [((0 : Nat), (16 : Nat), (19 : Nat), (22 : Nat))]) ∈ lw_all := lw_g (lw_at lw_m7 76 rfl) rfl
theorem q1582 : (Jvm.Cond.methodLink "DialectdepotLaw" (73 : Nat) ({ cls := "Dialectdepot", name := "isHeld", desc := "(I)Z" } : Jvm.MethodName)) ∈ lw_all := lw_g (lw_at lw_m7 77 rfl) rfl
theorem q1590 : (Jvm.Cond.methodLink "DialectdepotLaw" (195 : Nat) ({ cls := "DialectdepotLaw", name := "score", desc := "(LDialectdepot;III[J)I" } : Jvm.MethodName)) ∈ lw_all := lw_g (lw_at lw_m7 85 rfl) rfl
theorem q1591 : (Jvm.Cond.static ({ cls := "DialectdepotLaw", name := "score", desc := "(LDialectdepot;III[J)I" } : Jvm.MethodName)) ∈ lw_all := lw_g (lw_at lw_m7 86 rfl) rfl
theorem q1592 : (Jvm.Cond.codeWith ({ cls := "DialectdepotLaw", name := "score", desc := "(LDialectdepot;III[J)I" } : Jvm.MethodName) method_21_code (6 : Nat) (Option.some Jvm.ClassFile.FieldType.int) [((0 : Nat), (12 : Nat), (15 : Nat), (22 : Nat))]) ∈ lw_all := lw_g (lw_at lw_m7 87 rfl) rfl
theorem q1593 : (Jvm.Cond.methodLink "DialectdepotLaw" (77 : Nat) ({ cls := "Dialectdepot", name := "score", desc := "(III)I" } : Jvm.MethodName)) ∈ lw_all := lw_g (lw_at lw_m7 88 rfl) rfl
theorem q1604 : (Jvm.Cond.methodLink "DialectdepotLaw" (198 : Nat) ({ cls := "DialectdepotLaw", name := "choiceFor", desc := "(LDialectdepot;I[J)I" } : Jvm.MethodName)) ∈ lw_all := lw_g (lw_at lw_m7 99 rfl) rfl
theorem q1605 : (Jvm.Cond.static ({ cls := "DialectdepotLaw", name := "choiceFor", desc := "(LDialectdepot;I[J)I" } : Jvm.MethodName)) ∈ lw_all := lw_g (lw_at lw_m7 100 rfl) rfl
theorem q1606 : (Jvm.Cond.codeWith ({ cls := "DialectdepotLaw", name := "choiceFor", desc := "(LDialectdepot;I[J)I" } : Jvm.MethodName) method_22_code (4 : Nat) (Option.some Jvm.ClassFile.FieldType.int) [((0 : Nat), (9 : Nat), (12 : Nat), (22 : Nat))]) ∈ lw_all := lw_g (lw_at lw_m7 101 rfl) rfl
theorem q1607 : (Jvm.Cond.methodLink "DialectdepotLaw" (80 : Nat) ({ cls := "Dialectdepot", name := "choiceFor", desc := "(I)I" } : Jvm.MethodName)) ∈ lw_all := lw_g (lw_at lw_m7 102 rfl) rfl
theorem q1616 : (Jvm.Cond.methodLink "DialectdepotLaw" (201 : Nat) ({ cls := "DialectdepotLaw", name := "nextDay", desc := "(LDialectdepot;[J)I" } : Jvm.MethodName)) ∈ lw_all := lw_g (lw_at lw_m7 111 rfl) rfl
theorem q1617 : (Jvm.Cond.static ({ cls := "DialectdepotLaw", name := "nextDay", desc := "(LDialectdepot;[J)I" } : Jvm.MethodName)) ∈ lw_all := lw_g (lw_at lw_m7 112 rfl) rfl
theorem q1618 : (Jvm.Cond.codeWith ({ cls := "DialectdepotLaw", name := "nextDay", desc := "(LDialectdepot;[J)I" } : Jvm.MethodName) method_23_code (3 : Nat) (Option.some Jvm.ClassFile.FieldType.int) [((0 : Nat), (8 : Nat), (11 : Nat), (13 : Nat))]) ∈ lw_all := lw_g (lw_at lw_m7 113 rfl) rfl
theorem q1619 : (Jvm.Cond.methodLink "DialectdepotLaw" (83 : Nat) ({ cls := "Dialectdepot", name := "nextDay", desc := "()I" } : Jvm.MethodName)) ∈ lw_all := lw_g (lw_at lw_m7 114 rfl) rfl
theorem q1785 : (Jvm.Cond.methodLink "DialectdepotLaw" (212 : Nat) ({ cls := "DialectdepotLaw", name := "attemptParcel", desc := "(LDialectdepot;I[J)I" } : Jvm.MethodName)) ∈ lw_all := lw_g (lw_at lw_m8 40 rfl) rfl
theorem q1786 : (Jvm.Cond.static ({ cls := "DialectdepotLaw", name := "attemptParcel", desc := "(LDialectdepot;I[J)I" } : Jvm.MethodName)) ∈ lw_all := lw_g (lw_at lw_m8 41 rfl) rfl
theorem q1787 : (Jvm.Cond.codeWith ({ cls := "DialectdepotLaw", name := "attemptParcel", desc := "(LDialectdepot;I[J)I" } : Jvm.MethodName) method_24_code (4 : Nat) (Option.some Jvm.ClassFile.FieldType.int) [((0 : Nat), (9 : Nat), (12 : Nat), (22 : Nat))]) ∈ lw_all := lw_g (lw_at lw_m8 42 rfl) rfl
theorem q1788 : (Jvm.Cond.methodLink "DialectdepotLaw" (86 : Nat) ({ cls := "Dialectdepot", name := "attemptParcel", desc := "(I)I" } : Jvm.MethodName)) ∈ lw_all := lw_g (lw_at lw_m8 43 rfl) rfl
theorem q1792 : (Jvm.Cond.methodLink "DialectdepotLaw" (215 : Nat) ({ cls := "DialectdepotLaw", name := "attemptCarrier", desc := "(LDialectdepot;I[J)I" } : Jvm.MethodName)) ∈ lw_all := lw_g (lw_at lw_m8 47 rfl) rfl
theorem q1793 : (Jvm.Cond.static ({ cls := "DialectdepotLaw", name := "attemptCarrier", desc := "(LDialectdepot;I[J)I" } : Jvm.MethodName)) ∈ lw_all := lw_g (lw_at lw_m8 48 rfl) rfl
theorem q1794 : (Jvm.Cond.codeWith ({ cls := "DialectdepotLaw", name := "attemptCarrier", desc := "(LDialectdepot;I[J)I" } : Jvm.MethodName) method_25_code (4 : Nat) (Option.some Jvm.ClassFile.FieldType.int) [((0 : Nat), (9 : Nat), (12 : Nat), (22 : Nat))]) ∈ lw_all := lw_g (lw_at lw_m8 49 rfl) rfl
theorem q1795 : (Jvm.Cond.methodLink "DialectdepotLaw" (89 : Nat) ({ cls := "Dialectdepot", name := "attemptCarrier", desc := "(I)I" } : Jvm.MethodName)) ∈ lw_all := lw_g (lw_at lw_m8 50 rfl) rfl
theorem q1799 : (Jvm.Cond.methodLink "DialectdepotLaw" (218 : Nat) ({ cls := "DialectdepotLaw", name := "attemptStreet", desc := "(LDialectdepot;I[J)I" } : Jvm.MethodName)) ∈ lw_all := lw_g (lw_at lw_m8 54 rfl) rfl
theorem q1800 : (Jvm.Cond.static ({ cls := "DialectdepotLaw", name := "attemptStreet", desc := "(LDialectdepot;I[J)I" } : Jvm.MethodName)) ∈ lw_all := lw_g (lw_at lw_m8 55 rfl) rfl
theorem q1801 : (Jvm.Cond.codeWith ({ cls := "DialectdepotLaw", name := "attemptStreet", desc := "(LDialectdepot;I[J)I" } : Jvm.MethodName) method_26_code (4 : Nat) (Option.some Jvm.ClassFile.FieldType.int) [((0 : Nat), (9 : Nat), (12 : Nat), (22 : Nat))]) ∈ lw_all := lw_g (lw_at lw_m8 56 rfl) rfl
theorem q1802 : (Jvm.Cond.methodLink "DialectdepotLaw" (92 : Nat) ({ cls := "Dialectdepot", name := "attemptStreet", desc := "(I)I" } : Jvm.MethodName)) ∈ lw_all := lw_g (lw_at lw_m8 57 rfl) rfl
theorem q1806 : (Jvm.Cond.methodLink "DialectdepotLaw" (221 : Nat) ({ cls := "DialectdepotLaw", name := "attemptDay", desc := "(LDialectdepot;I[J)I" } : Jvm.MethodName)) ∈ lw_all := lw_g (lw_at lw_m8 61 rfl) rfl
theorem q1807 : (Jvm.Cond.static ({ cls := "DialectdepotLaw", name := "attemptDay", desc := "(LDialectdepot;I[J)I" } : Jvm.MethodName)) ∈ lw_all := lw_g (lw_at lw_m8 62 rfl) rfl
theorem q1808 : (Jvm.Cond.codeWith ({ cls := "DialectdepotLaw", name := "attemptDay", desc := "(LDialectdepot;I[J)I" } : Jvm.MethodName) method_27_code (4 : Nat) (Option.some Jvm.ClassFile.FieldType.int) [((0 : Nat), (9 : Nat), (12 : Nat), (22 : Nat))]) ∈ lw_all := lw_g (lw_at lw_m8 63 rfl) rfl
theorem q1809 : (Jvm.Cond.methodLink "DialectdepotLaw" (95 : Nat) ({ cls := "Dialectdepot", name := "attemptDay", desc := "(I)I" } : Jvm.MethodName)) ∈ lw_all := lw_g (lw_at lw_m8 64 rfl) rfl
theorem q1817 : (Jvm.Cond.methodLink "DialectdepotLaw" (224 : Nat) ({ cls := "DialectdepotLaw", name := "wasDelivered", desc := "(LDialectdepot;I[J)I" } : Jvm.MethodName)) ∈ lw_all := lw_g (lw_at lw_m8 72 rfl) rfl
theorem q1818 : (Jvm.Cond.static ({ cls := "DialectdepotLaw", name := "wasDelivered", desc := "(LDialectdepot;I[J)I" } : Jvm.MethodName)) ∈ lw_all := lw_g (lw_at lw_m8 73 rfl) rfl
theorem q1819 : (Jvm.Cond.codeWith ({ cls := "DialectdepotLaw", name := "wasDelivered", desc := "(LDialectdepot;I[J)I" } : Jvm.MethodName) method_28_code (4 : Nat) (Option.some Jvm.ClassFile.FieldType.int) [((0 : Nat), (16 : Nat), (19 : Nat), (22 : Nat))]) ∈ lw_all := lw_g (lw_at lw_m8 74 rfl) rfl
theorem q1820 : (Jvm.Cond.methodLink "DialectdepotLaw" (98 : Nat) ({ cls := "Dialectdepot", name := "wasDelivered", desc := "(I)Z" } : Jvm.MethodName)) ∈ lw_all := lw_g (lw_at lw_m8 75 rfl) rfl
theorem q1824 : (Jvm.Cond.methodLink "DialectdepotLaw" (227 : Nat) ({ cls := "DialectdepotLaw", name := "claim", desc := "(LDialectdepot;III[J)I" } : Jvm.MethodName)) ∈ lw_all := lw_g (lw_at lw_m8 79 rfl) rfl
theorem q1825 : (Jvm.Cond.static ({ cls := "DialectdepotLaw", name := "claim", desc := "(LDialectdepot;III[J)I" } : Jvm.MethodName)) ∈ lw_all := lw_g (lw_at lw_m8 80 rfl) rfl
theorem q1826 : (Jvm.Cond.codeWith ({ cls := "DialectdepotLaw", name := "claim", desc := "(LDialectdepot;III[J)I" } : Jvm.MethodName) method_29_code (6 : Nat) (Option.some Jvm.ClassFile.FieldType.int) [((0 : Nat), (12 : Nat), (15 : Nat), (22 : Nat)), ((0 : Nat), (12 : Nat), (19 : Nat), (24 : Nat)), ((0 : Nat), (12 : Nat), (23 : Nat), (13 : Nat))]) ∈ lw_all := lw_g (lw_at lw_m8 81 rfl) rfl
theorem q1827 : (Jvm.Cond.methodLink "DialectdepotLaw" (101 : Nat) ({ cls := "Dialectdepot", name := "claim", desc := "(III)I" } : Jvm.MethodName)) ∈ lw_all := lw_g (lw_at lw_m8 82 rfl) rfl
theorem q1861 : (Jvm.Cond.methodLink "DialectdepotLaw" (230 : Nat) ({ cls := "DialectdepotLaw", name := "withdraw", desc := "(LDialectdepot;II[J)I" } : Jvm.MethodName)) ∈ lw_all := lw_g (lw_at lw_m8 116 rfl) rfl
theorem q1862 : (Jvm.Cond.static ({ cls := "DialectdepotLaw", name := "withdraw", desc := "(LDialectdepot;II[J)I" } : Jvm.MethodName)) ∈ lw_all := lw_g (lw_at lw_m8 117 rfl) rfl
theorem q1863 : (Jvm.Cond.codeWith ({ cls := "DialectdepotLaw", name := "withdraw", desc := "(LDialectdepot;II[J)I" } : Jvm.MethodName) method_30_code (5 : Nat) (Option.some Jvm.ClassFile.FieldType.int) [((0 : Nat), (10 : Nat), (13 : Nat), (22 : Nat)), ((0 : Nat), (10 : Nat), (17 : Nat), (24 : Nat)), ((0 : Nat), (10 : Nat), (21 : Nat), (13 : Nat))]) ∈ lw_all := lw_g (lw_at lw_m8 118 rfl) rfl
theorem q1864 : (Jvm.Cond.methodLink "DialectdepotLaw" (104 : Nat) ({ cls := "Dialectdepot", name := "withdraw", desc := "(II)I" } : Jvm.MethodName)) ∈ lw_all := lw_g (lw_at lw_m8 119 rfl) rfl
theorem q1882 : (Jvm.Cond.methodLink "DialectdepotLaw" (233 : Nat) ({ cls := "DialectdepotLaw", name := "claimOf", desc := "(LDialectdepot;II[J)I" } : Jvm.MethodName)) ∈ lw_all := lw_g (lw_at lw_m8 137 rfl) rfl
theorem q1883 : (Jvm.Cond.static ({ cls := "DialectdepotLaw", name := "claimOf", desc := "(LDialectdepot;II[J)I" } : Jvm.MethodName)) ∈ lw_all := lw_g (lw_at lw_m8 138 rfl) rfl
theorem q1884 : (Jvm.Cond.codeWith ({ cls := "DialectdepotLaw", name := "claimOf", desc := "(LDialectdepot;II[J)I" } : Jvm.MethodName) method_31_code (5 : Nat) (Option.some Jvm.ClassFile.FieldType.int) [((0 : Nat), (10 : Nat), (13 : Nat), (22 : Nat)), ((0 : Nat), (10 : Nat), (17 : Nat), (24 : Nat))]) ∈ lw_all := lw_g (lw_at lw_m8 139 rfl) rfl
theorem q1885 : (Jvm.Cond.methodLink "DialectdepotLaw" (107 : Nat) ({ cls := "Dialectdepot", name := "claimOf", desc := "(II)I" } : Jvm.MethodName)) ∈ lw_all := lw_g (lw_at lw_m8 140 rfl) rfl
theorem q1889 : (Jvm.Cond.methodLink "DialectdepotLaw" (236 : Nat) ({ cls := "DialectdepotLaw", name := "disputeDay", desc := "(LDialectdepot;I[J)I" } : Jvm.MethodName)) ∈ lw_all := lw_g (lw_at lw_m8 144 rfl) rfl
theorem q1890 : (Jvm.Cond.static ({ cls := "DialectdepotLaw", name := "disputeDay", desc := "(LDialectdepot;I[J)I" } : Jvm.MethodName)) ∈ lw_all := lw_g (lw_at lw_m8 145 rfl) rfl
theorem q1891 : (Jvm.Cond.codeWith ({ cls := "DialectdepotLaw", name := "disputeDay", desc := "(LDialectdepot;I[J)I" } : Jvm.MethodName) method_32_code (4 : Nat) (Option.some Jvm.ClassFile.FieldType.int) [((0 : Nat), (9 : Nat), (12 : Nat), (22 : Nat))]) ∈ lw_all := lw_g (lw_at lw_m8 146 rfl) rfl
theorem q1892 : (Jvm.Cond.methodLink "DialectdepotLaw" (110 : Nat) ({ cls := "Dialectdepot", name := "disputeDay", desc := "(I)I" } : Jvm.MethodName)) ∈ lw_all := lw_g (lw_at lw_m8 147 rfl) rfl
theorem q1896 : (Jvm.Cond.methodLink "DialectdepotLaw" (239 : Nat) ({ cls := "DialectdepotLaw", name := "ruledStreet", desc := "(LDialectdepot;I[J)I" } : Jvm.MethodName)) ∈ lw_all := lw_g (lw_at lw_m8 151 rfl) rfl
theorem q1897 : (Jvm.Cond.static ({ cls := "DialectdepotLaw", name := "ruledStreet", desc := "(LDialectdepot;I[J)I" } : Jvm.MethodName)) ∈ lw_all := lw_g (lw_at lw_m8 152 rfl) rfl
theorem q1898 : (Jvm.Cond.codeWith ({ cls := "DialectdepotLaw", name := "ruledStreet", desc := "(LDialectdepot;I[J)I" } : Jvm.MethodName) method_33_code (4 : Nat) (Option.some Jvm.ClassFile.FieldType.int) [((0 : Nat), (9 : Nat), (12 : Nat), (22 : Nat))]) ∈ lw_all := lw_g (lw_at lw_m8 153 rfl) rfl
theorem q1899 : (Jvm.Cond.methodLink "DialectdepotLaw" (113 : Nat) ({ cls := "Dialectdepot", name := "ruledStreet", desc := "(I)I" } : Jvm.MethodName)) ∈ lw_all := lw_g (lw_at lw_m8 154 rfl) rfl
theorem q1903 : (Jvm.Cond.methodLink "DialectdepotLaw" (242 : Nat) ({ cls := "DialectdepotLaw", name := "evidence", desc := "(LDialectdepot;II[J)I" } : Jvm.MethodName)) ∈ lw_all := lw_g (lw_at lw_m8 158 rfl) rfl
theorem q1904 : (Jvm.Cond.static ({ cls := "DialectdepotLaw", name := "evidence", desc := "(LDialectdepot;II[J)I" } : Jvm.MethodName)) ∈ lw_all := lw_g (lw_at lw_m8 159 rfl) rfl
theorem q1905 : (Jvm.Cond.codeWith ({ cls := "DialectdepotLaw", name := "evidence", desc := "(LDialectdepot;II[J)I" } : Jvm.MethodName) method_34_code (5 : Nat) (Option.some Jvm.ClassFile.FieldType.int) [((0 : Nat), (10 : Nat), (13 : Nat), (22 : Nat))]) ∈ lw_all := lw_g (lw_at lw_m8 160 rfl) rfl
theorem q1906 : (Jvm.Cond.methodLink "DialectdepotLaw" (116 : Nat) ({ cls := "Dialectdepot", name := "evidence", desc := "(II)I" } : Jvm.MethodName)) ∈ lw_all := lw_g (lw_at lw_m8 161 rfl) rfl
theorem q1910 : (Jvm.Cond.methodLink "DialectdepotLaw" (245 : Nat) ({ cls := "DialectdepotLaw", name := "appeal", desc := "(LDialectdepot;II[J)I" } : Jvm.MethodName)) ∈ lw_all := lw_g (lw_at lw_m8 165 rfl) rfl
theorem q1911 : (Jvm.Cond.static ({ cls := "DialectdepotLaw", name := "appeal", desc := "(LDialectdepot;II[J)I" } : Jvm.MethodName)) ∈ lw_all := lw_g (lw_at lw_m8 166 rfl) rfl
theorem q1912 : (Jvm.Cond.codeWith ({ cls := "DialectdepotLaw", name := "appeal", desc := "(LDialectdepot;II[J)I" } : Jvm.MethodName) method_35_code (5 : Nat) (Option.some Jvm.ClassFile.FieldType.int) [((0 : Nat), (17 : Nat), (20 : Nat), (22 : Nat)), ((0 : Nat), (17 : Nat), (24 : Nat), (24 : Nat)), ((0 : Nat), (17 : Nat), (28 : Nat), (13 : Nat))]) ∈ lw_all := lw_g (lw_at lw_m8 167 rfl) rfl
theorem q1913 : (Jvm.Cond.methodLink "DialectdepotLaw" (119 : Nat) ({ cls := "Dialectdepot", name := "appeal", desc := "(II)Z" } : Jvm.MethodName)) ∈ lw_all := lw_g (lw_at lw_m8 168 rfl) rfl
theorem q1921 : (Jvm.Cond.methodLink "DialectdepotLaw" (132 : Nat) ({ cls := "DialectdepotModel", name := "thrown", desc := "()I" } : Jvm.MethodName)) ∈ lw_all := lw_g (lw_at lw_m8 176 rfl) rfl
theorem q1925 : (Jvm.Cond.classLink "DialectdepotLaw" (123 : Nat) "DialectdepotModel") ∈ lw_all := lw_g (lw_at lw_m8 180 rfl) rfl
theorem q1927 : (Jvm.Cond.methodLink "DialectdepotLaw" (125 : Nat) ({ cls := "DialectdepotModel", name := "<init>", desc := "()V" } : Jvm.MethodName)) ∈ lw_all := lw_g (lw_at lw_m8 182 rfl) rfl
theorem q2105 : (Jvm.Cond.methodLink "DialectdepotLaw" (131 : Nat) ({ cls := "DialectdepotModel", name := "addStreet", desc := "()I" } : Jvm.MethodName)) ∈ lw_all := lw_g (lw_at lw_m9 120 rfl) rfl
theorem q2113 : (Jvm.Cond.methodLink "DialectdepotLaw" (137 : Nat) ({ cls := "DialectdepotModel", name := "addName", desc := "()I" } : Jvm.MethodName)) ∈ lw_all := lw_g (lw_at lw_m9 128 rfl) rfl
theorem q2132 : (Jvm.Cond.methodLink "DialectdepotLaw" (141 : Nat) ({ cls := "DialectdepotModel", name := "addUsage", desc := "(IIIII)I" } : Jvm.MethodName)) ∈ lw_all := lw_g (lw_at lw_m9 147 rfl) rfl
theorem q2151 : (Jvm.Cond.methodLink "DialectdepotLaw" (145 : Nat) ({ cls := "DialectdepotModel", name := "streetFor", desc := "(III)I" } : Jvm.MethodName)) ∈ lw_all := lw_g (lw_at lw_m9 166 rfl) rfl
theorem q2155 : (Jvm.Cond.methodLink "DialectdepotLaw" (149 : Nat) ({ cls := "DialectdepotModel", name := "addCarrier", desc := "(II)I" } : Jvm.MethodName)) ∈ lw_all := lw_g (lw_at lw_m9 170 rfl) rfl
theorem q2163 : (Jvm.Cond.methodLink "DialectdepotLaw" (152 : Nat) ({ cls := "DialectdepotModel", name := "setRound", desc := "(II)I" } : Jvm.MethodName)) ∈ lw_all := lw_g (lw_at lw_m9 178 rfl) rfl
theorem q2171 : (Jvm.Cond.methodLink "DialectdepotLaw" (155 : Nat) ({ cls := "DialectdepotModel", name := "setRoom", desc := "(II)I" } : Jvm.MethodName)) ∈ lw_all := lw_g (lw_at lw_m9 186 rfl) rfl
theorem q2175 : (Jvm.Cond.methodLink "DialectdepotLaw" (159 : Nat) ({ cls := "DialectdepotModel", name := "lesson", desc := "(IIII)I" } : Jvm.MethodName)) ∈ lw_all := lw_g (lw_at lw_m9 190 rfl) rfl
theorem q2182 : (Jvm.Cond.methodLink "DialectdepotLaw" (162 : Nat) ({ cls := "DialectdepotModel", name := "tell", desc := "(IIII)I" } : Jvm.MethodName)) ∈ lw_all := lw_g (lw_at lw_m9 197 rfl) rfl
theorem q2190 : (Jvm.Cond.methodLink "DialectdepotLaw" (165 : Nat) ({ cls := "DialectdepotModel", name := "feed", desc := "(II)I" } : Jvm.MethodName)) ∈ lw_all := lw_g (lw_at lw_m9 205 rfl) rfl
theorem q2194 : (Jvm.Cond.methodLink "DialectdepotLaw" (168 : Nat) ({ cls := "DialectdepotModel", name := "post", desc := "(IIII)I" } : Jvm.MethodName)) ∈ lw_all := lw_g (lw_at lw_m9 209 rfl) rfl
theorem q2221 : (Jvm.Cond.methodLink "DialectdepotLaw" (172 : Nat) ({ cls := "DialectdepotModel", name := "parcels", desc := "()I" } : Jvm.MethodName)) ∈ lw_all := lw_g (lw_at lw_m9 236 rfl) rfl
theorem q2225 : (Jvm.Cond.methodLink "DialectdepotLaw" (176 : Nat) ({ cls := "DialectdepotModel", name := "stateOf", desc := "(I)I" } : Jvm.MethodName)) ∈ lw_all := lw_g (lw_at lw_m10 0 rfl) rfl
theorem q2233 : (Jvm.Cond.methodLink "DialectdepotLaw" (179 : Nat) ({ cls := "DialectdepotModel", name := "timesBack", desc := "(I)I" } : Jvm.MethodName)) ∈ lw_all := lw_g (lw_at lw_m10 8 rfl) rfl
theorem q2237 : (Jvm.Cond.methodLink "DialectdepotLaw" (182 : Nat) ({ cls := "DialectdepotModel", name := "whyBack", desc := "(I)I" } : Jvm.MethodName)) ∈ lw_all := lw_g (lw_at lw_m10 12 rfl) rfl
theorem q2241 : (Jvm.Cond.methodLink "DialectdepotLaw" (185 : Nat) ({ cls := "DialectdepotModel", name := "daysWaited", desc := "(I)I" } : Jvm.MethodName)) ∈ lw_all := lw_g (lw_at lw_m10 16 rfl) rfl
theorem q2245 : (Jvm.Cond.methodLink "DialectdepotLaw" (188 : Nat) ({ cls := "DialectdepotModel", name := "isWanted", desc := "(II)Z" } : Jvm.MethodName)) ∈ lw_all := lw_g (lw_at lw_m10 20 rfl) rfl
theorem q2249 : (Jvm.Cond.methodLink "DialectdepotLaw" (191 : Nat) ({ cls := "DialectdepotModel", name := "unwantedName", desc := "(I)I" } : Jvm.MethodName)) ∈ lw_all := lw_g (lw_at lw_m10 24 rfl) rfl
theorem q2253 : (Jvm.Cond.methodLink "DialectdepotLaw" (194 : Nat) ({ cls := "DialectdepotModel", name := "isHeld", desc := "(I)Z" } : Jvm.MethodName)) ∈ lw_all := lw_g (lw_at lw_m10 28 rfl) rfl
theorem q2261 : (Jvm.Cond.methodLink "DialectdepotLaw" (197 : Nat) ({ cls := "DialectdepotModel", name := "score", desc := "(III)I" } : Jvm.MethodName)) ∈ lw_all := lw_g (lw_at lw_m10 36 rfl) rfl
theorem q2285 : (Jvm.Cond.methodLink "DialectdepotLaw" (200 : Nat) ({ cls := "DialectdepotModel", name := "choiceFor", desc := "(I)I" } : Jvm.MethodName)) ∈ lw_all := lw_g (lw_at lw_m10 60 rfl) rfl
theorem q2293 : (Jvm.Cond.methodLink "DialectdepotLaw" (203 : Nat) ({ cls := "DialectdepotModel", name := "nextDay", desc := "()I" } : Jvm.MethodName)) ∈ lw_all := lw_g (lw_at lw_m10 68 rfl) rfl
theorem q2325 : (Jvm.Cond.methodLink "DialectdepotLaw" (207 : Nat) ({ cls := "DialectdepotModel", name := "day", desc := "()I" } : Jvm.MethodName)) ∈ lw_all := lw_g (lw_at lw_m10 100 rfl) rfl
theorem q2329 : (Jvm.Cond.methodLink "DialectdepotLaw" (211 : Nat) ({ cls := "DialectdepotModel", name := "attempts", desc := "()I" } : Jvm.MethodName)) ∈ lw_all := lw_g (lw_at lw_m10 104 rfl) rfl
theorem q2333 : (Jvm.Cond.methodLink "DialectdepotLaw" (214 : Nat) ({ cls := "DialectdepotModel", name := "attemptParcel", desc := "(I)I" } : Jvm.MethodName)) ∈ lw_all := lw_g (lw_at lw_m10 108 rfl) rfl
theorem q2341 : (Jvm.Cond.methodLink "DialectdepotLaw" (217 : Nat) ({ cls := "DialectdepotModel", name := "attemptCarrier", desc := "(I)I" } : Jvm.MethodName)) ∈ lw_all := lw_g (lw_at lw_m10 116 rfl) rfl
theorem q2345 : (Jvm.Cond.methodLink "DialectdepotLaw" (220 : Nat) ({ cls := "DialectdepotModel", name := "attemptStreet", desc := "(I)I" } : Jvm.MethodName)) ∈ lw_all := lw_g (lw_at lw_m10 120 rfl) rfl
theorem q2349 : (Jvm.Cond.methodLink "DialectdepotLaw" (223 : Nat) ({ cls := "DialectdepotModel", name := "attemptDay", desc := "(I)I" } : Jvm.MethodName)) ∈ lw_all := lw_g (lw_at lw_m10 124 rfl) rfl
theorem q2353 : (Jvm.Cond.methodLink "DialectdepotLaw" (226 : Nat) ({ cls := "DialectdepotModel", name := "wasDelivered", desc := "(I)Z" } : Jvm.MethodName)) ∈ lw_all := lw_g (lw_at lw_m10 128 rfl) rfl
theorem q2357 : (Jvm.Cond.methodLink "DialectdepotLaw" (229 : Nat) ({ cls := "DialectdepotModel", name := "claim", desc := "(III)I" } : Jvm.MethodName)) ∈ lw_all := lw_g (lw_at lw_m10 132 rfl) rfl
theorem q2365 : (Jvm.Cond.methodLink "DialectdepotLaw" (232 : Nat) ({ cls := "DialectdepotModel", name := "withdraw", desc := "(II)I" } : Jvm.MethodName)) ∈ lw_all := lw_g (lw_at lw_m10 140 rfl) rfl
theorem q2369 : (Jvm.Cond.methodLink "DialectdepotLaw" (235 : Nat) ({ cls := "DialectdepotModel", name := "claimOf", desc := "(II)I" } : Jvm.MethodName)) ∈ lw_all := lw_g (lw_at lw_m10 144 rfl) rfl
theorem q2373 : (Jvm.Cond.methodLink "DialectdepotLaw" (238 : Nat) ({ cls := "DialectdepotModel", name := "disputeDay", desc := "(I)I" } : Jvm.MethodName)) ∈ lw_all := lw_g (lw_at lw_m10 148 rfl) rfl
theorem q2377 : (Jvm.Cond.methodLink "DialectdepotLaw" (241 : Nat) ({ cls := "DialectdepotModel", name := "ruledStreet", desc := "(I)I" } : Jvm.MethodName)) ∈ lw_all := lw_g (lw_at lw_m10 152 rfl) rfl
theorem q2381 : (Jvm.Cond.methodLink "DialectdepotLaw" (244 : Nat) ({ cls := "DialectdepotModel", name := "evidence", desc := "(II)I" } : Jvm.MethodName)) ∈ lw_all := lw_g (lw_at lw_m10 156 rfl) rfl
theorem q2385 : (Jvm.Cond.methodLink "DialectdepotLaw" (247 : Nat) ({ cls := "DialectdepotModel", name := "appeal", desc := "(II)Z" } : Jvm.MethodName)) ∈ lw_all := lw_g (lw_at lw_m10 160 rfl) rfl
theorem q2393 : (Jvm.Cond.methodLink "DialectdepotLaw" (251 : Nat) ({ cls := "DialectdepotModel", name := "givenUp", desc := "()I" } : Jvm.MethodName)) ∈ lw_all := lw_g (lw_at lw_m10 168 rfl) rfl
theorem q2397 : (Jvm.Cond.methodLink "DialectdepotLaw" (255 : Nat) ({ cls := "DialectdepotModel", name := "givenUpThoughKnown", desc := "()I" } : Jvm.MethodName)) ∈ lw_all := lw_g (lw_at lw_m10 172 rfl) rfl
theorem q2401 : (Jvm.Cond.methodLink "DialectdepotLaw" (259 : Nat) ({ cls := "DialectdepotModel", name := "errors", desc := "()I" } : Jvm.MethodName)) ∈ lw_all := lw_g (lw_at lw_m10 176 rfl) rfl
theorem q2405 : (Jvm.Cond.methodLink "DialectdepotLaw" (264 : Nat) ({ cls := "DialectdepotModel", name := "meanAttempts", desc := "()D" } : Jvm.MethodName)) ∈ lw_all := lw_g (lw_at lw_m10 180 rfl) rfl
theorem q2409 : (Jvm.Cond.methodLink "DialectdepotLaw" (269 : Nat) ({ cls := "DialectdepotModel", name := "deliveredShare", desc := "()F" } : Jvm.MethodName)) ∈ lw_all := lw_g (lw_at lw_m10 184 rfl) rfl
/-! the law's own entry -/
set_option maxRecDepth 100000
abbrev cL_law : ByteArray := code
def dkwL_law_103 : List UInt8 := [167, 0, 3, 132, 4, 6, 167, 246, 22, 4, 172]
abbrev dktL_law_103 : List UInt8 := dkwL_law_103 ++ []
def dkwL_law_102 : List UInt8 := [24, 7, 151, 153, 0, 21, 24, 5, 24, 5, 151, 153, 0, 11, 24, 7, 24, 7, 151, 154, 0, 5, 3, 172]
abbrev dktL_law_102 : List UInt8 := dkwL_law_102 ++ dktL_law_103
def dkwL_law_101 : List UInt8 := [154, 0, 5, 3, 172, 167, 0, 46, 43, 182, 1, 9, 141, 57, 5, 44, 182, 1, 13, 141, 57, 7, 24, 5]
abbrev dktL_law_101 : List UInt8 := dkwL_law_101 ++ dktL_law_102
def dkwL_law_100 : List UInt8 := [57, 7, 24, 5, 24, 7, 151, 153, 0, 21, 24, 5, 24, 5, 151, 153, 0, 11, 24, 7, 24, 7, 151]
abbrev dktL_law_100 : List UInt8 := dkwL_law_100 ++ dktL_law_101
def dkwL_law_99 : List UInt8 := [172, 43, 182, 1, 0, 44, 182, 1, 3, 159, 0, 89, 3, 172, 43, 182, 1, 4, 57, 5, 44, 182, 1, 8]
abbrev dktL_law_99 : List UInt8 := dkwL_law_99 ++ dktL_law_100
def dkwL_law_98 : List UInt8 := [182, 0, 248, 44, 182, 0, 251, 159, 0, 115, 3, 172, 43, 182, 0, 252, 44, 182, 0, 255, 159, 0, 102, 3]
abbrev dktL_law_98 : List UInt8 := dkwL_law_98 ++ dktL_law_99
def dkwL_law_97 : List UInt8 := [3, 47, 21, 6, 153, 0, 7, 10, 167, 0, 4, 9, 148, 153, 0, 5, 3, 172, 167, 0, 126, 43]
abbrev dktL_law_97 : List UInt8 := dkwL_law_97 ++ dktL_law_98
def dkwL_law_96 : List UInt8 := [96, 46, 182, 0, 247, 54, 6, 44, 182, 0, 132, 21, 5, 159, 0, 5, 3, 172, 21, 5, 154, 0, 22, 45]
abbrev dktL_law_96 : List UInt8 := dkwL_law_96 ++ dktL_law_97
def dkwL_law_95 : List UInt8 := [46, 42, 21, 4, 5, 96, 46, 45, 184, 0, 245, 54, 5, 44, 42, 21, 4, 4, 96, 46, 42, 21, 4, 5]
abbrev dktL_law_95 : List UInt8 := dkwL_law_95 ++ dktL_law_96
def dkwL_law_94 : List UInt8 := [154, 0, 15, 45, 3, 47, 21, 6, 133, 148, 153, 0, 5, 3, 172, 167, 0, 201, 43, 42, 21, 4, 4, 96]
abbrev dktL_law_94 : List UInt8 := dkwL_law_94 ++ dktL_law_95
def dkwL_law_93 : List UInt8 := [42, 21, 4, 5, 96, 46, 182, 0, 244, 54, 6, 44, 182, 0, 132, 21, 5, 159, 0, 5, 3, 172, 21, 5]
abbrev dktL_law_93 : List UInt8 := dkwL_law_93 ++ dktL_law_94
def dkwL_law_92 : List UInt8 := [21, 4, 4, 96, 46, 42, 21, 4, 5, 96, 46, 45, 184, 0, 242, 54, 5, 44, 42, 21, 4, 4, 96, 46]
abbrev dktL_law_92 : List UInt8 := dkwL_law_92 ++ dktL_law_93
def dkwL_law_91 : List UInt8 := [172, 21, 5, 154, 0, 15, 45, 3, 47, 21, 6, 133, 148, 153, 0, 5, 3, 172, 167, 1, 13, 43, 42]
abbrev dktL_law_91 : List UInt8 := dkwL_law_91 ++ dktL_law_92
def dkwL_law_90 : List UInt8 := [54, 5, 44, 42, 21, 4, 4, 96, 46, 182, 0, 241, 54, 6, 44, 182, 0, 132, 21, 5, 159, 0, 5, 3]
abbrev dktL_law_90 : List UInt8 := dkwL_law_90 ++ dktL_law_91
def dkwL_law_89 : List UInt8 := [21, 6, 133, 148, 153, 0, 5, 3, 172, 167, 1, 69, 43, 42, 21, 4, 4, 96, 46, 45, 184, 0, 239]
abbrev dktL_law_89 : List UInt8 := dkwL_law_89 ++ dktL_law_90
def dkwL_law_88 : List UInt8 := [182, 0, 238, 54, 6, 44, 182, 0, 132, 21, 5, 159, 0, 5, 3, 172, 21, 5, 154, 0, 15, 45, 3, 47]
abbrev dktL_law_88 : List UInt8 := dkwL_law_88 ++ dktL_law_89
def dkwL_law_87 : List UInt8 := [167, 1, 125, 43, 42, 21, 4, 4, 96, 46, 45, 184, 0, 236, 54, 5, 44, 42, 21, 4, 4, 96, 46]
abbrev dktL_law_87 : List UInt8 := dkwL_law_87 ++ dktL_law_88
def dkwL_law_86 : List UInt8 := [159, 0, 5, 3, 172, 21, 5, 154, 0, 15, 45, 3, 47, 21, 6, 133, 148, 153, 0, 5, 3, 172]
abbrev dktL_law_86 : List UInt8 := dkwL_law_86 ++ dktL_law_87
def dkwL_law_85 : List UInt8 := [21, 4, 4, 96, 46, 42, 21, 4, 5, 96, 46, 182, 0, 235, 54, 6, 44, 182, 0, 132, 21, 5]
abbrev dktL_law_85 : List UInt8 := dkwL_law_85 ++ dktL_law_86
def dkwL_law_84 : List UInt8 := [167, 1, 193, 43, 42, 21, 4, 4, 96, 46, 42, 21, 4, 5, 96, 46, 45, 184, 0, 233, 54, 5, 44, 42]
abbrev dktL_law_84 : List UInt8 := dkwL_law_84 ++ dktL_law_85
def dkwL_law_83 : List UInt8 := [159, 0, 5, 3, 172, 21, 5, 154, 0, 15, 45, 3, 47, 21, 6, 133, 148, 153, 0, 5, 3, 172]
abbrev dktL_law_83 : List UInt8 := dkwL_law_83 ++ dktL_law_84
def dkwL_law_82 : List UInt8 := [21, 4, 4, 96, 46, 42, 21, 4, 5, 96, 46, 182, 0, 232, 54, 6, 44, 182, 0, 132, 21, 5]
abbrev dktL_law_82 : List UInt8 := dkwL_law_82 ++ dktL_law_83
def dkwL_law_81 : List UInt8 := [167, 2, 5, 43, 42, 21, 4, 4, 96, 46, 42, 21, 4, 5, 96, 46, 45, 184, 0, 230, 54, 5, 44, 42]
abbrev dktL_law_81 : List UInt8 := dkwL_law_81 ++ dktL_law_82
def dkwL_law_80 : List UInt8 := [21, 5, 159, 0, 5, 3, 172, 21, 5, 154, 0, 15, 45, 3, 47, 21, 6, 133, 148, 153, 0, 5, 3, 172]
abbrev dktL_law_80 : List UInt8 := dkwL_law_80 ++ dktL_law_81
def dkwL_law_79 : List UInt8 := [4, 96, 46, 42, 21, 4, 5, 96, 46, 42, 21, 4, 6, 96, 46, 182, 0, 229, 54, 6, 44, 182, 0, 132]
abbrev dktL_law_79 : List UInt8 := dkwL_law_79 ++ dktL_law_80
def dkwL_law_78 : List UInt8 := [96, 46, 42, 21, 4, 5, 96, 46, 42, 21, 4, 6, 96, 46, 45, 184, 0, 227, 54, 5, 44, 42, 21, 4]
abbrev dktL_law_78 : List UInt8 := dkwL_law_78 ++ dktL_law_79
def dkwL_law_77 : List UInt8 := [21, 6, 153, 0, 7, 10, 167, 0, 4, 9, 148, 153, 0, 5, 3, 172, 167, 2, 85, 43, 42, 21, 4, 4]
abbrev dktL_law_77 : List UInt8 := dkwL_law_77 ++ dktL_law_78
def dkwL_law_76 : List UInt8 := [182, 0, 226, 54, 6, 44, 182, 0, 132, 21, 5, 159, 0, 5, 3, 172, 21, 5, 154, 0, 22, 45, 3, 47]
abbrev dktL_law_76 : List UInt8 := dkwL_law_76 ++ dktL_law_77
def dkwL_law_75 : List UInt8 := [167, 2, 148, 43, 42, 21, 4, 4, 96, 46, 45, 184, 0, 224, 54, 5, 44, 42, 21, 4, 4, 96, 46]
abbrev dktL_law_75 : List UInt8 := dkwL_law_75 ++ dktL_law_76
def dkwL_law_74 : List UInt8 := [21, 5, 159, 0, 5, 3, 172, 21, 5, 154, 0, 15, 45, 3, 47, 21, 6, 133, 148, 153, 0, 5, 3, 172]
abbrev dktL_law_74 : List UInt8 := dkwL_law_74 ++ dktL_law_75
def dkwL_law_73 : List UInt8 := [46, 45, 184, 0, 221, 54, 5, 44, 42, 21, 4, 4, 96, 46, 182, 0, 223, 54, 6, 44, 182, 0, 132]
abbrev dktL_law_73 : List UInt8 := dkwL_law_73 ++ dktL_law_74
def dkwL_law_72 : List UInt8 := [154, 0, 15, 45, 3, 47, 21, 6, 133, 148, 153, 0, 5, 3, 172, 167, 2, 204, 43, 42, 21, 4, 4, 96]
abbrev dktL_law_72 : List UInt8 := dkwL_law_72 ++ dktL_law_73
def dkwL_law_71 : List UInt8 := [21, 4, 4, 96, 46, 182, 0, 220, 54, 6, 44, 182, 0, 132, 21, 5, 159, 0, 5, 3, 172, 21, 5]
abbrev dktL_law_71 : List UInt8 := dkwL_law_71 ++ dktL_law_72
def dkwL_law_70 : List UInt8 := [153, 0, 5, 3, 172, 167, 3, 4, 43, 42, 21, 4, 4, 96, 46, 45, 184, 0, 218, 54, 5, 44, 42]
abbrev dktL_law_70 : List UInt8 := dkwL_law_70 ++ dktL_law_71
def dkwL_law_69 : List UInt8 := [182, 0, 132, 21, 5, 159, 0, 5, 3, 172, 21, 5, 154, 0, 15, 45, 3, 47, 21, 6, 133, 148]
abbrev dktL_law_69 : List UInt8 := dkwL_law_69 ++ dktL_law_70
def dkwL_law_68 : List UInt8 := [21, 4, 4, 96, 46, 45, 184, 0, 215, 54, 5, 44, 42, 21, 4, 4, 96, 46, 182, 0, 217, 54, 6, 44]
abbrev dktL_law_68 : List UInt8 := dkwL_law_68 ++ dktL_law_69
def dkwL_law_67 : List UInt8 := [172, 21, 5, 154, 0, 15, 45, 3, 47, 21, 6, 133, 148, 153, 0, 5, 3, 172, 167, 3, 60, 43, 42]
abbrev dktL_law_67 : List UInt8 := dkwL_law_67 ++ dktL_law_68
def dkwL_law_66 : List UInt8 := [54, 5, 44, 42, 21, 4, 4, 96, 46, 182, 0, 214, 54, 6, 44, 182, 0, 132, 21, 5, 159, 0, 5, 3]
abbrev dktL_law_66 : List UInt8 := dkwL_law_66 ++ dktL_law_67
def dkwL_law_65 : List UInt8 := [182, 0, 208, 44, 182, 0, 211, 159, 3, 118, 3, 172, 43, 42, 21, 4, 4, 96, 46, 45, 184, 0, 212]
abbrev dktL_law_65 : List UInt8 := dkwL_law_65 ++ dktL_law_66
def dkwL_law_64 : List UInt8 := [148, 153, 0, 5, 3, 172, 167, 3, 142, 43, 182, 0, 204, 44, 182, 0, 207, 159, 3, 131, 3, 172, 43]
abbrev dktL_law_64 : List UInt8 := dkwL_law_64 ++ dktL_law_65
def dkwL_law_63 : List UInt8 := [54, 6, 44, 182, 0, 132, 21, 5, 159, 0, 5, 3, 172, 21, 5, 154, 0, 15, 45, 3, 47, 21, 6, 133]
abbrev dktL_law_63 : List UInt8 := dkwL_law_63 ++ dktL_law_64
def dkwL_law_62 : List UInt8 := [21, 6, 133, 148, 153, 0, 5, 3, 172, 167, 3, 186, 43, 45, 184, 0, 201, 54, 5, 44, 182, 0, 203]
abbrev dktL_law_62 : List UInt8 := dkwL_law_62 ++ dktL_law_63
def dkwL_law_61 : List UInt8 := [182, 0, 200, 54, 6, 44, 182, 0, 132, 21, 5, 159, 0, 5, 3, 172, 21, 5, 154, 0, 15, 45, 3, 47]
abbrev dktL_law_61 : List UInt8 := dkwL_law_61 ++ dktL_law_62
def dkwL_law_60 : List UInt8 := [167, 3, 242, 43, 42, 21, 4, 4, 96, 46, 45, 184, 0, 198, 54, 5, 44, 42, 21, 4, 4, 96, 46]
abbrev dktL_law_60 : List UInt8 := dkwL_law_60 ++ dktL_law_61
def dkwL_law_59 : List UInt8 := [21, 5, 159, 0, 5, 3, 172, 21, 5, 154, 0, 15, 45, 3, 47, 21, 6, 133, 148, 153, 0, 5, 3, 172]
abbrev dktL_law_59 : List UInt8 := dkwL_law_59 ++ dktL_law_60
def dkwL_law_58 : List UInt8 := [4, 96, 46, 42, 21, 4, 5, 96, 46, 42, 21, 4, 6, 96, 46, 182, 0, 197, 54, 6, 44, 182, 0, 132]
abbrev dktL_law_58 : List UInt8 := dkwL_law_58 ++ dktL_law_59
def dkwL_law_57 : List UInt8 := [96, 46, 42, 21, 4, 5, 96, 46, 42, 21, 4, 6, 96, 46, 45, 184, 0, 195, 54, 5, 44, 42, 21, 4]
abbrev dktL_law_57 : List UInt8 := dkwL_law_57 ++ dktL_law_58
def dkwL_law_56 : List UInt8 := [21, 6, 153, 0, 7, 10, 167, 0, 4, 9, 148, 153, 0, 5, 3, 172, 167, 4, 66, 43, 42, 21, 4, 4]
abbrev dktL_law_56 : List UInt8 := dkwL_law_56 ++ dktL_law_57
def dkwL_law_55 : List UInt8 := [182, 0, 194, 54, 6, 44, 182, 0, 132, 21, 5, 159, 0, 5, 3, 172, 21, 5, 154, 0, 22, 45, 3, 47]
abbrev dktL_law_55 : List UInt8 := dkwL_law_55 ++ dktL_law_56
def dkwL_law_54 : List UInt8 := [167, 4, 129, 43, 42, 21, 4, 4, 96, 46, 45, 184, 0, 192, 54, 5, 44, 42, 21, 4, 4, 96, 46]
abbrev dktL_law_54 : List UInt8 := dkwL_law_54 ++ dktL_law_55
def dkwL_law_53 : List UInt8 := [159, 0, 5, 3, 172, 21, 5, 154, 0, 15, 45, 3, 47, 21, 6, 133, 148, 153, 0, 5, 3, 172]
abbrev dktL_law_53 : List UInt8 := dkwL_law_53 ++ dktL_law_54
def dkwL_law_52 : List UInt8 := [45, 184, 0, 189, 54, 5, 44, 42, 21, 4, 4, 96, 46, 182, 0, 191, 54, 6, 44, 182, 0, 132, 21, 5]
abbrev dktL_law_52 : List UInt8 := dkwL_law_52 ++ dktL_law_53
def dkwL_law_51 : List UInt8 := [153, 0, 7, 10, 167, 0, 4, 9, 148, 153, 0, 5, 3, 172, 167, 4, 185, 43, 42, 21, 4, 4, 96, 46]
abbrev dktL_law_51 : List UInt8 := dkwL_law_51 ++ dktL_law_52
def dkwL_law_50 : List UInt8 := [54, 6, 44, 182, 0, 132, 21, 5, 159, 0, 5, 3, 172, 21, 5, 154, 0, 22, 45, 3, 47, 21, 6]
abbrev dktL_law_50 : List UInt8 := dkwL_law_50 ++ dktL_law_51
def dkwL_law_49 : List UInt8 := [46, 45, 184, 0, 186, 54, 5, 44, 42, 21, 4, 4, 96, 46, 42, 21, 4, 5, 96, 46, 182, 0, 188]
abbrev dktL_law_49 : List UInt8 := dkwL_law_49 ++ dktL_law_50
def dkwL_law_48 : List UInt8 := [21, 6, 133, 148, 153, 0, 5, 3, 172, 167, 5, 4, 43, 42, 21, 4, 4, 96, 46, 42, 21, 4, 5, 96]
abbrev dktL_law_48 : List UInt8 := dkwL_law_48 ++ dktL_law_49
def dkwL_law_47 : List UInt8 := [182, 0, 185, 54, 6, 44, 182, 0, 132, 21, 5, 159, 0, 5, 3, 172, 21, 5, 154, 0, 15, 45, 3, 47]
abbrev dktL_law_47 : List UInt8 := dkwL_law_47 ++ dktL_law_48
def dkwL_law_46 : List UInt8 := [167, 5, 60, 43, 42, 21, 4, 4, 96, 46, 45, 184, 0, 183, 54, 5, 44, 42, 21, 4, 4, 96, 46]
abbrev dktL_law_46 : List UInt8 := dkwL_law_46 ++ dktL_law_47
def dkwL_law_45 : List UInt8 := [21, 5, 159, 0, 5, 3, 172, 21, 5, 154, 0, 15, 45, 3, 47, 21, 6, 133, 148, 153, 0, 5, 3, 172]
abbrev dktL_law_45 : List UInt8 := dkwL_law_45 ++ dktL_law_46
def dkwL_law_44 : List UInt8 := [46, 45, 184, 0, 180, 54, 5, 44, 42, 21, 4, 4, 96, 46, 182, 0, 182, 54, 6, 44, 182, 0, 132]
abbrev dktL_law_44 : List UInt8 := dkwL_law_44 ++ dktL_law_45
def dkwL_law_43 : List UInt8 := [154, 0, 15, 45, 3, 47, 21, 6, 133, 148, 153, 0, 5, 3, 172, 167, 5, 116, 43, 42, 21, 4, 4, 96]
abbrev dktL_law_43 : List UInt8 := dkwL_law_43 ++ dktL_law_44
def dkwL_law_42 : List UInt8 := [21, 4, 4, 96, 46, 182, 0, 179, 54, 6, 44, 182, 0, 132, 21, 5, 159, 0, 5, 3, 172, 21, 5]
abbrev dktL_law_42 : List UInt8 := dkwL_law_42 ++ dktL_law_43
def dkwL_law_41 : List UInt8 := [153, 0, 5, 3, 172, 167, 5, 172, 43, 42, 21, 4, 4, 96, 46, 45, 184, 0, 177, 54, 5, 44, 42]
abbrev dktL_law_41 : List UInt8 := dkwL_law_41 ++ dktL_law_42
def dkwL_law_40 : List UInt8 := [182, 0, 132, 21, 5, 159, 0, 5, 3, 172, 21, 5, 154, 0, 15, 45, 3, 47, 21, 6, 133, 148]
abbrev dktL_law_40 : List UInt8 := dkwL_law_40 ++ dktL_law_41
def dkwL_law_39 : List UInt8 := [21, 4, 4, 96, 46, 45, 184, 0, 173, 54, 5, 44, 42, 21, 4, 4, 96, 46, 182, 0, 176, 54, 6, 44]
abbrev dktL_law_39 : List UInt8 := dkwL_law_39 ++ dktL_law_40
def dkwL_law_38 : List UInt8 := [153, 0, 5, 3, 172, 167, 5, 241, 43, 182, 0, 169, 44, 182, 0, 172, 159, 5, 230, 3, 172, 43, 42]
abbrev dktL_law_38 : List UInt8 := dkwL_law_38 ++ dktL_law_39
def dkwL_law_37 : List UInt8 := [182, 0, 132, 21, 5, 159, 0, 5, 3, 172, 21, 5, 154, 0, 15, 45, 3, 47, 21, 6, 133, 148]
abbrev dktL_law_37 : List UInt8 := dkwL_law_37 ++ dktL_law_38
def dkwL_law_36 : List UInt8 := [21, 4, 5, 96, 46, 42, 21, 4, 6, 96, 46, 42, 21, 4, 7, 96, 46, 182, 0, 168, 54, 6, 44]
abbrev dktL_law_36 : List UInt8 := dkwL_law_36 ++ dktL_law_37
def dkwL_law_35 : List UInt8 := [6, 96, 46, 42, 21, 4, 7, 96, 46, 45, 184, 0, 166, 54, 5, 44, 42, 21, 4, 4, 96, 46, 42]
abbrev dktL_law_35 : List UInt8 := dkwL_law_35 ++ dktL_law_36
def dkwL_law_34 : List UInt8 := [153, 0, 5, 3, 172, 167, 6, 77, 43, 42, 21, 4, 4, 96, 46, 42, 21, 4, 5, 96, 46, 42, 21, 4]
abbrev dktL_law_34 : List UInt8 := dkwL_law_34 ++ dktL_law_35
def dkwL_law_33 : List UInt8 := [182, 0, 132, 21, 5, 159, 0, 5, 3, 172, 21, 5, 154, 0, 15, 45, 3, 47, 21, 6, 133, 148]
abbrev dktL_law_33 : List UInt8 := dkwL_law_33 ++ dktL_law_34
def dkwL_law_32 : List UInt8 := [184, 0, 163, 54, 5, 44, 42, 21, 4, 4, 96, 46, 42, 21, 4, 5, 96, 46, 182, 0, 165, 54, 6, 44]
abbrev dktL_law_32 : List UInt8 := dkwL_law_32 ++ dktL_law_33
def dkwL_law_31 : List UInt8 := [153, 0, 5, 3, 172, 167, 6, 145, 43, 42, 21, 4, 4, 96, 46, 42, 21, 4, 5, 96, 46, 45]
abbrev dktL_law_31 : List UInt8 := dkwL_law_31 ++ dktL_law_32
def dkwL_law_30 : List UInt8 := [182, 0, 132, 21, 5, 159, 0, 5, 3, 172, 21, 5, 154, 0, 15, 45, 3, 47, 21, 6, 133, 148]
abbrev dktL_law_30 : List UInt8 := dkwL_law_30 ++ dktL_law_31
def dkwL_law_29 : List UInt8 := [21, 4, 5, 96, 46, 42, 21, 4, 6, 96, 46, 42, 21, 4, 7, 96, 46, 182, 0, 162, 54, 6, 44]
abbrev dktL_law_29 : List UInt8 := dkwL_law_29 ++ dktL_law_30
def dkwL_law_28 : List UInt8 := [6, 96, 46, 42, 21, 4, 7, 96, 46, 45, 184, 0, 160, 54, 5, 44, 42, 21, 4, 4, 96, 46, 42]
abbrev dktL_law_28 : List UInt8 := dkwL_law_28 ++ dktL_law_29
def dkwL_law_27 : List UInt8 := [153, 0, 5, 3, 172, 167, 6, 237, 43, 42, 21, 4, 4, 96, 46, 42, 21, 4, 5, 96, 46, 42, 21, 4]
abbrev dktL_law_27 : List UInt8 := dkwL_law_27 ++ dktL_law_28
def dkwL_law_26 : List UInt8 := [182, 0, 132, 21, 5, 159, 0, 5, 3, 172, 21, 5, 154, 0, 15, 45, 3, 47, 21, 6, 133, 148]
abbrev dktL_law_26 : List UInt8 := dkwL_law_26 ++ dktL_law_27
def dkwL_law_25 : List UInt8 := [21, 4, 5, 96, 46, 42, 21, 4, 6, 96, 46, 42, 21, 4, 7, 96, 46, 182, 0, 159, 54, 6, 44]
abbrev dktL_law_25 : List UInt8 := dkwL_law_25 ++ dktL_law_26
def dkwL_law_24 : List UInt8 := [6, 96, 46, 42, 21, 4, 7, 96, 46, 45, 184, 0, 156, 54, 5, 44, 42, 21, 4, 4, 96, 46, 42]
abbrev dktL_law_24 : List UInt8 := dkwL_law_24 ++ dktL_law_25
def dkwL_law_23 : List UInt8 := [153, 0, 5, 3, 172, 167, 7, 73, 43, 42, 21, 4, 4, 96, 46, 42, 21, 4, 5, 96, 46, 42, 21, 4]
abbrev dktL_law_23 : List UInt8 := dkwL_law_23 ++ dktL_law_24
def dkwL_law_22 : List UInt8 := [182, 0, 132, 21, 5, 159, 0, 5, 3, 172, 21, 5, 154, 0, 15, 45, 3, 47, 21, 6, 133, 148]
abbrev dktL_law_22 : List UInt8 := dkwL_law_22 ++ dktL_law_23
def dkwL_law_21 : List UInt8 := [184, 0, 153, 54, 5, 44, 42, 21, 4, 4, 96, 46, 42, 21, 4, 5, 96, 46, 182, 0, 155, 54, 6, 44]
abbrev dktL_law_21 : List UInt8 := dkwL_law_21 ++ dktL_law_22
def dkwL_law_20 : List UInt8 := [153, 0, 5, 3, 172, 167, 7, 141, 43, 42, 21, 4, 4, 96, 46, 42, 21, 4, 5, 96, 46, 45]
abbrev dktL_law_20 : List UInt8 := dkwL_law_20 ++ dktL_law_21
def dkwL_law_19 : List UInt8 := [182, 0, 132, 21, 5, 159, 0, 5, 3, 172, 21, 5, 154, 0, 15, 45, 3, 47, 21, 6, 133, 148]
abbrev dktL_law_19 : List UInt8 := dkwL_law_19 ++ dktL_law_20
def dkwL_law_18 : List UInt8 := [184, 0, 150, 54, 5, 44, 42, 21, 4, 4, 96, 46, 42, 21, 4, 5, 96, 46, 182, 0, 152, 54, 6, 44]
abbrev dktL_law_18 : List UInt8 := dkwL_law_18 ++ dktL_law_19
def dkwL_law_17 : List UInt8 := [148, 153, 0, 5, 3, 172, 167, 7, 209, 43, 42, 21, 4, 4, 96, 46, 42, 21, 4, 5, 96, 46, 45]
abbrev dktL_law_17 : List UInt8 := dkwL_law_17 ++ dktL_law_18
def dkwL_law_16 : List UInt8 := [54, 6, 44, 182, 0, 132, 21, 5, 159, 0, 5, 3, 172, 21, 5, 154, 0, 15, 45, 3, 47, 21, 6, 133]
abbrev dktL_law_16 : List UInt8 := dkwL_law_16 ++ dktL_law_17
def dkwL_law_15 : List UInt8 := [46, 45, 184, 0, 146, 54, 5, 44, 42, 21, 4, 4, 96, 46, 42, 21, 4, 5, 96, 46, 182, 0, 149]
abbrev dktL_law_15 : List UInt8 := dkwL_law_15 ++ dktL_law_16
def dkwL_law_14 : List UInt8 := [21, 6, 133, 148, 153, 0, 5, 3, 172, 167, 8, 21, 43, 42, 21, 4, 4, 96, 46, 42, 21, 4, 5, 96]
abbrev dktL_law_14 : List UInt8 := dkwL_law_14 ++ dktL_law_15
def dkwL_law_13 : List UInt8 := [182, 0, 145, 54, 6, 44, 182, 0, 132, 21, 5, 159, 0, 5, 3, 172, 21, 5, 154, 0, 15, 45, 3, 47]
abbrev dktL_law_13 : List UInt8 := dkwL_law_13 ++ dktL_law_14
def dkwL_law_12 : List UInt8 := [184, 0, 142, 54, 5, 44, 42, 21, 4, 4, 96, 46, 42, 21, 4, 5, 96, 46, 42, 21, 4, 6, 96, 46]
abbrev dktL_law_12 : List UInt8 := dkwL_law_12 ++ dktL_law_13
def dkwL_law_11 : List UInt8 := [167, 8, 101, 43, 42, 21, 4, 4, 96, 46, 42, 21, 4, 5, 96, 46, 42, 21, 4, 6, 96, 46, 45]
abbrev dktL_law_11 : List UInt8 := dkwL_law_11 ++ dktL_law_12
def dkwL_law_10 : List UInt8 := [21, 5, 159, 0, 5, 3, 172, 21, 5, 154, 0, 15, 45, 3, 47, 21, 6, 133, 148, 153, 0, 5, 3, 172]
abbrev dktL_law_10 : List UInt8 := dkwL_law_10 ++ dktL_law_11
def dkwL_law_9 : List UInt8 := [96, 46, 42, 21, 4, 7, 96, 46, 42, 21, 4, 8, 96, 46, 182, 0, 141, 54, 6, 44, 182, 0, 132]
abbrev dktL_law_9 : List UInt8 := dkwL_law_9 ++ dktL_law_10
def dkwL_law_8 : List UInt8 := [46, 45, 184, 0, 138, 54, 5, 44, 42, 21, 4, 4, 96, 46, 42, 21, 4, 5, 96, 46, 42, 21, 4, 6]
abbrev dktL_law_8 : List UInt8 := dkwL_law_8 ++ dktL_law_9
def dkwL_law_7 : List UInt8 := [46, 42, 21, 4, 5, 96, 46, 42, 21, 4, 6, 96, 46, 42, 21, 4, 7, 96, 46, 42, 21, 4, 8, 96]
abbrev dktL_law_7 : List UInt8 := dkwL_law_7 ++ dktL_law_8
def dkwL_law_6 : List UInt8 := [154, 0, 15, 45, 3, 47, 21, 6, 133, 148, 153, 0, 5, 3, 172, 167, 8, 205, 43, 42, 21, 4, 4, 96]
abbrev dktL_law_6 : List UInt8 := dkwL_law_6 ++ dktL_law_7
def dkwL_law_5 : List UInt8 := [184, 0, 135, 54, 5, 44, 182, 0, 137, 54, 6, 44, 182, 0, 132, 21, 5, 159, 0, 5, 3, 172, 21, 5]
abbrev dktL_law_5 : List UInt8 := dkwL_law_5 ++ dktL_law_6
def dkwL_law_4 : List UInt8 := [21, 5, 154, 0, 15, 45, 3, 47, 21, 6, 133, 148, 153, 0, 5, 3, 172, 167, 8, 249, 43, 45]
abbrev dktL_law_4 : List UInt8 := dkwL_law_4 ++ dktL_law_5
def dkwL_law_3 : List UInt8 := [43, 45, 184, 0, 126, 54, 5, 44, 182, 0, 131, 54, 6, 44, 182, 0, 132, 21, 5, 159, 0, 5, 3, 172]
abbrev dktL_law_3 : List UInt8 := dkwL_law_3 ++ dktL_law_4
def dkwL_law_2 : List UInt8 := [170, 0, 0, 0, 0, 0, 9, 214, 0, 0, 0, 0, 0, 0, 0, 40, 0, 0, 0, 180, 0, 0, 0, 224, 0, 0, 1, 12, 0, 0, 1, 116, 0, 0, 1, 196, 0, 0, 2, 8, 0, 0, 2, 76, 0, 0, 2, 144, 0, 0, 2, 236, 0, 0, 3, 72, 0, 0, 3, 140, 0, 0, 3, 232, 0, 0, 3, 245, 0, 0, 4, 45, 0, 0, 4, 101, 0, 0, 4, 157, 0, 0, 4, 213, 0, 0, 5, 32, 0, 0, 5, 88, 0, 0, 5, 151, 0, 0, 5, 231, 0, 0, 6, 31, 0, 0, 6, 75, 0, 0, 6, 88, 0, 0, 6, 101, 0, 0, 6, 157, 0, 0, 6, 213, 0, 0, 7, 13, 0, 0, 7, 69, 0, 0, 7, 132, 0, 0, 7, 212, 0, 0, 8, 24, 0, 0, 8, 92, 0, 0, 8, 148, 0, 0, 8, 204, 0, 0, 9, 16, 0, 0, 9, 91, 0, 0, 9, 104, 0, 0, 9, 117, 0, 0, 9, 130, 0, 0, 9, 171]
abbrev dktL_law_2 : List UInt8 := dkwL_law_2 ++ dktL_law_3
def dkwL_law_1 : List UInt8 := [21, 4, 42, 190, 16, 6, 100, 163, 9, 230, 42, 21, 4, 46, 16, 63, 126]
abbrev dktL_law_1 : List UInt8 := dkwL_law_1 ++ dktL_law_2
def dkwL_law_0 : List UInt8 := [187, 0, 8, 89, 183, 0, 122, 76, 187, 0, 123, 89, 183, 0, 125, 77, 4, 188, 11, 78, 3, 54, 4]
abbrev dktL_law_0 : List UInt8 := dkwL_law_0 ++ dktL_law_1
theorem dksL_law_0 : cL_law.data.toList.drop 0 = dktL_law_0 := by decide +kernel
theorem dksL_law_1 : cL_law.data.toList.drop 23 = dktL_law_1 := dk_seg dksL_law_0 23 rfl rfl
theorem dksL_law_2 : cL_law.data.toList.drop 40 = dktL_law_2 := dk_seg dksL_law_1 17 rfl rfl
theorem dksL_law_3 : cL_law.data.toList.drop 220 = dktL_law_3 := dk_seg dksL_law_2 180 rfl rfl
theorem dksL_law_4 : cL_law.data.toList.drop 244 = dktL_law_4 := dk_seg dksL_law_3 24 rfl rfl
theorem dksL_law_5 : cL_law.data.toList.drop 266 = dktL_law_5 := dk_seg dksL_law_4 22 rfl rfl
theorem dksL_law_6 : cL_law.data.toList.drop 290 = dktL_law_6 := dk_seg dksL_law_5 24 rfl rfl
theorem dksL_law_7 : cL_law.data.toList.drop 314 = dktL_law_7 := dk_seg dksL_law_6 24 rfl rfl
theorem dksL_law_8 : cL_law.data.toList.drop 338 = dktL_law_8 := dk_seg dksL_law_7 24 rfl rfl
theorem dksL_law_9 : cL_law.data.toList.drop 362 = dktL_law_9 := dk_seg dksL_law_8 24 rfl rfl
theorem dksL_law_10 : cL_law.data.toList.drop 385 = dktL_law_10 := dk_seg dksL_law_9 23 rfl rfl
theorem dksL_law_11 : cL_law.data.toList.drop 409 = dktL_law_11 := dk_seg dksL_law_10 24 rfl rfl
theorem dksL_law_12 : cL_law.data.toList.drop 432 = dktL_law_12 := dk_seg dksL_law_11 23 rfl rfl
theorem dksL_law_13 : cL_law.data.toList.drop 456 = dktL_law_13 := dk_seg dksL_law_12 24 rfl rfl
theorem dksL_law_14 : cL_law.data.toList.drop 480 = dktL_law_14 := dk_seg dksL_law_13 24 rfl rfl
theorem dksL_law_15 : cL_law.data.toList.drop 504 = dktL_law_15 := dk_seg dksL_law_14 24 rfl rfl
theorem dksL_law_16 : cL_law.data.toList.drop 527 = dktL_law_16 := dk_seg dksL_law_15 23 rfl rfl
theorem dksL_law_17 : cL_law.data.toList.drop 551 = dktL_law_17 := dk_seg dksL_law_16 24 rfl rfl
theorem dksL_law_18 : cL_law.data.toList.drop 574 = dktL_law_18 := dk_seg dksL_law_17 23 rfl rfl
theorem dksL_law_19 : cL_law.data.toList.drop 598 = dktL_law_19 := dk_seg dksL_law_18 24 rfl rfl
theorem dksL_law_20 : cL_law.data.toList.drop 620 = dktL_law_20 := dk_seg dksL_law_19 22 rfl rfl
theorem dksL_law_21 : cL_law.data.toList.drop 642 = dktL_law_21 := dk_seg dksL_law_20 22 rfl rfl
theorem dksL_law_22 : cL_law.data.toList.drop 666 = dktL_law_22 := dk_seg dksL_law_21 24 rfl rfl
theorem dksL_law_23 : cL_law.data.toList.drop 688 = dktL_law_23 := dk_seg dksL_law_22 22 rfl rfl
theorem dksL_law_24 : cL_law.data.toList.drop 712 = dktL_law_24 := dk_seg dksL_law_23 24 rfl rfl
theorem dksL_law_25 : cL_law.data.toList.drop 735 = dktL_law_25 := dk_seg dksL_law_24 23 rfl rfl
theorem dksL_law_26 : cL_law.data.toList.drop 758 = dktL_law_26 := dk_seg dksL_law_25 23 rfl rfl
theorem dksL_law_27 : cL_law.data.toList.drop 780 = dktL_law_27 := dk_seg dksL_law_26 22 rfl rfl
theorem dksL_law_28 : cL_law.data.toList.drop 804 = dktL_law_28 := dk_seg dksL_law_27 24 rfl rfl
theorem dksL_law_29 : cL_law.data.toList.drop 827 = dktL_law_29 := dk_seg dksL_law_28 23 rfl rfl
theorem dksL_law_30 : cL_law.data.toList.drop 850 = dktL_law_30 := dk_seg dksL_law_29 23 rfl rfl
theorem dksL_law_31 : cL_law.data.toList.drop 872 = dktL_law_31 := dk_seg dksL_law_30 22 rfl rfl
theorem dksL_law_32 : cL_law.data.toList.drop 894 = dktL_law_32 := dk_seg dksL_law_31 22 rfl rfl
theorem dksL_law_33 : cL_law.data.toList.drop 918 = dktL_law_33 := dk_seg dksL_law_32 24 rfl rfl
theorem dksL_law_34 : cL_law.data.toList.drop 940 = dktL_law_34 := dk_seg dksL_law_33 22 rfl rfl
theorem dksL_law_35 : cL_law.data.toList.drop 964 = dktL_law_35 := dk_seg dksL_law_34 24 rfl rfl
theorem dksL_law_36 : cL_law.data.toList.drop 987 = dktL_law_36 := dk_seg dksL_law_35 23 rfl rfl
theorem dksL_law_37 : cL_law.data.toList.drop 1010 = dktL_law_37 := dk_seg dksL_law_36 23 rfl rfl
theorem dksL_law_38 : cL_law.data.toList.drop 1032 = dktL_law_38 := dk_seg dksL_law_37 22 rfl rfl
theorem dksL_law_39 : cL_law.data.toList.drop 1055 = dktL_law_39 := dk_seg dksL_law_38 23 rfl rfl
theorem dksL_law_40 : cL_law.data.toList.drop 1079 = dktL_law_40 := dk_seg dksL_law_39 24 rfl rfl
theorem dksL_law_41 : cL_law.data.toList.drop 1101 = dktL_law_41 := dk_seg dksL_law_40 22 rfl rfl
theorem dksL_law_42 : cL_law.data.toList.drop 1124 = dktL_law_42 := dk_seg dksL_law_41 23 rfl rfl
theorem dksL_law_43 : cL_law.data.toList.drop 1147 = dktL_law_43 := dk_seg dksL_law_42 23 rfl rfl
theorem dksL_law_44 : cL_law.data.toList.drop 1171 = dktL_law_44 := dk_seg dksL_law_43 24 rfl rfl
theorem dksL_law_45 : cL_law.data.toList.drop 1194 = dktL_law_45 := dk_seg dksL_law_44 23 rfl rfl
theorem dksL_law_46 : cL_law.data.toList.drop 1218 = dktL_law_46 := dk_seg dksL_law_45 24 rfl rfl
theorem dksL_law_47 : cL_law.data.toList.drop 1241 = dktL_law_47 := dk_seg dksL_law_46 23 rfl rfl
theorem dksL_law_48 : cL_law.data.toList.drop 1265 = dktL_law_48 := dk_seg dksL_law_47 24 rfl rfl
theorem dksL_law_49 : cL_law.data.toList.drop 1289 = dktL_law_49 := dk_seg dksL_law_48 24 rfl rfl
theorem dksL_law_50 : cL_law.data.toList.drop 1312 = dktL_law_50 := dk_seg dksL_law_49 23 rfl rfl
theorem dksL_law_51 : cL_law.data.toList.drop 1335 = dktL_law_51 := dk_seg dksL_law_50 23 rfl rfl
theorem dksL_law_52 : cL_law.data.toList.drop 1359 = dktL_law_52 := dk_seg dksL_law_51 24 rfl rfl
theorem dksL_law_53 : cL_law.data.toList.drop 1383 = dktL_law_53 := dk_seg dksL_law_52 24 rfl rfl
theorem dksL_law_54 : cL_law.data.toList.drop 1405 = dktL_law_54 := dk_seg dksL_law_53 22 rfl rfl
theorem dksL_law_55 : cL_law.data.toList.drop 1428 = dktL_law_55 := dk_seg dksL_law_54 23 rfl rfl
theorem dksL_law_56 : cL_law.data.toList.drop 1452 = dktL_law_56 := dk_seg dksL_law_55 24 rfl rfl
theorem dksL_law_57 : cL_law.data.toList.drop 1476 = dktL_law_57 := dk_seg dksL_law_56 24 rfl rfl
theorem dksL_law_58 : cL_law.data.toList.drop 1500 = dktL_law_58 := dk_seg dksL_law_57 24 rfl rfl
theorem dksL_law_59 : cL_law.data.toList.drop 1524 = dktL_law_59 := dk_seg dksL_law_58 24 rfl rfl
theorem dksL_law_60 : cL_law.data.toList.drop 1548 = dktL_law_60 := dk_seg dksL_law_59 24 rfl rfl
theorem dksL_law_61 : cL_law.data.toList.drop 1571 = dktL_law_61 := dk_seg dksL_law_60 23 rfl rfl
theorem dksL_law_62 : cL_law.data.toList.drop 1595 = dktL_law_62 := dk_seg dksL_law_61 24 rfl rfl
theorem dksL_law_63 : cL_law.data.toList.drop 1618 = dktL_law_63 := dk_seg dksL_law_62 23 rfl rfl
theorem dksL_law_64 : cL_law.data.toList.drop 1642 = dktL_law_64 := dk_seg dksL_law_63 24 rfl rfl
theorem dksL_law_65 : cL_law.data.toList.drop 1665 = dktL_law_65 := dk_seg dksL_law_64 23 rfl rfl
theorem dksL_law_66 : cL_law.data.toList.drop 1688 = dktL_law_66 := dk_seg dksL_law_65 23 rfl rfl
theorem dksL_law_67 : cL_law.data.toList.drop 1712 = dktL_law_67 := dk_seg dksL_law_66 24 rfl rfl
theorem dksL_law_68 : cL_law.data.toList.drop 1735 = dktL_law_68 := dk_seg dksL_law_67 23 rfl rfl
theorem dksL_law_69 : cL_law.data.toList.drop 1759 = dktL_law_69 := dk_seg dksL_law_68 24 rfl rfl
theorem dksL_law_70 : cL_law.data.toList.drop 1781 = dktL_law_70 := dk_seg dksL_law_69 22 rfl rfl
theorem dksL_law_71 : cL_law.data.toList.drop 1804 = dktL_law_71 := dk_seg dksL_law_70 23 rfl rfl
theorem dksL_law_72 : cL_law.data.toList.drop 1827 = dktL_law_72 := dk_seg dksL_law_71 23 rfl rfl
theorem dksL_law_73 : cL_law.data.toList.drop 1851 = dktL_law_73 := dk_seg dksL_law_72 24 rfl rfl
theorem dksL_law_74 : cL_law.data.toList.drop 1874 = dktL_law_74 := dk_seg dksL_law_73 23 rfl rfl
theorem dksL_law_75 : cL_law.data.toList.drop 1898 = dktL_law_75 := dk_seg dksL_law_74 24 rfl rfl
theorem dksL_law_76 : cL_law.data.toList.drop 1921 = dktL_law_76 := dk_seg dksL_law_75 23 rfl rfl
theorem dksL_law_77 : cL_law.data.toList.drop 1945 = dktL_law_77 := dk_seg dksL_law_76 24 rfl rfl
theorem dksL_law_78 : cL_law.data.toList.drop 1969 = dktL_law_78 := dk_seg dksL_law_77 24 rfl rfl
theorem dksL_law_79 : cL_law.data.toList.drop 1993 = dktL_law_79 := dk_seg dksL_law_78 24 rfl rfl
theorem dksL_law_80 : cL_law.data.toList.drop 2017 = dktL_law_80 := dk_seg dksL_law_79 24 rfl rfl
theorem dksL_law_81 : cL_law.data.toList.drop 2041 = dktL_law_81 := dk_seg dksL_law_80 24 rfl rfl
theorem dksL_law_82 : cL_law.data.toList.drop 2065 = dktL_law_82 := dk_seg dksL_law_81 24 rfl rfl
theorem dksL_law_83 : cL_law.data.toList.drop 2087 = dktL_law_83 := dk_seg dksL_law_82 22 rfl rfl
theorem dksL_law_84 : cL_law.data.toList.drop 2109 = dktL_law_84 := dk_seg dksL_law_83 22 rfl rfl
theorem dksL_law_85 : cL_law.data.toList.drop 2133 = dktL_law_85 := dk_seg dksL_law_84 24 rfl rfl
theorem dksL_law_86 : cL_law.data.toList.drop 2155 = dktL_law_86 := dk_seg dksL_law_85 22 rfl rfl
theorem dksL_law_87 : cL_law.data.toList.drop 2177 = dktL_law_87 := dk_seg dksL_law_86 22 rfl rfl
theorem dksL_law_88 : cL_law.data.toList.drop 2200 = dktL_law_88 := dk_seg dksL_law_87 23 rfl rfl
theorem dksL_law_89 : cL_law.data.toList.drop 2224 = dktL_law_89 := dk_seg dksL_law_88 24 rfl rfl
theorem dksL_law_90 : cL_law.data.toList.drop 2247 = dktL_law_90 := dk_seg dksL_law_89 23 rfl rfl
theorem dksL_law_91 : cL_law.data.toList.drop 2271 = dktL_law_91 := dk_seg dksL_law_90 24 rfl rfl
theorem dksL_law_92 : cL_law.data.toList.drop 2294 = dktL_law_92 := dk_seg dksL_law_91 23 rfl rfl
theorem dksL_law_93 : cL_law.data.toList.drop 2318 = dktL_law_93 := dk_seg dksL_law_92 24 rfl rfl
theorem dksL_law_94 : cL_law.data.toList.drop 2342 = dktL_law_94 := dk_seg dksL_law_93 24 rfl rfl
theorem dksL_law_95 : cL_law.data.toList.drop 2366 = dktL_law_95 := dk_seg dksL_law_94 24 rfl rfl
theorem dksL_law_96 : cL_law.data.toList.drop 2390 = dktL_law_96 := dk_seg dksL_law_95 24 rfl rfl
theorem dksL_law_97 : cL_law.data.toList.drop 2414 = dktL_law_97 := dk_seg dksL_law_96 24 rfl rfl
theorem dksL_law_98 : cL_law.data.toList.drop 2436 = dktL_law_98 := dk_seg dksL_law_97 22 rfl rfl
theorem dksL_law_99 : cL_law.data.toList.drop 2460 = dktL_law_99 := dk_seg dksL_law_98 24 rfl rfl
theorem dksL_law_100 : cL_law.data.toList.drop 2484 = dktL_law_100 := dk_seg dksL_law_99 24 rfl rfl
theorem dksL_law_101 : cL_law.data.toList.drop 2507 = dktL_law_101 := dk_seg dksL_law_100 23 rfl rfl
theorem dksL_law_102 : cL_law.data.toList.drop 2531 = dktL_law_102 := dk_seg dksL_law_101 24 rfl rfl
theorem dksL_law_103 : cL_law.data.toList.drop 2555 = dktL_law_103 := dk_seg dksL_law_102 24 rfl rfl
theorem dL_law_0 : decode cL_law 0 = .ok (.new 8, 3) := dk_187 0 8 (dk_at dksL_law_0 0 rfl rfl)
theorem dL_law_3 : decode cL_law 3 = .ok (.dup, 1) := dk_89 (dk_at dksL_law_0 3 rfl rfl)
theorem dL_law_4 : decode cL_law 4 = .ok (.invokespecial 122, 3) := dk_183 0 122 (dk_at dksL_law_0 4 rfl rfl)
theorem dL_law_7 : decode cL_law 7 = .ok (.astore_n 1, 1) := dk_76 (dk_at dksL_law_0 7 rfl rfl)
theorem dL_law_8 : decode cL_law 8 = .ok (.new 123, 3) := dk_187 0 123 (dk_at dksL_law_0 8 rfl rfl)
theorem dL_law_11 : decode cL_law 11 = .ok (.dup, 1) := dk_89 (dk_at dksL_law_0 11 rfl rfl)
theorem dL_law_12 : decode cL_law 12 = .ok (.invokespecial 125, 3) := dk_183 0 125 (dk_at dksL_law_0 12 rfl rfl)
theorem dL_law_15 : decode cL_law 15 = .ok (.astore_n 2, 1) := dk_77 (dk_at dksL_law_0 15 rfl rfl)
theorem dL_law_16 : decode cL_law 16 = .ok (.iconst 1, 1) := dk_4 (dk_at dksL_law_0 16 rfl rfl)
theorem dL_law_17 : decode cL_law 17 = .ok (.newarray .long, 2) := dk_188_11 (dk_at dksL_law_0 17 rfl rfl)
theorem dL_law_19 : decode cL_law 19 = .ok (.astore_n 3, 1) := dk_78 (dk_at dksL_law_0 19 rfl rfl)
theorem dL_law_20 : decode cL_law 20 = .ok (.iconst 0, 1) := dk_3 (dk_at dksL_law_0 20 rfl rfl)
theorem dL_law_21 : decode cL_law 21 = .ok (.istore 4, 2) := dk_54 4 (dk_at dksL_law_0 21 rfl rfl)
theorem dL_law_23 : decode cL_law 23 = .ok (.iload 4, 2) := dk_21 4 (dk_at dksL_law_1 0 rfl rfl)
theorem dL_law_25 : decode cL_law 25 = .ok (.aload_n 0, 1) := dk_42 (dk_at dksL_law_1 2 rfl rfl)
theorem dL_law_26 : decode cL_law 26 = .ok (.arraylength, 1) := dk_190 (dk_at dksL_law_1 3 rfl rfl)
theorem dL_law_27 : decode cL_law 27 = .ok (.bipush 6, 2) := dk_16 6 (dk_at dksL_law_1 4 rfl rfl)
theorem dL_law_29 : decode cL_law 29 = .ok (.isub, 1) := dk_100 (dk_at dksL_law_1 6 rfl rfl)
theorem dL_law_30 : decode cL_law 30 = .ok (.if_icmp .gt 2534, 3) := dk_163 9 230 (dk_at dksL_law_1 7 rfl rfl)
theorem dL_law_33 : decode cL_law 33 = .ok (.aload_n 0, 1) := dk_42 (dk_at dksL_law_1 10 rfl rfl)
theorem dL_law_34 : decode cL_law 34 = .ok (.iload 4, 2) := dk_21 4 (dk_at dksL_law_1 11 rfl rfl)
theorem dL_law_36 : decode cL_law 36 = .ok (.iaload, 1) := dk_46 (dk_at dksL_law_1 13 rfl rfl)
theorem dL_law_37 : decode cL_law 37 = .ok (.bipush 63, 2) := dk_16 63 (dk_at dksL_law_1 14 rfl rfl)
theorem dL_law_39 : decode cL_law 39 = .ok (.iand, 1) := dk_126 (dk_at dksL_law_1 16 rfl rfl)
theorem dL_law_40 : decode cL_law 40 = .ok (.tableswitch 2518 0 40 #[180, 224, 268, 372, 452, 520, 588, 656, 748, 840, 908, 1000, 1013, 1069, 1125, 1181, 1237, 1312, 1368, 1431, 1511, 1567, 1611, 1624, 1637, 1693, 1749, 1805, 1861, 1924, 2004, 2072, 2140, 2196, 2252, 2320, 2395, 2408, 2421, 2434, 2475], 180) := by decide +kernel
theorem dL_law_220 : decode cL_law 220 = .ok (.aload_n 1, 1) := dk_43 (dk_at dksL_law_3 0 rfl rfl)
theorem dL_law_221 : decode cL_law 221 = .ok (.aload_n 3, 1) := dk_45 (dk_at dksL_law_3 1 rfl rfl)
theorem dL_law_222 : decode cL_law 222 = .ok (.invokestatic 126, 3) := dk_184 0 126 (dk_at dksL_law_3 2 rfl rfl)
theorem dL_law_225 : decode cL_law 225 = .ok (.istore 5, 2) := dk_54 5 (dk_at dksL_law_3 5 rfl rfl)
theorem dL_law_227 : decode cL_law 227 = .ok (.aload_n 2, 1) := dk_44 (dk_at dksL_law_3 7 rfl rfl)
theorem dL_law_228 : decode cL_law 228 = .ok (.invokevirtual 131, 3) := dk_182 0 131 (dk_at dksL_law_3 8 rfl rfl)
theorem dL_law_231 : decode cL_law 231 = .ok (.istore 6, 2) := dk_54 6 (dk_at dksL_law_3 11 rfl rfl)
theorem dL_law_233 : decode cL_law 233 = .ok (.aload_n 2, 1) := dk_44 (dk_at dksL_law_3 13 rfl rfl)
theorem dL_law_234 : decode cL_law 234 = .ok (.invokevirtual 132, 3) := dk_182 0 132 (dk_at dksL_law_3 14 rfl rfl)
theorem dL_law_237 : decode cL_law 237 = .ok (.iload 5, 2) := dk_21 5 (dk_at dksL_law_3 17 rfl rfl)
theorem dL_law_239 : decode cL_law 239 = .ok (.if_icmp .eq 5, 3) := dk_159 0 5 (dk_at dksL_law_3 19 rfl rfl)
theorem dL_law_242 : decode cL_law 242 = .ok (.iconst 0, 1) := dk_3 (dk_at dksL_law_3 22 rfl rfl)
theorem dL_law_243 : decode cL_law 243 = .ok (.ireturn, 1) := dk_172 (dk_at dksL_law_3 23 rfl rfl)
theorem dL_law_244 : decode cL_law 244 = .ok (.iload 5, 2) := dk_21 5 (dk_at dksL_law_4 0 rfl rfl)
theorem dL_law_246 : decode cL_law 246 = .ok (.ifCond .ne 15, 3) := dk_154 0 15 (dk_at dksL_law_4 2 rfl rfl)
theorem dL_law_249 : decode cL_law 249 = .ok (.aload_n 3, 1) := dk_45 (dk_at dksL_law_4 5 rfl rfl)
theorem dL_law_250 : decode cL_law 250 = .ok (.iconst 0, 1) := dk_3 (dk_at dksL_law_4 6 rfl rfl)
theorem dL_law_251 : decode cL_law 251 = .ok (.laload, 1) := dk_47 (dk_at dksL_law_4 7 rfl rfl)
theorem dL_law_252 : decode cL_law 252 = .ok (.iload 6, 2) := dk_21 6 (dk_at dksL_law_4 8 rfl rfl)
theorem dL_law_254 : decode cL_law 254 = .ok (.i2l, 1) := dk_133 (dk_at dksL_law_4 10 rfl rfl)
theorem dL_law_255 : decode cL_law 255 = .ok (.lcmp, 1) := dk_148 (dk_at dksL_law_4 11 rfl rfl)
theorem dL_law_256 : decode cL_law 256 = .ok (.ifCond .eq 5, 3) := dk_153 0 5 (dk_at dksL_law_4 12 rfl rfl)
theorem dL_law_259 : decode cL_law 259 = .ok (.iconst 0, 1) := dk_3 (dk_at dksL_law_4 15 rfl rfl)
theorem dL_law_260 : decode cL_law 260 = .ok (.ireturn, 1) := dk_172 (dk_at dksL_law_4 16 rfl rfl)
theorem dL_law_261 : decode cL_law 261 = .ok (.goto 2297, 3) := dk_167 8 249 (dk_at dksL_law_4 17 rfl rfl)
theorem dL_law_264 : decode cL_law 264 = .ok (.aload_n 1, 1) := dk_43 (dk_at dksL_law_4 20 rfl rfl)
theorem dL_law_265 : decode cL_law 265 = .ok (.aload_n 3, 1) := dk_45 (dk_at dksL_law_4 21 rfl rfl)
theorem dL_law_266 : decode cL_law 266 = .ok (.invokestatic 135, 3) := dk_184 0 135 (dk_at dksL_law_5 0 rfl rfl)
theorem dL_law_269 : decode cL_law 269 = .ok (.istore 5, 2) := dk_54 5 (dk_at dksL_law_5 3 rfl rfl)
theorem dL_law_271 : decode cL_law 271 = .ok (.aload_n 2, 1) := dk_44 (dk_at dksL_law_5 5 rfl rfl)
theorem dL_law_272 : decode cL_law 272 = .ok (.invokevirtual 137, 3) := dk_182 0 137 (dk_at dksL_law_5 6 rfl rfl)
theorem dL_law_275 : decode cL_law 275 = .ok (.istore 6, 2) := dk_54 6 (dk_at dksL_law_5 9 rfl rfl)
theorem dL_law_277 : decode cL_law 277 = .ok (.aload_n 2, 1) := dk_44 (dk_at dksL_law_5 11 rfl rfl)
theorem dL_law_278 : decode cL_law 278 = .ok (.invokevirtual 132, 3) := dk_182 0 132 (dk_at dksL_law_5 12 rfl rfl)
theorem dL_law_281 : decode cL_law 281 = .ok (.iload 5, 2) := dk_21 5 (dk_at dksL_law_5 15 rfl rfl)
theorem dL_law_283 : decode cL_law 283 = .ok (.if_icmp .eq 5, 3) := dk_159 0 5 (dk_at dksL_law_5 17 rfl rfl)
theorem dL_law_286 : decode cL_law 286 = .ok (.iconst 0, 1) := dk_3 (dk_at dksL_law_5 20 rfl rfl)
theorem dL_law_287 : decode cL_law 287 = .ok (.ireturn, 1) := dk_172 (dk_at dksL_law_5 21 rfl rfl)
theorem dL_law_288 : decode cL_law 288 = .ok (.iload 5, 2) := dk_21 5 (dk_at dksL_law_5 22 rfl rfl)
theorem dL_law_290 : decode cL_law 290 = .ok (.ifCond .ne 15, 3) := dk_154 0 15 (dk_at dksL_law_6 0 rfl rfl)
theorem dL_law_293 : decode cL_law 293 = .ok (.aload_n 3, 1) := dk_45 (dk_at dksL_law_6 3 rfl rfl)
theorem dL_law_294 : decode cL_law 294 = .ok (.iconst 0, 1) := dk_3 (dk_at dksL_law_6 4 rfl rfl)
theorem dL_law_295 : decode cL_law 295 = .ok (.laload, 1) := dk_47 (dk_at dksL_law_6 5 rfl rfl)
theorem dL_law_296 : decode cL_law 296 = .ok (.iload 6, 2) := dk_21 6 (dk_at dksL_law_6 6 rfl rfl)
theorem dL_law_298 : decode cL_law 298 = .ok (.i2l, 1) := dk_133 (dk_at dksL_law_6 8 rfl rfl)
theorem dL_law_299 : decode cL_law 299 = .ok (.lcmp, 1) := dk_148 (dk_at dksL_law_6 9 rfl rfl)
theorem dL_law_300 : decode cL_law 300 = .ok (.ifCond .eq 5, 3) := dk_153 0 5 (dk_at dksL_law_6 10 rfl rfl)
theorem dL_law_303 : decode cL_law 303 = .ok (.iconst 0, 1) := dk_3 (dk_at dksL_law_6 13 rfl rfl)
theorem dL_law_304 : decode cL_law 304 = .ok (.ireturn, 1) := dk_172 (dk_at dksL_law_6 14 rfl rfl)
theorem dL_law_305 : decode cL_law 305 = .ok (.goto 2253, 3) := dk_167 8 205 (dk_at dksL_law_6 15 rfl rfl)
theorem dL_law_308 : decode cL_law 308 = .ok (.aload_n 1, 1) := dk_43 (dk_at dksL_law_6 18 rfl rfl)
theorem dL_law_309 : decode cL_law 309 = .ok (.aload_n 0, 1) := dk_42 (dk_at dksL_law_6 19 rfl rfl)
theorem dL_law_310 : decode cL_law 310 = .ok (.iload 4, 2) := dk_21 4 (dk_at dksL_law_6 20 rfl rfl)
theorem dL_law_312 : decode cL_law 312 = .ok (.iconst 1, 1) := dk_4 (dk_at dksL_law_6 22 rfl rfl)
theorem dL_law_313 : decode cL_law 313 = .ok (.iadd, 1) := dk_96 (dk_at dksL_law_6 23 rfl rfl)
theorem dL_law_314 : decode cL_law 314 = .ok (.iaload, 1) := dk_46 (dk_at dksL_law_7 0 rfl rfl)
theorem dL_law_315 : decode cL_law 315 = .ok (.aload_n 0, 1) := dk_42 (dk_at dksL_law_7 1 rfl rfl)
theorem dL_law_316 : decode cL_law 316 = .ok (.iload 4, 2) := dk_21 4 (dk_at dksL_law_7 2 rfl rfl)
theorem dL_law_318 : decode cL_law 318 = .ok (.iconst 2, 1) := dk_5 (dk_at dksL_law_7 4 rfl rfl)
theorem dL_law_319 : decode cL_law 319 = .ok (.iadd, 1) := dk_96 (dk_at dksL_law_7 5 rfl rfl)
theorem dL_law_320 : decode cL_law 320 = .ok (.iaload, 1) := dk_46 (dk_at dksL_law_7 6 rfl rfl)
theorem dL_law_321 : decode cL_law 321 = .ok (.aload_n 0, 1) := dk_42 (dk_at dksL_law_7 7 rfl rfl)
theorem dL_law_322 : decode cL_law 322 = .ok (.iload 4, 2) := dk_21 4 (dk_at dksL_law_7 8 rfl rfl)
theorem dL_law_324 : decode cL_law 324 = .ok (.iconst 3, 1) := dk_6 (dk_at dksL_law_7 10 rfl rfl)
theorem dL_law_325 : decode cL_law 325 = .ok (.iadd, 1) := dk_96 (dk_at dksL_law_7 11 rfl rfl)
theorem dL_law_326 : decode cL_law 326 = .ok (.iaload, 1) := dk_46 (dk_at dksL_law_7 12 rfl rfl)
theorem dL_law_327 : decode cL_law 327 = .ok (.aload_n 0, 1) := dk_42 (dk_at dksL_law_7 13 rfl rfl)
theorem dL_law_328 : decode cL_law 328 = .ok (.iload 4, 2) := dk_21 4 (dk_at dksL_law_7 14 rfl rfl)
theorem dL_law_330 : decode cL_law 330 = .ok (.iconst 4, 1) := dk_7 (dk_at dksL_law_7 16 rfl rfl)
theorem dL_law_331 : decode cL_law 331 = .ok (.iadd, 1) := dk_96 (dk_at dksL_law_7 17 rfl rfl)
theorem dL_law_332 : decode cL_law 332 = .ok (.iaload, 1) := dk_46 (dk_at dksL_law_7 18 rfl rfl)
theorem dL_law_333 : decode cL_law 333 = .ok (.aload_n 0, 1) := dk_42 (dk_at dksL_law_7 19 rfl rfl)
theorem dL_law_334 : decode cL_law 334 = .ok (.iload 4, 2) := dk_21 4 (dk_at dksL_law_7 20 rfl rfl)
theorem dL_law_336 : decode cL_law 336 = .ok (.iconst 5, 1) := dk_8 (dk_at dksL_law_7 22 rfl rfl)
theorem dL_law_337 : decode cL_law 337 = .ok (.iadd, 1) := dk_96 (dk_at dksL_law_7 23 rfl rfl)
theorem dL_law_338 : decode cL_law 338 = .ok (.iaload, 1) := dk_46 (dk_at dksL_law_8 0 rfl rfl)
theorem dL_law_339 : decode cL_law 339 = .ok (.aload_n 3, 1) := dk_45 (dk_at dksL_law_8 1 rfl rfl)
theorem dL_law_340 : decode cL_law 340 = .ok (.invokestatic 138, 3) := dk_184 0 138 (dk_at dksL_law_8 2 rfl rfl)
theorem dL_law_343 : decode cL_law 343 = .ok (.istore 5, 2) := dk_54 5 (dk_at dksL_law_8 5 rfl rfl)
theorem dL_law_345 : decode cL_law 345 = .ok (.aload_n 2, 1) := dk_44 (dk_at dksL_law_8 7 rfl rfl)
theorem dL_law_346 : decode cL_law 346 = .ok (.aload_n 0, 1) := dk_42 (dk_at dksL_law_8 8 rfl rfl)
theorem dL_law_347 : decode cL_law 347 = .ok (.iload 4, 2) := dk_21 4 (dk_at dksL_law_8 9 rfl rfl)
theorem dL_law_349 : decode cL_law 349 = .ok (.iconst 1, 1) := dk_4 (dk_at dksL_law_8 11 rfl rfl)
theorem dL_law_350 : decode cL_law 350 = .ok (.iadd, 1) := dk_96 (dk_at dksL_law_8 12 rfl rfl)
theorem dL_law_351 : decode cL_law 351 = .ok (.iaload, 1) := dk_46 (dk_at dksL_law_8 13 rfl rfl)
theorem dL_law_352 : decode cL_law 352 = .ok (.aload_n 0, 1) := dk_42 (dk_at dksL_law_8 14 rfl rfl)
theorem dL_law_353 : decode cL_law 353 = .ok (.iload 4, 2) := dk_21 4 (dk_at dksL_law_8 15 rfl rfl)
theorem dL_law_355 : decode cL_law 355 = .ok (.iconst 2, 1) := dk_5 (dk_at dksL_law_8 17 rfl rfl)
theorem dL_law_356 : decode cL_law 356 = .ok (.iadd, 1) := dk_96 (dk_at dksL_law_8 18 rfl rfl)
theorem dL_law_357 : decode cL_law 357 = .ok (.iaload, 1) := dk_46 (dk_at dksL_law_8 19 rfl rfl)
theorem dL_law_358 : decode cL_law 358 = .ok (.aload_n 0, 1) := dk_42 (dk_at dksL_law_8 20 rfl rfl)
theorem dL_law_359 : decode cL_law 359 = .ok (.iload 4, 2) := dk_21 4 (dk_at dksL_law_8 21 rfl rfl)
theorem dL_law_361 : decode cL_law 361 = .ok (.iconst 3, 1) := dk_6 (dk_at dksL_law_8 23 rfl rfl)
theorem dL_law_362 : decode cL_law 362 = .ok (.iadd, 1) := dk_96 (dk_at dksL_law_9 0 rfl rfl)
theorem dL_law_363 : decode cL_law 363 = .ok (.iaload, 1) := dk_46 (dk_at dksL_law_9 1 rfl rfl)
theorem dL_law_364 : decode cL_law 364 = .ok (.aload_n 0, 1) := dk_42 (dk_at dksL_law_9 2 rfl rfl)
theorem dL_law_365 : decode cL_law 365 = .ok (.iload 4, 2) := dk_21 4 (dk_at dksL_law_9 3 rfl rfl)
theorem dL_law_367 : decode cL_law 367 = .ok (.iconst 4, 1) := dk_7 (dk_at dksL_law_9 5 rfl rfl)
theorem dL_law_368 : decode cL_law 368 = .ok (.iadd, 1) := dk_96 (dk_at dksL_law_9 6 rfl rfl)
theorem dL_law_369 : decode cL_law 369 = .ok (.iaload, 1) := dk_46 (dk_at dksL_law_9 7 rfl rfl)
theorem dL_law_370 : decode cL_law 370 = .ok (.aload_n 0, 1) := dk_42 (dk_at dksL_law_9 8 rfl rfl)
theorem dL_law_371 : decode cL_law 371 = .ok (.iload 4, 2) := dk_21 4 (dk_at dksL_law_9 9 rfl rfl)
theorem dL_law_373 : decode cL_law 373 = .ok (.iconst 5, 1) := dk_8 (dk_at dksL_law_9 11 rfl rfl)
theorem dL_law_374 : decode cL_law 374 = .ok (.iadd, 1) := dk_96 (dk_at dksL_law_9 12 rfl rfl)
theorem dL_law_375 : decode cL_law 375 = .ok (.iaload, 1) := dk_46 (dk_at dksL_law_9 13 rfl rfl)
theorem dL_law_376 : decode cL_law 376 = .ok (.invokevirtual 141, 3) := dk_182 0 141 (dk_at dksL_law_9 14 rfl rfl)
theorem dL_law_379 : decode cL_law 379 = .ok (.istore 6, 2) := dk_54 6 (dk_at dksL_law_9 17 rfl rfl)
theorem dL_law_381 : decode cL_law 381 = .ok (.aload_n 2, 1) := dk_44 (dk_at dksL_law_9 19 rfl rfl)
theorem dL_law_382 : decode cL_law 382 = .ok (.invokevirtual 132, 3) := dk_182 0 132 (dk_at dksL_law_9 20 rfl rfl)
theorem dL_law_385 : decode cL_law 385 = .ok (.iload 5, 2) := dk_21 5 (dk_at dksL_law_10 0 rfl rfl)
theorem dL_law_387 : decode cL_law 387 = .ok (.if_icmp .eq 5, 3) := dk_159 0 5 (dk_at dksL_law_10 2 rfl rfl)
theorem dL_law_390 : decode cL_law 390 = .ok (.iconst 0, 1) := dk_3 (dk_at dksL_law_10 5 rfl rfl)
theorem dL_law_391 : decode cL_law 391 = .ok (.ireturn, 1) := dk_172 (dk_at dksL_law_10 6 rfl rfl)
theorem dL_law_392 : decode cL_law 392 = .ok (.iload 5, 2) := dk_21 5 (dk_at dksL_law_10 7 rfl rfl)
theorem dL_law_394 : decode cL_law 394 = .ok (.ifCond .ne 15, 3) := dk_154 0 15 (dk_at dksL_law_10 9 rfl rfl)
theorem dL_law_397 : decode cL_law 397 = .ok (.aload_n 3, 1) := dk_45 (dk_at dksL_law_10 12 rfl rfl)
theorem dL_law_398 : decode cL_law 398 = .ok (.iconst 0, 1) := dk_3 (dk_at dksL_law_10 13 rfl rfl)
theorem dL_law_399 : decode cL_law 399 = .ok (.laload, 1) := dk_47 (dk_at dksL_law_10 14 rfl rfl)
theorem dL_law_400 : decode cL_law 400 = .ok (.iload 6, 2) := dk_21 6 (dk_at dksL_law_10 15 rfl rfl)
theorem dL_law_402 : decode cL_law 402 = .ok (.i2l, 1) := dk_133 (dk_at dksL_law_10 17 rfl rfl)
theorem dL_law_403 : decode cL_law 403 = .ok (.lcmp, 1) := dk_148 (dk_at dksL_law_10 18 rfl rfl)
theorem dL_law_404 : decode cL_law 404 = .ok (.ifCond .eq 5, 3) := dk_153 0 5 (dk_at dksL_law_10 19 rfl rfl)
theorem dL_law_407 : decode cL_law 407 = .ok (.iconst 0, 1) := dk_3 (dk_at dksL_law_10 22 rfl rfl)
theorem dL_law_408 : decode cL_law 408 = .ok (.ireturn, 1) := dk_172 (dk_at dksL_law_10 23 rfl rfl)
theorem dL_law_409 : decode cL_law 409 = .ok (.goto 2149, 3) := dk_167 8 101 (dk_at dksL_law_11 0 rfl rfl)
theorem dL_law_412 : decode cL_law 412 = .ok (.aload_n 1, 1) := dk_43 (dk_at dksL_law_11 3 rfl rfl)
theorem dL_law_413 : decode cL_law 413 = .ok (.aload_n 0, 1) := dk_42 (dk_at dksL_law_11 4 rfl rfl)
theorem dL_law_414 : decode cL_law 414 = .ok (.iload 4, 2) := dk_21 4 (dk_at dksL_law_11 5 rfl rfl)
theorem dL_law_416 : decode cL_law 416 = .ok (.iconst 1, 1) := dk_4 (dk_at dksL_law_11 7 rfl rfl)
theorem dL_law_417 : decode cL_law 417 = .ok (.iadd, 1) := dk_96 (dk_at dksL_law_11 8 rfl rfl)
theorem dL_law_418 : decode cL_law 418 = .ok (.iaload, 1) := dk_46 (dk_at dksL_law_11 9 rfl rfl)
theorem dL_law_419 : decode cL_law 419 = .ok (.aload_n 0, 1) := dk_42 (dk_at dksL_law_11 10 rfl rfl)
theorem dL_law_420 : decode cL_law 420 = .ok (.iload 4, 2) := dk_21 4 (dk_at dksL_law_11 11 rfl rfl)
theorem dL_law_422 : decode cL_law 422 = .ok (.iconst 2, 1) := dk_5 (dk_at dksL_law_11 13 rfl rfl)
theorem dL_law_423 : decode cL_law 423 = .ok (.iadd, 1) := dk_96 (dk_at dksL_law_11 14 rfl rfl)
theorem dL_law_424 : decode cL_law 424 = .ok (.iaload, 1) := dk_46 (dk_at dksL_law_11 15 rfl rfl)
theorem dL_law_425 : decode cL_law 425 = .ok (.aload_n 0, 1) := dk_42 (dk_at dksL_law_11 16 rfl rfl)
theorem dL_law_426 : decode cL_law 426 = .ok (.iload 4, 2) := dk_21 4 (dk_at dksL_law_11 17 rfl rfl)
theorem dL_law_428 : decode cL_law 428 = .ok (.iconst 3, 1) := dk_6 (dk_at dksL_law_11 19 rfl rfl)
theorem dL_law_429 : decode cL_law 429 = .ok (.iadd, 1) := dk_96 (dk_at dksL_law_11 20 rfl rfl)
theorem dL_law_430 : decode cL_law 430 = .ok (.iaload, 1) := dk_46 (dk_at dksL_law_11 21 rfl rfl)
theorem dL_law_431 : decode cL_law 431 = .ok (.aload_n 3, 1) := dk_45 (dk_at dksL_law_11 22 rfl rfl)
theorem dL_law_432 : decode cL_law 432 = .ok (.invokestatic 142, 3) := dk_184 0 142 (dk_at dksL_law_12 0 rfl rfl)
theorem dL_law_435 : decode cL_law 435 = .ok (.istore 5, 2) := dk_54 5 (dk_at dksL_law_12 3 rfl rfl)
theorem dL_law_437 : decode cL_law 437 = .ok (.aload_n 2, 1) := dk_44 (dk_at dksL_law_12 5 rfl rfl)
theorem dL_law_438 : decode cL_law 438 = .ok (.aload_n 0, 1) := dk_42 (dk_at dksL_law_12 6 rfl rfl)
theorem dL_law_439 : decode cL_law 439 = .ok (.iload 4, 2) := dk_21 4 (dk_at dksL_law_12 7 rfl rfl)
theorem dL_law_441 : decode cL_law 441 = .ok (.iconst 1, 1) := dk_4 (dk_at dksL_law_12 9 rfl rfl)
theorem dL_law_442 : decode cL_law 442 = .ok (.iadd, 1) := dk_96 (dk_at dksL_law_12 10 rfl rfl)
theorem dL_law_443 : decode cL_law 443 = .ok (.iaload, 1) := dk_46 (dk_at dksL_law_12 11 rfl rfl)
theorem dL_law_444 : decode cL_law 444 = .ok (.aload_n 0, 1) := dk_42 (dk_at dksL_law_12 12 rfl rfl)
theorem dL_law_445 : decode cL_law 445 = .ok (.iload 4, 2) := dk_21 4 (dk_at dksL_law_12 13 rfl rfl)
theorem dL_law_447 : decode cL_law 447 = .ok (.iconst 2, 1) := dk_5 (dk_at dksL_law_12 15 rfl rfl)
theorem dL_law_448 : decode cL_law 448 = .ok (.iadd, 1) := dk_96 (dk_at dksL_law_12 16 rfl rfl)
theorem dL_law_449 : decode cL_law 449 = .ok (.iaload, 1) := dk_46 (dk_at dksL_law_12 17 rfl rfl)
theorem dL_law_450 : decode cL_law 450 = .ok (.aload_n 0, 1) := dk_42 (dk_at dksL_law_12 18 rfl rfl)
theorem dL_law_451 : decode cL_law 451 = .ok (.iload 4, 2) := dk_21 4 (dk_at dksL_law_12 19 rfl rfl)
theorem dL_law_453 : decode cL_law 453 = .ok (.iconst 3, 1) := dk_6 (dk_at dksL_law_12 21 rfl rfl)
theorem dL_law_454 : decode cL_law 454 = .ok (.iadd, 1) := dk_96 (dk_at dksL_law_12 22 rfl rfl)
theorem dL_law_455 : decode cL_law 455 = .ok (.iaload, 1) := dk_46 (dk_at dksL_law_12 23 rfl rfl)
theorem dL_law_456 : decode cL_law 456 = .ok (.invokevirtual 145, 3) := dk_182 0 145 (dk_at dksL_law_13 0 rfl rfl)
theorem dL_law_459 : decode cL_law 459 = .ok (.istore 6, 2) := dk_54 6 (dk_at dksL_law_13 3 rfl rfl)
theorem dL_law_461 : decode cL_law 461 = .ok (.aload_n 2, 1) := dk_44 (dk_at dksL_law_13 5 rfl rfl)
theorem dL_law_462 : decode cL_law 462 = .ok (.invokevirtual 132, 3) := dk_182 0 132 (dk_at dksL_law_13 6 rfl rfl)
theorem dL_law_465 : decode cL_law 465 = .ok (.iload 5, 2) := dk_21 5 (dk_at dksL_law_13 9 rfl rfl)
theorem dL_law_467 : decode cL_law 467 = .ok (.if_icmp .eq 5, 3) := dk_159 0 5 (dk_at dksL_law_13 11 rfl rfl)
theorem dL_law_470 : decode cL_law 470 = .ok (.iconst 0, 1) := dk_3 (dk_at dksL_law_13 14 rfl rfl)
theorem dL_law_471 : decode cL_law 471 = .ok (.ireturn, 1) := dk_172 (dk_at dksL_law_13 15 rfl rfl)
theorem dL_law_472 : decode cL_law 472 = .ok (.iload 5, 2) := dk_21 5 (dk_at dksL_law_13 16 rfl rfl)
theorem dL_law_474 : decode cL_law 474 = .ok (.ifCond .ne 15, 3) := dk_154 0 15 (dk_at dksL_law_13 18 rfl rfl)
theorem dL_law_477 : decode cL_law 477 = .ok (.aload_n 3, 1) := dk_45 (dk_at dksL_law_13 21 rfl rfl)
theorem dL_law_478 : decode cL_law 478 = .ok (.iconst 0, 1) := dk_3 (dk_at dksL_law_13 22 rfl rfl)
theorem dL_law_479 : decode cL_law 479 = .ok (.laload, 1) := dk_47 (dk_at dksL_law_13 23 rfl rfl)
theorem dL_law_480 : decode cL_law 480 = .ok (.iload 6, 2) := dk_21 6 (dk_at dksL_law_14 0 rfl rfl)
theorem dL_law_482 : decode cL_law 482 = .ok (.i2l, 1) := dk_133 (dk_at dksL_law_14 2 rfl rfl)
theorem dL_law_483 : decode cL_law 483 = .ok (.lcmp, 1) := dk_148 (dk_at dksL_law_14 3 rfl rfl)
theorem dL_law_484 : decode cL_law 484 = .ok (.ifCond .eq 5, 3) := dk_153 0 5 (dk_at dksL_law_14 4 rfl rfl)
theorem dL_law_487 : decode cL_law 487 = .ok (.iconst 0, 1) := dk_3 (dk_at dksL_law_14 7 rfl rfl)
theorem dL_law_488 : decode cL_law 488 = .ok (.ireturn, 1) := dk_172 (dk_at dksL_law_14 8 rfl rfl)
theorem dL_law_489 : decode cL_law 489 = .ok (.goto 2069, 3) := dk_167 8 21 (dk_at dksL_law_14 9 rfl rfl)
theorem dL_law_492 : decode cL_law 492 = .ok (.aload_n 1, 1) := dk_43 (dk_at dksL_law_14 12 rfl rfl)
theorem dL_law_493 : decode cL_law 493 = .ok (.aload_n 0, 1) := dk_42 (dk_at dksL_law_14 13 rfl rfl)
theorem dL_law_494 : decode cL_law 494 = .ok (.iload 4, 2) := dk_21 4 (dk_at dksL_law_14 14 rfl rfl)
theorem dL_law_496 : decode cL_law 496 = .ok (.iconst 1, 1) := dk_4 (dk_at dksL_law_14 16 rfl rfl)
theorem dL_law_497 : decode cL_law 497 = .ok (.iadd, 1) := dk_96 (dk_at dksL_law_14 17 rfl rfl)
theorem dL_law_498 : decode cL_law 498 = .ok (.iaload, 1) := dk_46 (dk_at dksL_law_14 18 rfl rfl)
theorem dL_law_499 : decode cL_law 499 = .ok (.aload_n 0, 1) := dk_42 (dk_at dksL_law_14 19 rfl rfl)
theorem dL_law_500 : decode cL_law 500 = .ok (.iload 4, 2) := dk_21 4 (dk_at dksL_law_14 20 rfl rfl)
theorem dL_law_502 : decode cL_law 502 = .ok (.iconst 2, 1) := dk_5 (dk_at dksL_law_14 22 rfl rfl)
theorem dL_law_503 : decode cL_law 503 = .ok (.iadd, 1) := dk_96 (dk_at dksL_law_14 23 rfl rfl)
theorem dL_law_504 : decode cL_law 504 = .ok (.iaload, 1) := dk_46 (dk_at dksL_law_15 0 rfl rfl)
theorem dL_law_505 : decode cL_law 505 = .ok (.aload_n 3, 1) := dk_45 (dk_at dksL_law_15 1 rfl rfl)
theorem dL_law_506 : decode cL_law 506 = .ok (.invokestatic 146, 3) := dk_184 0 146 (dk_at dksL_law_15 2 rfl rfl)
theorem dL_law_509 : decode cL_law 509 = .ok (.istore 5, 2) := dk_54 5 (dk_at dksL_law_15 5 rfl rfl)
theorem dL_law_511 : decode cL_law 511 = .ok (.aload_n 2, 1) := dk_44 (dk_at dksL_law_15 7 rfl rfl)
theorem dL_law_512 : decode cL_law 512 = .ok (.aload_n 0, 1) := dk_42 (dk_at dksL_law_15 8 rfl rfl)
theorem dL_law_513 : decode cL_law 513 = .ok (.iload 4, 2) := dk_21 4 (dk_at dksL_law_15 9 rfl rfl)
theorem dL_law_515 : decode cL_law 515 = .ok (.iconst 1, 1) := dk_4 (dk_at dksL_law_15 11 rfl rfl)
theorem dL_law_516 : decode cL_law 516 = .ok (.iadd, 1) := dk_96 (dk_at dksL_law_15 12 rfl rfl)
theorem dL_law_517 : decode cL_law 517 = .ok (.iaload, 1) := dk_46 (dk_at dksL_law_15 13 rfl rfl)
theorem dL_law_518 : decode cL_law 518 = .ok (.aload_n 0, 1) := dk_42 (dk_at dksL_law_15 14 rfl rfl)
theorem dL_law_519 : decode cL_law 519 = .ok (.iload 4, 2) := dk_21 4 (dk_at dksL_law_15 15 rfl rfl)
theorem dL_law_521 : decode cL_law 521 = .ok (.iconst 2, 1) := dk_5 (dk_at dksL_law_15 17 rfl rfl)
theorem dL_law_522 : decode cL_law 522 = .ok (.iadd, 1) := dk_96 (dk_at dksL_law_15 18 rfl rfl)
theorem dL_law_523 : decode cL_law 523 = .ok (.iaload, 1) := dk_46 (dk_at dksL_law_15 19 rfl rfl)
theorem dL_law_524 : decode cL_law 524 = .ok (.invokevirtual 149, 3) := dk_182 0 149 (dk_at dksL_law_15 20 rfl rfl)
theorem dL_law_527 : decode cL_law 527 = .ok (.istore 6, 2) := dk_54 6 (dk_at dksL_law_16 0 rfl rfl)
theorem dL_law_529 : decode cL_law 529 = .ok (.aload_n 2, 1) := dk_44 (dk_at dksL_law_16 2 rfl rfl)
theorem dL_law_530 : decode cL_law 530 = .ok (.invokevirtual 132, 3) := dk_182 0 132 (dk_at dksL_law_16 3 rfl rfl)
theorem dL_law_533 : decode cL_law 533 = .ok (.iload 5, 2) := dk_21 5 (dk_at dksL_law_16 6 rfl rfl)
theorem dL_law_535 : decode cL_law 535 = .ok (.if_icmp .eq 5, 3) := dk_159 0 5 (dk_at dksL_law_16 8 rfl rfl)
theorem dL_law_538 : decode cL_law 538 = .ok (.iconst 0, 1) := dk_3 (dk_at dksL_law_16 11 rfl rfl)
theorem dL_law_539 : decode cL_law 539 = .ok (.ireturn, 1) := dk_172 (dk_at dksL_law_16 12 rfl rfl)
theorem dL_law_540 : decode cL_law 540 = .ok (.iload 5, 2) := dk_21 5 (dk_at dksL_law_16 13 rfl rfl)
theorem dL_law_542 : decode cL_law 542 = .ok (.ifCond .ne 15, 3) := dk_154 0 15 (dk_at dksL_law_16 15 rfl rfl)
theorem dL_law_545 : decode cL_law 545 = .ok (.aload_n 3, 1) := dk_45 (dk_at dksL_law_16 18 rfl rfl)
theorem dL_law_546 : decode cL_law 546 = .ok (.iconst 0, 1) := dk_3 (dk_at dksL_law_16 19 rfl rfl)
theorem dL_law_547 : decode cL_law 547 = .ok (.laload, 1) := dk_47 (dk_at dksL_law_16 20 rfl rfl)
theorem dL_law_548 : decode cL_law 548 = .ok (.iload 6, 2) := dk_21 6 (dk_at dksL_law_16 21 rfl rfl)
theorem dL_law_550 : decode cL_law 550 = .ok (.i2l, 1) := dk_133 (dk_at dksL_law_16 23 rfl rfl)
theorem dL_law_551 : decode cL_law 551 = .ok (.lcmp, 1) := dk_148 (dk_at dksL_law_17 0 rfl rfl)
theorem dL_law_552 : decode cL_law 552 = .ok (.ifCond .eq 5, 3) := dk_153 0 5 (dk_at dksL_law_17 1 rfl rfl)
theorem dL_law_555 : decode cL_law 555 = .ok (.iconst 0, 1) := dk_3 (dk_at dksL_law_17 4 rfl rfl)
theorem dL_law_556 : decode cL_law 556 = .ok (.ireturn, 1) := dk_172 (dk_at dksL_law_17 5 rfl rfl)
theorem dL_law_557 : decode cL_law 557 = .ok (.goto 2001, 3) := dk_167 7 209 (dk_at dksL_law_17 6 rfl rfl)
theorem dL_law_560 : decode cL_law 560 = .ok (.aload_n 1, 1) := dk_43 (dk_at dksL_law_17 9 rfl rfl)
theorem dL_law_561 : decode cL_law 561 = .ok (.aload_n 0, 1) := dk_42 (dk_at dksL_law_17 10 rfl rfl)
theorem dL_law_562 : decode cL_law 562 = .ok (.iload 4, 2) := dk_21 4 (dk_at dksL_law_17 11 rfl rfl)
theorem dL_law_564 : decode cL_law 564 = .ok (.iconst 1, 1) := dk_4 (dk_at dksL_law_17 13 rfl rfl)
theorem dL_law_565 : decode cL_law 565 = .ok (.iadd, 1) := dk_96 (dk_at dksL_law_17 14 rfl rfl)
theorem dL_law_566 : decode cL_law 566 = .ok (.iaload, 1) := dk_46 (dk_at dksL_law_17 15 rfl rfl)
theorem dL_law_567 : decode cL_law 567 = .ok (.aload_n 0, 1) := dk_42 (dk_at dksL_law_17 16 rfl rfl)
theorem dL_law_568 : decode cL_law 568 = .ok (.iload 4, 2) := dk_21 4 (dk_at dksL_law_17 17 rfl rfl)
theorem dL_law_570 : decode cL_law 570 = .ok (.iconst 2, 1) := dk_5 (dk_at dksL_law_17 19 rfl rfl)
theorem dL_law_571 : decode cL_law 571 = .ok (.iadd, 1) := dk_96 (dk_at dksL_law_17 20 rfl rfl)
theorem dL_law_572 : decode cL_law 572 = .ok (.iaload, 1) := dk_46 (dk_at dksL_law_17 21 rfl rfl)
theorem dL_law_573 : decode cL_law 573 = .ok (.aload_n 3, 1) := dk_45 (dk_at dksL_law_17 22 rfl rfl)
theorem dL_law_574 : decode cL_law 574 = .ok (.invokestatic 150, 3) := dk_184 0 150 (dk_at dksL_law_18 0 rfl rfl)
theorem dL_law_577 : decode cL_law 577 = .ok (.istore 5, 2) := dk_54 5 (dk_at dksL_law_18 3 rfl rfl)
theorem dL_law_579 : decode cL_law 579 = .ok (.aload_n 2, 1) := dk_44 (dk_at dksL_law_18 5 rfl rfl)
theorem dL_law_580 : decode cL_law 580 = .ok (.aload_n 0, 1) := dk_42 (dk_at dksL_law_18 6 rfl rfl)
theorem dL_law_581 : decode cL_law 581 = .ok (.iload 4, 2) := dk_21 4 (dk_at dksL_law_18 7 rfl rfl)
theorem dL_law_583 : decode cL_law 583 = .ok (.iconst 1, 1) := dk_4 (dk_at dksL_law_18 9 rfl rfl)
theorem dL_law_584 : decode cL_law 584 = .ok (.iadd, 1) := dk_96 (dk_at dksL_law_18 10 rfl rfl)
theorem dL_law_585 : decode cL_law 585 = .ok (.iaload, 1) := dk_46 (dk_at dksL_law_18 11 rfl rfl)
theorem dL_law_586 : decode cL_law 586 = .ok (.aload_n 0, 1) := dk_42 (dk_at dksL_law_18 12 rfl rfl)
theorem dL_law_587 : decode cL_law 587 = .ok (.iload 4, 2) := dk_21 4 (dk_at dksL_law_18 13 rfl rfl)
theorem dL_law_589 : decode cL_law 589 = .ok (.iconst 2, 1) := dk_5 (dk_at dksL_law_18 15 rfl rfl)
theorem dL_law_590 : decode cL_law 590 = .ok (.iadd, 1) := dk_96 (dk_at dksL_law_18 16 rfl rfl)
theorem dL_law_591 : decode cL_law 591 = .ok (.iaload, 1) := dk_46 (dk_at dksL_law_18 17 rfl rfl)
theorem dL_law_592 : decode cL_law 592 = .ok (.invokevirtual 152, 3) := dk_182 0 152 (dk_at dksL_law_18 18 rfl rfl)
theorem dL_law_595 : decode cL_law 595 = .ok (.istore 6, 2) := dk_54 6 (dk_at dksL_law_18 21 rfl rfl)
theorem dL_law_597 : decode cL_law 597 = .ok (.aload_n 2, 1) := dk_44 (dk_at dksL_law_18 23 rfl rfl)
theorem dL_law_598 : decode cL_law 598 = .ok (.invokevirtual 132, 3) := dk_182 0 132 (dk_at dksL_law_19 0 rfl rfl)
theorem dL_law_601 : decode cL_law 601 = .ok (.iload 5, 2) := dk_21 5 (dk_at dksL_law_19 3 rfl rfl)
theorem dL_law_603 : decode cL_law 603 = .ok (.if_icmp .eq 5, 3) := dk_159 0 5 (dk_at dksL_law_19 5 rfl rfl)
theorem dL_law_606 : decode cL_law 606 = .ok (.iconst 0, 1) := dk_3 (dk_at dksL_law_19 8 rfl rfl)
theorem dL_law_607 : decode cL_law 607 = .ok (.ireturn, 1) := dk_172 (dk_at dksL_law_19 9 rfl rfl)
theorem dL_law_608 : decode cL_law 608 = .ok (.iload 5, 2) := dk_21 5 (dk_at dksL_law_19 10 rfl rfl)
theorem dL_law_610 : decode cL_law 610 = .ok (.ifCond .ne 15, 3) := dk_154 0 15 (dk_at dksL_law_19 12 rfl rfl)
theorem dL_law_613 : decode cL_law 613 = .ok (.aload_n 3, 1) := dk_45 (dk_at dksL_law_19 15 rfl rfl)
theorem dL_law_614 : decode cL_law 614 = .ok (.iconst 0, 1) := dk_3 (dk_at dksL_law_19 16 rfl rfl)
theorem dL_law_615 : decode cL_law 615 = .ok (.laload, 1) := dk_47 (dk_at dksL_law_19 17 rfl rfl)
theorem dL_law_616 : decode cL_law 616 = .ok (.iload 6, 2) := dk_21 6 (dk_at dksL_law_19 18 rfl rfl)
theorem dL_law_618 : decode cL_law 618 = .ok (.i2l, 1) := dk_133 (dk_at dksL_law_19 20 rfl rfl)
theorem dL_law_619 : decode cL_law 619 = .ok (.lcmp, 1) := dk_148 (dk_at dksL_law_19 21 rfl rfl)
theorem dL_law_620 : decode cL_law 620 = .ok (.ifCond .eq 5, 3) := dk_153 0 5 (dk_at dksL_law_20 0 rfl rfl)
theorem dL_law_623 : decode cL_law 623 = .ok (.iconst 0, 1) := dk_3 (dk_at dksL_law_20 3 rfl rfl)
theorem dL_law_624 : decode cL_law 624 = .ok (.ireturn, 1) := dk_172 (dk_at dksL_law_20 4 rfl rfl)
theorem dL_law_625 : decode cL_law 625 = .ok (.goto 1933, 3) := dk_167 7 141 (dk_at dksL_law_20 5 rfl rfl)
theorem dL_law_628 : decode cL_law 628 = .ok (.aload_n 1, 1) := dk_43 (dk_at dksL_law_20 8 rfl rfl)
theorem dL_law_629 : decode cL_law 629 = .ok (.aload_n 0, 1) := dk_42 (dk_at dksL_law_20 9 rfl rfl)
theorem dL_law_630 : decode cL_law 630 = .ok (.iload 4, 2) := dk_21 4 (dk_at dksL_law_20 10 rfl rfl)
theorem dL_law_632 : decode cL_law 632 = .ok (.iconst 1, 1) := dk_4 (dk_at dksL_law_20 12 rfl rfl)
theorem dL_law_633 : decode cL_law 633 = .ok (.iadd, 1) := dk_96 (dk_at dksL_law_20 13 rfl rfl)
theorem dL_law_634 : decode cL_law 634 = .ok (.iaload, 1) := dk_46 (dk_at dksL_law_20 14 rfl rfl)
theorem dL_law_635 : decode cL_law 635 = .ok (.aload_n 0, 1) := dk_42 (dk_at dksL_law_20 15 rfl rfl)
theorem dL_law_636 : decode cL_law 636 = .ok (.iload 4, 2) := dk_21 4 (dk_at dksL_law_20 16 rfl rfl)
theorem dL_law_638 : decode cL_law 638 = .ok (.iconst 2, 1) := dk_5 (dk_at dksL_law_20 18 rfl rfl)
theorem dL_law_639 : decode cL_law 639 = .ok (.iadd, 1) := dk_96 (dk_at dksL_law_20 19 rfl rfl)
theorem dL_law_640 : decode cL_law 640 = .ok (.iaload, 1) := dk_46 (dk_at dksL_law_20 20 rfl rfl)
theorem dL_law_641 : decode cL_law 641 = .ok (.aload_n 3, 1) := dk_45 (dk_at dksL_law_20 21 rfl rfl)
theorem dL_law_642 : decode cL_law 642 = .ok (.invokestatic 153, 3) := dk_184 0 153 (dk_at dksL_law_21 0 rfl rfl)
theorem dL_law_645 : decode cL_law 645 = .ok (.istore 5, 2) := dk_54 5 (dk_at dksL_law_21 3 rfl rfl)
theorem dL_law_647 : decode cL_law 647 = .ok (.aload_n 2, 1) := dk_44 (dk_at dksL_law_21 5 rfl rfl)
theorem dL_law_648 : decode cL_law 648 = .ok (.aload_n 0, 1) := dk_42 (dk_at dksL_law_21 6 rfl rfl)
theorem dL_law_649 : decode cL_law 649 = .ok (.iload 4, 2) := dk_21 4 (dk_at dksL_law_21 7 rfl rfl)
theorem dL_law_651 : decode cL_law 651 = .ok (.iconst 1, 1) := dk_4 (dk_at dksL_law_21 9 rfl rfl)
theorem dL_law_652 : decode cL_law 652 = .ok (.iadd, 1) := dk_96 (dk_at dksL_law_21 10 rfl rfl)
theorem dL_law_653 : decode cL_law 653 = .ok (.iaload, 1) := dk_46 (dk_at dksL_law_21 11 rfl rfl)
theorem dL_law_654 : decode cL_law 654 = .ok (.aload_n 0, 1) := dk_42 (dk_at dksL_law_21 12 rfl rfl)
theorem dL_law_655 : decode cL_law 655 = .ok (.iload 4, 2) := dk_21 4 (dk_at dksL_law_21 13 rfl rfl)
theorem dL_law_657 : decode cL_law 657 = .ok (.iconst 2, 1) := dk_5 (dk_at dksL_law_21 15 rfl rfl)
theorem dL_law_658 : decode cL_law 658 = .ok (.iadd, 1) := dk_96 (dk_at dksL_law_21 16 rfl rfl)
theorem dL_law_659 : decode cL_law 659 = .ok (.iaload, 1) := dk_46 (dk_at dksL_law_21 17 rfl rfl)
theorem dL_law_660 : decode cL_law 660 = .ok (.invokevirtual 155, 3) := dk_182 0 155 (dk_at dksL_law_21 18 rfl rfl)
theorem dL_law_663 : decode cL_law 663 = .ok (.istore 6, 2) := dk_54 6 (dk_at dksL_law_21 21 rfl rfl)
theorem dL_law_665 : decode cL_law 665 = .ok (.aload_n 2, 1) := dk_44 (dk_at dksL_law_21 23 rfl rfl)
theorem dL_law_666 : decode cL_law 666 = .ok (.invokevirtual 132, 3) := dk_182 0 132 (dk_at dksL_law_22 0 rfl rfl)
theorem dL_law_669 : decode cL_law 669 = .ok (.iload 5, 2) := dk_21 5 (dk_at dksL_law_22 3 rfl rfl)
theorem dL_law_671 : decode cL_law 671 = .ok (.if_icmp .eq 5, 3) := dk_159 0 5 (dk_at dksL_law_22 5 rfl rfl)
theorem dL_law_674 : decode cL_law 674 = .ok (.iconst 0, 1) := dk_3 (dk_at dksL_law_22 8 rfl rfl)
theorem dL_law_675 : decode cL_law 675 = .ok (.ireturn, 1) := dk_172 (dk_at dksL_law_22 9 rfl rfl)
theorem dL_law_676 : decode cL_law 676 = .ok (.iload 5, 2) := dk_21 5 (dk_at dksL_law_22 10 rfl rfl)
theorem dL_law_678 : decode cL_law 678 = .ok (.ifCond .ne 15, 3) := dk_154 0 15 (dk_at dksL_law_22 12 rfl rfl)
theorem dL_law_681 : decode cL_law 681 = .ok (.aload_n 3, 1) := dk_45 (dk_at dksL_law_22 15 rfl rfl)
theorem dL_law_682 : decode cL_law 682 = .ok (.iconst 0, 1) := dk_3 (dk_at dksL_law_22 16 rfl rfl)
theorem dL_law_683 : decode cL_law 683 = .ok (.laload, 1) := dk_47 (dk_at dksL_law_22 17 rfl rfl)
theorem dL_law_684 : decode cL_law 684 = .ok (.iload 6, 2) := dk_21 6 (dk_at dksL_law_22 18 rfl rfl)
theorem dL_law_686 : decode cL_law 686 = .ok (.i2l, 1) := dk_133 (dk_at dksL_law_22 20 rfl rfl)
theorem dL_law_687 : decode cL_law 687 = .ok (.lcmp, 1) := dk_148 (dk_at dksL_law_22 21 rfl rfl)
theorem dL_law_688 : decode cL_law 688 = .ok (.ifCond .eq 5, 3) := dk_153 0 5 (dk_at dksL_law_23 0 rfl rfl)
theorem dL_law_691 : decode cL_law 691 = .ok (.iconst 0, 1) := dk_3 (dk_at dksL_law_23 3 rfl rfl)
theorem dL_law_692 : decode cL_law 692 = .ok (.ireturn, 1) := dk_172 (dk_at dksL_law_23 4 rfl rfl)
theorem dL_law_693 : decode cL_law 693 = .ok (.goto 1865, 3) := dk_167 7 73 (dk_at dksL_law_23 5 rfl rfl)
theorem dL_law_696 : decode cL_law 696 = .ok (.aload_n 1, 1) := dk_43 (dk_at dksL_law_23 8 rfl rfl)
theorem dL_law_697 : decode cL_law 697 = .ok (.aload_n 0, 1) := dk_42 (dk_at dksL_law_23 9 rfl rfl)
theorem dL_law_698 : decode cL_law 698 = .ok (.iload 4, 2) := dk_21 4 (dk_at dksL_law_23 10 rfl rfl)
theorem dL_law_700 : decode cL_law 700 = .ok (.iconst 1, 1) := dk_4 (dk_at dksL_law_23 12 rfl rfl)
theorem dL_law_701 : decode cL_law 701 = .ok (.iadd, 1) := dk_96 (dk_at dksL_law_23 13 rfl rfl)
theorem dL_law_702 : decode cL_law 702 = .ok (.iaload, 1) := dk_46 (dk_at dksL_law_23 14 rfl rfl)
theorem dL_law_703 : decode cL_law 703 = .ok (.aload_n 0, 1) := dk_42 (dk_at dksL_law_23 15 rfl rfl)
theorem dL_law_704 : decode cL_law 704 = .ok (.iload 4, 2) := dk_21 4 (dk_at dksL_law_23 16 rfl rfl)
theorem dL_law_706 : decode cL_law 706 = .ok (.iconst 2, 1) := dk_5 (dk_at dksL_law_23 18 rfl rfl)
theorem dL_law_707 : decode cL_law 707 = .ok (.iadd, 1) := dk_96 (dk_at dksL_law_23 19 rfl rfl)
theorem dL_law_708 : decode cL_law 708 = .ok (.iaload, 1) := dk_46 (dk_at dksL_law_23 20 rfl rfl)
theorem dL_law_709 : decode cL_law 709 = .ok (.aload_n 0, 1) := dk_42 (dk_at dksL_law_23 21 rfl rfl)
theorem dL_law_710 : decode cL_law 710 = .ok (.iload 4, 2) := dk_21 4 (dk_at dksL_law_23 22 rfl rfl)
theorem dL_law_712 : decode cL_law 712 = .ok (.iconst 3, 1) := dk_6 (dk_at dksL_law_24 0 rfl rfl)
theorem dL_law_713 : decode cL_law 713 = .ok (.iadd, 1) := dk_96 (dk_at dksL_law_24 1 rfl rfl)
theorem dL_law_714 : decode cL_law 714 = .ok (.iaload, 1) := dk_46 (dk_at dksL_law_24 2 rfl rfl)
theorem dL_law_715 : decode cL_law 715 = .ok (.aload_n 0, 1) := dk_42 (dk_at dksL_law_24 3 rfl rfl)
theorem dL_law_716 : decode cL_law 716 = .ok (.iload 4, 2) := dk_21 4 (dk_at dksL_law_24 4 rfl rfl)
theorem dL_law_718 : decode cL_law 718 = .ok (.iconst 4, 1) := dk_7 (dk_at dksL_law_24 6 rfl rfl)
theorem dL_law_719 : decode cL_law 719 = .ok (.iadd, 1) := dk_96 (dk_at dksL_law_24 7 rfl rfl)
theorem dL_law_720 : decode cL_law 720 = .ok (.iaload, 1) := dk_46 (dk_at dksL_law_24 8 rfl rfl)
theorem dL_law_721 : decode cL_law 721 = .ok (.aload_n 3, 1) := dk_45 (dk_at dksL_law_24 9 rfl rfl)
theorem dL_law_722 : decode cL_law 722 = .ok (.invokestatic 156, 3) := dk_184 0 156 (dk_at dksL_law_24 10 rfl rfl)
theorem dL_law_725 : decode cL_law 725 = .ok (.istore 5, 2) := dk_54 5 (dk_at dksL_law_24 13 rfl rfl)
theorem dL_law_727 : decode cL_law 727 = .ok (.aload_n 2, 1) := dk_44 (dk_at dksL_law_24 15 rfl rfl)
theorem dL_law_728 : decode cL_law 728 = .ok (.aload_n 0, 1) := dk_42 (dk_at dksL_law_24 16 rfl rfl)
theorem dL_law_729 : decode cL_law 729 = .ok (.iload 4, 2) := dk_21 4 (dk_at dksL_law_24 17 rfl rfl)
theorem dL_law_731 : decode cL_law 731 = .ok (.iconst 1, 1) := dk_4 (dk_at dksL_law_24 19 rfl rfl)
theorem dL_law_732 : decode cL_law 732 = .ok (.iadd, 1) := dk_96 (dk_at dksL_law_24 20 rfl rfl)
theorem dL_law_733 : decode cL_law 733 = .ok (.iaload, 1) := dk_46 (dk_at dksL_law_24 21 rfl rfl)
theorem dL_law_734 : decode cL_law 734 = .ok (.aload_n 0, 1) := dk_42 (dk_at dksL_law_24 22 rfl rfl)
theorem dL_law_735 : decode cL_law 735 = .ok (.iload 4, 2) := dk_21 4 (dk_at dksL_law_25 0 rfl rfl)
theorem dL_law_737 : decode cL_law 737 = .ok (.iconst 2, 1) := dk_5 (dk_at dksL_law_25 2 rfl rfl)
theorem dL_law_738 : decode cL_law 738 = .ok (.iadd, 1) := dk_96 (dk_at dksL_law_25 3 rfl rfl)
theorem dL_law_739 : decode cL_law 739 = .ok (.iaload, 1) := dk_46 (dk_at dksL_law_25 4 rfl rfl)
theorem dL_law_740 : decode cL_law 740 = .ok (.aload_n 0, 1) := dk_42 (dk_at dksL_law_25 5 rfl rfl)
theorem dL_law_741 : decode cL_law 741 = .ok (.iload 4, 2) := dk_21 4 (dk_at dksL_law_25 6 rfl rfl)
theorem dL_law_743 : decode cL_law 743 = .ok (.iconst 3, 1) := dk_6 (dk_at dksL_law_25 8 rfl rfl)
theorem dL_law_744 : decode cL_law 744 = .ok (.iadd, 1) := dk_96 (dk_at dksL_law_25 9 rfl rfl)
theorem dL_law_745 : decode cL_law 745 = .ok (.iaload, 1) := dk_46 (dk_at dksL_law_25 10 rfl rfl)
theorem dL_law_746 : decode cL_law 746 = .ok (.aload_n 0, 1) := dk_42 (dk_at dksL_law_25 11 rfl rfl)
theorem dL_law_747 : decode cL_law 747 = .ok (.iload 4, 2) := dk_21 4 (dk_at dksL_law_25 12 rfl rfl)
theorem dL_law_749 : decode cL_law 749 = .ok (.iconst 4, 1) := dk_7 (dk_at dksL_law_25 14 rfl rfl)
theorem dL_law_750 : decode cL_law 750 = .ok (.iadd, 1) := dk_96 (dk_at dksL_law_25 15 rfl rfl)
theorem dL_law_751 : decode cL_law 751 = .ok (.iaload, 1) := dk_46 (dk_at dksL_law_25 16 rfl rfl)
theorem dL_law_752 : decode cL_law 752 = .ok (.invokevirtual 159, 3) := dk_182 0 159 (dk_at dksL_law_25 17 rfl rfl)
theorem dL_law_755 : decode cL_law 755 = .ok (.istore 6, 2) := dk_54 6 (dk_at dksL_law_25 20 rfl rfl)
theorem dL_law_757 : decode cL_law 757 = .ok (.aload_n 2, 1) := dk_44 (dk_at dksL_law_25 22 rfl rfl)
theorem dL_law_758 : decode cL_law 758 = .ok (.invokevirtual 132, 3) := dk_182 0 132 (dk_at dksL_law_26 0 rfl rfl)
theorem dL_law_761 : decode cL_law 761 = .ok (.iload 5, 2) := dk_21 5 (dk_at dksL_law_26 3 rfl rfl)
theorem dL_law_763 : decode cL_law 763 = .ok (.if_icmp .eq 5, 3) := dk_159 0 5 (dk_at dksL_law_26 5 rfl rfl)
theorem dL_law_766 : decode cL_law 766 = .ok (.iconst 0, 1) := dk_3 (dk_at dksL_law_26 8 rfl rfl)
theorem dL_law_767 : decode cL_law 767 = .ok (.ireturn, 1) := dk_172 (dk_at dksL_law_26 9 rfl rfl)
theorem dL_law_768 : decode cL_law 768 = .ok (.iload 5, 2) := dk_21 5 (dk_at dksL_law_26 10 rfl rfl)
theorem dL_law_770 : decode cL_law 770 = .ok (.ifCond .ne 15, 3) := dk_154 0 15 (dk_at dksL_law_26 12 rfl rfl)
theorem dL_law_773 : decode cL_law 773 = .ok (.aload_n 3, 1) := dk_45 (dk_at dksL_law_26 15 rfl rfl)
theorem dL_law_774 : decode cL_law 774 = .ok (.iconst 0, 1) := dk_3 (dk_at dksL_law_26 16 rfl rfl)
theorem dL_law_775 : decode cL_law 775 = .ok (.laload, 1) := dk_47 (dk_at dksL_law_26 17 rfl rfl)
theorem dL_law_776 : decode cL_law 776 = .ok (.iload 6, 2) := dk_21 6 (dk_at dksL_law_26 18 rfl rfl)
theorem dL_law_778 : decode cL_law 778 = .ok (.i2l, 1) := dk_133 (dk_at dksL_law_26 20 rfl rfl)
theorem dL_law_779 : decode cL_law 779 = .ok (.lcmp, 1) := dk_148 (dk_at dksL_law_26 21 rfl rfl)
theorem dL_law_780 : decode cL_law 780 = .ok (.ifCond .eq 5, 3) := dk_153 0 5 (dk_at dksL_law_27 0 rfl rfl)
theorem dL_law_783 : decode cL_law 783 = .ok (.iconst 0, 1) := dk_3 (dk_at dksL_law_27 3 rfl rfl)
theorem dL_law_784 : decode cL_law 784 = .ok (.ireturn, 1) := dk_172 (dk_at dksL_law_27 4 rfl rfl)
theorem dL_law_785 : decode cL_law 785 = .ok (.goto 1773, 3) := dk_167 6 237 (dk_at dksL_law_27 5 rfl rfl)
theorem dL_law_788 : decode cL_law 788 = .ok (.aload_n 1, 1) := dk_43 (dk_at dksL_law_27 8 rfl rfl)
theorem dL_law_789 : decode cL_law 789 = .ok (.aload_n 0, 1) := dk_42 (dk_at dksL_law_27 9 rfl rfl)
theorem dL_law_790 : decode cL_law 790 = .ok (.iload 4, 2) := dk_21 4 (dk_at dksL_law_27 10 rfl rfl)
theorem dL_law_792 : decode cL_law 792 = .ok (.iconst 1, 1) := dk_4 (dk_at dksL_law_27 12 rfl rfl)
theorem dL_law_793 : decode cL_law 793 = .ok (.iadd, 1) := dk_96 (dk_at dksL_law_27 13 rfl rfl)
theorem dL_law_794 : decode cL_law 794 = .ok (.iaload, 1) := dk_46 (dk_at dksL_law_27 14 rfl rfl)
theorem dL_law_795 : decode cL_law 795 = .ok (.aload_n 0, 1) := dk_42 (dk_at dksL_law_27 15 rfl rfl)
theorem dL_law_796 : decode cL_law 796 = .ok (.iload 4, 2) := dk_21 4 (dk_at dksL_law_27 16 rfl rfl)
theorem dL_law_798 : decode cL_law 798 = .ok (.iconst 2, 1) := dk_5 (dk_at dksL_law_27 18 rfl rfl)
theorem dL_law_799 : decode cL_law 799 = .ok (.iadd, 1) := dk_96 (dk_at dksL_law_27 19 rfl rfl)
theorem dL_law_800 : decode cL_law 800 = .ok (.iaload, 1) := dk_46 (dk_at dksL_law_27 20 rfl rfl)
theorem dL_law_801 : decode cL_law 801 = .ok (.aload_n 0, 1) := dk_42 (dk_at dksL_law_27 21 rfl rfl)
theorem dL_law_802 : decode cL_law 802 = .ok (.iload 4, 2) := dk_21 4 (dk_at dksL_law_27 22 rfl rfl)
theorem dL_law_804 : decode cL_law 804 = .ok (.iconst 3, 1) := dk_6 (dk_at dksL_law_28 0 rfl rfl)
theorem dL_law_805 : decode cL_law 805 = .ok (.iadd, 1) := dk_96 (dk_at dksL_law_28 1 rfl rfl)
theorem dL_law_806 : decode cL_law 806 = .ok (.iaload, 1) := dk_46 (dk_at dksL_law_28 2 rfl rfl)
theorem dL_law_807 : decode cL_law 807 = .ok (.aload_n 0, 1) := dk_42 (dk_at dksL_law_28 3 rfl rfl)
theorem dL_law_808 : decode cL_law 808 = .ok (.iload 4, 2) := dk_21 4 (dk_at dksL_law_28 4 rfl rfl)
theorem dL_law_810 : decode cL_law 810 = .ok (.iconst 4, 1) := dk_7 (dk_at dksL_law_28 6 rfl rfl)
theorem dL_law_811 : decode cL_law 811 = .ok (.iadd, 1) := dk_96 (dk_at dksL_law_28 7 rfl rfl)
theorem dL_law_812 : decode cL_law 812 = .ok (.iaload, 1) := dk_46 (dk_at dksL_law_28 8 rfl rfl)
theorem dL_law_813 : decode cL_law 813 = .ok (.aload_n 3, 1) := dk_45 (dk_at dksL_law_28 9 rfl rfl)
theorem dL_law_814 : decode cL_law 814 = .ok (.invokestatic 160, 3) := dk_184 0 160 (dk_at dksL_law_28 10 rfl rfl)
theorem dL_law_817 : decode cL_law 817 = .ok (.istore 5, 2) := dk_54 5 (dk_at dksL_law_28 13 rfl rfl)
theorem dL_law_819 : decode cL_law 819 = .ok (.aload_n 2, 1) := dk_44 (dk_at dksL_law_28 15 rfl rfl)
theorem dL_law_820 : decode cL_law 820 = .ok (.aload_n 0, 1) := dk_42 (dk_at dksL_law_28 16 rfl rfl)
theorem dL_law_821 : decode cL_law 821 = .ok (.iload 4, 2) := dk_21 4 (dk_at dksL_law_28 17 rfl rfl)
theorem dL_law_823 : decode cL_law 823 = .ok (.iconst 1, 1) := dk_4 (dk_at dksL_law_28 19 rfl rfl)
theorem dL_law_824 : decode cL_law 824 = .ok (.iadd, 1) := dk_96 (dk_at dksL_law_28 20 rfl rfl)
theorem dL_law_825 : decode cL_law 825 = .ok (.iaload, 1) := dk_46 (dk_at dksL_law_28 21 rfl rfl)
theorem dL_law_826 : decode cL_law 826 = .ok (.aload_n 0, 1) := dk_42 (dk_at dksL_law_28 22 rfl rfl)
theorem dL_law_827 : decode cL_law 827 = .ok (.iload 4, 2) := dk_21 4 (dk_at dksL_law_29 0 rfl rfl)
theorem dL_law_829 : decode cL_law 829 = .ok (.iconst 2, 1) := dk_5 (dk_at dksL_law_29 2 rfl rfl)
theorem dL_law_830 : decode cL_law 830 = .ok (.iadd, 1) := dk_96 (dk_at dksL_law_29 3 rfl rfl)
theorem dL_law_831 : decode cL_law 831 = .ok (.iaload, 1) := dk_46 (dk_at dksL_law_29 4 rfl rfl)
theorem dL_law_832 : decode cL_law 832 = .ok (.aload_n 0, 1) := dk_42 (dk_at dksL_law_29 5 rfl rfl)
theorem dL_law_833 : decode cL_law 833 = .ok (.iload 4, 2) := dk_21 4 (dk_at dksL_law_29 6 rfl rfl)
theorem dL_law_835 : decode cL_law 835 = .ok (.iconst 3, 1) := dk_6 (dk_at dksL_law_29 8 rfl rfl)
theorem dL_law_836 : decode cL_law 836 = .ok (.iadd, 1) := dk_96 (dk_at dksL_law_29 9 rfl rfl)
theorem dL_law_837 : decode cL_law 837 = .ok (.iaload, 1) := dk_46 (dk_at dksL_law_29 10 rfl rfl)
theorem dL_law_838 : decode cL_law 838 = .ok (.aload_n 0, 1) := dk_42 (dk_at dksL_law_29 11 rfl rfl)
theorem dL_law_839 : decode cL_law 839 = .ok (.iload 4, 2) := dk_21 4 (dk_at dksL_law_29 12 rfl rfl)
theorem dL_law_841 : decode cL_law 841 = .ok (.iconst 4, 1) := dk_7 (dk_at dksL_law_29 14 rfl rfl)
theorem dL_law_842 : decode cL_law 842 = .ok (.iadd, 1) := dk_96 (dk_at dksL_law_29 15 rfl rfl)
theorem dL_law_843 : decode cL_law 843 = .ok (.iaload, 1) := dk_46 (dk_at dksL_law_29 16 rfl rfl)
theorem dL_law_844 : decode cL_law 844 = .ok (.invokevirtual 162, 3) := dk_182 0 162 (dk_at dksL_law_29 17 rfl rfl)
theorem dL_law_847 : decode cL_law 847 = .ok (.istore 6, 2) := dk_54 6 (dk_at dksL_law_29 20 rfl rfl)
theorem dL_law_849 : decode cL_law 849 = .ok (.aload_n 2, 1) := dk_44 (dk_at dksL_law_29 22 rfl rfl)
theorem dL_law_850 : decode cL_law 850 = .ok (.invokevirtual 132, 3) := dk_182 0 132 (dk_at dksL_law_30 0 rfl rfl)
theorem dL_law_853 : decode cL_law 853 = .ok (.iload 5, 2) := dk_21 5 (dk_at dksL_law_30 3 rfl rfl)
theorem dL_law_855 : decode cL_law 855 = .ok (.if_icmp .eq 5, 3) := dk_159 0 5 (dk_at dksL_law_30 5 rfl rfl)
theorem dL_law_858 : decode cL_law 858 = .ok (.iconst 0, 1) := dk_3 (dk_at dksL_law_30 8 rfl rfl)
theorem dL_law_859 : decode cL_law 859 = .ok (.ireturn, 1) := dk_172 (dk_at dksL_law_30 9 rfl rfl)
theorem dL_law_860 : decode cL_law 860 = .ok (.iload 5, 2) := dk_21 5 (dk_at dksL_law_30 10 rfl rfl)
theorem dL_law_862 : decode cL_law 862 = .ok (.ifCond .ne 15, 3) := dk_154 0 15 (dk_at dksL_law_30 12 rfl rfl)
theorem dL_law_865 : decode cL_law 865 = .ok (.aload_n 3, 1) := dk_45 (dk_at dksL_law_30 15 rfl rfl)
theorem dL_law_866 : decode cL_law 866 = .ok (.iconst 0, 1) := dk_3 (dk_at dksL_law_30 16 rfl rfl)
theorem dL_law_867 : decode cL_law 867 = .ok (.laload, 1) := dk_47 (dk_at dksL_law_30 17 rfl rfl)
theorem dL_law_868 : decode cL_law 868 = .ok (.iload 6, 2) := dk_21 6 (dk_at dksL_law_30 18 rfl rfl)
theorem dL_law_870 : decode cL_law 870 = .ok (.i2l, 1) := dk_133 (dk_at dksL_law_30 20 rfl rfl)
theorem dL_law_871 : decode cL_law 871 = .ok (.lcmp, 1) := dk_148 (dk_at dksL_law_30 21 rfl rfl)
theorem dL_law_872 : decode cL_law 872 = .ok (.ifCond .eq 5, 3) := dk_153 0 5 (dk_at dksL_law_31 0 rfl rfl)
theorem dL_law_875 : decode cL_law 875 = .ok (.iconst 0, 1) := dk_3 (dk_at dksL_law_31 3 rfl rfl)
theorem dL_law_876 : decode cL_law 876 = .ok (.ireturn, 1) := dk_172 (dk_at dksL_law_31 4 rfl rfl)
theorem dL_law_877 : decode cL_law 877 = .ok (.goto 1681, 3) := dk_167 6 145 (dk_at dksL_law_31 5 rfl rfl)
theorem dL_law_880 : decode cL_law 880 = .ok (.aload_n 1, 1) := dk_43 (dk_at dksL_law_31 8 rfl rfl)
theorem dL_law_881 : decode cL_law 881 = .ok (.aload_n 0, 1) := dk_42 (dk_at dksL_law_31 9 rfl rfl)
theorem dL_law_882 : decode cL_law 882 = .ok (.iload 4, 2) := dk_21 4 (dk_at dksL_law_31 10 rfl rfl)
theorem dL_law_884 : decode cL_law 884 = .ok (.iconst 1, 1) := dk_4 (dk_at dksL_law_31 12 rfl rfl)
theorem dL_law_885 : decode cL_law 885 = .ok (.iadd, 1) := dk_96 (dk_at dksL_law_31 13 rfl rfl)
theorem dL_law_886 : decode cL_law 886 = .ok (.iaload, 1) := dk_46 (dk_at dksL_law_31 14 rfl rfl)
theorem dL_law_887 : decode cL_law 887 = .ok (.aload_n 0, 1) := dk_42 (dk_at dksL_law_31 15 rfl rfl)
theorem dL_law_888 : decode cL_law 888 = .ok (.iload 4, 2) := dk_21 4 (dk_at dksL_law_31 16 rfl rfl)
theorem dL_law_890 : decode cL_law 890 = .ok (.iconst 2, 1) := dk_5 (dk_at dksL_law_31 18 rfl rfl)
theorem dL_law_891 : decode cL_law 891 = .ok (.iadd, 1) := dk_96 (dk_at dksL_law_31 19 rfl rfl)
theorem dL_law_892 : decode cL_law 892 = .ok (.iaload, 1) := dk_46 (dk_at dksL_law_31 20 rfl rfl)
theorem dL_law_893 : decode cL_law 893 = .ok (.aload_n 3, 1) := dk_45 (dk_at dksL_law_31 21 rfl rfl)
theorem dL_law_894 : decode cL_law 894 = .ok (.invokestatic 163, 3) := dk_184 0 163 (dk_at dksL_law_32 0 rfl rfl)
theorem dL_law_897 : decode cL_law 897 = .ok (.istore 5, 2) := dk_54 5 (dk_at dksL_law_32 3 rfl rfl)
theorem dL_law_899 : decode cL_law 899 = .ok (.aload_n 2, 1) := dk_44 (dk_at dksL_law_32 5 rfl rfl)
theorem dL_law_900 : decode cL_law 900 = .ok (.aload_n 0, 1) := dk_42 (dk_at dksL_law_32 6 rfl rfl)
theorem dL_law_901 : decode cL_law 901 = .ok (.iload 4, 2) := dk_21 4 (dk_at dksL_law_32 7 rfl rfl)
theorem dL_law_903 : decode cL_law 903 = .ok (.iconst 1, 1) := dk_4 (dk_at dksL_law_32 9 rfl rfl)
theorem dL_law_904 : decode cL_law 904 = .ok (.iadd, 1) := dk_96 (dk_at dksL_law_32 10 rfl rfl)
theorem dL_law_905 : decode cL_law 905 = .ok (.iaload, 1) := dk_46 (dk_at dksL_law_32 11 rfl rfl)
theorem dL_law_906 : decode cL_law 906 = .ok (.aload_n 0, 1) := dk_42 (dk_at dksL_law_32 12 rfl rfl)
theorem dL_law_907 : decode cL_law 907 = .ok (.iload 4, 2) := dk_21 4 (dk_at dksL_law_32 13 rfl rfl)
theorem dL_law_909 : decode cL_law 909 = .ok (.iconst 2, 1) := dk_5 (dk_at dksL_law_32 15 rfl rfl)
theorem dL_law_910 : decode cL_law 910 = .ok (.iadd, 1) := dk_96 (dk_at dksL_law_32 16 rfl rfl)
theorem dL_law_911 : decode cL_law 911 = .ok (.iaload, 1) := dk_46 (dk_at dksL_law_32 17 rfl rfl)
theorem dL_law_912 : decode cL_law 912 = .ok (.invokevirtual 165, 3) := dk_182 0 165 (dk_at dksL_law_32 18 rfl rfl)
theorem dL_law_915 : decode cL_law 915 = .ok (.istore 6, 2) := dk_54 6 (dk_at dksL_law_32 21 rfl rfl)
theorem dL_law_917 : decode cL_law 917 = .ok (.aload_n 2, 1) := dk_44 (dk_at dksL_law_32 23 rfl rfl)
theorem dL_law_918 : decode cL_law 918 = .ok (.invokevirtual 132, 3) := dk_182 0 132 (dk_at dksL_law_33 0 rfl rfl)
theorem dL_law_921 : decode cL_law 921 = .ok (.iload 5, 2) := dk_21 5 (dk_at dksL_law_33 3 rfl rfl)
theorem dL_law_923 : decode cL_law 923 = .ok (.if_icmp .eq 5, 3) := dk_159 0 5 (dk_at dksL_law_33 5 rfl rfl)
theorem dL_law_926 : decode cL_law 926 = .ok (.iconst 0, 1) := dk_3 (dk_at dksL_law_33 8 rfl rfl)
theorem dL_law_927 : decode cL_law 927 = .ok (.ireturn, 1) := dk_172 (dk_at dksL_law_33 9 rfl rfl)
theorem dL_law_928 : decode cL_law 928 = .ok (.iload 5, 2) := dk_21 5 (dk_at dksL_law_33 10 rfl rfl)
theorem dL_law_930 : decode cL_law 930 = .ok (.ifCond .ne 15, 3) := dk_154 0 15 (dk_at dksL_law_33 12 rfl rfl)
theorem dL_law_933 : decode cL_law 933 = .ok (.aload_n 3, 1) := dk_45 (dk_at dksL_law_33 15 rfl rfl)
theorem dL_law_934 : decode cL_law 934 = .ok (.iconst 0, 1) := dk_3 (dk_at dksL_law_33 16 rfl rfl)
theorem dL_law_935 : decode cL_law 935 = .ok (.laload, 1) := dk_47 (dk_at dksL_law_33 17 rfl rfl)
theorem dL_law_936 : decode cL_law 936 = .ok (.iload 6, 2) := dk_21 6 (dk_at dksL_law_33 18 rfl rfl)
theorem dL_law_938 : decode cL_law 938 = .ok (.i2l, 1) := dk_133 (dk_at dksL_law_33 20 rfl rfl)
theorem dL_law_939 : decode cL_law 939 = .ok (.lcmp, 1) := dk_148 (dk_at dksL_law_33 21 rfl rfl)
theorem dL_law_940 : decode cL_law 940 = .ok (.ifCond .eq 5, 3) := dk_153 0 5 (dk_at dksL_law_34 0 rfl rfl)
theorem dL_law_943 : decode cL_law 943 = .ok (.iconst 0, 1) := dk_3 (dk_at dksL_law_34 3 rfl rfl)
theorem dL_law_944 : decode cL_law 944 = .ok (.ireturn, 1) := dk_172 (dk_at dksL_law_34 4 rfl rfl)
theorem dL_law_945 : decode cL_law 945 = .ok (.goto 1613, 3) := dk_167 6 77 (dk_at dksL_law_34 5 rfl rfl)
theorem dL_law_948 : decode cL_law 948 = .ok (.aload_n 1, 1) := dk_43 (dk_at dksL_law_34 8 rfl rfl)
theorem dL_law_949 : decode cL_law 949 = .ok (.aload_n 0, 1) := dk_42 (dk_at dksL_law_34 9 rfl rfl)
theorem dL_law_950 : decode cL_law 950 = .ok (.iload 4, 2) := dk_21 4 (dk_at dksL_law_34 10 rfl rfl)
theorem dL_law_952 : decode cL_law 952 = .ok (.iconst 1, 1) := dk_4 (dk_at dksL_law_34 12 rfl rfl)
theorem dL_law_953 : decode cL_law 953 = .ok (.iadd, 1) := dk_96 (dk_at dksL_law_34 13 rfl rfl)
theorem dL_law_954 : decode cL_law 954 = .ok (.iaload, 1) := dk_46 (dk_at dksL_law_34 14 rfl rfl)
theorem dL_law_955 : decode cL_law 955 = .ok (.aload_n 0, 1) := dk_42 (dk_at dksL_law_34 15 rfl rfl)
theorem dL_law_956 : decode cL_law 956 = .ok (.iload 4, 2) := dk_21 4 (dk_at dksL_law_34 16 rfl rfl)
theorem dL_law_958 : decode cL_law 958 = .ok (.iconst 2, 1) := dk_5 (dk_at dksL_law_34 18 rfl rfl)
theorem dL_law_959 : decode cL_law 959 = .ok (.iadd, 1) := dk_96 (dk_at dksL_law_34 19 rfl rfl)
theorem dL_law_960 : decode cL_law 960 = .ok (.iaload, 1) := dk_46 (dk_at dksL_law_34 20 rfl rfl)
theorem dL_law_961 : decode cL_law 961 = .ok (.aload_n 0, 1) := dk_42 (dk_at dksL_law_34 21 rfl rfl)
theorem dL_law_962 : decode cL_law 962 = .ok (.iload 4, 2) := dk_21 4 (dk_at dksL_law_34 22 rfl rfl)
theorem dL_law_964 : decode cL_law 964 = .ok (.iconst 3, 1) := dk_6 (dk_at dksL_law_35 0 rfl rfl)
theorem dL_law_965 : decode cL_law 965 = .ok (.iadd, 1) := dk_96 (dk_at dksL_law_35 1 rfl rfl)
theorem dL_law_966 : decode cL_law 966 = .ok (.iaload, 1) := dk_46 (dk_at dksL_law_35 2 rfl rfl)
theorem dL_law_967 : decode cL_law 967 = .ok (.aload_n 0, 1) := dk_42 (dk_at dksL_law_35 3 rfl rfl)
theorem dL_law_968 : decode cL_law 968 = .ok (.iload 4, 2) := dk_21 4 (dk_at dksL_law_35 4 rfl rfl)
theorem dL_law_970 : decode cL_law 970 = .ok (.iconst 4, 1) := dk_7 (dk_at dksL_law_35 6 rfl rfl)
theorem dL_law_971 : decode cL_law 971 = .ok (.iadd, 1) := dk_96 (dk_at dksL_law_35 7 rfl rfl)
theorem dL_law_972 : decode cL_law 972 = .ok (.iaload, 1) := dk_46 (dk_at dksL_law_35 8 rfl rfl)
theorem dL_law_973 : decode cL_law 973 = .ok (.aload_n 3, 1) := dk_45 (dk_at dksL_law_35 9 rfl rfl)
theorem dL_law_974 : decode cL_law 974 = .ok (.invokestatic 166, 3) := dk_184 0 166 (dk_at dksL_law_35 10 rfl rfl)
theorem dL_law_977 : decode cL_law 977 = .ok (.istore 5, 2) := dk_54 5 (dk_at dksL_law_35 13 rfl rfl)
theorem dL_law_979 : decode cL_law 979 = .ok (.aload_n 2, 1) := dk_44 (dk_at dksL_law_35 15 rfl rfl)
theorem dL_law_980 : decode cL_law 980 = .ok (.aload_n 0, 1) := dk_42 (dk_at dksL_law_35 16 rfl rfl)
theorem dL_law_981 : decode cL_law 981 = .ok (.iload 4, 2) := dk_21 4 (dk_at dksL_law_35 17 rfl rfl)
theorem dL_law_983 : decode cL_law 983 = .ok (.iconst 1, 1) := dk_4 (dk_at dksL_law_35 19 rfl rfl)
theorem dL_law_984 : decode cL_law 984 = .ok (.iadd, 1) := dk_96 (dk_at dksL_law_35 20 rfl rfl)
theorem dL_law_985 : decode cL_law 985 = .ok (.iaload, 1) := dk_46 (dk_at dksL_law_35 21 rfl rfl)
theorem dL_law_986 : decode cL_law 986 = .ok (.aload_n 0, 1) := dk_42 (dk_at dksL_law_35 22 rfl rfl)
theorem dL_law_987 : decode cL_law 987 = .ok (.iload 4, 2) := dk_21 4 (dk_at dksL_law_36 0 rfl rfl)
theorem dL_law_989 : decode cL_law 989 = .ok (.iconst 2, 1) := dk_5 (dk_at dksL_law_36 2 rfl rfl)
theorem dL_law_990 : decode cL_law 990 = .ok (.iadd, 1) := dk_96 (dk_at dksL_law_36 3 rfl rfl)
theorem dL_law_991 : decode cL_law 991 = .ok (.iaload, 1) := dk_46 (dk_at dksL_law_36 4 rfl rfl)
theorem dL_law_992 : decode cL_law 992 = .ok (.aload_n 0, 1) := dk_42 (dk_at dksL_law_36 5 rfl rfl)
theorem dL_law_993 : decode cL_law 993 = .ok (.iload 4, 2) := dk_21 4 (dk_at dksL_law_36 6 rfl rfl)
theorem dL_law_995 : decode cL_law 995 = .ok (.iconst 3, 1) := dk_6 (dk_at dksL_law_36 8 rfl rfl)
theorem dL_law_996 : decode cL_law 996 = .ok (.iadd, 1) := dk_96 (dk_at dksL_law_36 9 rfl rfl)
theorem dL_law_997 : decode cL_law 997 = .ok (.iaload, 1) := dk_46 (dk_at dksL_law_36 10 rfl rfl)
theorem dL_law_998 : decode cL_law 998 = .ok (.aload_n 0, 1) := dk_42 (dk_at dksL_law_36 11 rfl rfl)
theorem dL_law_999 : decode cL_law 999 = .ok (.iload 4, 2) := dk_21 4 (dk_at dksL_law_36 12 rfl rfl)
theorem dL_law_1001 : decode cL_law 1001 = .ok (.iconst 4, 1) := dk_7 (dk_at dksL_law_36 14 rfl rfl)
theorem dL_law_1002 : decode cL_law 1002 = .ok (.iadd, 1) := dk_96 (dk_at dksL_law_36 15 rfl rfl)
theorem dL_law_1003 : decode cL_law 1003 = .ok (.iaload, 1) := dk_46 (dk_at dksL_law_36 16 rfl rfl)
theorem dL_law_1004 : decode cL_law 1004 = .ok (.invokevirtual 168, 3) := dk_182 0 168 (dk_at dksL_law_36 17 rfl rfl)
theorem dL_law_1007 : decode cL_law 1007 = .ok (.istore 6, 2) := dk_54 6 (dk_at dksL_law_36 20 rfl rfl)
theorem dL_law_1009 : decode cL_law 1009 = .ok (.aload_n 2, 1) := dk_44 (dk_at dksL_law_36 22 rfl rfl)
theorem dL_law_1010 : decode cL_law 1010 = .ok (.invokevirtual 132, 3) := dk_182 0 132 (dk_at dksL_law_37 0 rfl rfl)
theorem dL_law_1013 : decode cL_law 1013 = .ok (.iload 5, 2) := dk_21 5 (dk_at dksL_law_37 3 rfl rfl)
theorem dL_law_1015 : decode cL_law 1015 = .ok (.if_icmp .eq 5, 3) := dk_159 0 5 (dk_at dksL_law_37 5 rfl rfl)
theorem dL_law_1018 : decode cL_law 1018 = .ok (.iconst 0, 1) := dk_3 (dk_at dksL_law_37 8 rfl rfl)
theorem dL_law_1019 : decode cL_law 1019 = .ok (.ireturn, 1) := dk_172 (dk_at dksL_law_37 9 rfl rfl)
theorem dL_law_1020 : decode cL_law 1020 = .ok (.iload 5, 2) := dk_21 5 (dk_at dksL_law_37 10 rfl rfl)
theorem dL_law_1022 : decode cL_law 1022 = .ok (.ifCond .ne 15, 3) := dk_154 0 15 (dk_at dksL_law_37 12 rfl rfl)
theorem dL_law_1025 : decode cL_law 1025 = .ok (.aload_n 3, 1) := dk_45 (dk_at dksL_law_37 15 rfl rfl)
theorem dL_law_1026 : decode cL_law 1026 = .ok (.iconst 0, 1) := dk_3 (dk_at dksL_law_37 16 rfl rfl)
theorem dL_law_1027 : decode cL_law 1027 = .ok (.laload, 1) := dk_47 (dk_at dksL_law_37 17 rfl rfl)
theorem dL_law_1028 : decode cL_law 1028 = .ok (.iload 6, 2) := dk_21 6 (dk_at dksL_law_37 18 rfl rfl)
theorem dL_law_1030 : decode cL_law 1030 = .ok (.i2l, 1) := dk_133 (dk_at dksL_law_37 20 rfl rfl)
theorem dL_law_1031 : decode cL_law 1031 = .ok (.lcmp, 1) := dk_148 (dk_at dksL_law_37 21 rfl rfl)
theorem dL_law_1032 : decode cL_law 1032 = .ok (.ifCond .eq 5, 3) := dk_153 0 5 (dk_at dksL_law_38 0 rfl rfl)
theorem dL_law_1035 : decode cL_law 1035 = .ok (.iconst 0, 1) := dk_3 (dk_at dksL_law_38 3 rfl rfl)
theorem dL_law_1036 : decode cL_law 1036 = .ok (.ireturn, 1) := dk_172 (dk_at dksL_law_38 4 rfl rfl)
theorem dL_law_1037 : decode cL_law 1037 = .ok (.goto 1521, 3) := dk_167 5 241 (dk_at dksL_law_38 5 rfl rfl)
theorem dL_law_1040 : decode cL_law 1040 = .ok (.aload_n 1, 1) := dk_43 (dk_at dksL_law_38 8 rfl rfl)
theorem dL_law_1041 : decode cL_law 1041 = .ok (.invokevirtual 169, 3) := dk_182 0 169 (dk_at dksL_law_38 9 rfl rfl)
theorem dL_law_1044 : decode cL_law 1044 = .ok (.aload_n 2, 1) := dk_44 (dk_at dksL_law_38 12 rfl rfl)
theorem dL_law_1045 : decode cL_law 1045 = .ok (.invokevirtual 172, 3) := dk_182 0 172 (dk_at dksL_law_38 13 rfl rfl)
theorem dL_law_1048 : decode cL_law 1048 = .ok (.if_icmp .eq 1510, 3) := dk_159 5 230 (dk_at dksL_law_38 16 rfl rfl)
theorem dL_law_1051 : decode cL_law 1051 = .ok (.iconst 0, 1) := dk_3 (dk_at dksL_law_38 19 rfl rfl)
theorem dL_law_1052 : decode cL_law 1052 = .ok (.ireturn, 1) := dk_172 (dk_at dksL_law_38 20 rfl rfl)
theorem dL_law_1053 : decode cL_law 1053 = .ok (.aload_n 1, 1) := dk_43 (dk_at dksL_law_38 21 rfl rfl)
theorem dL_law_1054 : decode cL_law 1054 = .ok (.aload_n 0, 1) := dk_42 (dk_at dksL_law_38 22 rfl rfl)
theorem dL_law_1055 : decode cL_law 1055 = .ok (.iload 4, 2) := dk_21 4 (dk_at dksL_law_39 0 rfl rfl)
theorem dL_law_1057 : decode cL_law 1057 = .ok (.iconst 1, 1) := dk_4 (dk_at dksL_law_39 2 rfl rfl)
theorem dL_law_1058 : decode cL_law 1058 = .ok (.iadd, 1) := dk_96 (dk_at dksL_law_39 3 rfl rfl)
theorem dL_law_1059 : decode cL_law 1059 = .ok (.iaload, 1) := dk_46 (dk_at dksL_law_39 4 rfl rfl)
theorem dL_law_1060 : decode cL_law 1060 = .ok (.aload_n 3, 1) := dk_45 (dk_at dksL_law_39 5 rfl rfl)
theorem dL_law_1061 : decode cL_law 1061 = .ok (.invokestatic 173, 3) := dk_184 0 173 (dk_at dksL_law_39 6 rfl rfl)
theorem dL_law_1064 : decode cL_law 1064 = .ok (.istore 5, 2) := dk_54 5 (dk_at dksL_law_39 9 rfl rfl)
theorem dL_law_1066 : decode cL_law 1066 = .ok (.aload_n 2, 1) := dk_44 (dk_at dksL_law_39 11 rfl rfl)
theorem dL_law_1067 : decode cL_law 1067 = .ok (.aload_n 0, 1) := dk_42 (dk_at dksL_law_39 12 rfl rfl)
theorem dL_law_1068 : decode cL_law 1068 = .ok (.iload 4, 2) := dk_21 4 (dk_at dksL_law_39 13 rfl rfl)
theorem dL_law_1070 : decode cL_law 1070 = .ok (.iconst 1, 1) := dk_4 (dk_at dksL_law_39 15 rfl rfl)
theorem dL_law_1071 : decode cL_law 1071 = .ok (.iadd, 1) := dk_96 (dk_at dksL_law_39 16 rfl rfl)
theorem dL_law_1072 : decode cL_law 1072 = .ok (.iaload, 1) := dk_46 (dk_at dksL_law_39 17 rfl rfl)
theorem dL_law_1073 : decode cL_law 1073 = .ok (.invokevirtual 176, 3) := dk_182 0 176 (dk_at dksL_law_39 18 rfl rfl)
theorem dL_law_1076 : decode cL_law 1076 = .ok (.istore 6, 2) := dk_54 6 (dk_at dksL_law_39 21 rfl rfl)
theorem dL_law_1078 : decode cL_law 1078 = .ok (.aload_n 2, 1) := dk_44 (dk_at dksL_law_39 23 rfl rfl)
theorem dL_law_1079 : decode cL_law 1079 = .ok (.invokevirtual 132, 3) := dk_182 0 132 (dk_at dksL_law_40 0 rfl rfl)
theorem dL_law_1082 : decode cL_law 1082 = .ok (.iload 5, 2) := dk_21 5 (dk_at dksL_law_40 3 rfl rfl)
theorem dL_law_1084 : decode cL_law 1084 = .ok (.if_icmp .eq 5, 3) := dk_159 0 5 (dk_at dksL_law_40 5 rfl rfl)
theorem dL_law_1087 : decode cL_law 1087 = .ok (.iconst 0, 1) := dk_3 (dk_at dksL_law_40 8 rfl rfl)
theorem dL_law_1088 : decode cL_law 1088 = .ok (.ireturn, 1) := dk_172 (dk_at dksL_law_40 9 rfl rfl)
theorem dL_law_1089 : decode cL_law 1089 = .ok (.iload 5, 2) := dk_21 5 (dk_at dksL_law_40 10 rfl rfl)
theorem dL_law_1091 : decode cL_law 1091 = .ok (.ifCond .ne 15, 3) := dk_154 0 15 (dk_at dksL_law_40 12 rfl rfl)
theorem dL_law_1094 : decode cL_law 1094 = .ok (.aload_n 3, 1) := dk_45 (dk_at dksL_law_40 15 rfl rfl)
theorem dL_law_1095 : decode cL_law 1095 = .ok (.iconst 0, 1) := dk_3 (dk_at dksL_law_40 16 rfl rfl)
theorem dL_law_1096 : decode cL_law 1096 = .ok (.laload, 1) := dk_47 (dk_at dksL_law_40 17 rfl rfl)
theorem dL_law_1097 : decode cL_law 1097 = .ok (.iload 6, 2) := dk_21 6 (dk_at dksL_law_40 18 rfl rfl)
theorem dL_law_1099 : decode cL_law 1099 = .ok (.i2l, 1) := dk_133 (dk_at dksL_law_40 20 rfl rfl)
theorem dL_law_1100 : decode cL_law 1100 = .ok (.lcmp, 1) := dk_148 (dk_at dksL_law_40 21 rfl rfl)
theorem dL_law_1101 : decode cL_law 1101 = .ok (.ifCond .eq 5, 3) := dk_153 0 5 (dk_at dksL_law_41 0 rfl rfl)
theorem dL_law_1104 : decode cL_law 1104 = .ok (.iconst 0, 1) := dk_3 (dk_at dksL_law_41 3 rfl rfl)
theorem dL_law_1105 : decode cL_law 1105 = .ok (.ireturn, 1) := dk_172 (dk_at dksL_law_41 4 rfl rfl)
theorem dL_law_1106 : decode cL_law 1106 = .ok (.goto 1452, 3) := dk_167 5 172 (dk_at dksL_law_41 5 rfl rfl)
theorem dL_law_1109 : decode cL_law 1109 = .ok (.aload_n 1, 1) := dk_43 (dk_at dksL_law_41 8 rfl rfl)
theorem dL_law_1110 : decode cL_law 1110 = .ok (.aload_n 0, 1) := dk_42 (dk_at dksL_law_41 9 rfl rfl)
theorem dL_law_1111 : decode cL_law 1111 = .ok (.iload 4, 2) := dk_21 4 (dk_at dksL_law_41 10 rfl rfl)
theorem dL_law_1113 : decode cL_law 1113 = .ok (.iconst 1, 1) := dk_4 (dk_at dksL_law_41 12 rfl rfl)
theorem dL_law_1114 : decode cL_law 1114 = .ok (.iadd, 1) := dk_96 (dk_at dksL_law_41 13 rfl rfl)
theorem dL_law_1115 : decode cL_law 1115 = .ok (.iaload, 1) := dk_46 (dk_at dksL_law_41 14 rfl rfl)
theorem dL_law_1116 : decode cL_law 1116 = .ok (.aload_n 3, 1) := dk_45 (dk_at dksL_law_41 15 rfl rfl)
theorem dL_law_1117 : decode cL_law 1117 = .ok (.invokestatic 177, 3) := dk_184 0 177 (dk_at dksL_law_41 16 rfl rfl)
theorem dL_law_1120 : decode cL_law 1120 = .ok (.istore 5, 2) := dk_54 5 (dk_at dksL_law_41 19 rfl rfl)
theorem dL_law_1122 : decode cL_law 1122 = .ok (.aload_n 2, 1) := dk_44 (dk_at dksL_law_41 21 rfl rfl)
theorem dL_law_1123 : decode cL_law 1123 = .ok (.aload_n 0, 1) := dk_42 (dk_at dksL_law_41 22 rfl rfl)
theorem dL_law_1124 : decode cL_law 1124 = .ok (.iload 4, 2) := dk_21 4 (dk_at dksL_law_42 0 rfl rfl)
theorem dL_law_1126 : decode cL_law 1126 = .ok (.iconst 1, 1) := dk_4 (dk_at dksL_law_42 2 rfl rfl)
theorem dL_law_1127 : decode cL_law 1127 = .ok (.iadd, 1) := dk_96 (dk_at dksL_law_42 3 rfl rfl)
theorem dL_law_1128 : decode cL_law 1128 = .ok (.iaload, 1) := dk_46 (dk_at dksL_law_42 4 rfl rfl)
theorem dL_law_1129 : decode cL_law 1129 = .ok (.invokevirtual 179, 3) := dk_182 0 179 (dk_at dksL_law_42 5 rfl rfl)
theorem dL_law_1132 : decode cL_law 1132 = .ok (.istore 6, 2) := dk_54 6 (dk_at dksL_law_42 8 rfl rfl)
theorem dL_law_1134 : decode cL_law 1134 = .ok (.aload_n 2, 1) := dk_44 (dk_at dksL_law_42 10 rfl rfl)
theorem dL_law_1135 : decode cL_law 1135 = .ok (.invokevirtual 132, 3) := dk_182 0 132 (dk_at dksL_law_42 11 rfl rfl)
theorem dL_law_1138 : decode cL_law 1138 = .ok (.iload 5, 2) := dk_21 5 (dk_at dksL_law_42 14 rfl rfl)
theorem dL_law_1140 : decode cL_law 1140 = .ok (.if_icmp .eq 5, 3) := dk_159 0 5 (dk_at dksL_law_42 16 rfl rfl)
theorem dL_law_1143 : decode cL_law 1143 = .ok (.iconst 0, 1) := dk_3 (dk_at dksL_law_42 19 rfl rfl)
theorem dL_law_1144 : decode cL_law 1144 = .ok (.ireturn, 1) := dk_172 (dk_at dksL_law_42 20 rfl rfl)
theorem dL_law_1145 : decode cL_law 1145 = .ok (.iload 5, 2) := dk_21 5 (dk_at dksL_law_42 21 rfl rfl)
theorem dL_law_1147 : decode cL_law 1147 = .ok (.ifCond .ne 15, 3) := dk_154 0 15 (dk_at dksL_law_43 0 rfl rfl)
theorem dL_law_1150 : decode cL_law 1150 = .ok (.aload_n 3, 1) := dk_45 (dk_at dksL_law_43 3 rfl rfl)
theorem dL_law_1151 : decode cL_law 1151 = .ok (.iconst 0, 1) := dk_3 (dk_at dksL_law_43 4 rfl rfl)
theorem dL_law_1152 : decode cL_law 1152 = .ok (.laload, 1) := dk_47 (dk_at dksL_law_43 5 rfl rfl)
theorem dL_law_1153 : decode cL_law 1153 = .ok (.iload 6, 2) := dk_21 6 (dk_at dksL_law_43 6 rfl rfl)
theorem dL_law_1155 : decode cL_law 1155 = .ok (.i2l, 1) := dk_133 (dk_at dksL_law_43 8 rfl rfl)
theorem dL_law_1156 : decode cL_law 1156 = .ok (.lcmp, 1) := dk_148 (dk_at dksL_law_43 9 rfl rfl)
theorem dL_law_1157 : decode cL_law 1157 = .ok (.ifCond .eq 5, 3) := dk_153 0 5 (dk_at dksL_law_43 10 rfl rfl)
theorem dL_law_1160 : decode cL_law 1160 = .ok (.iconst 0, 1) := dk_3 (dk_at dksL_law_43 13 rfl rfl)
theorem dL_law_1161 : decode cL_law 1161 = .ok (.ireturn, 1) := dk_172 (dk_at dksL_law_43 14 rfl rfl)
theorem dL_law_1162 : decode cL_law 1162 = .ok (.goto 1396, 3) := dk_167 5 116 (dk_at dksL_law_43 15 rfl rfl)
theorem dL_law_1165 : decode cL_law 1165 = .ok (.aload_n 1, 1) := dk_43 (dk_at dksL_law_43 18 rfl rfl)
theorem dL_law_1166 : decode cL_law 1166 = .ok (.aload_n 0, 1) := dk_42 (dk_at dksL_law_43 19 rfl rfl)
theorem dL_law_1167 : decode cL_law 1167 = .ok (.iload 4, 2) := dk_21 4 (dk_at dksL_law_43 20 rfl rfl)
theorem dL_law_1169 : decode cL_law 1169 = .ok (.iconst 1, 1) := dk_4 (dk_at dksL_law_43 22 rfl rfl)
theorem dL_law_1170 : decode cL_law 1170 = .ok (.iadd, 1) := dk_96 (dk_at dksL_law_43 23 rfl rfl)
theorem dL_law_1171 : decode cL_law 1171 = .ok (.iaload, 1) := dk_46 (dk_at dksL_law_44 0 rfl rfl)
theorem dL_law_1172 : decode cL_law 1172 = .ok (.aload_n 3, 1) := dk_45 (dk_at dksL_law_44 1 rfl rfl)
theorem dL_law_1173 : decode cL_law 1173 = .ok (.invokestatic 180, 3) := dk_184 0 180 (dk_at dksL_law_44 2 rfl rfl)
theorem dL_law_1176 : decode cL_law 1176 = .ok (.istore 5, 2) := dk_54 5 (dk_at dksL_law_44 5 rfl rfl)
theorem dL_law_1178 : decode cL_law 1178 = .ok (.aload_n 2, 1) := dk_44 (dk_at dksL_law_44 7 rfl rfl)
theorem dL_law_1179 : decode cL_law 1179 = .ok (.aload_n 0, 1) := dk_42 (dk_at dksL_law_44 8 rfl rfl)
theorem dL_law_1180 : decode cL_law 1180 = .ok (.iload 4, 2) := dk_21 4 (dk_at dksL_law_44 9 rfl rfl)
theorem dL_law_1182 : decode cL_law 1182 = .ok (.iconst 1, 1) := dk_4 (dk_at dksL_law_44 11 rfl rfl)
theorem dL_law_1183 : decode cL_law 1183 = .ok (.iadd, 1) := dk_96 (dk_at dksL_law_44 12 rfl rfl)
theorem dL_law_1184 : decode cL_law 1184 = .ok (.iaload, 1) := dk_46 (dk_at dksL_law_44 13 rfl rfl)
theorem dL_law_1185 : decode cL_law 1185 = .ok (.invokevirtual 182, 3) := dk_182 0 182 (dk_at dksL_law_44 14 rfl rfl)
theorem dL_law_1188 : decode cL_law 1188 = .ok (.istore 6, 2) := dk_54 6 (dk_at dksL_law_44 17 rfl rfl)
theorem dL_law_1190 : decode cL_law 1190 = .ok (.aload_n 2, 1) := dk_44 (dk_at dksL_law_44 19 rfl rfl)
theorem dL_law_1191 : decode cL_law 1191 = .ok (.invokevirtual 132, 3) := dk_182 0 132 (dk_at dksL_law_44 20 rfl rfl)
theorem dL_law_1194 : decode cL_law 1194 = .ok (.iload 5, 2) := dk_21 5 (dk_at dksL_law_45 0 rfl rfl)
theorem dL_law_1196 : decode cL_law 1196 = .ok (.if_icmp .eq 5, 3) := dk_159 0 5 (dk_at dksL_law_45 2 rfl rfl)
theorem dL_law_1199 : decode cL_law 1199 = .ok (.iconst 0, 1) := dk_3 (dk_at dksL_law_45 5 rfl rfl)
theorem dL_law_1200 : decode cL_law 1200 = .ok (.ireturn, 1) := dk_172 (dk_at dksL_law_45 6 rfl rfl)
theorem dL_law_1201 : decode cL_law 1201 = .ok (.iload 5, 2) := dk_21 5 (dk_at dksL_law_45 7 rfl rfl)
theorem dL_law_1203 : decode cL_law 1203 = .ok (.ifCond .ne 15, 3) := dk_154 0 15 (dk_at dksL_law_45 9 rfl rfl)
theorem dL_law_1206 : decode cL_law 1206 = .ok (.aload_n 3, 1) := dk_45 (dk_at dksL_law_45 12 rfl rfl)
theorem dL_law_1207 : decode cL_law 1207 = .ok (.iconst 0, 1) := dk_3 (dk_at dksL_law_45 13 rfl rfl)
theorem dL_law_1208 : decode cL_law 1208 = .ok (.laload, 1) := dk_47 (dk_at dksL_law_45 14 rfl rfl)
theorem dL_law_1209 : decode cL_law 1209 = .ok (.iload 6, 2) := dk_21 6 (dk_at dksL_law_45 15 rfl rfl)
theorem dL_law_1211 : decode cL_law 1211 = .ok (.i2l, 1) := dk_133 (dk_at dksL_law_45 17 rfl rfl)
theorem dL_law_1212 : decode cL_law 1212 = .ok (.lcmp, 1) := dk_148 (dk_at dksL_law_45 18 rfl rfl)
theorem dL_law_1213 : decode cL_law 1213 = .ok (.ifCond .eq 5, 3) := dk_153 0 5 (dk_at dksL_law_45 19 rfl rfl)
theorem dL_law_1216 : decode cL_law 1216 = .ok (.iconst 0, 1) := dk_3 (dk_at dksL_law_45 22 rfl rfl)
theorem dL_law_1217 : decode cL_law 1217 = .ok (.ireturn, 1) := dk_172 (dk_at dksL_law_45 23 rfl rfl)
theorem dL_law_1218 : decode cL_law 1218 = .ok (.goto 1340, 3) := dk_167 5 60 (dk_at dksL_law_46 0 rfl rfl)
theorem dL_law_1221 : decode cL_law 1221 = .ok (.aload_n 1, 1) := dk_43 (dk_at dksL_law_46 3 rfl rfl)
theorem dL_law_1222 : decode cL_law 1222 = .ok (.aload_n 0, 1) := dk_42 (dk_at dksL_law_46 4 rfl rfl)
theorem dL_law_1223 : decode cL_law 1223 = .ok (.iload 4, 2) := dk_21 4 (dk_at dksL_law_46 5 rfl rfl)
theorem dL_law_1225 : decode cL_law 1225 = .ok (.iconst 1, 1) := dk_4 (dk_at dksL_law_46 7 rfl rfl)
theorem dL_law_1226 : decode cL_law 1226 = .ok (.iadd, 1) := dk_96 (dk_at dksL_law_46 8 rfl rfl)
theorem dL_law_1227 : decode cL_law 1227 = .ok (.iaload, 1) := dk_46 (dk_at dksL_law_46 9 rfl rfl)
theorem dL_law_1228 : decode cL_law 1228 = .ok (.aload_n 3, 1) := dk_45 (dk_at dksL_law_46 10 rfl rfl)
theorem dL_law_1229 : decode cL_law 1229 = .ok (.invokestatic 183, 3) := dk_184 0 183 (dk_at dksL_law_46 11 rfl rfl)
theorem dL_law_1232 : decode cL_law 1232 = .ok (.istore 5, 2) := dk_54 5 (dk_at dksL_law_46 14 rfl rfl)
theorem dL_law_1234 : decode cL_law 1234 = .ok (.aload_n 2, 1) := dk_44 (dk_at dksL_law_46 16 rfl rfl)
theorem dL_law_1235 : decode cL_law 1235 = .ok (.aload_n 0, 1) := dk_42 (dk_at dksL_law_46 17 rfl rfl)
theorem dL_law_1236 : decode cL_law 1236 = .ok (.iload 4, 2) := dk_21 4 (dk_at dksL_law_46 18 rfl rfl)
theorem dL_law_1238 : decode cL_law 1238 = .ok (.iconst 1, 1) := dk_4 (dk_at dksL_law_46 20 rfl rfl)
theorem dL_law_1239 : decode cL_law 1239 = .ok (.iadd, 1) := dk_96 (dk_at dksL_law_46 21 rfl rfl)
theorem dL_law_1240 : decode cL_law 1240 = .ok (.iaload, 1) := dk_46 (dk_at dksL_law_46 22 rfl rfl)
theorem dL_law_1241 : decode cL_law 1241 = .ok (.invokevirtual 185, 3) := dk_182 0 185 (dk_at dksL_law_47 0 rfl rfl)
theorem dL_law_1244 : decode cL_law 1244 = .ok (.istore 6, 2) := dk_54 6 (dk_at dksL_law_47 3 rfl rfl)
theorem dL_law_1246 : decode cL_law 1246 = .ok (.aload_n 2, 1) := dk_44 (dk_at dksL_law_47 5 rfl rfl)
theorem dL_law_1247 : decode cL_law 1247 = .ok (.invokevirtual 132, 3) := dk_182 0 132 (dk_at dksL_law_47 6 rfl rfl)
theorem dL_law_1250 : decode cL_law 1250 = .ok (.iload 5, 2) := dk_21 5 (dk_at dksL_law_47 9 rfl rfl)
theorem dL_law_1252 : decode cL_law 1252 = .ok (.if_icmp .eq 5, 3) := dk_159 0 5 (dk_at dksL_law_47 11 rfl rfl)
theorem dL_law_1255 : decode cL_law 1255 = .ok (.iconst 0, 1) := dk_3 (dk_at dksL_law_47 14 rfl rfl)
theorem dL_law_1256 : decode cL_law 1256 = .ok (.ireturn, 1) := dk_172 (dk_at dksL_law_47 15 rfl rfl)
theorem dL_law_1257 : decode cL_law 1257 = .ok (.iload 5, 2) := dk_21 5 (dk_at dksL_law_47 16 rfl rfl)
theorem dL_law_1259 : decode cL_law 1259 = .ok (.ifCond .ne 15, 3) := dk_154 0 15 (dk_at dksL_law_47 18 rfl rfl)
theorem dL_law_1262 : decode cL_law 1262 = .ok (.aload_n 3, 1) := dk_45 (dk_at dksL_law_47 21 rfl rfl)
theorem dL_law_1263 : decode cL_law 1263 = .ok (.iconst 0, 1) := dk_3 (dk_at dksL_law_47 22 rfl rfl)
theorem dL_law_1264 : decode cL_law 1264 = .ok (.laload, 1) := dk_47 (dk_at dksL_law_47 23 rfl rfl)
theorem dL_law_1265 : decode cL_law 1265 = .ok (.iload 6, 2) := dk_21 6 (dk_at dksL_law_48 0 rfl rfl)
theorem dL_law_1267 : decode cL_law 1267 = .ok (.i2l, 1) := dk_133 (dk_at dksL_law_48 2 rfl rfl)
theorem dL_law_1268 : decode cL_law 1268 = .ok (.lcmp, 1) := dk_148 (dk_at dksL_law_48 3 rfl rfl)
theorem dL_law_1269 : decode cL_law 1269 = .ok (.ifCond .eq 5, 3) := dk_153 0 5 (dk_at dksL_law_48 4 rfl rfl)
theorem dL_law_1272 : decode cL_law 1272 = .ok (.iconst 0, 1) := dk_3 (dk_at dksL_law_48 7 rfl rfl)
theorem dL_law_1273 : decode cL_law 1273 = .ok (.ireturn, 1) := dk_172 (dk_at dksL_law_48 8 rfl rfl)
theorem dL_law_1274 : decode cL_law 1274 = .ok (.goto 1284, 3) := dk_167 5 4 (dk_at dksL_law_48 9 rfl rfl)
theorem dL_law_1277 : decode cL_law 1277 = .ok (.aload_n 1, 1) := dk_43 (dk_at dksL_law_48 12 rfl rfl)
theorem dL_law_1278 : decode cL_law 1278 = .ok (.aload_n 0, 1) := dk_42 (dk_at dksL_law_48 13 rfl rfl)
theorem dL_law_1279 : decode cL_law 1279 = .ok (.iload 4, 2) := dk_21 4 (dk_at dksL_law_48 14 rfl rfl)
theorem dL_law_1281 : decode cL_law 1281 = .ok (.iconst 1, 1) := dk_4 (dk_at dksL_law_48 16 rfl rfl)
theorem dL_law_1282 : decode cL_law 1282 = .ok (.iadd, 1) := dk_96 (dk_at dksL_law_48 17 rfl rfl)
theorem dL_law_1283 : decode cL_law 1283 = .ok (.iaload, 1) := dk_46 (dk_at dksL_law_48 18 rfl rfl)
theorem dL_law_1284 : decode cL_law 1284 = .ok (.aload_n 0, 1) := dk_42 (dk_at dksL_law_48 19 rfl rfl)
theorem dL_law_1285 : decode cL_law 1285 = .ok (.iload 4, 2) := dk_21 4 (dk_at dksL_law_48 20 rfl rfl)
theorem dL_law_1287 : decode cL_law 1287 = .ok (.iconst 2, 1) := dk_5 (dk_at dksL_law_48 22 rfl rfl)
theorem dL_law_1288 : decode cL_law 1288 = .ok (.iadd, 1) := dk_96 (dk_at dksL_law_48 23 rfl rfl)
theorem dL_law_1289 : decode cL_law 1289 = .ok (.iaload, 1) := dk_46 (dk_at dksL_law_49 0 rfl rfl)
theorem dL_law_1290 : decode cL_law 1290 = .ok (.aload_n 3, 1) := dk_45 (dk_at dksL_law_49 1 rfl rfl)
theorem dL_law_1291 : decode cL_law 1291 = .ok (.invokestatic 186, 3) := dk_184 0 186 (dk_at dksL_law_49 2 rfl rfl)
theorem dL_law_1294 : decode cL_law 1294 = .ok (.istore 5, 2) := dk_54 5 (dk_at dksL_law_49 5 rfl rfl)
theorem dL_law_1296 : decode cL_law 1296 = .ok (.aload_n 2, 1) := dk_44 (dk_at dksL_law_49 7 rfl rfl)
theorem dL_law_1297 : decode cL_law 1297 = .ok (.aload_n 0, 1) := dk_42 (dk_at dksL_law_49 8 rfl rfl)
theorem dL_law_1298 : decode cL_law 1298 = .ok (.iload 4, 2) := dk_21 4 (dk_at dksL_law_49 9 rfl rfl)
theorem dL_law_1300 : decode cL_law 1300 = .ok (.iconst 1, 1) := dk_4 (dk_at dksL_law_49 11 rfl rfl)
theorem dL_law_1301 : decode cL_law 1301 = .ok (.iadd, 1) := dk_96 (dk_at dksL_law_49 12 rfl rfl)
theorem dL_law_1302 : decode cL_law 1302 = .ok (.iaload, 1) := dk_46 (dk_at dksL_law_49 13 rfl rfl)
theorem dL_law_1303 : decode cL_law 1303 = .ok (.aload_n 0, 1) := dk_42 (dk_at dksL_law_49 14 rfl rfl)
theorem dL_law_1304 : decode cL_law 1304 = .ok (.iload 4, 2) := dk_21 4 (dk_at dksL_law_49 15 rfl rfl)
theorem dL_law_1306 : decode cL_law 1306 = .ok (.iconst 2, 1) := dk_5 (dk_at dksL_law_49 17 rfl rfl)
theorem dL_law_1307 : decode cL_law 1307 = .ok (.iadd, 1) := dk_96 (dk_at dksL_law_49 18 rfl rfl)
theorem dL_law_1308 : decode cL_law 1308 = .ok (.iaload, 1) := dk_46 (dk_at dksL_law_49 19 rfl rfl)
theorem dL_law_1309 : decode cL_law 1309 = .ok (.invokevirtual 188, 3) := dk_182 0 188 (dk_at dksL_law_49 20 rfl rfl)
theorem dL_law_1312 : decode cL_law 1312 = .ok (.istore 6, 2) := dk_54 6 (dk_at dksL_law_50 0 rfl rfl)
theorem dL_law_1314 : decode cL_law 1314 = .ok (.aload_n 2, 1) := dk_44 (dk_at dksL_law_50 2 rfl rfl)
theorem dL_law_1315 : decode cL_law 1315 = .ok (.invokevirtual 132, 3) := dk_182 0 132 (dk_at dksL_law_50 3 rfl rfl)
theorem dL_law_1318 : decode cL_law 1318 = .ok (.iload 5, 2) := dk_21 5 (dk_at dksL_law_50 6 rfl rfl)
theorem dL_law_1320 : decode cL_law 1320 = .ok (.if_icmp .eq 5, 3) := dk_159 0 5 (dk_at dksL_law_50 8 rfl rfl)
theorem dL_law_1323 : decode cL_law 1323 = .ok (.iconst 0, 1) := dk_3 (dk_at dksL_law_50 11 rfl rfl)
theorem dL_law_1324 : decode cL_law 1324 = .ok (.ireturn, 1) := dk_172 (dk_at dksL_law_50 12 rfl rfl)
theorem dL_law_1325 : decode cL_law 1325 = .ok (.iload 5, 2) := dk_21 5 (dk_at dksL_law_50 13 rfl rfl)
theorem dL_law_1327 : decode cL_law 1327 = .ok (.ifCond .ne 22, 3) := dk_154 0 22 (dk_at dksL_law_50 15 rfl rfl)
theorem dL_law_1330 : decode cL_law 1330 = .ok (.aload_n 3, 1) := dk_45 (dk_at dksL_law_50 18 rfl rfl)
theorem dL_law_1331 : decode cL_law 1331 = .ok (.iconst 0, 1) := dk_3 (dk_at dksL_law_50 19 rfl rfl)
theorem dL_law_1332 : decode cL_law 1332 = .ok (.laload, 1) := dk_47 (dk_at dksL_law_50 20 rfl rfl)
theorem dL_law_1333 : decode cL_law 1333 = .ok (.iload 6, 2) := dk_21 6 (dk_at dksL_law_50 21 rfl rfl)
theorem dL_law_1335 : decode cL_law 1335 = .ok (.ifCond .eq 7, 3) := dk_153 0 7 (dk_at dksL_law_51 0 rfl rfl)
theorem dL_law_1338 : decode cL_law 1338 = .ok (.lconst 1, 1) := dk_10 (dk_at dksL_law_51 3 rfl rfl)
theorem dL_law_1339 : decode cL_law 1339 = .ok (.goto 4, 3) := dk_167 0 4 (dk_at dksL_law_51 4 rfl rfl)
theorem dL_law_1342 : decode cL_law 1342 = .ok (.lconst 0, 1) := dk_9 (dk_at dksL_law_51 7 rfl rfl)
theorem dL_law_1343 : decode cL_law 1343 = .ok (.lcmp, 1) := dk_148 (dk_at dksL_law_51 8 rfl rfl)
theorem dL_law_1344 : decode cL_law 1344 = .ok (.ifCond .eq 5, 3) := dk_153 0 5 (dk_at dksL_law_51 9 rfl rfl)
theorem dL_law_1347 : decode cL_law 1347 = .ok (.iconst 0, 1) := dk_3 (dk_at dksL_law_51 12 rfl rfl)
theorem dL_law_1348 : decode cL_law 1348 = .ok (.ireturn, 1) := dk_172 (dk_at dksL_law_51 13 rfl rfl)
theorem dL_law_1349 : decode cL_law 1349 = .ok (.goto 1209, 3) := dk_167 4 185 (dk_at dksL_law_51 14 rfl rfl)
theorem dL_law_1352 : decode cL_law 1352 = .ok (.aload_n 1, 1) := dk_43 (dk_at dksL_law_51 17 rfl rfl)
theorem dL_law_1353 : decode cL_law 1353 = .ok (.aload_n 0, 1) := dk_42 (dk_at dksL_law_51 18 rfl rfl)
theorem dL_law_1354 : decode cL_law 1354 = .ok (.iload 4, 2) := dk_21 4 (dk_at dksL_law_51 19 rfl rfl)
theorem dL_law_1356 : decode cL_law 1356 = .ok (.iconst 1, 1) := dk_4 (dk_at dksL_law_51 21 rfl rfl)
theorem dL_law_1357 : decode cL_law 1357 = .ok (.iadd, 1) := dk_96 (dk_at dksL_law_51 22 rfl rfl)
theorem dL_law_1358 : decode cL_law 1358 = .ok (.iaload, 1) := dk_46 (dk_at dksL_law_51 23 rfl rfl)
theorem dL_law_1359 : decode cL_law 1359 = .ok (.aload_n 3, 1) := dk_45 (dk_at dksL_law_52 0 rfl rfl)
theorem dL_law_1360 : decode cL_law 1360 = .ok (.invokestatic 189, 3) := dk_184 0 189 (dk_at dksL_law_52 1 rfl rfl)
theorem dL_law_1363 : decode cL_law 1363 = .ok (.istore 5, 2) := dk_54 5 (dk_at dksL_law_52 4 rfl rfl)
theorem dL_law_1365 : decode cL_law 1365 = .ok (.aload_n 2, 1) := dk_44 (dk_at dksL_law_52 6 rfl rfl)
theorem dL_law_1366 : decode cL_law 1366 = .ok (.aload_n 0, 1) := dk_42 (dk_at dksL_law_52 7 rfl rfl)
theorem dL_law_1367 : decode cL_law 1367 = .ok (.iload 4, 2) := dk_21 4 (dk_at dksL_law_52 8 rfl rfl)
theorem dL_law_1369 : decode cL_law 1369 = .ok (.iconst 1, 1) := dk_4 (dk_at dksL_law_52 10 rfl rfl)
theorem dL_law_1370 : decode cL_law 1370 = .ok (.iadd, 1) := dk_96 (dk_at dksL_law_52 11 rfl rfl)
theorem dL_law_1371 : decode cL_law 1371 = .ok (.iaload, 1) := dk_46 (dk_at dksL_law_52 12 rfl rfl)
theorem dL_law_1372 : decode cL_law 1372 = .ok (.invokevirtual 191, 3) := dk_182 0 191 (dk_at dksL_law_52 13 rfl rfl)
theorem dL_law_1375 : decode cL_law 1375 = .ok (.istore 6, 2) := dk_54 6 (dk_at dksL_law_52 16 rfl rfl)
theorem dL_law_1377 : decode cL_law 1377 = .ok (.aload_n 2, 1) := dk_44 (dk_at dksL_law_52 18 rfl rfl)
theorem dL_law_1378 : decode cL_law 1378 = .ok (.invokevirtual 132, 3) := dk_182 0 132 (dk_at dksL_law_52 19 rfl rfl)
theorem dL_law_1381 : decode cL_law 1381 = .ok (.iload 5, 2) := dk_21 5 (dk_at dksL_law_52 22 rfl rfl)
theorem dL_law_1383 : decode cL_law 1383 = .ok (.if_icmp .eq 5, 3) := dk_159 0 5 (dk_at dksL_law_53 0 rfl rfl)
theorem dL_law_1386 : decode cL_law 1386 = .ok (.iconst 0, 1) := dk_3 (dk_at dksL_law_53 3 rfl rfl)
theorem dL_law_1387 : decode cL_law 1387 = .ok (.ireturn, 1) := dk_172 (dk_at dksL_law_53 4 rfl rfl)
theorem dL_law_1388 : decode cL_law 1388 = .ok (.iload 5, 2) := dk_21 5 (dk_at dksL_law_53 5 rfl rfl)
theorem dL_law_1390 : decode cL_law 1390 = .ok (.ifCond .ne 15, 3) := dk_154 0 15 (dk_at dksL_law_53 7 rfl rfl)
theorem dL_law_1393 : decode cL_law 1393 = .ok (.aload_n 3, 1) := dk_45 (dk_at dksL_law_53 10 rfl rfl)
theorem dL_law_1394 : decode cL_law 1394 = .ok (.iconst 0, 1) := dk_3 (dk_at dksL_law_53 11 rfl rfl)
theorem dL_law_1395 : decode cL_law 1395 = .ok (.laload, 1) := dk_47 (dk_at dksL_law_53 12 rfl rfl)
theorem dL_law_1396 : decode cL_law 1396 = .ok (.iload 6, 2) := dk_21 6 (dk_at dksL_law_53 13 rfl rfl)
theorem dL_law_1398 : decode cL_law 1398 = .ok (.i2l, 1) := dk_133 (dk_at dksL_law_53 15 rfl rfl)
theorem dL_law_1399 : decode cL_law 1399 = .ok (.lcmp, 1) := dk_148 (dk_at dksL_law_53 16 rfl rfl)
theorem dL_law_1400 : decode cL_law 1400 = .ok (.ifCond .eq 5, 3) := dk_153 0 5 (dk_at dksL_law_53 17 rfl rfl)
theorem dL_law_1403 : decode cL_law 1403 = .ok (.iconst 0, 1) := dk_3 (dk_at dksL_law_53 20 rfl rfl)
theorem dL_law_1404 : decode cL_law 1404 = .ok (.ireturn, 1) := dk_172 (dk_at dksL_law_53 21 rfl rfl)
theorem dL_law_1405 : decode cL_law 1405 = .ok (.goto 1153, 3) := dk_167 4 129 (dk_at dksL_law_54 0 rfl rfl)
theorem dL_law_1408 : decode cL_law 1408 = .ok (.aload_n 1, 1) := dk_43 (dk_at dksL_law_54 3 rfl rfl)
theorem dL_law_1409 : decode cL_law 1409 = .ok (.aload_n 0, 1) := dk_42 (dk_at dksL_law_54 4 rfl rfl)
theorem dL_law_1410 : decode cL_law 1410 = .ok (.iload 4, 2) := dk_21 4 (dk_at dksL_law_54 5 rfl rfl)
theorem dL_law_1412 : decode cL_law 1412 = .ok (.iconst 1, 1) := dk_4 (dk_at dksL_law_54 7 rfl rfl)
theorem dL_law_1413 : decode cL_law 1413 = .ok (.iadd, 1) := dk_96 (dk_at dksL_law_54 8 rfl rfl)
theorem dL_law_1414 : decode cL_law 1414 = .ok (.iaload, 1) := dk_46 (dk_at dksL_law_54 9 rfl rfl)
theorem dL_law_1415 : decode cL_law 1415 = .ok (.aload_n 3, 1) := dk_45 (dk_at dksL_law_54 10 rfl rfl)
theorem dL_law_1416 : decode cL_law 1416 = .ok (.invokestatic 192, 3) := dk_184 0 192 (dk_at dksL_law_54 11 rfl rfl)
theorem dL_law_1419 : decode cL_law 1419 = .ok (.istore 5, 2) := dk_54 5 (dk_at dksL_law_54 14 rfl rfl)
theorem dL_law_1421 : decode cL_law 1421 = .ok (.aload_n 2, 1) := dk_44 (dk_at dksL_law_54 16 rfl rfl)
theorem dL_law_1422 : decode cL_law 1422 = .ok (.aload_n 0, 1) := dk_42 (dk_at dksL_law_54 17 rfl rfl)
theorem dL_law_1423 : decode cL_law 1423 = .ok (.iload 4, 2) := dk_21 4 (dk_at dksL_law_54 18 rfl rfl)
theorem dL_law_1425 : decode cL_law 1425 = .ok (.iconst 1, 1) := dk_4 (dk_at dksL_law_54 20 rfl rfl)
theorem dL_law_1426 : decode cL_law 1426 = .ok (.iadd, 1) := dk_96 (dk_at dksL_law_54 21 rfl rfl)
theorem dL_law_1427 : decode cL_law 1427 = .ok (.iaload, 1) := dk_46 (dk_at dksL_law_54 22 rfl rfl)
theorem dL_law_1428 : decode cL_law 1428 = .ok (.invokevirtual 194, 3) := dk_182 0 194 (dk_at dksL_law_55 0 rfl rfl)
theorem dL_law_1431 : decode cL_law 1431 = .ok (.istore 6, 2) := dk_54 6 (dk_at dksL_law_55 3 rfl rfl)
theorem dL_law_1433 : decode cL_law 1433 = .ok (.aload_n 2, 1) := dk_44 (dk_at dksL_law_55 5 rfl rfl)
theorem dL_law_1434 : decode cL_law 1434 = .ok (.invokevirtual 132, 3) := dk_182 0 132 (dk_at dksL_law_55 6 rfl rfl)
theorem dL_law_1437 : decode cL_law 1437 = .ok (.iload 5, 2) := dk_21 5 (dk_at dksL_law_55 9 rfl rfl)
theorem dL_law_1439 : decode cL_law 1439 = .ok (.if_icmp .eq 5, 3) := dk_159 0 5 (dk_at dksL_law_55 11 rfl rfl)
theorem dL_law_1442 : decode cL_law 1442 = .ok (.iconst 0, 1) := dk_3 (dk_at dksL_law_55 14 rfl rfl)
theorem dL_law_1443 : decode cL_law 1443 = .ok (.ireturn, 1) := dk_172 (dk_at dksL_law_55 15 rfl rfl)
theorem dL_law_1444 : decode cL_law 1444 = .ok (.iload 5, 2) := dk_21 5 (dk_at dksL_law_55 16 rfl rfl)
theorem dL_law_1446 : decode cL_law 1446 = .ok (.ifCond .ne 22, 3) := dk_154 0 22 (dk_at dksL_law_55 18 rfl rfl)
theorem dL_law_1449 : decode cL_law 1449 = .ok (.aload_n 3, 1) := dk_45 (dk_at dksL_law_55 21 rfl rfl)
theorem dL_law_1450 : decode cL_law 1450 = .ok (.iconst 0, 1) := dk_3 (dk_at dksL_law_55 22 rfl rfl)
theorem dL_law_1451 : decode cL_law 1451 = .ok (.laload, 1) := dk_47 (dk_at dksL_law_55 23 rfl rfl)
theorem dL_law_1452 : decode cL_law 1452 = .ok (.iload 6, 2) := dk_21 6 (dk_at dksL_law_56 0 rfl rfl)
theorem dL_law_1454 : decode cL_law 1454 = .ok (.ifCond .eq 7, 3) := dk_153 0 7 (dk_at dksL_law_56 2 rfl rfl)
theorem dL_law_1457 : decode cL_law 1457 = .ok (.lconst 1, 1) := dk_10 (dk_at dksL_law_56 5 rfl rfl)
theorem dL_law_1458 : decode cL_law 1458 = .ok (.goto 4, 3) := dk_167 0 4 (dk_at dksL_law_56 6 rfl rfl)
theorem dL_law_1461 : decode cL_law 1461 = .ok (.lconst 0, 1) := dk_9 (dk_at dksL_law_56 9 rfl rfl)
theorem dL_law_1462 : decode cL_law 1462 = .ok (.lcmp, 1) := dk_148 (dk_at dksL_law_56 10 rfl rfl)
theorem dL_law_1463 : decode cL_law 1463 = .ok (.ifCond .eq 5, 3) := dk_153 0 5 (dk_at dksL_law_56 11 rfl rfl)
theorem dL_law_1466 : decode cL_law 1466 = .ok (.iconst 0, 1) := dk_3 (dk_at dksL_law_56 14 rfl rfl)
theorem dL_law_1467 : decode cL_law 1467 = .ok (.ireturn, 1) := dk_172 (dk_at dksL_law_56 15 rfl rfl)
theorem dL_law_1468 : decode cL_law 1468 = .ok (.goto 1090, 3) := dk_167 4 66 (dk_at dksL_law_56 16 rfl rfl)
theorem dL_law_1471 : decode cL_law 1471 = .ok (.aload_n 1, 1) := dk_43 (dk_at dksL_law_56 19 rfl rfl)
theorem dL_law_1472 : decode cL_law 1472 = .ok (.aload_n 0, 1) := dk_42 (dk_at dksL_law_56 20 rfl rfl)
theorem dL_law_1473 : decode cL_law 1473 = .ok (.iload 4, 2) := dk_21 4 (dk_at dksL_law_56 21 rfl rfl)
theorem dL_law_1475 : decode cL_law 1475 = .ok (.iconst 1, 1) := dk_4 (dk_at dksL_law_56 23 rfl rfl)
theorem dL_law_1476 : decode cL_law 1476 = .ok (.iadd, 1) := dk_96 (dk_at dksL_law_57 0 rfl rfl)
theorem dL_law_1477 : decode cL_law 1477 = .ok (.iaload, 1) := dk_46 (dk_at dksL_law_57 1 rfl rfl)
theorem dL_law_1478 : decode cL_law 1478 = .ok (.aload_n 0, 1) := dk_42 (dk_at dksL_law_57 2 rfl rfl)
theorem dL_law_1479 : decode cL_law 1479 = .ok (.iload 4, 2) := dk_21 4 (dk_at dksL_law_57 3 rfl rfl)
theorem dL_law_1481 : decode cL_law 1481 = .ok (.iconst 2, 1) := dk_5 (dk_at dksL_law_57 5 rfl rfl)
theorem dL_law_1482 : decode cL_law 1482 = .ok (.iadd, 1) := dk_96 (dk_at dksL_law_57 6 rfl rfl)
theorem dL_law_1483 : decode cL_law 1483 = .ok (.iaload, 1) := dk_46 (dk_at dksL_law_57 7 rfl rfl)
theorem dL_law_1484 : decode cL_law 1484 = .ok (.aload_n 0, 1) := dk_42 (dk_at dksL_law_57 8 rfl rfl)
theorem dL_law_1485 : decode cL_law 1485 = .ok (.iload 4, 2) := dk_21 4 (dk_at dksL_law_57 9 rfl rfl)
theorem dL_law_1487 : decode cL_law 1487 = .ok (.iconst 3, 1) := dk_6 (dk_at dksL_law_57 11 rfl rfl)
theorem dL_law_1488 : decode cL_law 1488 = .ok (.iadd, 1) := dk_96 (dk_at dksL_law_57 12 rfl rfl)
theorem dL_law_1489 : decode cL_law 1489 = .ok (.iaload, 1) := dk_46 (dk_at dksL_law_57 13 rfl rfl)
theorem dL_law_1490 : decode cL_law 1490 = .ok (.aload_n 3, 1) := dk_45 (dk_at dksL_law_57 14 rfl rfl)
theorem dL_law_1491 : decode cL_law 1491 = .ok (.invokestatic 195, 3) := dk_184 0 195 (dk_at dksL_law_57 15 rfl rfl)
theorem dL_law_1494 : decode cL_law 1494 = .ok (.istore 5, 2) := dk_54 5 (dk_at dksL_law_57 18 rfl rfl)
theorem dL_law_1496 : decode cL_law 1496 = .ok (.aload_n 2, 1) := dk_44 (dk_at dksL_law_57 20 rfl rfl)
theorem dL_law_1497 : decode cL_law 1497 = .ok (.aload_n 0, 1) := dk_42 (dk_at dksL_law_57 21 rfl rfl)
theorem dL_law_1498 : decode cL_law 1498 = .ok (.iload 4, 2) := dk_21 4 (dk_at dksL_law_57 22 rfl rfl)
theorem dL_law_1500 : decode cL_law 1500 = .ok (.iconst 1, 1) := dk_4 (dk_at dksL_law_58 0 rfl rfl)
theorem dL_law_1501 : decode cL_law 1501 = .ok (.iadd, 1) := dk_96 (dk_at dksL_law_58 1 rfl rfl)
theorem dL_law_1502 : decode cL_law 1502 = .ok (.iaload, 1) := dk_46 (dk_at dksL_law_58 2 rfl rfl)
theorem dL_law_1503 : decode cL_law 1503 = .ok (.aload_n 0, 1) := dk_42 (dk_at dksL_law_58 3 rfl rfl)
theorem dL_law_1504 : decode cL_law 1504 = .ok (.iload 4, 2) := dk_21 4 (dk_at dksL_law_58 4 rfl rfl)
theorem dL_law_1506 : decode cL_law 1506 = .ok (.iconst 2, 1) := dk_5 (dk_at dksL_law_58 6 rfl rfl)
theorem dL_law_1507 : decode cL_law 1507 = .ok (.iadd, 1) := dk_96 (dk_at dksL_law_58 7 rfl rfl)
theorem dL_law_1508 : decode cL_law 1508 = .ok (.iaload, 1) := dk_46 (dk_at dksL_law_58 8 rfl rfl)
theorem dL_law_1509 : decode cL_law 1509 = .ok (.aload_n 0, 1) := dk_42 (dk_at dksL_law_58 9 rfl rfl)
theorem dL_law_1510 : decode cL_law 1510 = .ok (.iload 4, 2) := dk_21 4 (dk_at dksL_law_58 10 rfl rfl)
theorem dL_law_1512 : decode cL_law 1512 = .ok (.iconst 3, 1) := dk_6 (dk_at dksL_law_58 12 rfl rfl)
theorem dL_law_1513 : decode cL_law 1513 = .ok (.iadd, 1) := dk_96 (dk_at dksL_law_58 13 rfl rfl)
theorem dL_law_1514 : decode cL_law 1514 = .ok (.iaload, 1) := dk_46 (dk_at dksL_law_58 14 rfl rfl)
theorem dL_law_1515 : decode cL_law 1515 = .ok (.invokevirtual 197, 3) := dk_182 0 197 (dk_at dksL_law_58 15 rfl rfl)
theorem dL_law_1518 : decode cL_law 1518 = .ok (.istore 6, 2) := dk_54 6 (dk_at dksL_law_58 18 rfl rfl)
theorem dL_law_1520 : decode cL_law 1520 = .ok (.aload_n 2, 1) := dk_44 (dk_at dksL_law_58 20 rfl rfl)
theorem dL_law_1521 : decode cL_law 1521 = .ok (.invokevirtual 132, 3) := dk_182 0 132 (dk_at dksL_law_58 21 rfl rfl)
theorem dL_law_1524 : decode cL_law 1524 = .ok (.iload 5, 2) := dk_21 5 (dk_at dksL_law_59 0 rfl rfl)
theorem dL_law_1526 : decode cL_law 1526 = .ok (.if_icmp .eq 5, 3) := dk_159 0 5 (dk_at dksL_law_59 2 rfl rfl)
theorem dL_law_1529 : decode cL_law 1529 = .ok (.iconst 0, 1) := dk_3 (dk_at dksL_law_59 5 rfl rfl)
theorem dL_law_1530 : decode cL_law 1530 = .ok (.ireturn, 1) := dk_172 (dk_at dksL_law_59 6 rfl rfl)
theorem dL_law_1531 : decode cL_law 1531 = .ok (.iload 5, 2) := dk_21 5 (dk_at dksL_law_59 7 rfl rfl)
theorem dL_law_1533 : decode cL_law 1533 = .ok (.ifCond .ne 15, 3) := dk_154 0 15 (dk_at dksL_law_59 9 rfl rfl)
theorem dL_law_1536 : decode cL_law 1536 = .ok (.aload_n 3, 1) := dk_45 (dk_at dksL_law_59 12 rfl rfl)
theorem dL_law_1537 : decode cL_law 1537 = .ok (.iconst 0, 1) := dk_3 (dk_at dksL_law_59 13 rfl rfl)
theorem dL_law_1538 : decode cL_law 1538 = .ok (.laload, 1) := dk_47 (dk_at dksL_law_59 14 rfl rfl)
theorem dL_law_1539 : decode cL_law 1539 = .ok (.iload 6, 2) := dk_21 6 (dk_at dksL_law_59 15 rfl rfl)
theorem dL_law_1541 : decode cL_law 1541 = .ok (.i2l, 1) := dk_133 (dk_at dksL_law_59 17 rfl rfl)
theorem dL_law_1542 : decode cL_law 1542 = .ok (.lcmp, 1) := dk_148 (dk_at dksL_law_59 18 rfl rfl)
theorem dL_law_1543 : decode cL_law 1543 = .ok (.ifCond .eq 5, 3) := dk_153 0 5 (dk_at dksL_law_59 19 rfl rfl)
theorem dL_law_1546 : decode cL_law 1546 = .ok (.iconst 0, 1) := dk_3 (dk_at dksL_law_59 22 rfl rfl)
theorem dL_law_1547 : decode cL_law 1547 = .ok (.ireturn, 1) := dk_172 (dk_at dksL_law_59 23 rfl rfl)
theorem dL_law_1548 : decode cL_law 1548 = .ok (.goto 1010, 3) := dk_167 3 242 (dk_at dksL_law_60 0 rfl rfl)
theorem dL_law_1551 : decode cL_law 1551 = .ok (.aload_n 1, 1) := dk_43 (dk_at dksL_law_60 3 rfl rfl)
theorem dL_law_1552 : decode cL_law 1552 = .ok (.aload_n 0, 1) := dk_42 (dk_at dksL_law_60 4 rfl rfl)
theorem dL_law_1553 : decode cL_law 1553 = .ok (.iload 4, 2) := dk_21 4 (dk_at dksL_law_60 5 rfl rfl)
theorem dL_law_1555 : decode cL_law 1555 = .ok (.iconst 1, 1) := dk_4 (dk_at dksL_law_60 7 rfl rfl)
theorem dL_law_1556 : decode cL_law 1556 = .ok (.iadd, 1) := dk_96 (dk_at dksL_law_60 8 rfl rfl)
theorem dL_law_1557 : decode cL_law 1557 = .ok (.iaload, 1) := dk_46 (dk_at dksL_law_60 9 rfl rfl)
theorem dL_law_1558 : decode cL_law 1558 = .ok (.aload_n 3, 1) := dk_45 (dk_at dksL_law_60 10 rfl rfl)
theorem dL_law_1559 : decode cL_law 1559 = .ok (.invokestatic 198, 3) := dk_184 0 198 (dk_at dksL_law_60 11 rfl rfl)
theorem dL_law_1562 : decode cL_law 1562 = .ok (.istore 5, 2) := dk_54 5 (dk_at dksL_law_60 14 rfl rfl)
theorem dL_law_1564 : decode cL_law 1564 = .ok (.aload_n 2, 1) := dk_44 (dk_at dksL_law_60 16 rfl rfl)
theorem dL_law_1565 : decode cL_law 1565 = .ok (.aload_n 0, 1) := dk_42 (dk_at dksL_law_60 17 rfl rfl)
theorem dL_law_1566 : decode cL_law 1566 = .ok (.iload 4, 2) := dk_21 4 (dk_at dksL_law_60 18 rfl rfl)
theorem dL_law_1568 : decode cL_law 1568 = .ok (.iconst 1, 1) := dk_4 (dk_at dksL_law_60 20 rfl rfl)
theorem dL_law_1569 : decode cL_law 1569 = .ok (.iadd, 1) := dk_96 (dk_at dksL_law_60 21 rfl rfl)
theorem dL_law_1570 : decode cL_law 1570 = .ok (.iaload, 1) := dk_46 (dk_at dksL_law_60 22 rfl rfl)
theorem dL_law_1571 : decode cL_law 1571 = .ok (.invokevirtual 200, 3) := dk_182 0 200 (dk_at dksL_law_61 0 rfl rfl)
theorem dL_law_1574 : decode cL_law 1574 = .ok (.istore 6, 2) := dk_54 6 (dk_at dksL_law_61 3 rfl rfl)
theorem dL_law_1576 : decode cL_law 1576 = .ok (.aload_n 2, 1) := dk_44 (dk_at dksL_law_61 5 rfl rfl)
theorem dL_law_1577 : decode cL_law 1577 = .ok (.invokevirtual 132, 3) := dk_182 0 132 (dk_at dksL_law_61 6 rfl rfl)
theorem dL_law_1580 : decode cL_law 1580 = .ok (.iload 5, 2) := dk_21 5 (dk_at dksL_law_61 9 rfl rfl)
theorem dL_law_1582 : decode cL_law 1582 = .ok (.if_icmp .eq 5, 3) := dk_159 0 5 (dk_at dksL_law_61 11 rfl rfl)
theorem dL_law_1585 : decode cL_law 1585 = .ok (.iconst 0, 1) := dk_3 (dk_at dksL_law_61 14 rfl rfl)
theorem dL_law_1586 : decode cL_law 1586 = .ok (.ireturn, 1) := dk_172 (dk_at dksL_law_61 15 rfl rfl)
theorem dL_law_1587 : decode cL_law 1587 = .ok (.iload 5, 2) := dk_21 5 (dk_at dksL_law_61 16 rfl rfl)
theorem dL_law_1589 : decode cL_law 1589 = .ok (.ifCond .ne 15, 3) := dk_154 0 15 (dk_at dksL_law_61 18 rfl rfl)
theorem dL_law_1592 : decode cL_law 1592 = .ok (.aload_n 3, 1) := dk_45 (dk_at dksL_law_61 21 rfl rfl)
theorem dL_law_1593 : decode cL_law 1593 = .ok (.iconst 0, 1) := dk_3 (dk_at dksL_law_61 22 rfl rfl)
theorem dL_law_1594 : decode cL_law 1594 = .ok (.laload, 1) := dk_47 (dk_at dksL_law_61 23 rfl rfl)
theorem dL_law_1595 : decode cL_law 1595 = .ok (.iload 6, 2) := dk_21 6 (dk_at dksL_law_62 0 rfl rfl)
theorem dL_law_1597 : decode cL_law 1597 = .ok (.i2l, 1) := dk_133 (dk_at dksL_law_62 2 rfl rfl)
theorem dL_law_1598 : decode cL_law 1598 = .ok (.lcmp, 1) := dk_148 (dk_at dksL_law_62 3 rfl rfl)
theorem dL_law_1599 : decode cL_law 1599 = .ok (.ifCond .eq 5, 3) := dk_153 0 5 (dk_at dksL_law_62 4 rfl rfl)
theorem dL_law_1602 : decode cL_law 1602 = .ok (.iconst 0, 1) := dk_3 (dk_at dksL_law_62 7 rfl rfl)
theorem dL_law_1603 : decode cL_law 1603 = .ok (.ireturn, 1) := dk_172 (dk_at dksL_law_62 8 rfl rfl)
theorem dL_law_1604 : decode cL_law 1604 = .ok (.goto 954, 3) := dk_167 3 186 (dk_at dksL_law_62 9 rfl rfl)
theorem dL_law_1607 : decode cL_law 1607 = .ok (.aload_n 1, 1) := dk_43 (dk_at dksL_law_62 12 rfl rfl)
theorem dL_law_1608 : decode cL_law 1608 = .ok (.aload_n 3, 1) := dk_45 (dk_at dksL_law_62 13 rfl rfl)
theorem dL_law_1609 : decode cL_law 1609 = .ok (.invokestatic 201, 3) := dk_184 0 201 (dk_at dksL_law_62 14 rfl rfl)
theorem dL_law_1612 : decode cL_law 1612 = .ok (.istore 5, 2) := dk_54 5 (dk_at dksL_law_62 17 rfl rfl)
theorem dL_law_1614 : decode cL_law 1614 = .ok (.aload_n 2, 1) := dk_44 (dk_at dksL_law_62 19 rfl rfl)
theorem dL_law_1615 : decode cL_law 1615 = .ok (.invokevirtual 203, 3) := dk_182 0 203 (dk_at dksL_law_62 20 rfl rfl)
theorem dL_law_1618 : decode cL_law 1618 = .ok (.istore 6, 2) := dk_54 6 (dk_at dksL_law_63 0 rfl rfl)
theorem dL_law_1620 : decode cL_law 1620 = .ok (.aload_n 2, 1) := dk_44 (dk_at dksL_law_63 2 rfl rfl)
theorem dL_law_1621 : decode cL_law 1621 = .ok (.invokevirtual 132, 3) := dk_182 0 132 (dk_at dksL_law_63 3 rfl rfl)
theorem dL_law_1624 : decode cL_law 1624 = .ok (.iload 5, 2) := dk_21 5 (dk_at dksL_law_63 6 rfl rfl)
theorem dL_law_1626 : decode cL_law 1626 = .ok (.if_icmp .eq 5, 3) := dk_159 0 5 (dk_at dksL_law_63 8 rfl rfl)
theorem dL_law_1629 : decode cL_law 1629 = .ok (.iconst 0, 1) := dk_3 (dk_at dksL_law_63 11 rfl rfl)
theorem dL_law_1630 : decode cL_law 1630 = .ok (.ireturn, 1) := dk_172 (dk_at dksL_law_63 12 rfl rfl)
theorem dL_law_1631 : decode cL_law 1631 = .ok (.iload 5, 2) := dk_21 5 (dk_at dksL_law_63 13 rfl rfl)
theorem dL_law_1633 : decode cL_law 1633 = .ok (.ifCond .ne 15, 3) := dk_154 0 15 (dk_at dksL_law_63 15 rfl rfl)
theorem dL_law_1636 : decode cL_law 1636 = .ok (.aload_n 3, 1) := dk_45 (dk_at dksL_law_63 18 rfl rfl)
theorem dL_law_1637 : decode cL_law 1637 = .ok (.iconst 0, 1) := dk_3 (dk_at dksL_law_63 19 rfl rfl)
theorem dL_law_1638 : decode cL_law 1638 = .ok (.laload, 1) := dk_47 (dk_at dksL_law_63 20 rfl rfl)
theorem dL_law_1639 : decode cL_law 1639 = .ok (.iload 6, 2) := dk_21 6 (dk_at dksL_law_63 21 rfl rfl)
theorem dL_law_1641 : decode cL_law 1641 = .ok (.i2l, 1) := dk_133 (dk_at dksL_law_63 23 rfl rfl)
theorem dL_law_1642 : decode cL_law 1642 = .ok (.lcmp, 1) := dk_148 (dk_at dksL_law_64 0 rfl rfl)
theorem dL_law_1643 : decode cL_law 1643 = .ok (.ifCond .eq 5, 3) := dk_153 0 5 (dk_at dksL_law_64 1 rfl rfl)
theorem dL_law_1646 : decode cL_law 1646 = .ok (.iconst 0, 1) := dk_3 (dk_at dksL_law_64 4 rfl rfl)
theorem dL_law_1647 : decode cL_law 1647 = .ok (.ireturn, 1) := dk_172 (dk_at dksL_law_64 5 rfl rfl)
theorem dL_law_1648 : decode cL_law 1648 = .ok (.goto 910, 3) := dk_167 3 142 (dk_at dksL_law_64 6 rfl rfl)
theorem dL_law_1651 : decode cL_law 1651 = .ok (.aload_n 1, 1) := dk_43 (dk_at dksL_law_64 9 rfl rfl)
theorem dL_law_1652 : decode cL_law 1652 = .ok (.invokevirtual 204, 3) := dk_182 0 204 (dk_at dksL_law_64 10 rfl rfl)
theorem dL_law_1655 : decode cL_law 1655 = .ok (.aload_n 2, 1) := dk_44 (dk_at dksL_law_64 13 rfl rfl)
theorem dL_law_1656 : decode cL_law 1656 = .ok (.invokevirtual 207, 3) := dk_182 0 207 (dk_at dksL_law_64 14 rfl rfl)
theorem dL_law_1659 : decode cL_law 1659 = .ok (.if_icmp .eq 899, 3) := dk_159 3 131 (dk_at dksL_law_64 17 rfl rfl)
theorem dL_law_1662 : decode cL_law 1662 = .ok (.iconst 0, 1) := dk_3 (dk_at dksL_law_64 20 rfl rfl)
theorem dL_law_1663 : decode cL_law 1663 = .ok (.ireturn, 1) := dk_172 (dk_at dksL_law_64 21 rfl rfl)
theorem dL_law_1664 : decode cL_law 1664 = .ok (.aload_n 1, 1) := dk_43 (dk_at dksL_law_64 22 rfl rfl)
theorem dL_law_1665 : decode cL_law 1665 = .ok (.invokevirtual 208, 3) := dk_182 0 208 (dk_at dksL_law_65 0 rfl rfl)
theorem dL_law_1668 : decode cL_law 1668 = .ok (.aload_n 2, 1) := dk_44 (dk_at dksL_law_65 3 rfl rfl)
theorem dL_law_1669 : decode cL_law 1669 = .ok (.invokevirtual 211, 3) := dk_182 0 211 (dk_at dksL_law_65 4 rfl rfl)
theorem dL_law_1672 : decode cL_law 1672 = .ok (.if_icmp .eq 886, 3) := dk_159 3 118 (dk_at dksL_law_65 7 rfl rfl)
theorem dL_law_1675 : decode cL_law 1675 = .ok (.iconst 0, 1) := dk_3 (dk_at dksL_law_65 10 rfl rfl)
theorem dL_law_1676 : decode cL_law 1676 = .ok (.ireturn, 1) := dk_172 (dk_at dksL_law_65 11 rfl rfl)
theorem dL_law_1677 : decode cL_law 1677 = .ok (.aload_n 1, 1) := dk_43 (dk_at dksL_law_65 12 rfl rfl)
theorem dL_law_1678 : decode cL_law 1678 = .ok (.aload_n 0, 1) := dk_42 (dk_at dksL_law_65 13 rfl rfl)
theorem dL_law_1679 : decode cL_law 1679 = .ok (.iload 4, 2) := dk_21 4 (dk_at dksL_law_65 14 rfl rfl)
theorem dL_law_1681 : decode cL_law 1681 = .ok (.iconst 1, 1) := dk_4 (dk_at dksL_law_65 16 rfl rfl)
theorem dL_law_1682 : decode cL_law 1682 = .ok (.iadd, 1) := dk_96 (dk_at dksL_law_65 17 rfl rfl)
theorem dL_law_1683 : decode cL_law 1683 = .ok (.iaload, 1) := dk_46 (dk_at dksL_law_65 18 rfl rfl)
theorem dL_law_1684 : decode cL_law 1684 = .ok (.aload_n 3, 1) := dk_45 (dk_at dksL_law_65 19 rfl rfl)
theorem dL_law_1685 : decode cL_law 1685 = .ok (.invokestatic 212, 3) := dk_184 0 212 (dk_at dksL_law_65 20 rfl rfl)
theorem dL_law_1688 : decode cL_law 1688 = .ok (.istore 5, 2) := dk_54 5 (dk_at dksL_law_66 0 rfl rfl)
theorem dL_law_1690 : decode cL_law 1690 = .ok (.aload_n 2, 1) := dk_44 (dk_at dksL_law_66 2 rfl rfl)
theorem dL_law_1691 : decode cL_law 1691 = .ok (.aload_n 0, 1) := dk_42 (dk_at dksL_law_66 3 rfl rfl)
theorem dL_law_1692 : decode cL_law 1692 = .ok (.iload 4, 2) := dk_21 4 (dk_at dksL_law_66 4 rfl rfl)
theorem dL_law_1694 : decode cL_law 1694 = .ok (.iconst 1, 1) := dk_4 (dk_at dksL_law_66 6 rfl rfl)
theorem dL_law_1695 : decode cL_law 1695 = .ok (.iadd, 1) := dk_96 (dk_at dksL_law_66 7 rfl rfl)
theorem dL_law_1696 : decode cL_law 1696 = .ok (.iaload, 1) := dk_46 (dk_at dksL_law_66 8 rfl rfl)
theorem dL_law_1697 : decode cL_law 1697 = .ok (.invokevirtual 214, 3) := dk_182 0 214 (dk_at dksL_law_66 9 rfl rfl)
theorem dL_law_1700 : decode cL_law 1700 = .ok (.istore 6, 2) := dk_54 6 (dk_at dksL_law_66 12 rfl rfl)
theorem dL_law_1702 : decode cL_law 1702 = .ok (.aload_n 2, 1) := dk_44 (dk_at dksL_law_66 14 rfl rfl)
theorem dL_law_1703 : decode cL_law 1703 = .ok (.invokevirtual 132, 3) := dk_182 0 132 (dk_at dksL_law_66 15 rfl rfl)
theorem dL_law_1706 : decode cL_law 1706 = .ok (.iload 5, 2) := dk_21 5 (dk_at dksL_law_66 18 rfl rfl)
theorem dL_law_1708 : decode cL_law 1708 = .ok (.if_icmp .eq 5, 3) := dk_159 0 5 (dk_at dksL_law_66 20 rfl rfl)
theorem dL_law_1711 : decode cL_law 1711 = .ok (.iconst 0, 1) := dk_3 (dk_at dksL_law_66 23 rfl rfl)
theorem dL_law_1712 : decode cL_law 1712 = .ok (.ireturn, 1) := dk_172 (dk_at dksL_law_67 0 rfl rfl)
theorem dL_law_1713 : decode cL_law 1713 = .ok (.iload 5, 2) := dk_21 5 (dk_at dksL_law_67 1 rfl rfl)
theorem dL_law_1715 : decode cL_law 1715 = .ok (.ifCond .ne 15, 3) := dk_154 0 15 (dk_at dksL_law_67 3 rfl rfl)
theorem dL_law_1718 : decode cL_law 1718 = .ok (.aload_n 3, 1) := dk_45 (dk_at dksL_law_67 6 rfl rfl)
theorem dL_law_1719 : decode cL_law 1719 = .ok (.iconst 0, 1) := dk_3 (dk_at dksL_law_67 7 rfl rfl)
theorem dL_law_1720 : decode cL_law 1720 = .ok (.laload, 1) := dk_47 (dk_at dksL_law_67 8 rfl rfl)
theorem dL_law_1721 : decode cL_law 1721 = .ok (.iload 6, 2) := dk_21 6 (dk_at dksL_law_67 9 rfl rfl)
theorem dL_law_1723 : decode cL_law 1723 = .ok (.i2l, 1) := dk_133 (dk_at dksL_law_67 11 rfl rfl)
theorem dL_law_1724 : decode cL_law 1724 = .ok (.lcmp, 1) := dk_148 (dk_at dksL_law_67 12 rfl rfl)
theorem dL_law_1725 : decode cL_law 1725 = .ok (.ifCond .eq 5, 3) := dk_153 0 5 (dk_at dksL_law_67 13 rfl rfl)
theorem dL_law_1728 : decode cL_law 1728 = .ok (.iconst 0, 1) := dk_3 (dk_at dksL_law_67 16 rfl rfl)
theorem dL_law_1729 : decode cL_law 1729 = .ok (.ireturn, 1) := dk_172 (dk_at dksL_law_67 17 rfl rfl)
theorem dL_law_1730 : decode cL_law 1730 = .ok (.goto 828, 3) := dk_167 3 60 (dk_at dksL_law_67 18 rfl rfl)
theorem dL_law_1733 : decode cL_law 1733 = .ok (.aload_n 1, 1) := dk_43 (dk_at dksL_law_67 21 rfl rfl)
theorem dL_law_1734 : decode cL_law 1734 = .ok (.aload_n 0, 1) := dk_42 (dk_at dksL_law_67 22 rfl rfl)
theorem dL_law_1735 : decode cL_law 1735 = .ok (.iload 4, 2) := dk_21 4 (dk_at dksL_law_68 0 rfl rfl)
theorem dL_law_1737 : decode cL_law 1737 = .ok (.iconst 1, 1) := dk_4 (dk_at dksL_law_68 2 rfl rfl)
theorem dL_law_1738 : decode cL_law 1738 = .ok (.iadd, 1) := dk_96 (dk_at dksL_law_68 3 rfl rfl)
theorem dL_law_1739 : decode cL_law 1739 = .ok (.iaload, 1) := dk_46 (dk_at dksL_law_68 4 rfl rfl)
theorem dL_law_1740 : decode cL_law 1740 = .ok (.aload_n 3, 1) := dk_45 (dk_at dksL_law_68 5 rfl rfl)
theorem dL_law_1741 : decode cL_law 1741 = .ok (.invokestatic 215, 3) := dk_184 0 215 (dk_at dksL_law_68 6 rfl rfl)
theorem dL_law_1744 : decode cL_law 1744 = .ok (.istore 5, 2) := dk_54 5 (dk_at dksL_law_68 9 rfl rfl)
theorem dL_law_1746 : decode cL_law 1746 = .ok (.aload_n 2, 1) := dk_44 (dk_at dksL_law_68 11 rfl rfl)
theorem dL_law_1747 : decode cL_law 1747 = .ok (.aload_n 0, 1) := dk_42 (dk_at dksL_law_68 12 rfl rfl)
theorem dL_law_1748 : decode cL_law 1748 = .ok (.iload 4, 2) := dk_21 4 (dk_at dksL_law_68 13 rfl rfl)
theorem dL_law_1750 : decode cL_law 1750 = .ok (.iconst 1, 1) := dk_4 (dk_at dksL_law_68 15 rfl rfl)
theorem dL_law_1751 : decode cL_law 1751 = .ok (.iadd, 1) := dk_96 (dk_at dksL_law_68 16 rfl rfl)
theorem dL_law_1752 : decode cL_law 1752 = .ok (.iaload, 1) := dk_46 (dk_at dksL_law_68 17 rfl rfl)
theorem dL_law_1753 : decode cL_law 1753 = .ok (.invokevirtual 217, 3) := dk_182 0 217 (dk_at dksL_law_68 18 rfl rfl)
theorem dL_law_1756 : decode cL_law 1756 = .ok (.istore 6, 2) := dk_54 6 (dk_at dksL_law_68 21 rfl rfl)
theorem dL_law_1758 : decode cL_law 1758 = .ok (.aload_n 2, 1) := dk_44 (dk_at dksL_law_68 23 rfl rfl)
theorem dL_law_1759 : decode cL_law 1759 = .ok (.invokevirtual 132, 3) := dk_182 0 132 (dk_at dksL_law_69 0 rfl rfl)
theorem dL_law_1762 : decode cL_law 1762 = .ok (.iload 5, 2) := dk_21 5 (dk_at dksL_law_69 3 rfl rfl)
theorem dL_law_1764 : decode cL_law 1764 = .ok (.if_icmp .eq 5, 3) := dk_159 0 5 (dk_at dksL_law_69 5 rfl rfl)
theorem dL_law_1767 : decode cL_law 1767 = .ok (.iconst 0, 1) := dk_3 (dk_at dksL_law_69 8 rfl rfl)
theorem dL_law_1768 : decode cL_law 1768 = .ok (.ireturn, 1) := dk_172 (dk_at dksL_law_69 9 rfl rfl)
theorem dL_law_1769 : decode cL_law 1769 = .ok (.iload 5, 2) := dk_21 5 (dk_at dksL_law_69 10 rfl rfl)
theorem dL_law_1771 : decode cL_law 1771 = .ok (.ifCond .ne 15, 3) := dk_154 0 15 (dk_at dksL_law_69 12 rfl rfl)
theorem dL_law_1774 : decode cL_law 1774 = .ok (.aload_n 3, 1) := dk_45 (dk_at dksL_law_69 15 rfl rfl)
theorem dL_law_1775 : decode cL_law 1775 = .ok (.iconst 0, 1) := dk_3 (dk_at dksL_law_69 16 rfl rfl)
theorem dL_law_1776 : decode cL_law 1776 = .ok (.laload, 1) := dk_47 (dk_at dksL_law_69 17 rfl rfl)
theorem dL_law_1777 : decode cL_law 1777 = .ok (.iload 6, 2) := dk_21 6 (dk_at dksL_law_69 18 rfl rfl)
theorem dL_law_1779 : decode cL_law 1779 = .ok (.i2l, 1) := dk_133 (dk_at dksL_law_69 20 rfl rfl)
theorem dL_law_1780 : decode cL_law 1780 = .ok (.lcmp, 1) := dk_148 (dk_at dksL_law_69 21 rfl rfl)
theorem dL_law_1781 : decode cL_law 1781 = .ok (.ifCond .eq 5, 3) := dk_153 0 5 (dk_at dksL_law_70 0 rfl rfl)
theorem dL_law_1784 : decode cL_law 1784 = .ok (.iconst 0, 1) := dk_3 (dk_at dksL_law_70 3 rfl rfl)
theorem dL_law_1785 : decode cL_law 1785 = .ok (.ireturn, 1) := dk_172 (dk_at dksL_law_70 4 rfl rfl)
theorem dL_law_1786 : decode cL_law 1786 = .ok (.goto 772, 3) := dk_167 3 4 (dk_at dksL_law_70 5 rfl rfl)
theorem dL_law_1789 : decode cL_law 1789 = .ok (.aload_n 1, 1) := dk_43 (dk_at dksL_law_70 8 rfl rfl)
theorem dL_law_1790 : decode cL_law 1790 = .ok (.aload_n 0, 1) := dk_42 (dk_at dksL_law_70 9 rfl rfl)
theorem dL_law_1791 : decode cL_law 1791 = .ok (.iload 4, 2) := dk_21 4 (dk_at dksL_law_70 10 rfl rfl)
theorem dL_law_1793 : decode cL_law 1793 = .ok (.iconst 1, 1) := dk_4 (dk_at dksL_law_70 12 rfl rfl)
theorem dL_law_1794 : decode cL_law 1794 = .ok (.iadd, 1) := dk_96 (dk_at dksL_law_70 13 rfl rfl)
theorem dL_law_1795 : decode cL_law 1795 = .ok (.iaload, 1) := dk_46 (dk_at dksL_law_70 14 rfl rfl)
theorem dL_law_1796 : decode cL_law 1796 = .ok (.aload_n 3, 1) := dk_45 (dk_at dksL_law_70 15 rfl rfl)
theorem dL_law_1797 : decode cL_law 1797 = .ok (.invokestatic 218, 3) := dk_184 0 218 (dk_at dksL_law_70 16 rfl rfl)
theorem dL_law_1800 : decode cL_law 1800 = .ok (.istore 5, 2) := dk_54 5 (dk_at dksL_law_70 19 rfl rfl)
theorem dL_law_1802 : decode cL_law 1802 = .ok (.aload_n 2, 1) := dk_44 (dk_at dksL_law_70 21 rfl rfl)
theorem dL_law_1803 : decode cL_law 1803 = .ok (.aload_n 0, 1) := dk_42 (dk_at dksL_law_70 22 rfl rfl)
theorem dL_law_1804 : decode cL_law 1804 = .ok (.iload 4, 2) := dk_21 4 (dk_at dksL_law_71 0 rfl rfl)
theorem dL_law_1806 : decode cL_law 1806 = .ok (.iconst 1, 1) := dk_4 (dk_at dksL_law_71 2 rfl rfl)
theorem dL_law_1807 : decode cL_law 1807 = .ok (.iadd, 1) := dk_96 (dk_at dksL_law_71 3 rfl rfl)
theorem dL_law_1808 : decode cL_law 1808 = .ok (.iaload, 1) := dk_46 (dk_at dksL_law_71 4 rfl rfl)
theorem dL_law_1809 : decode cL_law 1809 = .ok (.invokevirtual 220, 3) := dk_182 0 220 (dk_at dksL_law_71 5 rfl rfl)
theorem dL_law_1812 : decode cL_law 1812 = .ok (.istore 6, 2) := dk_54 6 (dk_at dksL_law_71 8 rfl rfl)
theorem dL_law_1814 : decode cL_law 1814 = .ok (.aload_n 2, 1) := dk_44 (dk_at dksL_law_71 10 rfl rfl)
theorem dL_law_1815 : decode cL_law 1815 = .ok (.invokevirtual 132, 3) := dk_182 0 132 (dk_at dksL_law_71 11 rfl rfl)
theorem dL_law_1818 : decode cL_law 1818 = .ok (.iload 5, 2) := dk_21 5 (dk_at dksL_law_71 14 rfl rfl)
theorem dL_law_1820 : decode cL_law 1820 = .ok (.if_icmp .eq 5, 3) := dk_159 0 5 (dk_at dksL_law_71 16 rfl rfl)
theorem dL_law_1823 : decode cL_law 1823 = .ok (.iconst 0, 1) := dk_3 (dk_at dksL_law_71 19 rfl rfl)
theorem dL_law_1824 : decode cL_law 1824 = .ok (.ireturn, 1) := dk_172 (dk_at dksL_law_71 20 rfl rfl)
theorem dL_law_1825 : decode cL_law 1825 = .ok (.iload 5, 2) := dk_21 5 (dk_at dksL_law_71 21 rfl rfl)
theorem dL_law_1827 : decode cL_law 1827 = .ok (.ifCond .ne 15, 3) := dk_154 0 15 (dk_at dksL_law_72 0 rfl rfl)
theorem dL_law_1830 : decode cL_law 1830 = .ok (.aload_n 3, 1) := dk_45 (dk_at dksL_law_72 3 rfl rfl)
theorem dL_law_1831 : decode cL_law 1831 = .ok (.iconst 0, 1) := dk_3 (dk_at dksL_law_72 4 rfl rfl)
theorem dL_law_1832 : decode cL_law 1832 = .ok (.laload, 1) := dk_47 (dk_at dksL_law_72 5 rfl rfl)
theorem dL_law_1833 : decode cL_law 1833 = .ok (.iload 6, 2) := dk_21 6 (dk_at dksL_law_72 6 rfl rfl)
theorem dL_law_1835 : decode cL_law 1835 = .ok (.i2l, 1) := dk_133 (dk_at dksL_law_72 8 rfl rfl)
theorem dL_law_1836 : decode cL_law 1836 = .ok (.lcmp, 1) := dk_148 (dk_at dksL_law_72 9 rfl rfl)
theorem dL_law_1837 : decode cL_law 1837 = .ok (.ifCond .eq 5, 3) := dk_153 0 5 (dk_at dksL_law_72 10 rfl rfl)
theorem dL_law_1840 : decode cL_law 1840 = .ok (.iconst 0, 1) := dk_3 (dk_at dksL_law_72 13 rfl rfl)
theorem dL_law_1841 : decode cL_law 1841 = .ok (.ireturn, 1) := dk_172 (dk_at dksL_law_72 14 rfl rfl)
theorem dL_law_1842 : decode cL_law 1842 = .ok (.goto 716, 3) := dk_167 2 204 (dk_at dksL_law_72 15 rfl rfl)
theorem dL_law_1845 : decode cL_law 1845 = .ok (.aload_n 1, 1) := dk_43 (dk_at dksL_law_72 18 rfl rfl)
theorem dL_law_1846 : decode cL_law 1846 = .ok (.aload_n 0, 1) := dk_42 (dk_at dksL_law_72 19 rfl rfl)
theorem dL_law_1847 : decode cL_law 1847 = .ok (.iload 4, 2) := dk_21 4 (dk_at dksL_law_72 20 rfl rfl)
theorem dL_law_1849 : decode cL_law 1849 = .ok (.iconst 1, 1) := dk_4 (dk_at dksL_law_72 22 rfl rfl)
theorem dL_law_1850 : decode cL_law 1850 = .ok (.iadd, 1) := dk_96 (dk_at dksL_law_72 23 rfl rfl)
theorem dL_law_1851 : decode cL_law 1851 = .ok (.iaload, 1) := dk_46 (dk_at dksL_law_73 0 rfl rfl)
theorem dL_law_1852 : decode cL_law 1852 = .ok (.aload_n 3, 1) := dk_45 (dk_at dksL_law_73 1 rfl rfl)
theorem dL_law_1853 : decode cL_law 1853 = .ok (.invokestatic 221, 3) := dk_184 0 221 (dk_at dksL_law_73 2 rfl rfl)
theorem dL_law_1856 : decode cL_law 1856 = .ok (.istore 5, 2) := dk_54 5 (dk_at dksL_law_73 5 rfl rfl)
theorem dL_law_1858 : decode cL_law 1858 = .ok (.aload_n 2, 1) := dk_44 (dk_at dksL_law_73 7 rfl rfl)
theorem dL_law_1859 : decode cL_law 1859 = .ok (.aload_n 0, 1) := dk_42 (dk_at dksL_law_73 8 rfl rfl)
theorem dL_law_1860 : decode cL_law 1860 = .ok (.iload 4, 2) := dk_21 4 (dk_at dksL_law_73 9 rfl rfl)
theorem dL_law_1862 : decode cL_law 1862 = .ok (.iconst 1, 1) := dk_4 (dk_at dksL_law_73 11 rfl rfl)
theorem dL_law_1863 : decode cL_law 1863 = .ok (.iadd, 1) := dk_96 (dk_at dksL_law_73 12 rfl rfl)
theorem dL_law_1864 : decode cL_law 1864 = .ok (.iaload, 1) := dk_46 (dk_at dksL_law_73 13 rfl rfl)
theorem dL_law_1865 : decode cL_law 1865 = .ok (.invokevirtual 223, 3) := dk_182 0 223 (dk_at dksL_law_73 14 rfl rfl)
theorem dL_law_1868 : decode cL_law 1868 = .ok (.istore 6, 2) := dk_54 6 (dk_at dksL_law_73 17 rfl rfl)
theorem dL_law_1870 : decode cL_law 1870 = .ok (.aload_n 2, 1) := dk_44 (dk_at dksL_law_73 19 rfl rfl)
theorem dL_law_1871 : decode cL_law 1871 = .ok (.invokevirtual 132, 3) := dk_182 0 132 (dk_at dksL_law_73 20 rfl rfl)
theorem dL_law_1874 : decode cL_law 1874 = .ok (.iload 5, 2) := dk_21 5 (dk_at dksL_law_74 0 rfl rfl)
theorem dL_law_1876 : decode cL_law 1876 = .ok (.if_icmp .eq 5, 3) := dk_159 0 5 (dk_at dksL_law_74 2 rfl rfl)
theorem dL_law_1879 : decode cL_law 1879 = .ok (.iconst 0, 1) := dk_3 (dk_at dksL_law_74 5 rfl rfl)
theorem dL_law_1880 : decode cL_law 1880 = .ok (.ireturn, 1) := dk_172 (dk_at dksL_law_74 6 rfl rfl)
theorem dL_law_1881 : decode cL_law 1881 = .ok (.iload 5, 2) := dk_21 5 (dk_at dksL_law_74 7 rfl rfl)
theorem dL_law_1883 : decode cL_law 1883 = .ok (.ifCond .ne 15, 3) := dk_154 0 15 (dk_at dksL_law_74 9 rfl rfl)
theorem dL_law_1886 : decode cL_law 1886 = .ok (.aload_n 3, 1) := dk_45 (dk_at dksL_law_74 12 rfl rfl)
theorem dL_law_1887 : decode cL_law 1887 = .ok (.iconst 0, 1) := dk_3 (dk_at dksL_law_74 13 rfl rfl)
theorem dL_law_1888 : decode cL_law 1888 = .ok (.laload, 1) := dk_47 (dk_at dksL_law_74 14 rfl rfl)
theorem dL_law_1889 : decode cL_law 1889 = .ok (.iload 6, 2) := dk_21 6 (dk_at dksL_law_74 15 rfl rfl)
theorem dL_law_1891 : decode cL_law 1891 = .ok (.i2l, 1) := dk_133 (dk_at dksL_law_74 17 rfl rfl)
theorem dL_law_1892 : decode cL_law 1892 = .ok (.lcmp, 1) := dk_148 (dk_at dksL_law_74 18 rfl rfl)
theorem dL_law_1893 : decode cL_law 1893 = .ok (.ifCond .eq 5, 3) := dk_153 0 5 (dk_at dksL_law_74 19 rfl rfl)
theorem dL_law_1896 : decode cL_law 1896 = .ok (.iconst 0, 1) := dk_3 (dk_at dksL_law_74 22 rfl rfl)
theorem dL_law_1897 : decode cL_law 1897 = .ok (.ireturn, 1) := dk_172 (dk_at dksL_law_74 23 rfl rfl)
theorem dL_law_1898 : decode cL_law 1898 = .ok (.goto 660, 3) := dk_167 2 148 (dk_at dksL_law_75 0 rfl rfl)
theorem dL_law_1901 : decode cL_law 1901 = .ok (.aload_n 1, 1) := dk_43 (dk_at dksL_law_75 3 rfl rfl)
theorem dL_law_1902 : decode cL_law 1902 = .ok (.aload_n 0, 1) := dk_42 (dk_at dksL_law_75 4 rfl rfl)
theorem dL_law_1903 : decode cL_law 1903 = .ok (.iload 4, 2) := dk_21 4 (dk_at dksL_law_75 5 rfl rfl)
theorem dL_law_1905 : decode cL_law 1905 = .ok (.iconst 1, 1) := dk_4 (dk_at dksL_law_75 7 rfl rfl)
theorem dL_law_1906 : decode cL_law 1906 = .ok (.iadd, 1) := dk_96 (dk_at dksL_law_75 8 rfl rfl)
theorem dL_law_1907 : decode cL_law 1907 = .ok (.iaload, 1) := dk_46 (dk_at dksL_law_75 9 rfl rfl)
theorem dL_law_1908 : decode cL_law 1908 = .ok (.aload_n 3, 1) := dk_45 (dk_at dksL_law_75 10 rfl rfl)
theorem dL_law_1909 : decode cL_law 1909 = .ok (.invokestatic 224, 3) := dk_184 0 224 (dk_at dksL_law_75 11 rfl rfl)
theorem dL_law_1912 : decode cL_law 1912 = .ok (.istore 5, 2) := dk_54 5 (dk_at dksL_law_75 14 rfl rfl)
theorem dL_law_1914 : decode cL_law 1914 = .ok (.aload_n 2, 1) := dk_44 (dk_at dksL_law_75 16 rfl rfl)
theorem dL_law_1915 : decode cL_law 1915 = .ok (.aload_n 0, 1) := dk_42 (dk_at dksL_law_75 17 rfl rfl)
theorem dL_law_1916 : decode cL_law 1916 = .ok (.iload 4, 2) := dk_21 4 (dk_at dksL_law_75 18 rfl rfl)
theorem dL_law_1918 : decode cL_law 1918 = .ok (.iconst 1, 1) := dk_4 (dk_at dksL_law_75 20 rfl rfl)
theorem dL_law_1919 : decode cL_law 1919 = .ok (.iadd, 1) := dk_96 (dk_at dksL_law_75 21 rfl rfl)
theorem dL_law_1920 : decode cL_law 1920 = .ok (.iaload, 1) := dk_46 (dk_at dksL_law_75 22 rfl rfl)
theorem dL_law_1921 : decode cL_law 1921 = .ok (.invokevirtual 226, 3) := dk_182 0 226 (dk_at dksL_law_76 0 rfl rfl)
theorem dL_law_1924 : decode cL_law 1924 = .ok (.istore 6, 2) := dk_54 6 (dk_at dksL_law_76 3 rfl rfl)
theorem dL_law_1926 : decode cL_law 1926 = .ok (.aload_n 2, 1) := dk_44 (dk_at dksL_law_76 5 rfl rfl)
theorem dL_law_1927 : decode cL_law 1927 = .ok (.invokevirtual 132, 3) := dk_182 0 132 (dk_at dksL_law_76 6 rfl rfl)
theorem dL_law_1930 : decode cL_law 1930 = .ok (.iload 5, 2) := dk_21 5 (dk_at dksL_law_76 9 rfl rfl)
theorem dL_law_1932 : decode cL_law 1932 = .ok (.if_icmp .eq 5, 3) := dk_159 0 5 (dk_at dksL_law_76 11 rfl rfl)
theorem dL_law_1935 : decode cL_law 1935 = .ok (.iconst 0, 1) := dk_3 (dk_at dksL_law_76 14 rfl rfl)
theorem dL_law_1936 : decode cL_law 1936 = .ok (.ireturn, 1) := dk_172 (dk_at dksL_law_76 15 rfl rfl)
theorem dL_law_1937 : decode cL_law 1937 = .ok (.iload 5, 2) := dk_21 5 (dk_at dksL_law_76 16 rfl rfl)
theorem dL_law_1939 : decode cL_law 1939 = .ok (.ifCond .ne 22, 3) := dk_154 0 22 (dk_at dksL_law_76 18 rfl rfl)
theorem dL_law_1942 : decode cL_law 1942 = .ok (.aload_n 3, 1) := dk_45 (dk_at dksL_law_76 21 rfl rfl)
theorem dL_law_1943 : decode cL_law 1943 = .ok (.iconst 0, 1) := dk_3 (dk_at dksL_law_76 22 rfl rfl)
theorem dL_law_1944 : decode cL_law 1944 = .ok (.laload, 1) := dk_47 (dk_at dksL_law_76 23 rfl rfl)
theorem dL_law_1945 : decode cL_law 1945 = .ok (.iload 6, 2) := dk_21 6 (dk_at dksL_law_77 0 rfl rfl)
theorem dL_law_1947 : decode cL_law 1947 = .ok (.ifCond .eq 7, 3) := dk_153 0 7 (dk_at dksL_law_77 2 rfl rfl)
theorem dL_law_1950 : decode cL_law 1950 = .ok (.lconst 1, 1) := dk_10 (dk_at dksL_law_77 5 rfl rfl)
theorem dL_law_1951 : decode cL_law 1951 = .ok (.goto 4, 3) := dk_167 0 4 (dk_at dksL_law_77 6 rfl rfl)
theorem dL_law_1954 : decode cL_law 1954 = .ok (.lconst 0, 1) := dk_9 (dk_at dksL_law_77 9 rfl rfl)
theorem dL_law_1955 : decode cL_law 1955 = .ok (.lcmp, 1) := dk_148 (dk_at dksL_law_77 10 rfl rfl)
theorem dL_law_1956 : decode cL_law 1956 = .ok (.ifCond .eq 5, 3) := dk_153 0 5 (dk_at dksL_law_77 11 rfl rfl)
theorem dL_law_1959 : decode cL_law 1959 = .ok (.iconst 0, 1) := dk_3 (dk_at dksL_law_77 14 rfl rfl)
theorem dL_law_1960 : decode cL_law 1960 = .ok (.ireturn, 1) := dk_172 (dk_at dksL_law_77 15 rfl rfl)
theorem dL_law_1961 : decode cL_law 1961 = .ok (.goto 597, 3) := dk_167 2 85 (dk_at dksL_law_77 16 rfl rfl)
theorem dL_law_1964 : decode cL_law 1964 = .ok (.aload_n 1, 1) := dk_43 (dk_at dksL_law_77 19 rfl rfl)
theorem dL_law_1965 : decode cL_law 1965 = .ok (.aload_n 0, 1) := dk_42 (dk_at dksL_law_77 20 rfl rfl)
theorem dL_law_1966 : decode cL_law 1966 = .ok (.iload 4, 2) := dk_21 4 (dk_at dksL_law_77 21 rfl rfl)
theorem dL_law_1968 : decode cL_law 1968 = .ok (.iconst 1, 1) := dk_4 (dk_at dksL_law_77 23 rfl rfl)
theorem dL_law_1969 : decode cL_law 1969 = .ok (.iadd, 1) := dk_96 (dk_at dksL_law_78 0 rfl rfl)
theorem dL_law_1970 : decode cL_law 1970 = .ok (.iaload, 1) := dk_46 (dk_at dksL_law_78 1 rfl rfl)
theorem dL_law_1971 : decode cL_law 1971 = .ok (.aload_n 0, 1) := dk_42 (dk_at dksL_law_78 2 rfl rfl)
theorem dL_law_1972 : decode cL_law 1972 = .ok (.iload 4, 2) := dk_21 4 (dk_at dksL_law_78 3 rfl rfl)
theorem dL_law_1974 : decode cL_law 1974 = .ok (.iconst 2, 1) := dk_5 (dk_at dksL_law_78 5 rfl rfl)
theorem dL_law_1975 : decode cL_law 1975 = .ok (.iadd, 1) := dk_96 (dk_at dksL_law_78 6 rfl rfl)
theorem dL_law_1976 : decode cL_law 1976 = .ok (.iaload, 1) := dk_46 (dk_at dksL_law_78 7 rfl rfl)
theorem dL_law_1977 : decode cL_law 1977 = .ok (.aload_n 0, 1) := dk_42 (dk_at dksL_law_78 8 rfl rfl)
theorem dL_law_1978 : decode cL_law 1978 = .ok (.iload 4, 2) := dk_21 4 (dk_at dksL_law_78 9 rfl rfl)
theorem dL_law_1980 : decode cL_law 1980 = .ok (.iconst 3, 1) := dk_6 (dk_at dksL_law_78 11 rfl rfl)
theorem dL_law_1981 : decode cL_law 1981 = .ok (.iadd, 1) := dk_96 (dk_at dksL_law_78 12 rfl rfl)
theorem dL_law_1982 : decode cL_law 1982 = .ok (.iaload, 1) := dk_46 (dk_at dksL_law_78 13 rfl rfl)
theorem dL_law_1983 : decode cL_law 1983 = .ok (.aload_n 3, 1) := dk_45 (dk_at dksL_law_78 14 rfl rfl)
theorem dL_law_1984 : decode cL_law 1984 = .ok (.invokestatic 227, 3) := dk_184 0 227 (dk_at dksL_law_78 15 rfl rfl)
theorem dL_law_1987 : decode cL_law 1987 = .ok (.istore 5, 2) := dk_54 5 (dk_at dksL_law_78 18 rfl rfl)
theorem dL_law_1989 : decode cL_law 1989 = .ok (.aload_n 2, 1) := dk_44 (dk_at dksL_law_78 20 rfl rfl)
theorem dL_law_1990 : decode cL_law 1990 = .ok (.aload_n 0, 1) := dk_42 (dk_at dksL_law_78 21 rfl rfl)
theorem dL_law_1991 : decode cL_law 1991 = .ok (.iload 4, 2) := dk_21 4 (dk_at dksL_law_78 22 rfl rfl)
theorem dL_law_1993 : decode cL_law 1993 = .ok (.iconst 1, 1) := dk_4 (dk_at dksL_law_79 0 rfl rfl)
theorem dL_law_1994 : decode cL_law 1994 = .ok (.iadd, 1) := dk_96 (dk_at dksL_law_79 1 rfl rfl)
theorem dL_law_1995 : decode cL_law 1995 = .ok (.iaload, 1) := dk_46 (dk_at dksL_law_79 2 rfl rfl)
theorem dL_law_1996 : decode cL_law 1996 = .ok (.aload_n 0, 1) := dk_42 (dk_at dksL_law_79 3 rfl rfl)
theorem dL_law_1997 : decode cL_law 1997 = .ok (.iload 4, 2) := dk_21 4 (dk_at dksL_law_79 4 rfl rfl)
theorem dL_law_1999 : decode cL_law 1999 = .ok (.iconst 2, 1) := dk_5 (dk_at dksL_law_79 6 rfl rfl)
theorem dL_law_2000 : decode cL_law 2000 = .ok (.iadd, 1) := dk_96 (dk_at dksL_law_79 7 rfl rfl)
theorem dL_law_2001 : decode cL_law 2001 = .ok (.iaload, 1) := dk_46 (dk_at dksL_law_79 8 rfl rfl)
theorem dL_law_2002 : decode cL_law 2002 = .ok (.aload_n 0, 1) := dk_42 (dk_at dksL_law_79 9 rfl rfl)
theorem dL_law_2003 : decode cL_law 2003 = .ok (.iload 4, 2) := dk_21 4 (dk_at dksL_law_79 10 rfl rfl)
theorem dL_law_2005 : decode cL_law 2005 = .ok (.iconst 3, 1) := dk_6 (dk_at dksL_law_79 12 rfl rfl)
theorem dL_law_2006 : decode cL_law 2006 = .ok (.iadd, 1) := dk_96 (dk_at dksL_law_79 13 rfl rfl)
theorem dL_law_2007 : decode cL_law 2007 = .ok (.iaload, 1) := dk_46 (dk_at dksL_law_79 14 rfl rfl)
theorem dL_law_2008 : decode cL_law 2008 = .ok (.invokevirtual 229, 3) := dk_182 0 229 (dk_at dksL_law_79 15 rfl rfl)
theorem dL_law_2011 : decode cL_law 2011 = .ok (.istore 6, 2) := dk_54 6 (dk_at dksL_law_79 18 rfl rfl)
theorem dL_law_2013 : decode cL_law 2013 = .ok (.aload_n 2, 1) := dk_44 (dk_at dksL_law_79 20 rfl rfl)
theorem dL_law_2014 : decode cL_law 2014 = .ok (.invokevirtual 132, 3) := dk_182 0 132 (dk_at dksL_law_79 21 rfl rfl)
theorem dL_law_2017 : decode cL_law 2017 = .ok (.iload 5, 2) := dk_21 5 (dk_at dksL_law_80 0 rfl rfl)
theorem dL_law_2019 : decode cL_law 2019 = .ok (.if_icmp .eq 5, 3) := dk_159 0 5 (dk_at dksL_law_80 2 rfl rfl)
theorem dL_law_2022 : decode cL_law 2022 = .ok (.iconst 0, 1) := dk_3 (dk_at dksL_law_80 5 rfl rfl)
theorem dL_law_2023 : decode cL_law 2023 = .ok (.ireturn, 1) := dk_172 (dk_at dksL_law_80 6 rfl rfl)
theorem dL_law_2024 : decode cL_law 2024 = .ok (.iload 5, 2) := dk_21 5 (dk_at dksL_law_80 7 rfl rfl)
theorem dL_law_2026 : decode cL_law 2026 = .ok (.ifCond .ne 15, 3) := dk_154 0 15 (dk_at dksL_law_80 9 rfl rfl)
theorem dL_law_2029 : decode cL_law 2029 = .ok (.aload_n 3, 1) := dk_45 (dk_at dksL_law_80 12 rfl rfl)
theorem dL_law_2030 : decode cL_law 2030 = .ok (.iconst 0, 1) := dk_3 (dk_at dksL_law_80 13 rfl rfl)
theorem dL_law_2031 : decode cL_law 2031 = .ok (.laload, 1) := dk_47 (dk_at dksL_law_80 14 rfl rfl)
theorem dL_law_2032 : decode cL_law 2032 = .ok (.iload 6, 2) := dk_21 6 (dk_at dksL_law_80 15 rfl rfl)
theorem dL_law_2034 : decode cL_law 2034 = .ok (.i2l, 1) := dk_133 (dk_at dksL_law_80 17 rfl rfl)
theorem dL_law_2035 : decode cL_law 2035 = .ok (.lcmp, 1) := dk_148 (dk_at dksL_law_80 18 rfl rfl)
theorem dL_law_2036 : decode cL_law 2036 = .ok (.ifCond .eq 5, 3) := dk_153 0 5 (dk_at dksL_law_80 19 rfl rfl)
theorem dL_law_2039 : decode cL_law 2039 = .ok (.iconst 0, 1) := dk_3 (dk_at dksL_law_80 22 rfl rfl)
theorem dL_law_2040 : decode cL_law 2040 = .ok (.ireturn, 1) := dk_172 (dk_at dksL_law_80 23 rfl rfl)
theorem dL_law_2041 : decode cL_law 2041 = .ok (.goto 517, 3) := dk_167 2 5 (dk_at dksL_law_81 0 rfl rfl)
theorem dL_law_2044 : decode cL_law 2044 = .ok (.aload_n 1, 1) := dk_43 (dk_at dksL_law_81 3 rfl rfl)
theorem dL_law_2045 : decode cL_law 2045 = .ok (.aload_n 0, 1) := dk_42 (dk_at dksL_law_81 4 rfl rfl)
theorem dL_law_2046 : decode cL_law 2046 = .ok (.iload 4, 2) := dk_21 4 (dk_at dksL_law_81 5 rfl rfl)
theorem dL_law_2048 : decode cL_law 2048 = .ok (.iconst 1, 1) := dk_4 (dk_at dksL_law_81 7 rfl rfl)
theorem dL_law_2049 : decode cL_law 2049 = .ok (.iadd, 1) := dk_96 (dk_at dksL_law_81 8 rfl rfl)
theorem dL_law_2050 : decode cL_law 2050 = .ok (.iaload, 1) := dk_46 (dk_at dksL_law_81 9 rfl rfl)
theorem dL_law_2051 : decode cL_law 2051 = .ok (.aload_n 0, 1) := dk_42 (dk_at dksL_law_81 10 rfl rfl)
theorem dL_law_2052 : decode cL_law 2052 = .ok (.iload 4, 2) := dk_21 4 (dk_at dksL_law_81 11 rfl rfl)
theorem dL_law_2054 : decode cL_law 2054 = .ok (.iconst 2, 1) := dk_5 (dk_at dksL_law_81 13 rfl rfl)
theorem dL_law_2055 : decode cL_law 2055 = .ok (.iadd, 1) := dk_96 (dk_at dksL_law_81 14 rfl rfl)
theorem dL_law_2056 : decode cL_law 2056 = .ok (.iaload, 1) := dk_46 (dk_at dksL_law_81 15 rfl rfl)
theorem dL_law_2057 : decode cL_law 2057 = .ok (.aload_n 3, 1) := dk_45 (dk_at dksL_law_81 16 rfl rfl)
theorem dL_law_2058 : decode cL_law 2058 = .ok (.invokestatic 230, 3) := dk_184 0 230 (dk_at dksL_law_81 17 rfl rfl)
theorem dL_law_2061 : decode cL_law 2061 = .ok (.istore 5, 2) := dk_54 5 (dk_at dksL_law_81 20 rfl rfl)
theorem dL_law_2063 : decode cL_law 2063 = .ok (.aload_n 2, 1) := dk_44 (dk_at dksL_law_81 22 rfl rfl)
theorem dL_law_2064 : decode cL_law 2064 = .ok (.aload_n 0, 1) := dk_42 (dk_at dksL_law_81 23 rfl rfl)
theorem dL_law_2065 : decode cL_law 2065 = .ok (.iload 4, 2) := dk_21 4 (dk_at dksL_law_82 0 rfl rfl)
theorem dL_law_2067 : decode cL_law 2067 = .ok (.iconst 1, 1) := dk_4 (dk_at dksL_law_82 2 rfl rfl)
theorem dL_law_2068 : decode cL_law 2068 = .ok (.iadd, 1) := dk_96 (dk_at dksL_law_82 3 rfl rfl)
theorem dL_law_2069 : decode cL_law 2069 = .ok (.iaload, 1) := dk_46 (dk_at dksL_law_82 4 rfl rfl)
theorem dL_law_2070 : decode cL_law 2070 = .ok (.aload_n 0, 1) := dk_42 (dk_at dksL_law_82 5 rfl rfl)
theorem dL_law_2071 : decode cL_law 2071 = .ok (.iload 4, 2) := dk_21 4 (dk_at dksL_law_82 6 rfl rfl)
theorem dL_law_2073 : decode cL_law 2073 = .ok (.iconst 2, 1) := dk_5 (dk_at dksL_law_82 8 rfl rfl)
theorem dL_law_2074 : decode cL_law 2074 = .ok (.iadd, 1) := dk_96 (dk_at dksL_law_82 9 rfl rfl)
theorem dL_law_2075 : decode cL_law 2075 = .ok (.iaload, 1) := dk_46 (dk_at dksL_law_82 10 rfl rfl)
theorem dL_law_2076 : decode cL_law 2076 = .ok (.invokevirtual 232, 3) := dk_182 0 232 (dk_at dksL_law_82 11 rfl rfl)
theorem dL_law_2079 : decode cL_law 2079 = .ok (.istore 6, 2) := dk_54 6 (dk_at dksL_law_82 14 rfl rfl)
theorem dL_law_2081 : decode cL_law 2081 = .ok (.aload_n 2, 1) := dk_44 (dk_at dksL_law_82 16 rfl rfl)
theorem dL_law_2082 : decode cL_law 2082 = .ok (.invokevirtual 132, 3) := dk_182 0 132 (dk_at dksL_law_82 17 rfl rfl)
theorem dL_law_2085 : decode cL_law 2085 = .ok (.iload 5, 2) := dk_21 5 (dk_at dksL_law_82 20 rfl rfl)
theorem dL_law_2087 : decode cL_law 2087 = .ok (.if_icmp .eq 5, 3) := dk_159 0 5 (dk_at dksL_law_83 0 rfl rfl)
theorem dL_law_2090 : decode cL_law 2090 = .ok (.iconst 0, 1) := dk_3 (dk_at dksL_law_83 3 rfl rfl)
theorem dL_law_2091 : decode cL_law 2091 = .ok (.ireturn, 1) := dk_172 (dk_at dksL_law_83 4 rfl rfl)
theorem dL_law_2092 : decode cL_law 2092 = .ok (.iload 5, 2) := dk_21 5 (dk_at dksL_law_83 5 rfl rfl)
theorem dL_law_2094 : decode cL_law 2094 = .ok (.ifCond .ne 15, 3) := dk_154 0 15 (dk_at dksL_law_83 7 rfl rfl)
theorem dL_law_2097 : decode cL_law 2097 = .ok (.aload_n 3, 1) := dk_45 (dk_at dksL_law_83 10 rfl rfl)
theorem dL_law_2098 : decode cL_law 2098 = .ok (.iconst 0, 1) := dk_3 (dk_at dksL_law_83 11 rfl rfl)
theorem dL_law_2099 : decode cL_law 2099 = .ok (.laload, 1) := dk_47 (dk_at dksL_law_83 12 rfl rfl)
theorem dL_law_2100 : decode cL_law 2100 = .ok (.iload 6, 2) := dk_21 6 (dk_at dksL_law_83 13 rfl rfl)
theorem dL_law_2102 : decode cL_law 2102 = .ok (.i2l, 1) := dk_133 (dk_at dksL_law_83 15 rfl rfl)
theorem dL_law_2103 : decode cL_law 2103 = .ok (.lcmp, 1) := dk_148 (dk_at dksL_law_83 16 rfl rfl)
theorem dL_law_2104 : decode cL_law 2104 = .ok (.ifCond .eq 5, 3) := dk_153 0 5 (dk_at dksL_law_83 17 rfl rfl)
theorem dL_law_2107 : decode cL_law 2107 = .ok (.iconst 0, 1) := dk_3 (dk_at dksL_law_83 20 rfl rfl)
theorem dL_law_2108 : decode cL_law 2108 = .ok (.ireturn, 1) := dk_172 (dk_at dksL_law_83 21 rfl rfl)
theorem dL_law_2109 : decode cL_law 2109 = .ok (.goto 449, 3) := dk_167 1 193 (dk_at dksL_law_84 0 rfl rfl)
theorem dL_law_2112 : decode cL_law 2112 = .ok (.aload_n 1, 1) := dk_43 (dk_at dksL_law_84 3 rfl rfl)
theorem dL_law_2113 : decode cL_law 2113 = .ok (.aload_n 0, 1) := dk_42 (dk_at dksL_law_84 4 rfl rfl)
theorem dL_law_2114 : decode cL_law 2114 = .ok (.iload 4, 2) := dk_21 4 (dk_at dksL_law_84 5 rfl rfl)
theorem dL_law_2116 : decode cL_law 2116 = .ok (.iconst 1, 1) := dk_4 (dk_at dksL_law_84 7 rfl rfl)
theorem dL_law_2117 : decode cL_law 2117 = .ok (.iadd, 1) := dk_96 (dk_at dksL_law_84 8 rfl rfl)
theorem dL_law_2118 : decode cL_law 2118 = .ok (.iaload, 1) := dk_46 (dk_at dksL_law_84 9 rfl rfl)
theorem dL_law_2119 : decode cL_law 2119 = .ok (.aload_n 0, 1) := dk_42 (dk_at dksL_law_84 10 rfl rfl)
theorem dL_law_2120 : decode cL_law 2120 = .ok (.iload 4, 2) := dk_21 4 (dk_at dksL_law_84 11 rfl rfl)
theorem dL_law_2122 : decode cL_law 2122 = .ok (.iconst 2, 1) := dk_5 (dk_at dksL_law_84 13 rfl rfl)
theorem dL_law_2123 : decode cL_law 2123 = .ok (.iadd, 1) := dk_96 (dk_at dksL_law_84 14 rfl rfl)
theorem dL_law_2124 : decode cL_law 2124 = .ok (.iaload, 1) := dk_46 (dk_at dksL_law_84 15 rfl rfl)
theorem dL_law_2125 : decode cL_law 2125 = .ok (.aload_n 3, 1) := dk_45 (dk_at dksL_law_84 16 rfl rfl)
theorem dL_law_2126 : decode cL_law 2126 = .ok (.invokestatic 233, 3) := dk_184 0 233 (dk_at dksL_law_84 17 rfl rfl)
theorem dL_law_2129 : decode cL_law 2129 = .ok (.istore 5, 2) := dk_54 5 (dk_at dksL_law_84 20 rfl rfl)
theorem dL_law_2131 : decode cL_law 2131 = .ok (.aload_n 2, 1) := dk_44 (dk_at dksL_law_84 22 rfl rfl)
theorem dL_law_2132 : decode cL_law 2132 = .ok (.aload_n 0, 1) := dk_42 (dk_at dksL_law_84 23 rfl rfl)
theorem dL_law_2133 : decode cL_law 2133 = .ok (.iload 4, 2) := dk_21 4 (dk_at dksL_law_85 0 rfl rfl)
theorem dL_law_2135 : decode cL_law 2135 = .ok (.iconst 1, 1) := dk_4 (dk_at dksL_law_85 2 rfl rfl)
theorem dL_law_2136 : decode cL_law 2136 = .ok (.iadd, 1) := dk_96 (dk_at dksL_law_85 3 rfl rfl)
theorem dL_law_2137 : decode cL_law 2137 = .ok (.iaload, 1) := dk_46 (dk_at dksL_law_85 4 rfl rfl)
theorem dL_law_2138 : decode cL_law 2138 = .ok (.aload_n 0, 1) := dk_42 (dk_at dksL_law_85 5 rfl rfl)
theorem dL_law_2139 : decode cL_law 2139 = .ok (.iload 4, 2) := dk_21 4 (dk_at dksL_law_85 6 rfl rfl)
theorem dL_law_2141 : decode cL_law 2141 = .ok (.iconst 2, 1) := dk_5 (dk_at dksL_law_85 8 rfl rfl)
theorem dL_law_2142 : decode cL_law 2142 = .ok (.iadd, 1) := dk_96 (dk_at dksL_law_85 9 rfl rfl)
theorem dL_law_2143 : decode cL_law 2143 = .ok (.iaload, 1) := dk_46 (dk_at dksL_law_85 10 rfl rfl)
theorem dL_law_2144 : decode cL_law 2144 = .ok (.invokevirtual 235, 3) := dk_182 0 235 (dk_at dksL_law_85 11 rfl rfl)
theorem dL_law_2147 : decode cL_law 2147 = .ok (.istore 6, 2) := dk_54 6 (dk_at dksL_law_85 14 rfl rfl)
theorem dL_law_2149 : decode cL_law 2149 = .ok (.aload_n 2, 1) := dk_44 (dk_at dksL_law_85 16 rfl rfl)
theorem dL_law_2150 : decode cL_law 2150 = .ok (.invokevirtual 132, 3) := dk_182 0 132 (dk_at dksL_law_85 17 rfl rfl)
theorem dL_law_2153 : decode cL_law 2153 = .ok (.iload 5, 2) := dk_21 5 (dk_at dksL_law_85 20 rfl rfl)
theorem dL_law_2155 : decode cL_law 2155 = .ok (.if_icmp .eq 5, 3) := dk_159 0 5 (dk_at dksL_law_86 0 rfl rfl)
theorem dL_law_2158 : decode cL_law 2158 = .ok (.iconst 0, 1) := dk_3 (dk_at dksL_law_86 3 rfl rfl)
theorem dL_law_2159 : decode cL_law 2159 = .ok (.ireturn, 1) := dk_172 (dk_at dksL_law_86 4 rfl rfl)
theorem dL_law_2160 : decode cL_law 2160 = .ok (.iload 5, 2) := dk_21 5 (dk_at dksL_law_86 5 rfl rfl)
theorem dL_law_2162 : decode cL_law 2162 = .ok (.ifCond .ne 15, 3) := dk_154 0 15 (dk_at dksL_law_86 7 rfl rfl)
theorem dL_law_2165 : decode cL_law 2165 = .ok (.aload_n 3, 1) := dk_45 (dk_at dksL_law_86 10 rfl rfl)
theorem dL_law_2166 : decode cL_law 2166 = .ok (.iconst 0, 1) := dk_3 (dk_at dksL_law_86 11 rfl rfl)
theorem dL_law_2167 : decode cL_law 2167 = .ok (.laload, 1) := dk_47 (dk_at dksL_law_86 12 rfl rfl)
theorem dL_law_2168 : decode cL_law 2168 = .ok (.iload 6, 2) := dk_21 6 (dk_at dksL_law_86 13 rfl rfl)
theorem dL_law_2170 : decode cL_law 2170 = .ok (.i2l, 1) := dk_133 (dk_at dksL_law_86 15 rfl rfl)
theorem dL_law_2171 : decode cL_law 2171 = .ok (.lcmp, 1) := dk_148 (dk_at dksL_law_86 16 rfl rfl)
theorem dL_law_2172 : decode cL_law 2172 = .ok (.ifCond .eq 5, 3) := dk_153 0 5 (dk_at dksL_law_86 17 rfl rfl)
theorem dL_law_2175 : decode cL_law 2175 = .ok (.iconst 0, 1) := dk_3 (dk_at dksL_law_86 20 rfl rfl)
theorem dL_law_2176 : decode cL_law 2176 = .ok (.ireturn, 1) := dk_172 (dk_at dksL_law_86 21 rfl rfl)
theorem dL_law_2177 : decode cL_law 2177 = .ok (.goto 381, 3) := dk_167 1 125 (dk_at dksL_law_87 0 rfl rfl)
theorem dL_law_2180 : decode cL_law 2180 = .ok (.aload_n 1, 1) := dk_43 (dk_at dksL_law_87 3 rfl rfl)
theorem dL_law_2181 : decode cL_law 2181 = .ok (.aload_n 0, 1) := dk_42 (dk_at dksL_law_87 4 rfl rfl)
theorem dL_law_2182 : decode cL_law 2182 = .ok (.iload 4, 2) := dk_21 4 (dk_at dksL_law_87 5 rfl rfl)
theorem dL_law_2184 : decode cL_law 2184 = .ok (.iconst 1, 1) := dk_4 (dk_at dksL_law_87 7 rfl rfl)
theorem dL_law_2185 : decode cL_law 2185 = .ok (.iadd, 1) := dk_96 (dk_at dksL_law_87 8 rfl rfl)
theorem dL_law_2186 : decode cL_law 2186 = .ok (.iaload, 1) := dk_46 (dk_at dksL_law_87 9 rfl rfl)
theorem dL_law_2187 : decode cL_law 2187 = .ok (.aload_n 3, 1) := dk_45 (dk_at dksL_law_87 10 rfl rfl)
theorem dL_law_2188 : decode cL_law 2188 = .ok (.invokestatic 236, 3) := dk_184 0 236 (dk_at dksL_law_87 11 rfl rfl)
theorem dL_law_2191 : decode cL_law 2191 = .ok (.istore 5, 2) := dk_54 5 (dk_at dksL_law_87 14 rfl rfl)
theorem dL_law_2193 : decode cL_law 2193 = .ok (.aload_n 2, 1) := dk_44 (dk_at dksL_law_87 16 rfl rfl)
theorem dL_law_2194 : decode cL_law 2194 = .ok (.aload_n 0, 1) := dk_42 (dk_at dksL_law_87 17 rfl rfl)
theorem dL_law_2195 : decode cL_law 2195 = .ok (.iload 4, 2) := dk_21 4 (dk_at dksL_law_87 18 rfl rfl)
theorem dL_law_2197 : decode cL_law 2197 = .ok (.iconst 1, 1) := dk_4 (dk_at dksL_law_87 20 rfl rfl)
theorem dL_law_2198 : decode cL_law 2198 = .ok (.iadd, 1) := dk_96 (dk_at dksL_law_87 21 rfl rfl)
theorem dL_law_2199 : decode cL_law 2199 = .ok (.iaload, 1) := dk_46 (dk_at dksL_law_87 22 rfl rfl)
theorem dL_law_2200 : decode cL_law 2200 = .ok (.invokevirtual 238, 3) := dk_182 0 238 (dk_at dksL_law_88 0 rfl rfl)
theorem dL_law_2203 : decode cL_law 2203 = .ok (.istore 6, 2) := dk_54 6 (dk_at dksL_law_88 3 rfl rfl)
theorem dL_law_2205 : decode cL_law 2205 = .ok (.aload_n 2, 1) := dk_44 (dk_at dksL_law_88 5 rfl rfl)
theorem dL_law_2206 : decode cL_law 2206 = .ok (.invokevirtual 132, 3) := dk_182 0 132 (dk_at dksL_law_88 6 rfl rfl)
theorem dL_law_2209 : decode cL_law 2209 = .ok (.iload 5, 2) := dk_21 5 (dk_at dksL_law_88 9 rfl rfl)
theorem dL_law_2211 : decode cL_law 2211 = .ok (.if_icmp .eq 5, 3) := dk_159 0 5 (dk_at dksL_law_88 11 rfl rfl)
theorem dL_law_2214 : decode cL_law 2214 = .ok (.iconst 0, 1) := dk_3 (dk_at dksL_law_88 14 rfl rfl)
theorem dL_law_2215 : decode cL_law 2215 = .ok (.ireturn, 1) := dk_172 (dk_at dksL_law_88 15 rfl rfl)
theorem dL_law_2216 : decode cL_law 2216 = .ok (.iload 5, 2) := dk_21 5 (dk_at dksL_law_88 16 rfl rfl)
theorem dL_law_2218 : decode cL_law 2218 = .ok (.ifCond .ne 15, 3) := dk_154 0 15 (dk_at dksL_law_88 18 rfl rfl)
theorem dL_law_2221 : decode cL_law 2221 = .ok (.aload_n 3, 1) := dk_45 (dk_at dksL_law_88 21 rfl rfl)
theorem dL_law_2222 : decode cL_law 2222 = .ok (.iconst 0, 1) := dk_3 (dk_at dksL_law_88 22 rfl rfl)
theorem dL_law_2223 : decode cL_law 2223 = .ok (.laload, 1) := dk_47 (dk_at dksL_law_88 23 rfl rfl)
theorem dL_law_2224 : decode cL_law 2224 = .ok (.iload 6, 2) := dk_21 6 (dk_at dksL_law_89 0 rfl rfl)
theorem dL_law_2226 : decode cL_law 2226 = .ok (.i2l, 1) := dk_133 (dk_at dksL_law_89 2 rfl rfl)
theorem dL_law_2227 : decode cL_law 2227 = .ok (.lcmp, 1) := dk_148 (dk_at dksL_law_89 3 rfl rfl)
theorem dL_law_2228 : decode cL_law 2228 = .ok (.ifCond .eq 5, 3) := dk_153 0 5 (dk_at dksL_law_89 4 rfl rfl)
theorem dL_law_2231 : decode cL_law 2231 = .ok (.iconst 0, 1) := dk_3 (dk_at dksL_law_89 7 rfl rfl)
theorem dL_law_2232 : decode cL_law 2232 = .ok (.ireturn, 1) := dk_172 (dk_at dksL_law_89 8 rfl rfl)
theorem dL_law_2233 : decode cL_law 2233 = .ok (.goto 325, 3) := dk_167 1 69 (dk_at dksL_law_89 9 rfl rfl)
theorem dL_law_2236 : decode cL_law 2236 = .ok (.aload_n 1, 1) := dk_43 (dk_at dksL_law_89 12 rfl rfl)
theorem dL_law_2237 : decode cL_law 2237 = .ok (.aload_n 0, 1) := dk_42 (dk_at dksL_law_89 13 rfl rfl)
theorem dL_law_2238 : decode cL_law 2238 = .ok (.iload 4, 2) := dk_21 4 (dk_at dksL_law_89 14 rfl rfl)
theorem dL_law_2240 : decode cL_law 2240 = .ok (.iconst 1, 1) := dk_4 (dk_at dksL_law_89 16 rfl rfl)
theorem dL_law_2241 : decode cL_law 2241 = .ok (.iadd, 1) := dk_96 (dk_at dksL_law_89 17 rfl rfl)
theorem dL_law_2242 : decode cL_law 2242 = .ok (.iaload, 1) := dk_46 (dk_at dksL_law_89 18 rfl rfl)
theorem dL_law_2243 : decode cL_law 2243 = .ok (.aload_n 3, 1) := dk_45 (dk_at dksL_law_89 19 rfl rfl)
theorem dL_law_2244 : decode cL_law 2244 = .ok (.invokestatic 239, 3) := dk_184 0 239 (dk_at dksL_law_89 20 rfl rfl)
theorem dL_law_2247 : decode cL_law 2247 = .ok (.istore 5, 2) := dk_54 5 (dk_at dksL_law_90 0 rfl rfl)
theorem dL_law_2249 : decode cL_law 2249 = .ok (.aload_n 2, 1) := dk_44 (dk_at dksL_law_90 2 rfl rfl)
theorem dL_law_2250 : decode cL_law 2250 = .ok (.aload_n 0, 1) := dk_42 (dk_at dksL_law_90 3 rfl rfl)
theorem dL_law_2251 : decode cL_law 2251 = .ok (.iload 4, 2) := dk_21 4 (dk_at dksL_law_90 4 rfl rfl)
theorem dL_law_2253 : decode cL_law 2253 = .ok (.iconst 1, 1) := dk_4 (dk_at dksL_law_90 6 rfl rfl)
theorem dL_law_2254 : decode cL_law 2254 = .ok (.iadd, 1) := dk_96 (dk_at dksL_law_90 7 rfl rfl)
theorem dL_law_2255 : decode cL_law 2255 = .ok (.iaload, 1) := dk_46 (dk_at dksL_law_90 8 rfl rfl)
theorem dL_law_2256 : decode cL_law 2256 = .ok (.invokevirtual 241, 3) := dk_182 0 241 (dk_at dksL_law_90 9 rfl rfl)
theorem dL_law_2259 : decode cL_law 2259 = .ok (.istore 6, 2) := dk_54 6 (dk_at dksL_law_90 12 rfl rfl)
theorem dL_law_2261 : decode cL_law 2261 = .ok (.aload_n 2, 1) := dk_44 (dk_at dksL_law_90 14 rfl rfl)
theorem dL_law_2262 : decode cL_law 2262 = .ok (.invokevirtual 132, 3) := dk_182 0 132 (dk_at dksL_law_90 15 rfl rfl)
theorem dL_law_2265 : decode cL_law 2265 = .ok (.iload 5, 2) := dk_21 5 (dk_at dksL_law_90 18 rfl rfl)
theorem dL_law_2267 : decode cL_law 2267 = .ok (.if_icmp .eq 5, 3) := dk_159 0 5 (dk_at dksL_law_90 20 rfl rfl)
theorem dL_law_2270 : decode cL_law 2270 = .ok (.iconst 0, 1) := dk_3 (dk_at dksL_law_90 23 rfl rfl)
theorem dL_law_2271 : decode cL_law 2271 = .ok (.ireturn, 1) := dk_172 (dk_at dksL_law_91 0 rfl rfl)
theorem dL_law_2272 : decode cL_law 2272 = .ok (.iload 5, 2) := dk_21 5 (dk_at dksL_law_91 1 rfl rfl)
theorem dL_law_2274 : decode cL_law 2274 = .ok (.ifCond .ne 15, 3) := dk_154 0 15 (dk_at dksL_law_91 3 rfl rfl)
theorem dL_law_2277 : decode cL_law 2277 = .ok (.aload_n 3, 1) := dk_45 (dk_at dksL_law_91 6 rfl rfl)
theorem dL_law_2278 : decode cL_law 2278 = .ok (.iconst 0, 1) := dk_3 (dk_at dksL_law_91 7 rfl rfl)
theorem dL_law_2279 : decode cL_law 2279 = .ok (.laload, 1) := dk_47 (dk_at dksL_law_91 8 rfl rfl)
theorem dL_law_2280 : decode cL_law 2280 = .ok (.iload 6, 2) := dk_21 6 (dk_at dksL_law_91 9 rfl rfl)
theorem dL_law_2282 : decode cL_law 2282 = .ok (.i2l, 1) := dk_133 (dk_at dksL_law_91 11 rfl rfl)
theorem dL_law_2283 : decode cL_law 2283 = .ok (.lcmp, 1) := dk_148 (dk_at dksL_law_91 12 rfl rfl)
theorem dL_law_2284 : decode cL_law 2284 = .ok (.ifCond .eq 5, 3) := dk_153 0 5 (dk_at dksL_law_91 13 rfl rfl)
theorem dL_law_2287 : decode cL_law 2287 = .ok (.iconst 0, 1) := dk_3 (dk_at dksL_law_91 16 rfl rfl)
theorem dL_law_2288 : decode cL_law 2288 = .ok (.ireturn, 1) := dk_172 (dk_at dksL_law_91 17 rfl rfl)
theorem dL_law_2289 : decode cL_law 2289 = .ok (.goto 269, 3) := dk_167 1 13 (dk_at dksL_law_91 18 rfl rfl)
theorem dL_law_2292 : decode cL_law 2292 = .ok (.aload_n 1, 1) := dk_43 (dk_at dksL_law_91 21 rfl rfl)
theorem dL_law_2293 : decode cL_law 2293 = .ok (.aload_n 0, 1) := dk_42 (dk_at dksL_law_91 22 rfl rfl)
theorem dL_law_2294 : decode cL_law 2294 = .ok (.iload 4, 2) := dk_21 4 (dk_at dksL_law_92 0 rfl rfl)
theorem dL_law_2296 : decode cL_law 2296 = .ok (.iconst 1, 1) := dk_4 (dk_at dksL_law_92 2 rfl rfl)
theorem dL_law_2297 : decode cL_law 2297 = .ok (.iadd, 1) := dk_96 (dk_at dksL_law_92 3 rfl rfl)
theorem dL_law_2298 : decode cL_law 2298 = .ok (.iaload, 1) := dk_46 (dk_at dksL_law_92 4 rfl rfl)
theorem dL_law_2299 : decode cL_law 2299 = .ok (.aload_n 0, 1) := dk_42 (dk_at dksL_law_92 5 rfl rfl)
theorem dL_law_2300 : decode cL_law 2300 = .ok (.iload 4, 2) := dk_21 4 (dk_at dksL_law_92 6 rfl rfl)
theorem dL_law_2302 : decode cL_law 2302 = .ok (.iconst 2, 1) := dk_5 (dk_at dksL_law_92 8 rfl rfl)
theorem dL_law_2303 : decode cL_law 2303 = .ok (.iadd, 1) := dk_96 (dk_at dksL_law_92 9 rfl rfl)
theorem dL_law_2304 : decode cL_law 2304 = .ok (.iaload, 1) := dk_46 (dk_at dksL_law_92 10 rfl rfl)
theorem dL_law_2305 : decode cL_law 2305 = .ok (.aload_n 3, 1) := dk_45 (dk_at dksL_law_92 11 rfl rfl)
theorem dL_law_2306 : decode cL_law 2306 = .ok (.invokestatic 242, 3) := dk_184 0 242 (dk_at dksL_law_92 12 rfl rfl)
theorem dL_law_2309 : decode cL_law 2309 = .ok (.istore 5, 2) := dk_54 5 (dk_at dksL_law_92 15 rfl rfl)
theorem dL_law_2311 : decode cL_law 2311 = .ok (.aload_n 2, 1) := dk_44 (dk_at dksL_law_92 17 rfl rfl)
theorem dL_law_2312 : decode cL_law 2312 = .ok (.aload_n 0, 1) := dk_42 (dk_at dksL_law_92 18 rfl rfl)
theorem dL_law_2313 : decode cL_law 2313 = .ok (.iload 4, 2) := dk_21 4 (dk_at dksL_law_92 19 rfl rfl)
theorem dL_law_2315 : decode cL_law 2315 = .ok (.iconst 1, 1) := dk_4 (dk_at dksL_law_92 21 rfl rfl)
theorem dL_law_2316 : decode cL_law 2316 = .ok (.iadd, 1) := dk_96 (dk_at dksL_law_92 22 rfl rfl)
theorem dL_law_2317 : decode cL_law 2317 = .ok (.iaload, 1) := dk_46 (dk_at dksL_law_92 23 rfl rfl)
theorem dL_law_2318 : decode cL_law 2318 = .ok (.aload_n 0, 1) := dk_42 (dk_at dksL_law_93 0 rfl rfl)
theorem dL_law_2319 : decode cL_law 2319 = .ok (.iload 4, 2) := dk_21 4 (dk_at dksL_law_93 1 rfl rfl)
theorem dL_law_2321 : decode cL_law 2321 = .ok (.iconst 2, 1) := dk_5 (dk_at dksL_law_93 3 rfl rfl)
theorem dL_law_2322 : decode cL_law 2322 = .ok (.iadd, 1) := dk_96 (dk_at dksL_law_93 4 rfl rfl)
theorem dL_law_2323 : decode cL_law 2323 = .ok (.iaload, 1) := dk_46 (dk_at dksL_law_93 5 rfl rfl)
theorem dL_law_2324 : decode cL_law 2324 = .ok (.invokevirtual 244, 3) := dk_182 0 244 (dk_at dksL_law_93 6 rfl rfl)
theorem dL_law_2327 : decode cL_law 2327 = .ok (.istore 6, 2) := dk_54 6 (dk_at dksL_law_93 9 rfl rfl)
theorem dL_law_2329 : decode cL_law 2329 = .ok (.aload_n 2, 1) := dk_44 (dk_at dksL_law_93 11 rfl rfl)
theorem dL_law_2330 : decode cL_law 2330 = .ok (.invokevirtual 132, 3) := dk_182 0 132 (dk_at dksL_law_93 12 rfl rfl)
theorem dL_law_2333 : decode cL_law 2333 = .ok (.iload 5, 2) := dk_21 5 (dk_at dksL_law_93 15 rfl rfl)
theorem dL_law_2335 : decode cL_law 2335 = .ok (.if_icmp .eq 5, 3) := dk_159 0 5 (dk_at dksL_law_93 17 rfl rfl)
theorem dL_law_2338 : decode cL_law 2338 = .ok (.iconst 0, 1) := dk_3 (dk_at dksL_law_93 20 rfl rfl)
theorem dL_law_2339 : decode cL_law 2339 = .ok (.ireturn, 1) := dk_172 (dk_at dksL_law_93 21 rfl rfl)
theorem dL_law_2340 : decode cL_law 2340 = .ok (.iload 5, 2) := dk_21 5 (dk_at dksL_law_93 22 rfl rfl)
theorem dL_law_2342 : decode cL_law 2342 = .ok (.ifCond .ne 15, 3) := dk_154 0 15 (dk_at dksL_law_94 0 rfl rfl)
theorem dL_law_2345 : decode cL_law 2345 = .ok (.aload_n 3, 1) := dk_45 (dk_at dksL_law_94 3 rfl rfl)
theorem dL_law_2346 : decode cL_law 2346 = .ok (.iconst 0, 1) := dk_3 (dk_at dksL_law_94 4 rfl rfl)
theorem dL_law_2347 : decode cL_law 2347 = .ok (.laload, 1) := dk_47 (dk_at dksL_law_94 5 rfl rfl)
theorem dL_law_2348 : decode cL_law 2348 = .ok (.iload 6, 2) := dk_21 6 (dk_at dksL_law_94 6 rfl rfl)
theorem dL_law_2350 : decode cL_law 2350 = .ok (.i2l, 1) := dk_133 (dk_at dksL_law_94 8 rfl rfl)
theorem dL_law_2351 : decode cL_law 2351 = .ok (.lcmp, 1) := dk_148 (dk_at dksL_law_94 9 rfl rfl)
theorem dL_law_2352 : decode cL_law 2352 = .ok (.ifCond .eq 5, 3) := dk_153 0 5 (dk_at dksL_law_94 10 rfl rfl)
theorem dL_law_2355 : decode cL_law 2355 = .ok (.iconst 0, 1) := dk_3 (dk_at dksL_law_94 13 rfl rfl)
theorem dL_law_2356 : decode cL_law 2356 = .ok (.ireturn, 1) := dk_172 (dk_at dksL_law_94 14 rfl rfl)
theorem dL_law_2357 : decode cL_law 2357 = .ok (.goto 201, 3) := dk_167 0 201 (dk_at dksL_law_94 15 rfl rfl)
theorem dL_law_2360 : decode cL_law 2360 = .ok (.aload_n 1, 1) := dk_43 (dk_at dksL_law_94 18 rfl rfl)
theorem dL_law_2361 : decode cL_law 2361 = .ok (.aload_n 0, 1) := dk_42 (dk_at dksL_law_94 19 rfl rfl)
theorem dL_law_2362 : decode cL_law 2362 = .ok (.iload 4, 2) := dk_21 4 (dk_at dksL_law_94 20 rfl rfl)
theorem dL_law_2364 : decode cL_law 2364 = .ok (.iconst 1, 1) := dk_4 (dk_at dksL_law_94 22 rfl rfl)
theorem dL_law_2365 : decode cL_law 2365 = .ok (.iadd, 1) := dk_96 (dk_at dksL_law_94 23 rfl rfl)
theorem dL_law_2366 : decode cL_law 2366 = .ok (.iaload, 1) := dk_46 (dk_at dksL_law_95 0 rfl rfl)
theorem dL_law_2367 : decode cL_law 2367 = .ok (.aload_n 0, 1) := dk_42 (dk_at dksL_law_95 1 rfl rfl)
theorem dL_law_2368 : decode cL_law 2368 = .ok (.iload 4, 2) := dk_21 4 (dk_at dksL_law_95 2 rfl rfl)
theorem dL_law_2370 : decode cL_law 2370 = .ok (.iconst 2, 1) := dk_5 (dk_at dksL_law_95 4 rfl rfl)
theorem dL_law_2371 : decode cL_law 2371 = .ok (.iadd, 1) := dk_96 (dk_at dksL_law_95 5 rfl rfl)
theorem dL_law_2372 : decode cL_law 2372 = .ok (.iaload, 1) := dk_46 (dk_at dksL_law_95 6 rfl rfl)
theorem dL_law_2373 : decode cL_law 2373 = .ok (.aload_n 3, 1) := dk_45 (dk_at dksL_law_95 7 rfl rfl)
theorem dL_law_2374 : decode cL_law 2374 = .ok (.invokestatic 245, 3) := dk_184 0 245 (dk_at dksL_law_95 8 rfl rfl)
theorem dL_law_2377 : decode cL_law 2377 = .ok (.istore 5, 2) := dk_54 5 (dk_at dksL_law_95 11 rfl rfl)
theorem dL_law_2379 : decode cL_law 2379 = .ok (.aload_n 2, 1) := dk_44 (dk_at dksL_law_95 13 rfl rfl)
theorem dL_law_2380 : decode cL_law 2380 = .ok (.aload_n 0, 1) := dk_42 (dk_at dksL_law_95 14 rfl rfl)
theorem dL_law_2381 : decode cL_law 2381 = .ok (.iload 4, 2) := dk_21 4 (dk_at dksL_law_95 15 rfl rfl)
theorem dL_law_2383 : decode cL_law 2383 = .ok (.iconst 1, 1) := dk_4 (dk_at dksL_law_95 17 rfl rfl)
theorem dL_law_2384 : decode cL_law 2384 = .ok (.iadd, 1) := dk_96 (dk_at dksL_law_95 18 rfl rfl)
theorem dL_law_2385 : decode cL_law 2385 = .ok (.iaload, 1) := dk_46 (dk_at dksL_law_95 19 rfl rfl)
theorem dL_law_2386 : decode cL_law 2386 = .ok (.aload_n 0, 1) := dk_42 (dk_at dksL_law_95 20 rfl rfl)
theorem dL_law_2387 : decode cL_law 2387 = .ok (.iload 4, 2) := dk_21 4 (dk_at dksL_law_95 21 rfl rfl)
theorem dL_law_2389 : decode cL_law 2389 = .ok (.iconst 2, 1) := dk_5 (dk_at dksL_law_95 23 rfl rfl)
theorem dL_law_2390 : decode cL_law 2390 = .ok (.iadd, 1) := dk_96 (dk_at dksL_law_96 0 rfl rfl)
theorem dL_law_2391 : decode cL_law 2391 = .ok (.iaload, 1) := dk_46 (dk_at dksL_law_96 1 rfl rfl)
theorem dL_law_2392 : decode cL_law 2392 = .ok (.invokevirtual 247, 3) := dk_182 0 247 (dk_at dksL_law_96 2 rfl rfl)
theorem dL_law_2395 : decode cL_law 2395 = .ok (.istore 6, 2) := dk_54 6 (dk_at dksL_law_96 5 rfl rfl)
theorem dL_law_2397 : decode cL_law 2397 = .ok (.aload_n 2, 1) := dk_44 (dk_at dksL_law_96 7 rfl rfl)
theorem dL_law_2398 : decode cL_law 2398 = .ok (.invokevirtual 132, 3) := dk_182 0 132 (dk_at dksL_law_96 8 rfl rfl)
theorem dL_law_2401 : decode cL_law 2401 = .ok (.iload 5, 2) := dk_21 5 (dk_at dksL_law_96 11 rfl rfl)
theorem dL_law_2403 : decode cL_law 2403 = .ok (.if_icmp .eq 5, 3) := dk_159 0 5 (dk_at dksL_law_96 13 rfl rfl)
theorem dL_law_2406 : decode cL_law 2406 = .ok (.iconst 0, 1) := dk_3 (dk_at dksL_law_96 16 rfl rfl)
theorem dL_law_2407 : decode cL_law 2407 = .ok (.ireturn, 1) := dk_172 (dk_at dksL_law_96 17 rfl rfl)
theorem dL_law_2408 : decode cL_law 2408 = .ok (.iload 5, 2) := dk_21 5 (dk_at dksL_law_96 18 rfl rfl)
theorem dL_law_2410 : decode cL_law 2410 = .ok (.ifCond .ne 22, 3) := dk_154 0 22 (dk_at dksL_law_96 20 rfl rfl)
theorem dL_law_2413 : decode cL_law 2413 = .ok (.aload_n 3, 1) := dk_45 (dk_at dksL_law_96 23 rfl rfl)
theorem dL_law_2414 : decode cL_law 2414 = .ok (.iconst 0, 1) := dk_3 (dk_at dksL_law_97 0 rfl rfl)
theorem dL_law_2415 : decode cL_law 2415 = .ok (.laload, 1) := dk_47 (dk_at dksL_law_97 1 rfl rfl)
theorem dL_law_2416 : decode cL_law 2416 = .ok (.iload 6, 2) := dk_21 6 (dk_at dksL_law_97 2 rfl rfl)
theorem dL_law_2418 : decode cL_law 2418 = .ok (.ifCond .eq 7, 3) := dk_153 0 7 (dk_at dksL_law_97 4 rfl rfl)
theorem dL_law_2421 : decode cL_law 2421 = .ok (.lconst 1, 1) := dk_10 (dk_at dksL_law_97 7 rfl rfl)
theorem dL_law_2422 : decode cL_law 2422 = .ok (.goto 4, 3) := dk_167 0 4 (dk_at dksL_law_97 8 rfl rfl)
theorem dL_law_2425 : decode cL_law 2425 = .ok (.lconst 0, 1) := dk_9 (dk_at dksL_law_97 11 rfl rfl)
theorem dL_law_2426 : decode cL_law 2426 = .ok (.lcmp, 1) := dk_148 (dk_at dksL_law_97 12 rfl rfl)
theorem dL_law_2427 : decode cL_law 2427 = .ok (.ifCond .eq 5, 3) := dk_153 0 5 (dk_at dksL_law_97 13 rfl rfl)
theorem dL_law_2430 : decode cL_law 2430 = .ok (.iconst 0, 1) := dk_3 (dk_at dksL_law_97 16 rfl rfl)
theorem dL_law_2431 : decode cL_law 2431 = .ok (.ireturn, 1) := dk_172 (dk_at dksL_law_97 17 rfl rfl)
theorem dL_law_2432 : decode cL_law 2432 = .ok (.goto 126, 3) := dk_167 0 126 (dk_at dksL_law_97 18 rfl rfl)
theorem dL_law_2435 : decode cL_law 2435 = .ok (.aload_n 1, 1) := dk_43 (dk_at dksL_law_97 21 rfl rfl)
theorem dL_law_2436 : decode cL_law 2436 = .ok (.invokevirtual 248, 3) := dk_182 0 248 (dk_at dksL_law_98 0 rfl rfl)
theorem dL_law_2439 : decode cL_law 2439 = .ok (.aload_n 2, 1) := dk_44 (dk_at dksL_law_98 3 rfl rfl)
theorem dL_law_2440 : decode cL_law 2440 = .ok (.invokevirtual 251, 3) := dk_182 0 251 (dk_at dksL_law_98 4 rfl rfl)
theorem dL_law_2443 : decode cL_law 2443 = .ok (.if_icmp .eq 115, 3) := dk_159 0 115 (dk_at dksL_law_98 7 rfl rfl)
theorem dL_law_2446 : decode cL_law 2446 = .ok (.iconst 0, 1) := dk_3 (dk_at dksL_law_98 10 rfl rfl)
theorem dL_law_2447 : decode cL_law 2447 = .ok (.ireturn, 1) := dk_172 (dk_at dksL_law_98 11 rfl rfl)
theorem dL_law_2448 : decode cL_law 2448 = .ok (.aload_n 1, 1) := dk_43 (dk_at dksL_law_98 12 rfl rfl)
theorem dL_law_2449 : decode cL_law 2449 = .ok (.invokevirtual 252, 3) := dk_182 0 252 (dk_at dksL_law_98 13 rfl rfl)
theorem dL_law_2452 : decode cL_law 2452 = .ok (.aload_n 2, 1) := dk_44 (dk_at dksL_law_98 16 rfl rfl)
theorem dL_law_2453 : decode cL_law 2453 = .ok (.invokevirtual 255, 3) := dk_182 0 255 (dk_at dksL_law_98 17 rfl rfl)
theorem dL_law_2456 : decode cL_law 2456 = .ok (.if_icmp .eq 102, 3) := dk_159 0 102 (dk_at dksL_law_98 20 rfl rfl)
theorem dL_law_2459 : decode cL_law 2459 = .ok (.iconst 0, 1) := dk_3 (dk_at dksL_law_98 23 rfl rfl)
theorem dL_law_2460 : decode cL_law 2460 = .ok (.ireturn, 1) := dk_172 (dk_at dksL_law_99 0 rfl rfl)
theorem dL_law_2461 : decode cL_law 2461 = .ok (.aload_n 1, 1) := dk_43 (dk_at dksL_law_99 1 rfl rfl)
theorem dL_law_2462 : decode cL_law 2462 = .ok (.invokevirtual 256, 3) := dk_182 1 0 (dk_at dksL_law_99 2 rfl rfl)
theorem dL_law_2465 : decode cL_law 2465 = .ok (.aload_n 2, 1) := dk_44 (dk_at dksL_law_99 5 rfl rfl)
theorem dL_law_2466 : decode cL_law 2466 = .ok (.invokevirtual 259, 3) := dk_182 1 3 (dk_at dksL_law_99 6 rfl rfl)
theorem dL_law_2469 : decode cL_law 2469 = .ok (.if_icmp .eq 89, 3) := dk_159 0 89 (dk_at dksL_law_99 9 rfl rfl)
theorem dL_law_2472 : decode cL_law 2472 = .ok (.iconst 0, 1) := dk_3 (dk_at dksL_law_99 12 rfl rfl)
theorem dL_law_2473 : decode cL_law 2473 = .ok (.ireturn, 1) := dk_172 (dk_at dksL_law_99 13 rfl rfl)
theorem dL_law_2474 : decode cL_law 2474 = .ok (.aload_n 1, 1) := dk_43 (dk_at dksL_law_99 14 rfl rfl)
theorem dL_law_2475 : decode cL_law 2475 = .ok (.invokevirtual 260, 3) := dk_182 1 4 (dk_at dksL_law_99 15 rfl rfl)
theorem dL_law_2478 : decode cL_law 2478 = .ok (.dstore 5, 2) := dk_57 5 (dk_at dksL_law_99 18 rfl rfl)
theorem dL_law_2480 : decode cL_law 2480 = .ok (.aload_n 2, 1) := dk_44 (dk_at dksL_law_99 20 rfl rfl)
theorem dL_law_2481 : decode cL_law 2481 = .ok (.invokevirtual 264, 3) := dk_182 1 8 (dk_at dksL_law_99 21 rfl rfl)
theorem dL_law_2484 : decode cL_law 2484 = .ok (.dstore 7, 2) := dk_57 7 (dk_at dksL_law_100 0 rfl rfl)
theorem dL_law_2486 : decode cL_law 2486 = .ok (.dload 5, 2) := dk_24 5 (dk_at dksL_law_100 2 rfl rfl)
theorem dL_law_2488 : decode cL_law 2488 = .ok (.dload 7, 2) := dk_24 7 (dk_at dksL_law_100 4 rfl rfl)
theorem dL_law_2490 : decode cL_law 2490 = .ok (.dcmp .l, 1) := dk_151 (dk_at dksL_law_100 6 rfl rfl)
theorem dL_law_2491 : decode cL_law 2491 = .ok (.ifCond .eq 21, 3) := dk_153 0 21 (dk_at dksL_law_100 7 rfl rfl)
theorem dL_law_2494 : decode cL_law 2494 = .ok (.dload 5, 2) := dk_24 5 (dk_at dksL_law_100 10 rfl rfl)
theorem dL_law_2496 : decode cL_law 2496 = .ok (.dload 5, 2) := dk_24 5 (dk_at dksL_law_100 12 rfl rfl)
theorem dL_law_2498 : decode cL_law 2498 = .ok (.dcmp .l, 1) := dk_151 (dk_at dksL_law_100 14 rfl rfl)
theorem dL_law_2499 : decode cL_law 2499 = .ok (.ifCond .eq 11, 3) := dk_153 0 11 (dk_at dksL_law_100 15 rfl rfl)
theorem dL_law_2502 : decode cL_law 2502 = .ok (.dload 7, 2) := dk_24 7 (dk_at dksL_law_100 18 rfl rfl)
theorem dL_law_2504 : decode cL_law 2504 = .ok (.dload 7, 2) := dk_24 7 (dk_at dksL_law_100 20 rfl rfl)
theorem dL_law_2506 : decode cL_law 2506 = .ok (.dcmp .l, 1) := dk_151 (dk_at dksL_law_100 22 rfl rfl)
theorem dL_law_2507 : decode cL_law 2507 = .ok (.ifCond .ne 5, 3) := dk_154 0 5 (dk_at dksL_law_101 0 rfl rfl)
theorem dL_law_2510 : decode cL_law 2510 = .ok (.iconst 0, 1) := dk_3 (dk_at dksL_law_101 3 rfl rfl)
theorem dL_law_2511 : decode cL_law 2511 = .ok (.ireturn, 1) := dk_172 (dk_at dksL_law_101 4 rfl rfl)
theorem dL_law_2512 : decode cL_law 2512 = .ok (.goto 46, 3) := dk_167 0 46 (dk_at dksL_law_101 5 rfl rfl)
theorem dL_law_2515 : decode cL_law 2515 = .ok (.aload_n 1, 1) := dk_43 (dk_at dksL_law_101 8 rfl rfl)
theorem dL_law_2516 : decode cL_law 2516 = .ok (.invokevirtual 265, 3) := dk_182 1 9 (dk_at dksL_law_101 9 rfl rfl)
theorem dL_law_2519 : decode cL_law 2519 = .ok (.f2d, 1) := dk_141 (dk_at dksL_law_101 12 rfl rfl)
theorem dL_law_2520 : decode cL_law 2520 = .ok (.dstore 5, 2) := dk_57 5 (dk_at dksL_law_101 13 rfl rfl)
theorem dL_law_2522 : decode cL_law 2522 = .ok (.aload_n 2, 1) := dk_44 (dk_at dksL_law_101 15 rfl rfl)
theorem dL_law_2523 : decode cL_law 2523 = .ok (.invokevirtual 269, 3) := dk_182 1 13 (dk_at dksL_law_101 16 rfl rfl)
theorem dL_law_2526 : decode cL_law 2526 = .ok (.f2d, 1) := dk_141 (dk_at dksL_law_101 19 rfl rfl)
theorem dL_law_2527 : decode cL_law 2527 = .ok (.dstore 7, 2) := dk_57 7 (dk_at dksL_law_101 20 rfl rfl)
theorem dL_law_2529 : decode cL_law 2529 = .ok (.dload 5, 2) := dk_24 5 (dk_at dksL_law_101 22 rfl rfl)
theorem dL_law_2531 : decode cL_law 2531 = .ok (.dload 7, 2) := dk_24 7 (dk_at dksL_law_102 0 rfl rfl)
theorem dL_law_2533 : decode cL_law 2533 = .ok (.dcmp .l, 1) := dk_151 (dk_at dksL_law_102 2 rfl rfl)
theorem dL_law_2534 : decode cL_law 2534 = .ok (.ifCond .eq 21, 3) := dk_153 0 21 (dk_at dksL_law_102 3 rfl rfl)
theorem dL_law_2537 : decode cL_law 2537 = .ok (.dload 5, 2) := dk_24 5 (dk_at dksL_law_102 6 rfl rfl)
theorem dL_law_2539 : decode cL_law 2539 = .ok (.dload 5, 2) := dk_24 5 (dk_at dksL_law_102 8 rfl rfl)
theorem dL_law_2541 : decode cL_law 2541 = .ok (.dcmp .l, 1) := dk_151 (dk_at dksL_law_102 10 rfl rfl)
theorem dL_law_2542 : decode cL_law 2542 = .ok (.ifCond .eq 11, 3) := dk_153 0 11 (dk_at dksL_law_102 11 rfl rfl)
theorem dL_law_2545 : decode cL_law 2545 = .ok (.dload 7, 2) := dk_24 7 (dk_at dksL_law_102 14 rfl rfl)
theorem dL_law_2547 : decode cL_law 2547 = .ok (.dload 7, 2) := dk_24 7 (dk_at dksL_law_102 16 rfl rfl)
theorem dL_law_2549 : decode cL_law 2549 = .ok (.dcmp .l, 1) := dk_151 (dk_at dksL_law_102 18 rfl rfl)
theorem dL_law_2550 : decode cL_law 2550 = .ok (.ifCond .ne 5, 3) := dk_154 0 5 (dk_at dksL_law_102 19 rfl rfl)
theorem dL_law_2553 : decode cL_law 2553 = .ok (.iconst 0, 1) := dk_3 (dk_at dksL_law_102 22 rfl rfl)
theorem dL_law_2554 : decode cL_law 2554 = .ok (.ireturn, 1) := dk_172 (dk_at dksL_law_102 23 rfl rfl)
theorem dL_law_2555 : decode cL_law 2555 = .ok (.goto 3, 3) := dk_167 0 3 (dk_at dksL_law_103 0 rfl rfl)
theorem dL_law_2558 : decode cL_law 2558 = .ok (.iinc 4 6, 3) := dk_132 4 6 (dk_at dksL_law_103 3 rfl rfl)
theorem dL_law_2561 : decode cL_law 2561 = .ok (.goto (-2538), 3) := dk_167 246 22 (dk_at dksL_law_103 6 rfl rfl)
theorem dL_law_2564 : decode cL_law 2564 = .ok (.iconst 1, 1) := dk_4 (dk_at dksL_law_103 9 rfl rfl)
theorem dL_law_2565 : decode cL_law 2565 = .ok (.ireturn, 1) := dk_172 (dk_at dksL_law_103 10 rfl rfl)
