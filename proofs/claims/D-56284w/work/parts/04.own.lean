/-! ScheduleAnalyzerLaw -/
set_option maxRecDepth 100000
def RX0 : String := "ScheduleAnalyzerLaw"
abbrev cX0_write : ByteArray := method_3_code
def yX0_write : MethodName := ⟨RX0, "write", "(LScheduleAnalyzer;I[J)I"⟩
def dkwX0_write_0 : List UInt8 := [44, 3, 42, 27, 182, 0, 7, 133, 80, 167, 0, 12, 78, 4, 172, 78, 5, 172, 78, 6, 172, 3, 172]
abbrev dktX0_write_0 : List UInt8 := dkwX0_write_0 ++ []
theorem dksX0_write_0 : cX0_write.data.toList.drop 0 = dktX0_write_0 := by decide +kernel
theorem dX0_write_0 : decode cX0_write 0 = .ok (.aload_n 2, 1) := dk_44 (dk_at dksX0_write_0 0 rfl rfl)
theorem dX0_write_1 : decode cX0_write 1 = .ok (.iconst 0, 1) := dk_3 (dk_at dksX0_write_0 1 rfl rfl)
theorem dX0_write_2 : decode cX0_write 2 = .ok (.aload_n 0, 1) := dk_42 (dk_at dksX0_write_0 2 rfl rfl)
theorem dX0_write_3 : decode cX0_write 3 = .ok (.iload_n 1, 1) := dk_27 (dk_at dksX0_write_0 3 rfl rfl)
theorem dX0_write_4 : decode cX0_write 4 = .ok (.invokevirtual 7, 3) := dk_182 0 7 (dk_at dksX0_write_0 4 rfl rfl)
theorem dX0_write_7 : decode cX0_write 7 = .ok (.i2l, 1) := dk_133 (dk_at dksX0_write_0 7 rfl rfl)
theorem dX0_write_8 : decode cX0_write 8 = .ok (.lastore, 1) := dk_80 (dk_at dksX0_write_0 8 rfl rfl)
theorem dX0_write_9 : decode cX0_write 9 = .ok (.goto 12, 3) := dk_167 0 12 (dk_at dksX0_write_0 9 rfl rfl)
theorem dX0_write_12 : decode cX0_write 12 = .ok (.astore_n 3, 1) := dk_78 (dk_at dksX0_write_0 12 rfl rfl)
theorem dX0_write_13 : decode cX0_write 13 = .ok (.iconst 1, 1) := dk_4 (dk_at dksX0_write_0 13 rfl rfl)
theorem dX0_write_14 : decode cX0_write 14 = .ok (.ireturn, 1) := dk_172 (dk_at dksX0_write_0 14 rfl rfl)
theorem dX0_write_15 : decode cX0_write 15 = .ok (.astore_n 3, 1) := dk_78 (dk_at dksX0_write_0 15 rfl rfl)
theorem dX0_write_16 : decode cX0_write 16 = .ok (.iconst 2, 1) := dk_5 (dk_at dksX0_write_0 16 rfl rfl)
theorem dX0_write_17 : decode cX0_write 17 = .ok (.ireturn, 1) := dk_172 (dk_at dksX0_write_0 17 rfl rfl)
theorem dX0_write_18 : decode cX0_write 18 = .ok (.astore_n 3, 1) := dk_78 (dk_at dksX0_write_0 18 rfl rfl)
theorem dX0_write_19 : decode cX0_write 19 = .ok (.iconst 3, 1) := dk_6 (dk_at dksX0_write_0 19 rfl rfl)
theorem dX0_write_20 : decode cX0_write 20 = .ok (.ireturn, 1) := dk_172 (dk_at dksX0_write_0 20 rfl rfl)
theorem dX0_write_21 : decode cX0_write 21 = .ok (.iconst 0, 1) := dk_3 (dk_at dksX0_write_0 21 rfl rfl)
theorem dX0_write_22 : decode cX0_write 22 = .ok (.ireturn, 1) := dk_172 (dk_at dksX0_write_0 22 rfl rfl)
abbrev cX0_addAccess : ByteArray := method_4_code
def yX0_addAccess : MethodName := ⟨RX0, "addAccess", "(LScheduleAnalyzer;ICIC[J)I"⟩
def dkwX0_addAccess_1 : List UInt8 := [172, 58, 6, 6, 172, 3, 172]
abbrev dktX0_addAccess_1 : List UInt8 := dkwX0_addAccess_1 ++ []
def dkwX0_addAccess_0 : List UInt8 := [25, 5, 3, 42, 27, 28, 29, 21, 4, 182, 0, 19, 133, 80, 167, 0, 15, 58, 6, 4, 172, 58, 6, 5]
abbrev dktX0_addAccess_0 : List UInt8 := dkwX0_addAccess_0 ++ dktX0_addAccess_1
theorem dksX0_addAccess_0 : cX0_addAccess.data.toList.drop 0 = dktX0_addAccess_0 := by decide +kernel
theorem dksX0_addAccess_1 : cX0_addAccess.data.toList.drop 24 = dktX0_addAccess_1 := dk_seg dksX0_addAccess_0 24 rfl rfl
theorem dX0_addAccess_0 : decode cX0_addAccess 0 = .ok (.aload 5, 2) := dk_25 5 (dk_at dksX0_addAccess_0 0 rfl rfl)
theorem dX0_addAccess_2 : decode cX0_addAccess 2 = .ok (.iconst 0, 1) := dk_3 (dk_at dksX0_addAccess_0 2 rfl rfl)
theorem dX0_addAccess_3 : decode cX0_addAccess 3 = .ok (.aload_n 0, 1) := dk_42 (dk_at dksX0_addAccess_0 3 rfl rfl)
theorem dX0_addAccess_4 : decode cX0_addAccess 4 = .ok (.iload_n 1, 1) := dk_27 (dk_at dksX0_addAccess_0 4 rfl rfl)
theorem dX0_addAccess_5 : decode cX0_addAccess 5 = .ok (.iload_n 2, 1) := dk_28 (dk_at dksX0_addAccess_0 5 rfl rfl)
theorem dX0_addAccess_6 : decode cX0_addAccess 6 = .ok (.iload_n 3, 1) := dk_29 (dk_at dksX0_addAccess_0 6 rfl rfl)
theorem dX0_addAccess_7 : decode cX0_addAccess 7 = .ok (.iload 4, 2) := dk_21 4 (dk_at dksX0_addAccess_0 7 rfl rfl)
theorem dX0_addAccess_9 : decode cX0_addAccess 9 = .ok (.invokevirtual 19, 3) := dk_182 0 19 (dk_at dksX0_addAccess_0 9 rfl rfl)
theorem dX0_addAccess_12 : decode cX0_addAccess 12 = .ok (.i2l, 1) := dk_133 (dk_at dksX0_addAccess_0 12 rfl rfl)
theorem dX0_addAccess_13 : decode cX0_addAccess 13 = .ok (.lastore, 1) := dk_80 (dk_at dksX0_addAccess_0 13 rfl rfl)
theorem dX0_addAccess_14 : decode cX0_addAccess 14 = .ok (.goto 15, 3) := dk_167 0 15 (dk_at dksX0_addAccess_0 14 rfl rfl)
theorem dX0_addAccess_17 : decode cX0_addAccess 17 = .ok (.astore 6, 2) := dk_58 6 (dk_at dksX0_addAccess_0 17 rfl rfl)
theorem dX0_addAccess_19 : decode cX0_addAccess 19 = .ok (.iconst 1, 1) := dk_4 (dk_at dksX0_addAccess_0 19 rfl rfl)
theorem dX0_addAccess_20 : decode cX0_addAccess 20 = .ok (.ireturn, 1) := dk_172 (dk_at dksX0_addAccess_0 20 rfl rfl)
theorem dX0_addAccess_21 : decode cX0_addAccess 21 = .ok (.astore 6, 2) := dk_58 6 (dk_at dksX0_addAccess_0 21 rfl rfl)
theorem dX0_addAccess_23 : decode cX0_addAccess 23 = .ok (.iconst 2, 1) := dk_5 (dk_at dksX0_addAccess_0 23 rfl rfl)
theorem dX0_addAccess_24 : decode cX0_addAccess 24 = .ok (.ireturn, 1) := dk_172 (dk_at dksX0_addAccess_1 0 rfl rfl)
theorem dX0_addAccess_25 : decode cX0_addAccess 25 = .ok (.astore 6, 2) := dk_58 6 (dk_at dksX0_addAccess_1 1 rfl rfl)
theorem dX0_addAccess_27 : decode cX0_addAccess 27 = .ok (.iconst 3, 1) := dk_6 (dk_at dksX0_addAccess_1 3 rfl rfl)
theorem dX0_addAccess_28 : decode cX0_addAccess 28 = .ok (.ireturn, 1) := dk_172 (dk_at dksX0_addAccess_1 4 rfl rfl)
theorem dX0_addAccess_29 : decode cX0_addAccess 29 = .ok (.iconst 0, 1) := dk_3 (dk_at dksX0_addAccess_1 5 rfl rfl)
theorem dX0_addAccess_30 : decode cX0_addAccess 30 = .ok (.ireturn, 1) := dk_172 (dk_at dksX0_addAccess_1 6 rfl rfl)
abbrev cX0_addEnd : ByteArray := method_5_code
def yX0_addEnd : MethodName := ⟨RX0, "addEnd", "(LScheduleAnalyzer;IIZ[J)I"⟩
def dkwX0_addEnd_1 : List UInt8 := [58, 5, 6, 172, 3, 172]
abbrev dktX0_addEnd_1 : List UInt8 := dkwX0_addEnd_1 ++ []
def dkwX0_addEnd_0 : List UInt8 := [25, 4, 3, 42, 27, 28, 29, 182, 0, 23, 133, 80, 167, 0, 15, 58, 5, 4, 172, 58, 5, 5, 172]
abbrev dktX0_addEnd_0 : List UInt8 := dkwX0_addEnd_0 ++ dktX0_addEnd_1
theorem dksX0_addEnd_0 : cX0_addEnd.data.toList.drop 0 = dktX0_addEnd_0 := by decide +kernel
theorem dksX0_addEnd_1 : cX0_addEnd.data.toList.drop 23 = dktX0_addEnd_1 := dk_seg dksX0_addEnd_0 23 rfl rfl
theorem dX0_addEnd_0 : decode cX0_addEnd 0 = .ok (.aload 4, 2) := dk_25 4 (dk_at dksX0_addEnd_0 0 rfl rfl)
theorem dX0_addEnd_2 : decode cX0_addEnd 2 = .ok (.iconst 0, 1) := dk_3 (dk_at dksX0_addEnd_0 2 rfl rfl)
theorem dX0_addEnd_3 : decode cX0_addEnd 3 = .ok (.aload_n 0, 1) := dk_42 (dk_at dksX0_addEnd_0 3 rfl rfl)
theorem dX0_addEnd_4 : decode cX0_addEnd 4 = .ok (.iload_n 1, 1) := dk_27 (dk_at dksX0_addEnd_0 4 rfl rfl)
theorem dX0_addEnd_5 : decode cX0_addEnd 5 = .ok (.iload_n 2, 1) := dk_28 (dk_at dksX0_addEnd_0 5 rfl rfl)
theorem dX0_addEnd_6 : decode cX0_addEnd 6 = .ok (.iload_n 3, 1) := dk_29 (dk_at dksX0_addEnd_0 6 rfl rfl)
theorem dX0_addEnd_7 : decode cX0_addEnd 7 = .ok (.invokevirtual 23, 3) := dk_182 0 23 (dk_at dksX0_addEnd_0 7 rfl rfl)
theorem dX0_addEnd_10 : decode cX0_addEnd 10 = .ok (.i2l, 1) := dk_133 (dk_at dksX0_addEnd_0 10 rfl rfl)
theorem dX0_addEnd_11 : decode cX0_addEnd 11 = .ok (.lastore, 1) := dk_80 (dk_at dksX0_addEnd_0 11 rfl rfl)
theorem dX0_addEnd_12 : decode cX0_addEnd 12 = .ok (.goto 15, 3) := dk_167 0 15 (dk_at dksX0_addEnd_0 12 rfl rfl)
theorem dX0_addEnd_15 : decode cX0_addEnd 15 = .ok (.astore 5, 2) := dk_58 5 (dk_at dksX0_addEnd_0 15 rfl rfl)
theorem dX0_addEnd_17 : decode cX0_addEnd 17 = .ok (.iconst 1, 1) := dk_4 (dk_at dksX0_addEnd_0 17 rfl rfl)
theorem dX0_addEnd_18 : decode cX0_addEnd 18 = .ok (.ireturn, 1) := dk_172 (dk_at dksX0_addEnd_0 18 rfl rfl)
theorem dX0_addEnd_19 : decode cX0_addEnd 19 = .ok (.astore 5, 2) := dk_58 5 (dk_at dksX0_addEnd_0 19 rfl rfl)
theorem dX0_addEnd_21 : decode cX0_addEnd 21 = .ok (.iconst 2, 1) := dk_5 (dk_at dksX0_addEnd_0 21 rfl rfl)
theorem dX0_addEnd_22 : decode cX0_addEnd 22 = .ok (.ireturn, 1) := dk_172 (dk_at dksX0_addEnd_0 22 rfl rfl)
theorem dX0_addEnd_23 : decode cX0_addEnd 23 = .ok (.astore 5, 2) := dk_58 5 (dk_at dksX0_addEnd_1 0 rfl rfl)
theorem dX0_addEnd_25 : decode cX0_addEnd 25 = .ok (.iconst 3, 1) := dk_6 (dk_at dksX0_addEnd_1 2 rfl rfl)
theorem dX0_addEnd_26 : decode cX0_addEnd 26 = .ok (.ireturn, 1) := dk_172 (dk_at dksX0_addEnd_1 3 rfl rfl)
theorem dX0_addEnd_27 : decode cX0_addEnd 27 = .ok (.iconst 0, 1) := dk_3 (dk_at dksX0_addEnd_1 4 rfl rfl)
theorem dX0_addEnd_28 : decode cX0_addEnd 28 = .ok (.ireturn, 1) := dk_172 (dk_at dksX0_addEnd_1 5 rfl rfl)
abbrev cX0_removeAt : ByteArray := method_6_code
def yX0_removeAt : MethodName := ⟨RX0, "removeAt", "(LScheduleAnalyzer;II[J)I"⟩
def dkwX0_removeAt_0 : List UInt8 := [45, 3, 42, 27, 28, 182, 0, 27, 133, 80, 167, 0, 7, 58, 4, 4, 172, 3, 172]
abbrev dktX0_removeAt_0 : List UInt8 := dkwX0_removeAt_0 ++ []
theorem dksX0_removeAt_0 : cX0_removeAt.data.toList.drop 0 = dktX0_removeAt_0 := by decide +kernel
theorem dX0_removeAt_0 : decode cX0_removeAt 0 = .ok (.aload_n 3, 1) := dk_45 (dk_at dksX0_removeAt_0 0 rfl rfl)
theorem dX0_removeAt_1 : decode cX0_removeAt 1 = .ok (.iconst 0, 1) := dk_3 (dk_at dksX0_removeAt_0 1 rfl rfl)
theorem dX0_removeAt_2 : decode cX0_removeAt 2 = .ok (.aload_n 0, 1) := dk_42 (dk_at dksX0_removeAt_0 2 rfl rfl)
theorem dX0_removeAt_3 : decode cX0_removeAt 3 = .ok (.iload_n 1, 1) := dk_27 (dk_at dksX0_removeAt_0 3 rfl rfl)
theorem dX0_removeAt_4 : decode cX0_removeAt 4 = .ok (.iload_n 2, 1) := dk_28 (dk_at dksX0_removeAt_0 4 rfl rfl)
theorem dX0_removeAt_5 : decode cX0_removeAt 5 = .ok (.invokevirtual 27, 3) := dk_182 0 27 (dk_at dksX0_removeAt_0 5 rfl rfl)
theorem dX0_removeAt_8 : decode cX0_removeAt 8 = .ok (.i2l, 1) := dk_133 (dk_at dksX0_removeAt_0 8 rfl rfl)
theorem dX0_removeAt_9 : decode cX0_removeAt 9 = .ok (.lastore, 1) := dk_80 (dk_at dksX0_removeAt_0 9 rfl rfl)
theorem dX0_removeAt_10 : decode cX0_removeAt 10 = .ok (.goto 7, 3) := dk_167 0 7 (dk_at dksX0_removeAt_0 10 rfl rfl)
theorem dX0_removeAt_13 : decode cX0_removeAt 13 = .ok (.astore 4, 2) := dk_58 4 (dk_at dksX0_removeAt_0 13 rfl rfl)
theorem dX0_removeAt_15 : decode cX0_removeAt 15 = .ok (.iconst 1, 1) := dk_4 (dk_at dksX0_removeAt_0 15 rfl rfl)
theorem dX0_removeAt_16 : decode cX0_removeAt 16 = .ok (.ireturn, 1) := dk_172 (dk_at dksX0_removeAt_0 16 rfl rfl)
theorem dX0_removeAt_17 : decode cX0_removeAt 17 = .ok (.iconst 0, 1) := dk_3 (dk_at dksX0_removeAt_0 17 rfl rfl)
theorem dX0_removeAt_18 : decode cX0_removeAt 18 = .ok (.ireturn, 1) := dk_172 (dk_at dksX0_removeAt_0 18 rfl rfl)
abbrev cX0_exchange : ByteArray := method_7_code
def yX0_exchange : MethodName := ⟨RX0, "exchange", "(LScheduleAnalyzer;II[J)I"⟩
def dkwX0_exchange_0 : List UInt8 := [45, 3, 42, 27, 28, 182, 0, 31, 133, 80, 167, 0, 11, 58, 4, 4, 172, 58, 4, 5, 172, 3, 172]
abbrev dktX0_exchange_0 : List UInt8 := dkwX0_exchange_0 ++ []
theorem dksX0_exchange_0 : cX0_exchange.data.toList.drop 0 = dktX0_exchange_0 := by decide +kernel
theorem dX0_exchange_0 : decode cX0_exchange 0 = .ok (.aload_n 3, 1) := dk_45 (dk_at dksX0_exchange_0 0 rfl rfl)
theorem dX0_exchange_1 : decode cX0_exchange 1 = .ok (.iconst 0, 1) := dk_3 (dk_at dksX0_exchange_0 1 rfl rfl)
theorem dX0_exchange_2 : decode cX0_exchange 2 = .ok (.aload_n 0, 1) := dk_42 (dk_at dksX0_exchange_0 2 rfl rfl)
theorem dX0_exchange_3 : decode cX0_exchange 3 = .ok (.iload_n 1, 1) := dk_27 (dk_at dksX0_exchange_0 3 rfl rfl)
theorem dX0_exchange_4 : decode cX0_exchange 4 = .ok (.iload_n 2, 1) := dk_28 (dk_at dksX0_exchange_0 4 rfl rfl)
theorem dX0_exchange_5 : decode cX0_exchange 5 = .ok (.invokevirtual 31, 3) := dk_182 0 31 (dk_at dksX0_exchange_0 5 rfl rfl)
theorem dX0_exchange_8 : decode cX0_exchange 8 = .ok (.i2l, 1) := dk_133 (dk_at dksX0_exchange_0 8 rfl rfl)
theorem dX0_exchange_9 : decode cX0_exchange 9 = .ok (.lastore, 1) := dk_80 (dk_at dksX0_exchange_0 9 rfl rfl)
theorem dX0_exchange_10 : decode cX0_exchange 10 = .ok (.goto 11, 3) := dk_167 0 11 (dk_at dksX0_exchange_0 10 rfl rfl)
theorem dX0_exchange_13 : decode cX0_exchange 13 = .ok (.astore 4, 2) := dk_58 4 (dk_at dksX0_exchange_0 13 rfl rfl)
theorem dX0_exchange_15 : decode cX0_exchange 15 = .ok (.iconst 1, 1) := dk_4 (dk_at dksX0_exchange_0 15 rfl rfl)
theorem dX0_exchange_16 : decode cX0_exchange 16 = .ok (.ireturn, 1) := dk_172 (dk_at dksX0_exchange_0 16 rfl rfl)
theorem dX0_exchange_17 : decode cX0_exchange 17 = .ok (.astore 4, 2) := dk_58 4 (dk_at dksX0_exchange_0 17 rfl rfl)
theorem dX0_exchange_19 : decode cX0_exchange 19 = .ok (.iconst 2, 1) := dk_5 (dk_at dksX0_exchange_0 19 rfl rfl)
theorem dX0_exchange_20 : decode cX0_exchange 20 = .ok (.ireturn, 1) := dk_172 (dk_at dksX0_exchange_0 20 rfl rfl)
theorem dX0_exchange_21 : decode cX0_exchange 21 = .ok (.iconst 0, 1) := dk_3 (dk_at dksX0_exchange_0 21 rfl rfl)
theorem dX0_exchange_22 : decode cX0_exchange 22 = .ok (.ireturn, 1) := dk_172 (dk_at dksX0_exchange_0 22 rfl rfl)
abbrev cX0_copy : ByteArray := method_8_code
def yX0_copy : MethodName := ⟨RX0, "copy", "(LScheduleAnalyzer;II[J)I"⟩
def dkwX0_copy_0 : List UInt8 := [45, 3, 42, 27, 28, 182, 0, 34, 133, 80, 167, 0, 7, 58, 4, 4, 172, 3, 172]
abbrev dktX0_copy_0 : List UInt8 := dkwX0_copy_0 ++ []
theorem dksX0_copy_0 : cX0_copy.data.toList.drop 0 = dktX0_copy_0 := by decide +kernel
theorem dX0_copy_0 : decode cX0_copy 0 = .ok (.aload_n 3, 1) := dk_45 (dk_at dksX0_copy_0 0 rfl rfl)
theorem dX0_copy_1 : decode cX0_copy 1 = .ok (.iconst 0, 1) := dk_3 (dk_at dksX0_copy_0 1 rfl rfl)
theorem dX0_copy_2 : decode cX0_copy 2 = .ok (.aload_n 0, 1) := dk_42 (dk_at dksX0_copy_0 2 rfl rfl)
theorem dX0_copy_3 : decode cX0_copy 3 = .ok (.iload_n 1, 1) := dk_27 (dk_at dksX0_copy_0 3 rfl rfl)
theorem dX0_copy_4 : decode cX0_copy 4 = .ok (.iload_n 2, 1) := dk_28 (dk_at dksX0_copy_0 4 rfl rfl)
theorem dX0_copy_5 : decode cX0_copy 5 = .ok (.invokevirtual 34, 3) := dk_182 0 34 (dk_at dksX0_copy_0 5 rfl rfl)
theorem dX0_copy_8 : decode cX0_copy 8 = .ok (.i2l, 1) := dk_133 (dk_at dksX0_copy_0 8 rfl rfl)
theorem dX0_copy_9 : decode cX0_copy 9 = .ok (.lastore, 1) := dk_80 (dk_at dksX0_copy_0 9 rfl rfl)
theorem dX0_copy_10 : decode cX0_copy 10 = .ok (.goto 7, 3) := dk_167 0 7 (dk_at dksX0_copy_0 10 rfl rfl)
theorem dX0_copy_13 : decode cX0_copy 13 = .ok (.astore 4, 2) := dk_58 4 (dk_at dksX0_copy_0 13 rfl rfl)
theorem dX0_copy_15 : decode cX0_copy 15 = .ok (.iconst 1, 1) := dk_4 (dk_at dksX0_copy_0 15 rfl rfl)
theorem dX0_copy_16 : decode cX0_copy 16 = .ok (.ireturn, 1) := dk_172 (dk_at dksX0_copy_0 16 rfl rfl)
theorem dX0_copy_17 : decode cX0_copy 17 = .ok (.iconst 0, 1) := dk_3 (dk_at dksX0_copy_0 17 rfl rfl)
theorem dX0_copy_18 : decode cX0_copy 18 = .ok (.ireturn, 1) := dk_172 (dk_at dksX0_copy_0 18 rfl rfl)
abbrev cX0_clear : ByteArray := method_9_code
def yX0_clear : MethodName := ⟨RX0, "clear", "(LScheduleAnalyzer;I[J)I"⟩
def dkwX0_clear_0 : List UInt8 := [44, 3, 42, 27, 182, 0, 37, 133, 80, 167, 0, 6, 78, 4, 172, 3, 172]
abbrev dktX0_clear_0 : List UInt8 := dkwX0_clear_0 ++ []
theorem dksX0_clear_0 : cX0_clear.data.toList.drop 0 = dktX0_clear_0 := by decide +kernel
theorem dX0_clear_0 : decode cX0_clear 0 = .ok (.aload_n 2, 1) := dk_44 (dk_at dksX0_clear_0 0 rfl rfl)
theorem dX0_clear_1 : decode cX0_clear 1 = .ok (.iconst 0, 1) := dk_3 (dk_at dksX0_clear_0 1 rfl rfl)
theorem dX0_clear_2 : decode cX0_clear 2 = .ok (.aload_n 0, 1) := dk_42 (dk_at dksX0_clear_0 2 rfl rfl)
theorem dX0_clear_3 : decode cX0_clear 3 = .ok (.iload_n 1, 1) := dk_27 (dk_at dksX0_clear_0 3 rfl rfl)
theorem dX0_clear_4 : decode cX0_clear 4 = .ok (.invokevirtual 37, 3) := dk_182 0 37 (dk_at dksX0_clear_0 4 rfl rfl)
theorem dX0_clear_7 : decode cX0_clear 7 = .ok (.i2l, 1) := dk_133 (dk_at dksX0_clear_0 7 rfl rfl)
theorem dX0_clear_8 : decode cX0_clear 8 = .ok (.lastore, 1) := dk_80 (dk_at dksX0_clear_0 8 rfl rfl)
theorem dX0_clear_9 : decode cX0_clear 9 = .ok (.goto 6, 3) := dk_167 0 6 (dk_at dksX0_clear_0 9 rfl rfl)
theorem dX0_clear_12 : decode cX0_clear 12 = .ok (.astore_n 3, 1) := dk_78 (dk_at dksX0_clear_0 12 rfl rfl)
theorem dX0_clear_13 : decode cX0_clear 13 = .ok (.iconst 1, 1) := dk_4 (dk_at dksX0_clear_0 13 rfl rfl)
theorem dX0_clear_14 : decode cX0_clear 14 = .ok (.ireturn, 1) := dk_172 (dk_at dksX0_clear_0 14 rfl rfl)
theorem dX0_clear_15 : decode cX0_clear 15 = .ok (.iconst 0, 1) := dk_3 (dk_at dksX0_clear_0 15 rfl rfl)
theorem dX0_clear_16 : decode cX0_clear 16 = .ok (.ireturn, 1) := dk_172 (dk_at dksX0_clear_0 16 rfl rfl)
abbrev cX0_serialize : ByteArray := method_10_code
def yX0_serialize : MethodName := ⟨RX0, "serialize", "(LScheduleAnalyzer;II[J)I"⟩
def dkwX0_serialize_0 : List UInt8 := [45, 3, 42, 27, 28, 182, 0, 40, 133, 80, 167, 0, 11, 58, 4, 4, 172, 58, 4, 5, 172, 3, 172]
abbrev dktX0_serialize_0 : List UInt8 := dkwX0_serialize_0 ++ []
theorem dksX0_serialize_0 : cX0_serialize.data.toList.drop 0 = dktX0_serialize_0 := by decide +kernel
theorem dX0_serialize_0 : decode cX0_serialize 0 = .ok (.aload_n 3, 1) := dk_45 (dk_at dksX0_serialize_0 0 rfl rfl)
theorem dX0_serialize_1 : decode cX0_serialize 1 = .ok (.iconst 0, 1) := dk_3 (dk_at dksX0_serialize_0 1 rfl rfl)
theorem dX0_serialize_2 : decode cX0_serialize 2 = .ok (.aload_n 0, 1) := dk_42 (dk_at dksX0_serialize_0 2 rfl rfl)
theorem dX0_serialize_3 : decode cX0_serialize 3 = .ok (.iload_n 1, 1) := dk_27 (dk_at dksX0_serialize_0 3 rfl rfl)
theorem dX0_serialize_4 : decode cX0_serialize 4 = .ok (.iload_n 2, 1) := dk_28 (dk_at dksX0_serialize_0 4 rfl rfl)
theorem dX0_serialize_5 : decode cX0_serialize 5 = .ok (.invokevirtual 40, 3) := dk_182 0 40 (dk_at dksX0_serialize_0 5 rfl rfl)
theorem dX0_serialize_8 : decode cX0_serialize 8 = .ok (.i2l, 1) := dk_133 (dk_at dksX0_serialize_0 8 rfl rfl)
theorem dX0_serialize_9 : decode cX0_serialize 9 = .ok (.lastore, 1) := dk_80 (dk_at dksX0_serialize_0 9 rfl rfl)
theorem dX0_serialize_10 : decode cX0_serialize 10 = .ok (.goto 11, 3) := dk_167 0 11 (dk_at dksX0_serialize_0 10 rfl rfl)
theorem dX0_serialize_13 : decode cX0_serialize 13 = .ok (.astore 4, 2) := dk_58 4 (dk_at dksX0_serialize_0 13 rfl rfl)
theorem dX0_serialize_15 : decode cX0_serialize 15 = .ok (.iconst 1, 1) := dk_4 (dk_at dksX0_serialize_0 15 rfl rfl)
theorem dX0_serialize_16 : decode cX0_serialize 16 = .ok (.ireturn, 1) := dk_172 (dk_at dksX0_serialize_0 16 rfl rfl)
theorem dX0_serialize_17 : decode cX0_serialize 17 = .ok (.astore 4, 2) := dk_58 4 (dk_at dksX0_serialize_0 17 rfl rfl)
theorem dX0_serialize_19 : decode cX0_serialize 19 = .ok (.iconst 2, 1) := dk_5 (dk_at dksX0_serialize_0 19 rfl rfl)
theorem dX0_serialize_20 : decode cX0_serialize 20 = .ok (.ireturn, 1) := dk_172 (dk_at dksX0_serialize_0 20 rfl rfl)
theorem dX0_serialize_21 : decode cX0_serialize 21 = .ok (.iconst 0, 1) := dk_3 (dk_at dksX0_serialize_0 21 rfl rfl)
theorem dX0_serialize_22 : decode cX0_serialize 22 = .ok (.ireturn, 1) := dk_172 (dk_at dksX0_serialize_0 22 rfl rfl)
abbrev cX0_lock : ByteArray := method_11_code
def yX0_lock : MethodName := ⟨RX0, "lock", "(LScheduleAnalyzer;II[J)I"⟩
def dkwX0_lock_0 : List UInt8 := [45, 3, 42, 27, 28, 182, 0, 45, 133, 80, 167, 0, 7, 58, 4, 4, 172, 3, 172]
abbrev dktX0_lock_0 : List UInt8 := dkwX0_lock_0 ++ []
theorem dksX0_lock_0 : cX0_lock.data.toList.drop 0 = dktX0_lock_0 := by decide +kernel
theorem dX0_lock_0 : decode cX0_lock 0 = .ok (.aload_n 3, 1) := dk_45 (dk_at dksX0_lock_0 0 rfl rfl)
theorem dX0_lock_1 : decode cX0_lock 1 = .ok (.iconst 0, 1) := dk_3 (dk_at dksX0_lock_0 1 rfl rfl)
theorem dX0_lock_2 : decode cX0_lock 2 = .ok (.aload_n 0, 1) := dk_42 (dk_at dksX0_lock_0 2 rfl rfl)
theorem dX0_lock_3 : decode cX0_lock 3 = .ok (.iload_n 1, 1) := dk_27 (dk_at dksX0_lock_0 3 rfl rfl)
theorem dX0_lock_4 : decode cX0_lock 4 = .ok (.iload_n 2, 1) := dk_28 (dk_at dksX0_lock_0 4 rfl rfl)
theorem dX0_lock_5 : decode cX0_lock 5 = .ok (.invokevirtual 45, 3) := dk_182 0 45 (dk_at dksX0_lock_0 5 rfl rfl)
theorem dX0_lock_8 : decode cX0_lock 8 = .ok (.i2l, 1) := dk_133 (dk_at dksX0_lock_0 8 rfl rfl)
theorem dX0_lock_9 : decode cX0_lock 9 = .ok (.lastore, 1) := dk_80 (dk_at dksX0_lock_0 9 rfl rfl)
theorem dX0_lock_10 : decode cX0_lock 10 = .ok (.goto 7, 3) := dk_167 0 7 (dk_at dksX0_lock_0 10 rfl rfl)
theorem dX0_lock_13 : decode cX0_lock 13 = .ok (.astore 4, 2) := dk_58 4 (dk_at dksX0_lock_0 13 rfl rfl)
theorem dX0_lock_15 : decode cX0_lock 15 = .ok (.iconst 1, 1) := dk_4 (dk_at dksX0_lock_0 15 rfl rfl)
theorem dX0_lock_16 : decode cX0_lock 16 = .ok (.ireturn, 1) := dk_172 (dk_at dksX0_lock_0 16 rfl rfl)
theorem dX0_lock_17 : decode cX0_lock 17 = .ok (.iconst 0, 1) := dk_3 (dk_at dksX0_lock_0 17 rfl rfl)
theorem dX0_lock_18 : decode cX0_lock 18 = .ok (.ireturn, 1) := dk_172 (dk_at dksX0_lock_0 18 rfl rfl)
abbrev cX0_setValue : ByteArray := method_12_code
def yX0_setValue : MethodName := ⟨RX0, "setValue", "(LScheduleAnalyzer;CI[J)I"⟩
def dkwX0_setValue_0 : List UInt8 := [45, 3, 42, 27, 28, 182, 0, 48, 133, 80, 167, 0, 7, 58, 4, 4, 172, 3, 172]
abbrev dktX0_setValue_0 : List UInt8 := dkwX0_setValue_0 ++ []
theorem dksX0_setValue_0 : cX0_setValue.data.toList.drop 0 = dktX0_setValue_0 := by decide +kernel
theorem dX0_setValue_0 : decode cX0_setValue 0 = .ok (.aload_n 3, 1) := dk_45 (dk_at dksX0_setValue_0 0 rfl rfl)
theorem dX0_setValue_1 : decode cX0_setValue 1 = .ok (.iconst 0, 1) := dk_3 (dk_at dksX0_setValue_0 1 rfl rfl)
theorem dX0_setValue_2 : decode cX0_setValue 2 = .ok (.aload_n 0, 1) := dk_42 (dk_at dksX0_setValue_0 2 rfl rfl)
theorem dX0_setValue_3 : decode cX0_setValue 3 = .ok (.iload_n 1, 1) := dk_27 (dk_at dksX0_setValue_0 3 rfl rfl)
theorem dX0_setValue_4 : decode cX0_setValue 4 = .ok (.iload_n 2, 1) := dk_28 (dk_at dksX0_setValue_0 4 rfl rfl)
theorem dX0_setValue_5 : decode cX0_setValue 5 = .ok (.invokevirtual 48, 3) := dk_182 0 48 (dk_at dksX0_setValue_0 5 rfl rfl)
theorem dX0_setValue_8 : decode cX0_setValue 8 = .ok (.i2l, 1) := dk_133 (dk_at dksX0_setValue_0 8 rfl rfl)
theorem dX0_setValue_9 : decode cX0_setValue 9 = .ok (.lastore, 1) := dk_80 (dk_at dksX0_setValue_0 9 rfl rfl)
theorem dX0_setValue_10 : decode cX0_setValue 10 = .ok (.goto 7, 3) := dk_167 0 7 (dk_at dksX0_setValue_0 10 rfl rfl)
theorem dX0_setValue_13 : decode cX0_setValue 13 = .ok (.astore 4, 2) := dk_58 4 (dk_at dksX0_setValue_0 13 rfl rfl)
theorem dX0_setValue_15 : decode cX0_setValue 15 = .ok (.iconst 1, 1) := dk_4 (dk_at dksX0_setValue_0 15 rfl rfl)
theorem dX0_setValue_16 : decode cX0_setValue 16 = .ok (.ireturn, 1) := dk_172 (dk_at dksX0_setValue_0 16 rfl rfl)
theorem dX0_setValue_17 : decode cX0_setValue 17 = .ok (.iconst 0, 1) := dk_3 (dk_at dksX0_setValue_0 17 rfl rfl)
theorem dX0_setValue_18 : decode cX0_setValue 18 = .ok (.ireturn, 1) := dk_172 (dk_at dksX0_setValue_0 18 rfl rfl)
abbrev cX0_operationCount : ByteArray := method_13_code
def yX0_operationCount : MethodName := ⟨RX0, "operationCount", "(LScheduleAnalyzer;I[J)I"⟩
def dkwX0_operationCount_0 : List UInt8 := [44, 3, 42, 27, 182, 0, 52, 133, 80, 167, 0, 6, 78, 4, 172, 3, 172]
abbrev dktX0_operationCount_0 : List UInt8 := dkwX0_operationCount_0 ++ []
theorem dksX0_operationCount_0 : cX0_operationCount.data.toList.drop 0 = dktX0_operationCount_0 := by decide +kernel
theorem dX0_operationCount_0 : decode cX0_operationCount 0 = .ok (.aload_n 2, 1) := dk_44 (dk_at dksX0_operationCount_0 0 rfl rfl)
theorem dX0_operationCount_1 : decode cX0_operationCount 1 = .ok (.iconst 0, 1) := dk_3 (dk_at dksX0_operationCount_0 1 rfl rfl)
theorem dX0_operationCount_2 : decode cX0_operationCount 2 = .ok (.aload_n 0, 1) := dk_42 (dk_at dksX0_operationCount_0 2 rfl rfl)
theorem dX0_operationCount_3 : decode cX0_operationCount 3 = .ok (.iload_n 1, 1) := dk_27 (dk_at dksX0_operationCount_0 3 rfl rfl)
theorem dX0_operationCount_4 : decode cX0_operationCount 4 = .ok (.invokevirtual 52, 3) := dk_182 0 52 (dk_at dksX0_operationCount_0 4 rfl rfl)
theorem dX0_operationCount_7 : decode cX0_operationCount 7 = .ok (.i2l, 1) := dk_133 (dk_at dksX0_operationCount_0 7 rfl rfl)
theorem dX0_operationCount_8 : decode cX0_operationCount 8 = .ok (.lastore, 1) := dk_80 (dk_at dksX0_operationCount_0 8 rfl rfl)
theorem dX0_operationCount_9 : decode cX0_operationCount 9 = .ok (.goto 6, 3) := dk_167 0 6 (dk_at dksX0_operationCount_0 9 rfl rfl)
theorem dX0_operationCount_12 : decode cX0_operationCount 12 = .ok (.astore_n 3, 1) := dk_78 (dk_at dksX0_operationCount_0 12 rfl rfl)
theorem dX0_operationCount_13 : decode cX0_operationCount 13 = .ok (.iconst 1, 1) := dk_4 (dk_at dksX0_operationCount_0 13 rfl rfl)
theorem dX0_operationCount_14 : decode cX0_operationCount 14 = .ok (.ireturn, 1) := dk_172 (dk_at dksX0_operationCount_0 14 rfl rfl)
theorem dX0_operationCount_15 : decode cX0_operationCount 15 = .ok (.iconst 0, 1) := dk_3 (dk_at dksX0_operationCount_0 15 rfl rfl)
theorem dX0_operationCount_16 : decode cX0_operationCount 16 = .ok (.ireturn, 1) := dk_172 (dk_at dksX0_operationCount_0 16 rfl rfl)
abbrev cX0_kindAt : ByteArray := method_14_code
def yX0_kindAt : MethodName := ⟨RX0, "kindAt", "(LScheduleAnalyzer;II[J)I"⟩
def dkwX0_kindAt_0 : List UInt8 := [45, 3, 42, 27, 28, 182, 0, 55, 133, 80, 167, 0, 7, 58, 4, 4, 172, 3, 172]
abbrev dktX0_kindAt_0 : List UInt8 := dkwX0_kindAt_0 ++ []
theorem dksX0_kindAt_0 : cX0_kindAt.data.toList.drop 0 = dktX0_kindAt_0 := by decide +kernel
theorem dX0_kindAt_0 : decode cX0_kindAt 0 = .ok (.aload_n 3, 1) := dk_45 (dk_at dksX0_kindAt_0 0 rfl rfl)
theorem dX0_kindAt_1 : decode cX0_kindAt 1 = .ok (.iconst 0, 1) := dk_3 (dk_at dksX0_kindAt_0 1 rfl rfl)
theorem dX0_kindAt_2 : decode cX0_kindAt 2 = .ok (.aload_n 0, 1) := dk_42 (dk_at dksX0_kindAt_0 2 rfl rfl)
theorem dX0_kindAt_3 : decode cX0_kindAt 3 = .ok (.iload_n 1, 1) := dk_27 (dk_at dksX0_kindAt_0 3 rfl rfl)
theorem dX0_kindAt_4 : decode cX0_kindAt 4 = .ok (.iload_n 2, 1) := dk_28 (dk_at dksX0_kindAt_0 4 rfl rfl)
theorem dX0_kindAt_5 : decode cX0_kindAt 5 = .ok (.invokevirtual 55, 3) := dk_182 0 55 (dk_at dksX0_kindAt_0 5 rfl rfl)
theorem dX0_kindAt_8 : decode cX0_kindAt 8 = .ok (.i2l, 1) := dk_133 (dk_at dksX0_kindAt_0 8 rfl rfl)
theorem dX0_kindAt_9 : decode cX0_kindAt 9 = .ok (.lastore, 1) := dk_80 (dk_at dksX0_kindAt_0 9 rfl rfl)
theorem dX0_kindAt_10 : decode cX0_kindAt 10 = .ok (.goto 7, 3) := dk_167 0 7 (dk_at dksX0_kindAt_0 10 rfl rfl)
theorem dX0_kindAt_13 : decode cX0_kindAt 13 = .ok (.astore 4, 2) := dk_58 4 (dk_at dksX0_kindAt_0 13 rfl rfl)
theorem dX0_kindAt_15 : decode cX0_kindAt 15 = .ok (.iconst 1, 1) := dk_4 (dk_at dksX0_kindAt_0 15 rfl rfl)
theorem dX0_kindAt_16 : decode cX0_kindAt 16 = .ok (.ireturn, 1) := dk_172 (dk_at dksX0_kindAt_0 16 rfl rfl)
theorem dX0_kindAt_17 : decode cX0_kindAt 17 = .ok (.iconst 0, 1) := dk_3 (dk_at dksX0_kindAt_0 17 rfl rfl)
theorem dX0_kindAt_18 : decode cX0_kindAt 18 = .ok (.ireturn, 1) := dk_172 (dk_at dksX0_kindAt_0 18 rfl rfl)
abbrev cX0_transactionAt : ByteArray := method_15_code
def yX0_transactionAt : MethodName := ⟨RX0, "transactionAt", "(LScheduleAnalyzer;II[J)I"⟩
def dkwX0_transactionAt_0 : List UInt8 := [45, 3, 42, 27, 28, 182, 0, 59, 133, 80, 167, 0, 7, 58, 4, 4, 172, 3, 172]
abbrev dktX0_transactionAt_0 : List UInt8 := dkwX0_transactionAt_0 ++ []
theorem dksX0_transactionAt_0 : cX0_transactionAt.data.toList.drop 0 = dktX0_transactionAt_0 := by decide +kernel
theorem dX0_transactionAt_0 : decode cX0_transactionAt 0 = .ok (.aload_n 3, 1) := dk_45 (dk_at dksX0_transactionAt_0 0 rfl rfl)
theorem dX0_transactionAt_1 : decode cX0_transactionAt 1 = .ok (.iconst 0, 1) := dk_3 (dk_at dksX0_transactionAt_0 1 rfl rfl)
theorem dX0_transactionAt_2 : decode cX0_transactionAt 2 = .ok (.aload_n 0, 1) := dk_42 (dk_at dksX0_transactionAt_0 2 rfl rfl)
theorem dX0_transactionAt_3 : decode cX0_transactionAt 3 = .ok (.iload_n 1, 1) := dk_27 (dk_at dksX0_transactionAt_0 3 rfl rfl)
theorem dX0_transactionAt_4 : decode cX0_transactionAt 4 = .ok (.iload_n 2, 1) := dk_28 (dk_at dksX0_transactionAt_0 4 rfl rfl)
theorem dX0_transactionAt_5 : decode cX0_transactionAt 5 = .ok (.invokevirtual 59, 3) := dk_182 0 59 (dk_at dksX0_transactionAt_0 5 rfl rfl)
theorem dX0_transactionAt_8 : decode cX0_transactionAt 8 = .ok (.i2l, 1) := dk_133 (dk_at dksX0_transactionAt_0 8 rfl rfl)
theorem dX0_transactionAt_9 : decode cX0_transactionAt 9 = .ok (.lastore, 1) := dk_80 (dk_at dksX0_transactionAt_0 9 rfl rfl)
theorem dX0_transactionAt_10 : decode cX0_transactionAt 10 = .ok (.goto 7, 3) := dk_167 0 7 (dk_at dksX0_transactionAt_0 10 rfl rfl)
theorem dX0_transactionAt_13 : decode cX0_transactionAt 13 = .ok (.astore 4, 2) := dk_58 4 (dk_at dksX0_transactionAt_0 13 rfl rfl)
theorem dX0_transactionAt_15 : decode cX0_transactionAt 15 = .ok (.iconst 1, 1) := dk_4 (dk_at dksX0_transactionAt_0 15 rfl rfl)
theorem dX0_transactionAt_16 : decode cX0_transactionAt 16 = .ok (.ireturn, 1) := dk_172 (dk_at dksX0_transactionAt_0 16 rfl rfl)
theorem dX0_transactionAt_17 : decode cX0_transactionAt 17 = .ok (.iconst 0, 1) := dk_3 (dk_at dksX0_transactionAt_0 17 rfl rfl)
theorem dX0_transactionAt_18 : decode cX0_transactionAt 18 = .ok (.ireturn, 1) := dk_172 (dk_at dksX0_transactionAt_0 18 rfl rfl)
abbrev cX0_itemAt : ByteArray := method_16_code
def yX0_itemAt : MethodName := ⟨RX0, "itemAt", "(LScheduleAnalyzer;II[J)I"⟩
def dkwX0_itemAt_0 : List UInt8 := [45, 3, 42, 27, 28, 182, 0, 62, 133, 80, 167, 0, 11, 58, 4, 4, 172, 58, 4, 5, 172, 3, 172]
abbrev dktX0_itemAt_0 : List UInt8 := dkwX0_itemAt_0 ++ []
theorem dksX0_itemAt_0 : cX0_itemAt.data.toList.drop 0 = dktX0_itemAt_0 := by decide +kernel
theorem dX0_itemAt_0 : decode cX0_itemAt 0 = .ok (.aload_n 3, 1) := dk_45 (dk_at dksX0_itemAt_0 0 rfl rfl)
theorem dX0_itemAt_1 : decode cX0_itemAt 1 = .ok (.iconst 0, 1) := dk_3 (dk_at dksX0_itemAt_0 1 rfl rfl)
theorem dX0_itemAt_2 : decode cX0_itemAt 2 = .ok (.aload_n 0, 1) := dk_42 (dk_at dksX0_itemAt_0 2 rfl rfl)
theorem dX0_itemAt_3 : decode cX0_itemAt 3 = .ok (.iload_n 1, 1) := dk_27 (dk_at dksX0_itemAt_0 3 rfl rfl)
theorem dX0_itemAt_4 : decode cX0_itemAt 4 = .ok (.iload_n 2, 1) := dk_28 (dk_at dksX0_itemAt_0 4 rfl rfl)
theorem dX0_itemAt_5 : decode cX0_itemAt 5 = .ok (.invokevirtual 62, 3) := dk_182 0 62 (dk_at dksX0_itemAt_0 5 rfl rfl)
theorem dX0_itemAt_8 : decode cX0_itemAt 8 = .ok (.i2l, 1) := dk_133 (dk_at dksX0_itemAt_0 8 rfl rfl)
theorem dX0_itemAt_9 : decode cX0_itemAt 9 = .ok (.lastore, 1) := dk_80 (dk_at dksX0_itemAt_0 9 rfl rfl)
theorem dX0_itemAt_10 : decode cX0_itemAt 10 = .ok (.goto 11, 3) := dk_167 0 11 (dk_at dksX0_itemAt_0 10 rfl rfl)
theorem dX0_itemAt_13 : decode cX0_itemAt 13 = .ok (.astore 4, 2) := dk_58 4 (dk_at dksX0_itemAt_0 13 rfl rfl)
theorem dX0_itemAt_15 : decode cX0_itemAt 15 = .ok (.iconst 1, 1) := dk_4 (dk_at dksX0_itemAt_0 15 rfl rfl)
theorem dX0_itemAt_16 : decode cX0_itemAt 16 = .ok (.ireturn, 1) := dk_172 (dk_at dksX0_itemAt_0 16 rfl rfl)
theorem dX0_itemAt_17 : decode cX0_itemAt 17 = .ok (.astore 4, 2) := dk_58 4 (dk_at dksX0_itemAt_0 17 rfl rfl)
theorem dX0_itemAt_19 : decode cX0_itemAt 19 = .ok (.iconst 2, 1) := dk_5 (dk_at dksX0_itemAt_0 19 rfl rfl)
theorem dX0_itemAt_20 : decode cX0_itemAt 20 = .ok (.ireturn, 1) := dk_172 (dk_at dksX0_itemAt_0 20 rfl rfl)
theorem dX0_itemAt_21 : decode cX0_itemAt 21 = .ok (.iconst 0, 1) := dk_3 (dk_at dksX0_itemAt_0 21 rfl rfl)
theorem dX0_itemAt_22 : decode cX0_itemAt 22 = .ok (.ireturn, 1) := dk_172 (dk_at dksX0_itemAt_0 22 rfl rfl)
abbrev cX0_stateOf : ByteArray := method_17_code
def yX0_stateOf : MethodName := ⟨RX0, "stateOf", "(LScheduleAnalyzer;II[J)I"⟩
def dkwX0_stateOf_0 : List UInt8 := [45, 3, 42, 27, 28, 182, 0, 67, 133, 80, 167, 0, 11, 58, 4, 4, 172, 58, 4, 5, 172, 3, 172]
abbrev dktX0_stateOf_0 : List UInt8 := dkwX0_stateOf_0 ++ []
theorem dksX0_stateOf_0 : cX0_stateOf.data.toList.drop 0 = dktX0_stateOf_0 := by decide +kernel
theorem dX0_stateOf_0 : decode cX0_stateOf 0 = .ok (.aload_n 3, 1) := dk_45 (dk_at dksX0_stateOf_0 0 rfl rfl)
theorem dX0_stateOf_1 : decode cX0_stateOf 1 = .ok (.iconst 0, 1) := dk_3 (dk_at dksX0_stateOf_0 1 rfl rfl)
theorem dX0_stateOf_2 : decode cX0_stateOf 2 = .ok (.aload_n 0, 1) := dk_42 (dk_at dksX0_stateOf_0 2 rfl rfl)
theorem dX0_stateOf_3 : decode cX0_stateOf 3 = .ok (.iload_n 1, 1) := dk_27 (dk_at dksX0_stateOf_0 3 rfl rfl)
theorem dX0_stateOf_4 : decode cX0_stateOf 4 = .ok (.iload_n 2, 1) := dk_28 (dk_at dksX0_stateOf_0 4 rfl rfl)
theorem dX0_stateOf_5 : decode cX0_stateOf 5 = .ok (.invokevirtual 67, 3) := dk_182 0 67 (dk_at dksX0_stateOf_0 5 rfl rfl)
theorem dX0_stateOf_8 : decode cX0_stateOf 8 = .ok (.i2l, 1) := dk_133 (dk_at dksX0_stateOf_0 8 rfl rfl)
theorem dX0_stateOf_9 : decode cX0_stateOf 9 = .ok (.lastore, 1) := dk_80 (dk_at dksX0_stateOf_0 9 rfl rfl)
theorem dX0_stateOf_10 : decode cX0_stateOf 10 = .ok (.goto 11, 3) := dk_167 0 11 (dk_at dksX0_stateOf_0 10 rfl rfl)
theorem dX0_stateOf_13 : decode cX0_stateOf 13 = .ok (.astore 4, 2) := dk_58 4 (dk_at dksX0_stateOf_0 13 rfl rfl)
theorem dX0_stateOf_15 : decode cX0_stateOf 15 = .ok (.iconst 1, 1) := dk_4 (dk_at dksX0_stateOf_0 15 rfl rfl)
theorem dX0_stateOf_16 : decode cX0_stateOf 16 = .ok (.ireturn, 1) := dk_172 (dk_at dksX0_stateOf_0 16 rfl rfl)
theorem dX0_stateOf_17 : decode cX0_stateOf 17 = .ok (.astore 4, 2) := dk_58 4 (dk_at dksX0_stateOf_0 17 rfl rfl)
theorem dX0_stateOf_19 : decode cX0_stateOf 19 = .ok (.iconst 2, 1) := dk_5 (dk_at dksX0_stateOf_0 19 rfl rfl)
theorem dX0_stateOf_20 : decode cX0_stateOf 20 = .ok (.ireturn, 1) := dk_172 (dk_at dksX0_stateOf_0 20 rfl rfl)
theorem dX0_stateOf_21 : decode cX0_stateOf 21 = .ok (.iconst 0, 1) := dk_3 (dk_at dksX0_stateOf_0 21 rfl rfl)
theorem dX0_stateOf_22 : decode cX0_stateOf 22 = .ok (.ireturn, 1) := dk_172 (dk_at dksX0_stateOf_0 22 rfl rfl)
abbrev cX0_conflictCount : ByteArray := method_18_code
def yX0_conflictCount : MethodName := ⟨RX0, "conflictCount", "(LScheduleAnalyzer;I[J)I"⟩
def dkwX0_conflictCount_0 : List UInt8 := [44, 3, 42, 27, 182, 0, 70, 133, 80, 167, 0, 6, 78, 4, 172, 3, 172]
abbrev dktX0_conflictCount_0 : List UInt8 := dkwX0_conflictCount_0 ++ []
theorem dksX0_conflictCount_0 : cX0_conflictCount.data.toList.drop 0 = dktX0_conflictCount_0 := by decide +kernel
theorem dX0_conflictCount_0 : decode cX0_conflictCount 0 = .ok (.aload_n 2, 1) := dk_44 (dk_at dksX0_conflictCount_0 0 rfl rfl)
theorem dX0_conflictCount_1 : decode cX0_conflictCount 1 = .ok (.iconst 0, 1) := dk_3 (dk_at dksX0_conflictCount_0 1 rfl rfl)
theorem dX0_conflictCount_2 : decode cX0_conflictCount 2 = .ok (.aload_n 0, 1) := dk_42 (dk_at dksX0_conflictCount_0 2 rfl rfl)
theorem dX0_conflictCount_3 : decode cX0_conflictCount 3 = .ok (.iload_n 1, 1) := dk_27 (dk_at dksX0_conflictCount_0 3 rfl rfl)
theorem dX0_conflictCount_4 : decode cX0_conflictCount 4 = .ok (.invokevirtual 70, 3) := dk_182 0 70 (dk_at dksX0_conflictCount_0 4 rfl rfl)
theorem dX0_conflictCount_7 : decode cX0_conflictCount 7 = .ok (.i2l, 1) := dk_133 (dk_at dksX0_conflictCount_0 7 rfl rfl)
theorem dX0_conflictCount_8 : decode cX0_conflictCount 8 = .ok (.lastore, 1) := dk_80 (dk_at dksX0_conflictCount_0 8 rfl rfl)
theorem dX0_conflictCount_9 : decode cX0_conflictCount 9 = .ok (.goto 6, 3) := dk_167 0 6 (dk_at dksX0_conflictCount_0 9 rfl rfl)
theorem dX0_conflictCount_12 : decode cX0_conflictCount 12 = .ok (.astore_n 3, 1) := dk_78 (dk_at dksX0_conflictCount_0 12 rfl rfl)
theorem dX0_conflictCount_13 : decode cX0_conflictCount 13 = .ok (.iconst 1, 1) := dk_4 (dk_at dksX0_conflictCount_0 13 rfl rfl)
theorem dX0_conflictCount_14 : decode cX0_conflictCount 14 = .ok (.ireturn, 1) := dk_172 (dk_at dksX0_conflictCount_0 14 rfl rfl)
theorem dX0_conflictCount_15 : decode cX0_conflictCount 15 = .ok (.iconst 0, 1) := dk_3 (dk_at dksX0_conflictCount_0 15 rfl rfl)
theorem dX0_conflictCount_16 : decode cX0_conflictCount 16 = .ok (.ireturn, 1) := dk_172 (dk_at dksX0_conflictCount_0 16 rfl rfl)
abbrev cX0_conflictCountByItems : ByteArray := method_19_code
def yX0_conflictCountByItems : MethodName := ⟨RX0, "conflictCountByItems", "(LScheduleAnalyzer;I[J)I"⟩
def dkwX0_conflictCountByItems_0 : List UInt8 := [44, 3, 42, 27, 182, 0, 73, 133, 80, 167, 0, 6, 78, 4, 172, 3, 172]
abbrev dktX0_conflictCountByItems_0 : List UInt8 := dkwX0_conflictCountByItems_0 ++ []
theorem dksX0_conflictCountByItems_0 : cX0_conflictCountByItems.data.toList.drop 0 = dktX0_conflictCountByItems_0 := by decide +kernel
theorem dX0_conflictCountByItems_0 : decode cX0_conflictCountByItems 0 = .ok (.aload_n 2, 1) := dk_44 (dk_at dksX0_conflictCountByItems_0 0 rfl rfl)
theorem dX0_conflictCountByItems_1 : decode cX0_conflictCountByItems 1 = .ok (.iconst 0, 1) := dk_3 (dk_at dksX0_conflictCountByItems_0 1 rfl rfl)
theorem dX0_conflictCountByItems_2 : decode cX0_conflictCountByItems 2 = .ok (.aload_n 0, 1) := dk_42 (dk_at dksX0_conflictCountByItems_0 2 rfl rfl)
theorem dX0_conflictCountByItems_3 : decode cX0_conflictCountByItems 3 = .ok (.iload_n 1, 1) := dk_27 (dk_at dksX0_conflictCountByItems_0 3 rfl rfl)
theorem dX0_conflictCountByItems_4 : decode cX0_conflictCountByItems 4 = .ok (.invokevirtual 73, 3) := dk_182 0 73 (dk_at dksX0_conflictCountByItems_0 4 rfl rfl)
theorem dX0_conflictCountByItems_7 : decode cX0_conflictCountByItems 7 = .ok (.i2l, 1) := dk_133 (dk_at dksX0_conflictCountByItems_0 7 rfl rfl)
theorem dX0_conflictCountByItems_8 : decode cX0_conflictCountByItems 8 = .ok (.lastore, 1) := dk_80 (dk_at dksX0_conflictCountByItems_0 8 rfl rfl)
theorem dX0_conflictCountByItems_9 : decode cX0_conflictCountByItems 9 = .ok (.goto 6, 3) := dk_167 0 6 (dk_at dksX0_conflictCountByItems_0 9 rfl rfl)
theorem dX0_conflictCountByItems_12 : decode cX0_conflictCountByItems 12 = .ok (.astore_n 3, 1) := dk_78 (dk_at dksX0_conflictCountByItems_0 12 rfl rfl)
theorem dX0_conflictCountByItems_13 : decode cX0_conflictCountByItems 13 = .ok (.iconst 1, 1) := dk_4 (dk_at dksX0_conflictCountByItems_0 13 rfl rfl)
theorem dX0_conflictCountByItems_14 : decode cX0_conflictCountByItems 14 = .ok (.ireturn, 1) := dk_172 (dk_at dksX0_conflictCountByItems_0 14 rfl rfl)
theorem dX0_conflictCountByItems_15 : decode cX0_conflictCountByItems 15 = .ok (.iconst 0, 1) := dk_3 (dk_at dksX0_conflictCountByItems_0 15 rfl rfl)
theorem dX0_conflictCountByItems_16 : decode cX0_conflictCountByItems 16 = .ok (.ireturn, 1) := dk_172 (dk_at dksX0_conflictCountByItems_0 16 rfl rfl)
abbrev cX0_comesBefore : ByteArray := method_20_code
def yX0_comesBefore : MethodName := ⟨RX0, "comesBefore", "(LScheduleAnalyzer;III[J)I"⟩
def dkwX0_comesBefore_1 : List UInt8 := [4, 172, 58, 5, 5, 172, 3, 172]
abbrev dktX0_comesBefore_1 : List UInt8 := dkwX0_comesBefore_1 ++ []
def dkwX0_comesBefore_0 : List UInt8 := [25, 4, 3, 42, 27, 28, 29, 182, 0, 76, 153, 0, 7, 10, 167, 0, 4, 9, 80, 167, 0, 11, 58, 5]
abbrev dktX0_comesBefore_0 : List UInt8 := dkwX0_comesBefore_0 ++ dktX0_comesBefore_1
theorem dksX0_comesBefore_0 : cX0_comesBefore.data.toList.drop 0 = dktX0_comesBefore_0 := by decide +kernel
theorem dksX0_comesBefore_1 : cX0_comesBefore.data.toList.drop 24 = dktX0_comesBefore_1 := dk_seg dksX0_comesBefore_0 24 rfl rfl
theorem dX0_comesBefore_0 : decode cX0_comesBefore 0 = .ok (.aload 4, 2) := dk_25 4 (dk_at dksX0_comesBefore_0 0 rfl rfl)
theorem dX0_comesBefore_2 : decode cX0_comesBefore 2 = .ok (.iconst 0, 1) := dk_3 (dk_at dksX0_comesBefore_0 2 rfl rfl)
theorem dX0_comesBefore_3 : decode cX0_comesBefore 3 = .ok (.aload_n 0, 1) := dk_42 (dk_at dksX0_comesBefore_0 3 rfl rfl)
theorem dX0_comesBefore_4 : decode cX0_comesBefore 4 = .ok (.iload_n 1, 1) := dk_27 (dk_at dksX0_comesBefore_0 4 rfl rfl)
theorem dX0_comesBefore_5 : decode cX0_comesBefore 5 = .ok (.iload_n 2, 1) := dk_28 (dk_at dksX0_comesBefore_0 5 rfl rfl)
theorem dX0_comesBefore_6 : decode cX0_comesBefore 6 = .ok (.iload_n 3, 1) := dk_29 (dk_at dksX0_comesBefore_0 6 rfl rfl)
theorem dX0_comesBefore_7 : decode cX0_comesBefore 7 = .ok (.invokevirtual 76, 3) := dk_182 0 76 (dk_at dksX0_comesBefore_0 7 rfl rfl)
theorem dX0_comesBefore_10 : decode cX0_comesBefore 10 = .ok (.ifCond .eq 7, 3) := dk_153 0 7 (dk_at dksX0_comesBefore_0 10 rfl rfl)
theorem dX0_comesBefore_13 : decode cX0_comesBefore 13 = .ok (.lconst 1, 1) := dk_10 (dk_at dksX0_comesBefore_0 13 rfl rfl)
theorem dX0_comesBefore_14 : decode cX0_comesBefore 14 = .ok (.goto 4, 3) := dk_167 0 4 (dk_at dksX0_comesBefore_0 14 rfl rfl)
theorem dX0_comesBefore_17 : decode cX0_comesBefore 17 = .ok (.lconst 0, 1) := dk_9 (dk_at dksX0_comesBefore_0 17 rfl rfl)
theorem dX0_comesBefore_18 : decode cX0_comesBefore 18 = .ok (.lastore, 1) := dk_80 (dk_at dksX0_comesBefore_0 18 rfl rfl)
theorem dX0_comesBefore_19 : decode cX0_comesBefore 19 = .ok (.goto 11, 3) := dk_167 0 11 (dk_at dksX0_comesBefore_0 19 rfl rfl)
theorem dX0_comesBefore_22 : decode cX0_comesBefore 22 = .ok (.astore 5, 2) := dk_58 5 (dk_at dksX0_comesBefore_0 22 rfl rfl)
theorem dX0_comesBefore_24 : decode cX0_comesBefore 24 = .ok (.iconst 1, 1) := dk_4 (dk_at dksX0_comesBefore_1 0 rfl rfl)
theorem dX0_comesBefore_25 : decode cX0_comesBefore 25 = .ok (.ireturn, 1) := dk_172 (dk_at dksX0_comesBefore_1 1 rfl rfl)
theorem dX0_comesBefore_26 : decode cX0_comesBefore 26 = .ok (.astore 5, 2) := dk_58 5 (dk_at dksX0_comesBefore_1 2 rfl rfl)
theorem dX0_comesBefore_28 : decode cX0_comesBefore 28 = .ok (.iconst 2, 1) := dk_5 (dk_at dksX0_comesBefore_1 4 rfl rfl)
theorem dX0_comesBefore_29 : decode cX0_comesBefore 29 = .ok (.ireturn, 1) := dk_172 (dk_at dksX0_comesBefore_1 5 rfl rfl)
theorem dX0_comesBefore_30 : decode cX0_comesBefore 30 = .ok (.iconst 0, 1) := dk_3 (dk_at dksX0_comesBefore_1 6 rfl rfl)
theorem dX0_comesBefore_31 : decode cX0_comesBefore 31 = .ok (.ireturn, 1) := dk_172 (dk_at dksX0_comesBefore_1 7 rfl rfl)
abbrev cX0_isSerializable : ByteArray := method_21_code
def yX0_isSerializable : MethodName := ⟨RX0, "isSerializable", "(LScheduleAnalyzer;I[J)I"⟩
def dkwX0_isSerializable_0 : List UInt8 := [44, 3, 42, 27, 182, 0, 80, 153, 0, 7, 10, 167, 0, 4, 9, 80, 167, 0, 6, 78, 4, 172, 3, 172]
abbrev dktX0_isSerializable_0 : List UInt8 := dkwX0_isSerializable_0 ++ []
theorem dksX0_isSerializable_0 : cX0_isSerializable.data.toList.drop 0 = dktX0_isSerializable_0 := by decide +kernel
theorem dX0_isSerializable_0 : decode cX0_isSerializable 0 = .ok (.aload_n 2, 1) := dk_44 (dk_at dksX0_isSerializable_0 0 rfl rfl)
theorem dX0_isSerializable_1 : decode cX0_isSerializable 1 = .ok (.iconst 0, 1) := dk_3 (dk_at dksX0_isSerializable_0 1 rfl rfl)
theorem dX0_isSerializable_2 : decode cX0_isSerializable 2 = .ok (.aload_n 0, 1) := dk_42 (dk_at dksX0_isSerializable_0 2 rfl rfl)
theorem dX0_isSerializable_3 : decode cX0_isSerializable 3 = .ok (.iload_n 1, 1) := dk_27 (dk_at dksX0_isSerializable_0 3 rfl rfl)
theorem dX0_isSerializable_4 : decode cX0_isSerializable 4 = .ok (.invokevirtual 80, 3) := dk_182 0 80 (dk_at dksX0_isSerializable_0 4 rfl rfl)
theorem dX0_isSerializable_7 : decode cX0_isSerializable 7 = .ok (.ifCond .eq 7, 3) := dk_153 0 7 (dk_at dksX0_isSerializable_0 7 rfl rfl)
theorem dX0_isSerializable_10 : decode cX0_isSerializable 10 = .ok (.lconst 1, 1) := dk_10 (dk_at dksX0_isSerializable_0 10 rfl rfl)
theorem dX0_isSerializable_11 : decode cX0_isSerializable 11 = .ok (.goto 4, 3) := dk_167 0 4 (dk_at dksX0_isSerializable_0 11 rfl rfl)
theorem dX0_isSerializable_14 : decode cX0_isSerializable 14 = .ok (.lconst 0, 1) := dk_9 (dk_at dksX0_isSerializable_0 14 rfl rfl)
theorem dX0_isSerializable_15 : decode cX0_isSerializable 15 = .ok (.lastore, 1) := dk_80 (dk_at dksX0_isSerializable_0 15 rfl rfl)
theorem dX0_isSerializable_16 : decode cX0_isSerializable 16 = .ok (.goto 6, 3) := dk_167 0 6 (dk_at dksX0_isSerializable_0 16 rfl rfl)
theorem dX0_isSerializable_19 : decode cX0_isSerializable 19 = .ok (.astore_n 3, 1) := dk_78 (dk_at dksX0_isSerializable_0 19 rfl rfl)
theorem dX0_isSerializable_20 : decode cX0_isSerializable 20 = .ok (.iconst 1, 1) := dk_4 (dk_at dksX0_isSerializable_0 20 rfl rfl)
theorem dX0_isSerializable_21 : decode cX0_isSerializable 21 = .ok (.ireturn, 1) := dk_172 (dk_at dksX0_isSerializable_0 21 rfl rfl)
theorem dX0_isSerializable_22 : decode cX0_isSerializable 22 = .ok (.iconst 0, 1) := dk_3 (dk_at dksX0_isSerializable_0 22 rfl rfl)
theorem dX0_isSerializable_23 : decode cX0_isSerializable 23 = .ok (.ireturn, 1) := dk_172 (dk_at dksX0_isSerializable_0 23 rfl rfl)
abbrev cX0_isSerializableByWalks : ByteArray := method_22_code
def yX0_isSerializableByWalks : MethodName := ⟨RX0, "isSerializableByWalks", "(LScheduleAnalyzer;I[J)I"⟩
def dkwX0_isSerializableByWalks_0 : List UInt8 := [44, 3, 42, 27, 182, 0, 84, 153, 0, 7, 10, 167, 0, 4, 9, 80, 167, 0, 6, 78, 4, 172, 3, 172]
abbrev dktX0_isSerializableByWalks_0 : List UInt8 := dkwX0_isSerializableByWalks_0 ++ []
theorem dksX0_isSerializableByWalks_0 : cX0_isSerializableByWalks.data.toList.drop 0 = dktX0_isSerializableByWalks_0 := by decide +kernel
theorem dX0_isSerializableByWalks_0 : decode cX0_isSerializableByWalks 0 = .ok (.aload_n 2, 1) := dk_44 (dk_at dksX0_isSerializableByWalks_0 0 rfl rfl)
theorem dX0_isSerializableByWalks_1 : decode cX0_isSerializableByWalks 1 = .ok (.iconst 0, 1) := dk_3 (dk_at dksX0_isSerializableByWalks_0 1 rfl rfl)
theorem dX0_isSerializableByWalks_2 : decode cX0_isSerializableByWalks 2 = .ok (.aload_n 0, 1) := dk_42 (dk_at dksX0_isSerializableByWalks_0 2 rfl rfl)
theorem dX0_isSerializableByWalks_3 : decode cX0_isSerializableByWalks 3 = .ok (.iload_n 1, 1) := dk_27 (dk_at dksX0_isSerializableByWalks_0 3 rfl rfl)
theorem dX0_isSerializableByWalks_4 : decode cX0_isSerializableByWalks 4 = .ok (.invokevirtual 84, 3) := dk_182 0 84 (dk_at dksX0_isSerializableByWalks_0 4 rfl rfl)
theorem dX0_isSerializableByWalks_7 : decode cX0_isSerializableByWalks 7 = .ok (.ifCond .eq 7, 3) := dk_153 0 7 (dk_at dksX0_isSerializableByWalks_0 7 rfl rfl)
theorem dX0_isSerializableByWalks_10 : decode cX0_isSerializableByWalks 10 = .ok (.lconst 1, 1) := dk_10 (dk_at dksX0_isSerializableByWalks_0 10 rfl rfl)
theorem dX0_isSerializableByWalks_11 : decode cX0_isSerializableByWalks 11 = .ok (.goto 4, 3) := dk_167 0 4 (dk_at dksX0_isSerializableByWalks_0 11 rfl rfl)
theorem dX0_isSerializableByWalks_14 : decode cX0_isSerializableByWalks 14 = .ok (.lconst 0, 1) := dk_9 (dk_at dksX0_isSerializableByWalks_0 14 rfl rfl)
theorem dX0_isSerializableByWalks_15 : decode cX0_isSerializableByWalks 15 = .ok (.lastore, 1) := dk_80 (dk_at dksX0_isSerializableByWalks_0 15 rfl rfl)
theorem dX0_isSerializableByWalks_16 : decode cX0_isSerializableByWalks 16 = .ok (.goto 6, 3) := dk_167 0 6 (dk_at dksX0_isSerializableByWalks_0 16 rfl rfl)
theorem dX0_isSerializableByWalks_19 : decode cX0_isSerializableByWalks 19 = .ok (.astore_n 3, 1) := dk_78 (dk_at dksX0_isSerializableByWalks_0 19 rfl rfl)
theorem dX0_isSerializableByWalks_20 : decode cX0_isSerializableByWalks 20 = .ok (.iconst 1, 1) := dk_4 (dk_at dksX0_isSerializableByWalks_0 20 rfl rfl)
theorem dX0_isSerializableByWalks_21 : decode cX0_isSerializableByWalks 21 = .ok (.ireturn, 1) := dk_172 (dk_at dksX0_isSerializableByWalks_0 21 rfl rfl)
theorem dX0_isSerializableByWalks_22 : decode cX0_isSerializableByWalks 22 = .ok (.iconst 0, 1) := dk_3 (dk_at dksX0_isSerializableByWalks_0 22 rfl rfl)
theorem dX0_isSerializableByWalks_23 : decode cX0_isSerializableByWalks 23 = .ok (.ireturn, 1) := dk_172 (dk_at dksX0_isSerializableByWalks_0 23 rfl rfl)
abbrev cX0_serialOrders : ByteArray := method_23_code
def yX0_serialOrders : MethodName := ⟨RX0, "serialOrders", "(LScheduleAnalyzer;I[J)I"⟩
def dkwX0_serialOrders_0 : List UInt8 := [44, 3, 42, 27, 182, 0, 87, 133, 80, 167, 0, 6, 78, 4, 172, 3, 172]
abbrev dktX0_serialOrders_0 : List UInt8 := dkwX0_serialOrders_0 ++ []
theorem dksX0_serialOrders_0 : cX0_serialOrders.data.toList.drop 0 = dktX0_serialOrders_0 := by decide +kernel
theorem dX0_serialOrders_0 : decode cX0_serialOrders 0 = .ok (.aload_n 2, 1) := dk_44 (dk_at dksX0_serialOrders_0 0 rfl rfl)
theorem dX0_serialOrders_1 : decode cX0_serialOrders 1 = .ok (.iconst 0, 1) := dk_3 (dk_at dksX0_serialOrders_0 1 rfl rfl)
theorem dX0_serialOrders_2 : decode cX0_serialOrders 2 = .ok (.aload_n 0, 1) := dk_42 (dk_at dksX0_serialOrders_0 2 rfl rfl)
theorem dX0_serialOrders_3 : decode cX0_serialOrders 3 = .ok (.iload_n 1, 1) := dk_27 (dk_at dksX0_serialOrders_0 3 rfl rfl)
theorem dX0_serialOrders_4 : decode cX0_serialOrders 4 = .ok (.invokevirtual 87, 3) := dk_182 0 87 (dk_at dksX0_serialOrders_0 4 rfl rfl)
theorem dX0_serialOrders_7 : decode cX0_serialOrders 7 = .ok (.i2l, 1) := dk_133 (dk_at dksX0_serialOrders_0 7 rfl rfl)
theorem dX0_serialOrders_8 : decode cX0_serialOrders 8 = .ok (.lastore, 1) := dk_80 (dk_at dksX0_serialOrders_0 8 rfl rfl)
theorem dX0_serialOrders_9 : decode cX0_serialOrders 9 = .ok (.goto 6, 3) := dk_167 0 6 (dk_at dksX0_serialOrders_0 9 rfl rfl)
theorem dX0_serialOrders_12 : decode cX0_serialOrders 12 = .ok (.astore_n 3, 1) := dk_78 (dk_at dksX0_serialOrders_0 12 rfl rfl)
theorem dX0_serialOrders_13 : decode cX0_serialOrders 13 = .ok (.iconst 1, 1) := dk_4 (dk_at dksX0_serialOrders_0 13 rfl rfl)
theorem dX0_serialOrders_14 : decode cX0_serialOrders 14 = .ok (.ireturn, 1) := dk_172 (dk_at dksX0_serialOrders_0 14 rfl rfl)
theorem dX0_serialOrders_15 : decode cX0_serialOrders 15 = .ok (.iconst 0, 1) := dk_3 (dk_at dksX0_serialOrders_0 15 rfl rfl)
theorem dX0_serialOrders_16 : decode cX0_serialOrders 16 = .ok (.ireturn, 1) := dk_172 (dk_at dksX0_serialOrders_0 16 rfl rfl)
abbrev cX0_serialOrdersByTrying : ByteArray := method_24_code
def yX0_serialOrdersByTrying : MethodName := ⟨RX0, "serialOrdersByTrying", "(LScheduleAnalyzer;I[J)I"⟩
def dkwX0_serialOrdersByTrying_0 : List UInt8 := [44, 3, 42, 27, 182, 0, 90, 133, 80, 167, 0, 6, 78, 4, 172, 3, 172]
abbrev dktX0_serialOrdersByTrying_0 : List UInt8 := dkwX0_serialOrdersByTrying_0 ++ []
theorem dksX0_serialOrdersByTrying_0 : cX0_serialOrdersByTrying.data.toList.drop 0 = dktX0_serialOrdersByTrying_0 := by decide +kernel
theorem dX0_serialOrdersByTrying_0 : decode cX0_serialOrdersByTrying 0 = .ok (.aload_n 2, 1) := dk_44 (dk_at dksX0_serialOrdersByTrying_0 0 rfl rfl)
theorem dX0_serialOrdersByTrying_1 : decode cX0_serialOrdersByTrying 1 = .ok (.iconst 0, 1) := dk_3 (dk_at dksX0_serialOrdersByTrying_0 1 rfl rfl)
theorem dX0_serialOrdersByTrying_2 : decode cX0_serialOrdersByTrying 2 = .ok (.aload_n 0, 1) := dk_42 (dk_at dksX0_serialOrdersByTrying_0 2 rfl rfl)
theorem dX0_serialOrdersByTrying_3 : decode cX0_serialOrdersByTrying 3 = .ok (.iload_n 1, 1) := dk_27 (dk_at dksX0_serialOrdersByTrying_0 3 rfl rfl)
theorem dX0_serialOrdersByTrying_4 : decode cX0_serialOrdersByTrying 4 = .ok (.invokevirtual 90, 3) := dk_182 0 90 (dk_at dksX0_serialOrdersByTrying_0 4 rfl rfl)
theorem dX0_serialOrdersByTrying_7 : decode cX0_serialOrdersByTrying 7 = .ok (.i2l, 1) := dk_133 (dk_at dksX0_serialOrdersByTrying_0 7 rfl rfl)
theorem dX0_serialOrdersByTrying_8 : decode cX0_serialOrdersByTrying 8 = .ok (.lastore, 1) := dk_80 (dk_at dksX0_serialOrdersByTrying_0 8 rfl rfl)
theorem dX0_serialOrdersByTrying_9 : decode cX0_serialOrdersByTrying 9 = .ok (.goto 6, 3) := dk_167 0 6 (dk_at dksX0_serialOrdersByTrying_0 9 rfl rfl)
theorem dX0_serialOrdersByTrying_12 : decode cX0_serialOrdersByTrying 12 = .ok (.astore_n 3, 1) := dk_78 (dk_at dksX0_serialOrdersByTrying_0 12 rfl rfl)
theorem dX0_serialOrdersByTrying_13 : decode cX0_serialOrdersByTrying 13 = .ok (.iconst 1, 1) := dk_4 (dk_at dksX0_serialOrdersByTrying_0 13 rfl rfl)
theorem dX0_serialOrdersByTrying_14 : decode cX0_serialOrdersByTrying 14 = .ok (.ireturn, 1) := dk_172 (dk_at dksX0_serialOrdersByTrying_0 14 rfl rfl)
theorem dX0_serialOrdersByTrying_15 : decode cX0_serialOrdersByTrying 15 = .ok (.iconst 0, 1) := dk_3 (dk_at dksX0_serialOrdersByTrying_0 15 rfl rfl)
theorem dX0_serialOrdersByTrying_16 : decode cX0_serialOrdersByTrying 16 = .ok (.ireturn, 1) := dk_172 (dk_at dksX0_serialOrdersByTrying_0 16 rfl rfl)
abbrev cX0_serialAt : ByteArray := method_25_code
def yX0_serialAt : MethodName := ⟨RX0, "serialAt", "(LScheduleAnalyzer;II[J)I"⟩
def dkwX0_serialAt_1 : List UInt8 := [172, 3, 172]
abbrev dktX0_serialAt_1 : List UInt8 := dkwX0_serialAt_1 ++ []
def dkwX0_serialAt_0 : List UInt8 := [45, 3, 42, 27, 28, 182, 0, 93, 133, 80, 167, 0, 15, 58, 4, 4, 172, 58, 4, 5, 172, 58, 4, 6]
abbrev dktX0_serialAt_0 : List UInt8 := dkwX0_serialAt_0 ++ dktX0_serialAt_1
theorem dksX0_serialAt_0 : cX0_serialAt.data.toList.drop 0 = dktX0_serialAt_0 := by decide +kernel
theorem dksX0_serialAt_1 : cX0_serialAt.data.toList.drop 24 = dktX0_serialAt_1 := dk_seg dksX0_serialAt_0 24 rfl rfl
theorem dX0_serialAt_0 : decode cX0_serialAt 0 = .ok (.aload_n 3, 1) := dk_45 (dk_at dksX0_serialAt_0 0 rfl rfl)
theorem dX0_serialAt_1 : decode cX0_serialAt 1 = .ok (.iconst 0, 1) := dk_3 (dk_at dksX0_serialAt_0 1 rfl rfl)
theorem dX0_serialAt_2 : decode cX0_serialAt 2 = .ok (.aload_n 0, 1) := dk_42 (dk_at dksX0_serialAt_0 2 rfl rfl)
theorem dX0_serialAt_3 : decode cX0_serialAt 3 = .ok (.iload_n 1, 1) := dk_27 (dk_at dksX0_serialAt_0 3 rfl rfl)
theorem dX0_serialAt_4 : decode cX0_serialAt 4 = .ok (.iload_n 2, 1) := dk_28 (dk_at dksX0_serialAt_0 4 rfl rfl)
theorem dX0_serialAt_5 : decode cX0_serialAt 5 = .ok (.invokevirtual 93, 3) := dk_182 0 93 (dk_at dksX0_serialAt_0 5 rfl rfl)
theorem dX0_serialAt_8 : decode cX0_serialAt 8 = .ok (.i2l, 1) := dk_133 (dk_at dksX0_serialAt_0 8 rfl rfl)
theorem dX0_serialAt_9 : decode cX0_serialAt 9 = .ok (.lastore, 1) := dk_80 (dk_at dksX0_serialAt_0 9 rfl rfl)
theorem dX0_serialAt_10 : decode cX0_serialAt 10 = .ok (.goto 15, 3) := dk_167 0 15 (dk_at dksX0_serialAt_0 10 rfl rfl)
theorem dX0_serialAt_13 : decode cX0_serialAt 13 = .ok (.astore 4, 2) := dk_58 4 (dk_at dksX0_serialAt_0 13 rfl rfl)
theorem dX0_serialAt_15 : decode cX0_serialAt 15 = .ok (.iconst 1, 1) := dk_4 (dk_at dksX0_serialAt_0 15 rfl rfl)
theorem dX0_serialAt_16 : decode cX0_serialAt 16 = .ok (.ireturn, 1) := dk_172 (dk_at dksX0_serialAt_0 16 rfl rfl)
theorem dX0_serialAt_17 : decode cX0_serialAt 17 = .ok (.astore 4, 2) := dk_58 4 (dk_at dksX0_serialAt_0 17 rfl rfl)
theorem dX0_serialAt_19 : decode cX0_serialAt 19 = .ok (.iconst 2, 1) := dk_5 (dk_at dksX0_serialAt_0 19 rfl rfl)
theorem dX0_serialAt_20 : decode cX0_serialAt 20 = .ok (.ireturn, 1) := dk_172 (dk_at dksX0_serialAt_0 20 rfl rfl)
theorem dX0_serialAt_21 : decode cX0_serialAt 21 = .ok (.astore 4, 2) := dk_58 4 (dk_at dksX0_serialAt_0 21 rfl rfl)
theorem dX0_serialAt_23 : decode cX0_serialAt 23 = .ok (.iconst 3, 1) := dk_6 (dk_at dksX0_serialAt_0 23 rfl rfl)
theorem dX0_serialAt_24 : decode cX0_serialAt 24 = .ok (.ireturn, 1) := dk_172 (dk_at dksX0_serialAt_1 0 rfl rfl)
theorem dX0_serialAt_25 : decode cX0_serialAt 25 = .ok (.iconst 0, 1) := dk_3 (dk_at dksX0_serialAt_1 1 rfl rfl)
theorem dX0_serialAt_26 : decode cX0_serialAt 26 = .ok (.ireturn, 1) := dk_172 (dk_at dksX0_serialAt_1 2 rfl rfl)
abbrev cX0_areEquivalent : ByteArray := method_26_code
def yX0_areEquivalent : MethodName := ⟨RX0, "areEquivalent", "(LScheduleAnalyzer;II[J)I"⟩
def dkwX0_areEquivalent_1 : List UInt8 := [3, 172]
abbrev dktX0_areEquivalent_1 : List UInt8 := dkwX0_areEquivalent_1 ++ []
def dkwX0_areEquivalent_0 : List UInt8 := [45, 3, 42, 27, 28, 182, 0, 96, 153, 0, 7, 10, 167, 0, 4, 9, 80, 167, 0, 7, 58, 4, 4, 172]
abbrev dktX0_areEquivalent_0 : List UInt8 := dkwX0_areEquivalent_0 ++ dktX0_areEquivalent_1
theorem dksX0_areEquivalent_0 : cX0_areEquivalent.data.toList.drop 0 = dktX0_areEquivalent_0 := by decide +kernel
theorem dksX0_areEquivalent_1 : cX0_areEquivalent.data.toList.drop 24 = dktX0_areEquivalent_1 := dk_seg dksX0_areEquivalent_0 24 rfl rfl
theorem dX0_areEquivalent_0 : decode cX0_areEquivalent 0 = .ok (.aload_n 3, 1) := dk_45 (dk_at dksX0_areEquivalent_0 0 rfl rfl)
theorem dX0_areEquivalent_1 : decode cX0_areEquivalent 1 = .ok (.iconst 0, 1) := dk_3 (dk_at dksX0_areEquivalent_0 1 rfl rfl)
theorem dX0_areEquivalent_2 : decode cX0_areEquivalent 2 = .ok (.aload_n 0, 1) := dk_42 (dk_at dksX0_areEquivalent_0 2 rfl rfl)
theorem dX0_areEquivalent_3 : decode cX0_areEquivalent 3 = .ok (.iload_n 1, 1) := dk_27 (dk_at dksX0_areEquivalent_0 3 rfl rfl)
theorem dX0_areEquivalent_4 : decode cX0_areEquivalent 4 = .ok (.iload_n 2, 1) := dk_28 (dk_at dksX0_areEquivalent_0 4 rfl rfl)
theorem dX0_areEquivalent_5 : decode cX0_areEquivalent 5 = .ok (.invokevirtual 96, 3) := dk_182 0 96 (dk_at dksX0_areEquivalent_0 5 rfl rfl)
theorem dX0_areEquivalent_8 : decode cX0_areEquivalent 8 = .ok (.ifCond .eq 7, 3) := dk_153 0 7 (dk_at dksX0_areEquivalent_0 8 rfl rfl)
theorem dX0_areEquivalent_11 : decode cX0_areEquivalent 11 = .ok (.lconst 1, 1) := dk_10 (dk_at dksX0_areEquivalent_0 11 rfl rfl)
theorem dX0_areEquivalent_12 : decode cX0_areEquivalent 12 = .ok (.goto 4, 3) := dk_167 0 4 (dk_at dksX0_areEquivalent_0 12 rfl rfl)
theorem dX0_areEquivalent_15 : decode cX0_areEquivalent 15 = .ok (.lconst 0, 1) := dk_9 (dk_at dksX0_areEquivalent_0 15 rfl rfl)
theorem dX0_areEquivalent_16 : decode cX0_areEquivalent 16 = .ok (.lastore, 1) := dk_80 (dk_at dksX0_areEquivalent_0 16 rfl rfl)
theorem dX0_areEquivalent_17 : decode cX0_areEquivalent 17 = .ok (.goto 7, 3) := dk_167 0 7 (dk_at dksX0_areEquivalent_0 17 rfl rfl)
theorem dX0_areEquivalent_20 : decode cX0_areEquivalent 20 = .ok (.astore 4, 2) := dk_58 4 (dk_at dksX0_areEquivalent_0 20 rfl rfl)
theorem dX0_areEquivalent_22 : decode cX0_areEquivalent 22 = .ok (.iconst 1, 1) := dk_4 (dk_at dksX0_areEquivalent_0 22 rfl rfl)
theorem dX0_areEquivalent_23 : decode cX0_areEquivalent 23 = .ok (.ireturn, 1) := dk_172 (dk_at dksX0_areEquivalent_0 23 rfl rfl)
theorem dX0_areEquivalent_24 : decode cX0_areEquivalent 24 = .ok (.iconst 0, 1) := dk_3 (dk_at dksX0_areEquivalent_1 0 rfl rfl)
theorem dX0_areEquivalent_25 : decode cX0_areEquivalent 25 = .ok (.ireturn, 1) := dk_172 (dk_at dksX0_areEquivalent_1 1 rfl rfl)
abbrev cX0_isViewSerializable : ByteArray := method_27_code
def yX0_isViewSerializable : MethodName := ⟨RX0, "isViewSerializable", "(LScheduleAnalyzer;I[J)I"⟩
def dkwX0_isViewSerializable_0 : List UInt8 := [44, 3, 42, 27, 182, 0, 100, 153, 0, 7, 10, 167, 0, 4, 9, 80, 167, 0, 6, 78, 4, 172, 3, 172]
abbrev dktX0_isViewSerializable_0 : List UInt8 := dkwX0_isViewSerializable_0 ++ []
theorem dksX0_isViewSerializable_0 : cX0_isViewSerializable.data.toList.drop 0 = dktX0_isViewSerializable_0 := by decide +kernel
theorem dX0_isViewSerializable_0 : decode cX0_isViewSerializable 0 = .ok (.aload_n 2, 1) := dk_44 (dk_at dksX0_isViewSerializable_0 0 rfl rfl)
theorem dX0_isViewSerializable_1 : decode cX0_isViewSerializable 1 = .ok (.iconst 0, 1) := dk_3 (dk_at dksX0_isViewSerializable_0 1 rfl rfl)
theorem dX0_isViewSerializable_2 : decode cX0_isViewSerializable 2 = .ok (.aload_n 0, 1) := dk_42 (dk_at dksX0_isViewSerializable_0 2 rfl rfl)
theorem dX0_isViewSerializable_3 : decode cX0_isViewSerializable 3 = .ok (.iload_n 1, 1) := dk_27 (dk_at dksX0_isViewSerializable_0 3 rfl rfl)
theorem dX0_isViewSerializable_4 : decode cX0_isViewSerializable 4 = .ok (.invokevirtual 100, 3) := dk_182 0 100 (dk_at dksX0_isViewSerializable_0 4 rfl rfl)
theorem dX0_isViewSerializable_7 : decode cX0_isViewSerializable 7 = .ok (.ifCond .eq 7, 3) := dk_153 0 7 (dk_at dksX0_isViewSerializable_0 7 rfl rfl)
theorem dX0_isViewSerializable_10 : decode cX0_isViewSerializable 10 = .ok (.lconst 1, 1) := dk_10 (dk_at dksX0_isViewSerializable_0 10 rfl rfl)
theorem dX0_isViewSerializable_11 : decode cX0_isViewSerializable 11 = .ok (.goto 4, 3) := dk_167 0 4 (dk_at dksX0_isViewSerializable_0 11 rfl rfl)
theorem dX0_isViewSerializable_14 : decode cX0_isViewSerializable 14 = .ok (.lconst 0, 1) := dk_9 (dk_at dksX0_isViewSerializable_0 14 rfl rfl)
theorem dX0_isViewSerializable_15 : decode cX0_isViewSerializable 15 = .ok (.lastore, 1) := dk_80 (dk_at dksX0_isViewSerializable_0 15 rfl rfl)
theorem dX0_isViewSerializable_16 : decode cX0_isViewSerializable 16 = .ok (.goto 6, 3) := dk_167 0 6 (dk_at dksX0_isViewSerializable_0 16 rfl rfl)
theorem dX0_isViewSerializable_19 : decode cX0_isViewSerializable 19 = .ok (.astore_n 3, 1) := dk_78 (dk_at dksX0_isViewSerializable_0 19 rfl rfl)
theorem dX0_isViewSerializable_20 : decode cX0_isViewSerializable 20 = .ok (.iconst 1, 1) := dk_4 (dk_at dksX0_isViewSerializable_0 20 rfl rfl)
theorem dX0_isViewSerializable_21 : decode cX0_isViewSerializable 21 = .ok (.ireturn, 1) := dk_172 (dk_at dksX0_isViewSerializable_0 21 rfl rfl)
theorem dX0_isViewSerializable_22 : decode cX0_isViewSerializable 22 = .ok (.iconst 0, 1) := dk_3 (dk_at dksX0_isViewSerializable_0 22 rfl rfl)
theorem dX0_isViewSerializable_23 : decode cX0_isViewSerializable 23 = .ok (.ireturn, 1) := dk_172 (dk_at dksX0_isViewSerializable_0 23 rfl rfl)
abbrev cX0_sourceOf : ByteArray := method_28_code
def yX0_sourceOf : MethodName := ⟨RX0, "sourceOf", "(LScheduleAnalyzer;II[J)I"⟩
def dkwX0_sourceOf_1 : List UInt8 := [172, 3, 172]
abbrev dktX0_sourceOf_1 : List UInt8 := dkwX0_sourceOf_1 ++ []
def dkwX0_sourceOf_0 : List UInt8 := [45, 3, 42, 27, 28, 182, 0, 103, 133, 80, 167, 0, 15, 58, 4, 4, 172, 58, 4, 5, 172, 58, 4, 6]
abbrev dktX0_sourceOf_0 : List UInt8 := dkwX0_sourceOf_0 ++ dktX0_sourceOf_1
theorem dksX0_sourceOf_0 : cX0_sourceOf.data.toList.drop 0 = dktX0_sourceOf_0 := by decide +kernel
theorem dksX0_sourceOf_1 : cX0_sourceOf.data.toList.drop 24 = dktX0_sourceOf_1 := dk_seg dksX0_sourceOf_0 24 rfl rfl
theorem dX0_sourceOf_0 : decode cX0_sourceOf 0 = .ok (.aload_n 3, 1) := dk_45 (dk_at dksX0_sourceOf_0 0 rfl rfl)
theorem dX0_sourceOf_1 : decode cX0_sourceOf 1 = .ok (.iconst 0, 1) := dk_3 (dk_at dksX0_sourceOf_0 1 rfl rfl)
theorem dX0_sourceOf_2 : decode cX0_sourceOf 2 = .ok (.aload_n 0, 1) := dk_42 (dk_at dksX0_sourceOf_0 2 rfl rfl)
theorem dX0_sourceOf_3 : decode cX0_sourceOf 3 = .ok (.iload_n 1, 1) := dk_27 (dk_at dksX0_sourceOf_0 3 rfl rfl)
theorem dX0_sourceOf_4 : decode cX0_sourceOf 4 = .ok (.iload_n 2, 1) := dk_28 (dk_at dksX0_sourceOf_0 4 rfl rfl)
theorem dX0_sourceOf_5 : decode cX0_sourceOf 5 = .ok (.invokevirtual 103, 3) := dk_182 0 103 (dk_at dksX0_sourceOf_0 5 rfl rfl)
theorem dX0_sourceOf_8 : decode cX0_sourceOf 8 = .ok (.i2l, 1) := dk_133 (dk_at dksX0_sourceOf_0 8 rfl rfl)
theorem dX0_sourceOf_9 : decode cX0_sourceOf 9 = .ok (.lastore, 1) := dk_80 (dk_at dksX0_sourceOf_0 9 rfl rfl)
theorem dX0_sourceOf_10 : decode cX0_sourceOf 10 = .ok (.goto 15, 3) := dk_167 0 15 (dk_at dksX0_sourceOf_0 10 rfl rfl)
theorem dX0_sourceOf_13 : decode cX0_sourceOf 13 = .ok (.astore 4, 2) := dk_58 4 (dk_at dksX0_sourceOf_0 13 rfl rfl)
theorem dX0_sourceOf_15 : decode cX0_sourceOf 15 = .ok (.iconst 1, 1) := dk_4 (dk_at dksX0_sourceOf_0 15 rfl rfl)
theorem dX0_sourceOf_16 : decode cX0_sourceOf 16 = .ok (.ireturn, 1) := dk_172 (dk_at dksX0_sourceOf_0 16 rfl rfl)
theorem dX0_sourceOf_17 : decode cX0_sourceOf 17 = .ok (.astore 4, 2) := dk_58 4 (dk_at dksX0_sourceOf_0 17 rfl rfl)
theorem dX0_sourceOf_19 : decode cX0_sourceOf 19 = .ok (.iconst 2, 1) := dk_5 (dk_at dksX0_sourceOf_0 19 rfl rfl)
theorem dX0_sourceOf_20 : decode cX0_sourceOf 20 = .ok (.ireturn, 1) := dk_172 (dk_at dksX0_sourceOf_0 20 rfl rfl)
theorem dX0_sourceOf_21 : decode cX0_sourceOf 21 = .ok (.astore 4, 2) := dk_58 4 (dk_at dksX0_sourceOf_0 21 rfl rfl)
theorem dX0_sourceOf_23 : decode cX0_sourceOf 23 = .ok (.iconst 3, 1) := dk_6 (dk_at dksX0_sourceOf_0 23 rfl rfl)
theorem dX0_sourceOf_24 : decode cX0_sourceOf 24 = .ok (.ireturn, 1) := dk_172 (dk_at dksX0_sourceOf_1 0 rfl rfl)
theorem dX0_sourceOf_25 : decode cX0_sourceOf 25 = .ok (.iconst 0, 1) := dk_3 (dk_at dksX0_sourceOf_1 1 rfl rfl)
theorem dX0_sourceOf_26 : decode cX0_sourceOf 26 = .ok (.ireturn, 1) := dk_172 (dk_at dksX0_sourceOf_1 2 rfl rfl)
abbrev cX0_dirtyReads : ByteArray := method_29_code
def yX0_dirtyReads : MethodName := ⟨RX0, "dirtyReads", "(LScheduleAnalyzer;I[J)I"⟩
def dkwX0_dirtyReads_0 : List UInt8 := [44, 3, 42, 27, 182, 0, 106, 133, 80, 167, 0, 6, 78, 4, 172, 3, 172]
abbrev dktX0_dirtyReads_0 : List UInt8 := dkwX0_dirtyReads_0 ++ []
theorem dksX0_dirtyReads_0 : cX0_dirtyReads.data.toList.drop 0 = dktX0_dirtyReads_0 := by decide +kernel
theorem dX0_dirtyReads_0 : decode cX0_dirtyReads 0 = .ok (.aload_n 2, 1) := dk_44 (dk_at dksX0_dirtyReads_0 0 rfl rfl)
theorem dX0_dirtyReads_1 : decode cX0_dirtyReads 1 = .ok (.iconst 0, 1) := dk_3 (dk_at dksX0_dirtyReads_0 1 rfl rfl)
theorem dX0_dirtyReads_2 : decode cX0_dirtyReads 2 = .ok (.aload_n 0, 1) := dk_42 (dk_at dksX0_dirtyReads_0 2 rfl rfl)
theorem dX0_dirtyReads_3 : decode cX0_dirtyReads 3 = .ok (.iload_n 1, 1) := dk_27 (dk_at dksX0_dirtyReads_0 3 rfl rfl)
theorem dX0_dirtyReads_4 : decode cX0_dirtyReads 4 = .ok (.invokevirtual 106, 3) := dk_182 0 106 (dk_at dksX0_dirtyReads_0 4 rfl rfl)
theorem dX0_dirtyReads_7 : decode cX0_dirtyReads 7 = .ok (.i2l, 1) := dk_133 (dk_at dksX0_dirtyReads_0 7 rfl rfl)
theorem dX0_dirtyReads_8 : decode cX0_dirtyReads 8 = .ok (.lastore, 1) := dk_80 (dk_at dksX0_dirtyReads_0 8 rfl rfl)
theorem dX0_dirtyReads_9 : decode cX0_dirtyReads 9 = .ok (.goto 6, 3) := dk_167 0 6 (dk_at dksX0_dirtyReads_0 9 rfl rfl)
theorem dX0_dirtyReads_12 : decode cX0_dirtyReads 12 = .ok (.astore_n 3, 1) := dk_78 (dk_at dksX0_dirtyReads_0 12 rfl rfl)
theorem dX0_dirtyReads_13 : decode cX0_dirtyReads 13 = .ok (.iconst 1, 1) := dk_4 (dk_at dksX0_dirtyReads_0 13 rfl rfl)
theorem dX0_dirtyReads_14 : decode cX0_dirtyReads 14 = .ok (.ireturn, 1) := dk_172 (dk_at dksX0_dirtyReads_0 14 rfl rfl)
theorem dX0_dirtyReads_15 : decode cX0_dirtyReads 15 = .ok (.iconst 0, 1) := dk_3 (dk_at dksX0_dirtyReads_0 15 rfl rfl)
theorem dX0_dirtyReads_16 : decode cX0_dirtyReads 16 = .ok (.ireturn, 1) := dk_172 (dk_at dksX0_dirtyReads_0 16 rfl rfl)
abbrev cX0_isRecoverable : ByteArray := method_30_code
def yX0_isRecoverable : MethodName := ⟨RX0, "isRecoverable", "(LScheduleAnalyzer;I[J)I"⟩
def dkwX0_isRecoverable_0 : List UInt8 := [44, 3, 42, 27, 182, 0, 109, 153, 0, 7, 10, 167, 0, 4, 9, 80, 167, 0, 6, 78, 4, 172, 3, 172]
abbrev dktX0_isRecoverable_0 : List UInt8 := dkwX0_isRecoverable_0 ++ []
theorem dksX0_isRecoverable_0 : cX0_isRecoverable.data.toList.drop 0 = dktX0_isRecoverable_0 := by decide +kernel
theorem dX0_isRecoverable_0 : decode cX0_isRecoverable 0 = .ok (.aload_n 2, 1) := dk_44 (dk_at dksX0_isRecoverable_0 0 rfl rfl)
theorem dX0_isRecoverable_1 : decode cX0_isRecoverable 1 = .ok (.iconst 0, 1) := dk_3 (dk_at dksX0_isRecoverable_0 1 rfl rfl)
theorem dX0_isRecoverable_2 : decode cX0_isRecoverable 2 = .ok (.aload_n 0, 1) := dk_42 (dk_at dksX0_isRecoverable_0 2 rfl rfl)
theorem dX0_isRecoverable_3 : decode cX0_isRecoverable 3 = .ok (.iload_n 1, 1) := dk_27 (dk_at dksX0_isRecoverable_0 3 rfl rfl)
theorem dX0_isRecoverable_4 : decode cX0_isRecoverable 4 = .ok (.invokevirtual 109, 3) := dk_182 0 109 (dk_at dksX0_isRecoverable_0 4 rfl rfl)
theorem dX0_isRecoverable_7 : decode cX0_isRecoverable 7 = .ok (.ifCond .eq 7, 3) := dk_153 0 7 (dk_at dksX0_isRecoverable_0 7 rfl rfl)
theorem dX0_isRecoverable_10 : decode cX0_isRecoverable 10 = .ok (.lconst 1, 1) := dk_10 (dk_at dksX0_isRecoverable_0 10 rfl rfl)
theorem dX0_isRecoverable_11 : decode cX0_isRecoverable 11 = .ok (.goto 4, 3) := dk_167 0 4 (dk_at dksX0_isRecoverable_0 11 rfl rfl)
theorem dX0_isRecoverable_14 : decode cX0_isRecoverable 14 = .ok (.lconst 0, 1) := dk_9 (dk_at dksX0_isRecoverable_0 14 rfl rfl)
theorem dX0_isRecoverable_15 : decode cX0_isRecoverable 15 = .ok (.lastore, 1) := dk_80 (dk_at dksX0_isRecoverable_0 15 rfl rfl)
theorem dX0_isRecoverable_16 : decode cX0_isRecoverable 16 = .ok (.goto 6, 3) := dk_167 0 6 (dk_at dksX0_isRecoverable_0 16 rfl rfl)
theorem dX0_isRecoverable_19 : decode cX0_isRecoverable 19 = .ok (.astore_n 3, 1) := dk_78 (dk_at dksX0_isRecoverable_0 19 rfl rfl)
theorem dX0_isRecoverable_20 : decode cX0_isRecoverable 20 = .ok (.iconst 1, 1) := dk_4 (dk_at dksX0_isRecoverable_0 20 rfl rfl)
theorem dX0_isRecoverable_21 : decode cX0_isRecoverable 21 = .ok (.ireturn, 1) := dk_172 (dk_at dksX0_isRecoverable_0 21 rfl rfl)
theorem dX0_isRecoverable_22 : decode cX0_isRecoverable 22 = .ok (.iconst 0, 1) := dk_3 (dk_at dksX0_isRecoverable_0 22 rfl rfl)
theorem dX0_isRecoverable_23 : decode cX0_isRecoverable 23 = .ok (.ireturn, 1) := dk_172 (dk_at dksX0_isRecoverable_0 23 rfl rfl)
abbrev cX0_avoidsCascades : ByteArray := method_31_code
def yX0_avoidsCascades : MethodName := ⟨RX0, "avoidsCascades", "(LScheduleAnalyzer;I[J)I"⟩
def dkwX0_avoidsCascades_0 : List UInt8 := [44, 3, 42, 27, 182, 0, 112, 153, 0, 7, 10, 167, 0, 4, 9, 80, 167, 0, 6, 78, 4, 172, 3, 172]
abbrev dktX0_avoidsCascades_0 : List UInt8 := dkwX0_avoidsCascades_0 ++ []
theorem dksX0_avoidsCascades_0 : cX0_avoidsCascades.data.toList.drop 0 = dktX0_avoidsCascades_0 := by decide +kernel
theorem dX0_avoidsCascades_0 : decode cX0_avoidsCascades 0 = .ok (.aload_n 2, 1) := dk_44 (dk_at dksX0_avoidsCascades_0 0 rfl rfl)
theorem dX0_avoidsCascades_1 : decode cX0_avoidsCascades 1 = .ok (.iconst 0, 1) := dk_3 (dk_at dksX0_avoidsCascades_0 1 rfl rfl)
theorem dX0_avoidsCascades_2 : decode cX0_avoidsCascades 2 = .ok (.aload_n 0, 1) := dk_42 (dk_at dksX0_avoidsCascades_0 2 rfl rfl)
theorem dX0_avoidsCascades_3 : decode cX0_avoidsCascades 3 = .ok (.iload_n 1, 1) := dk_27 (dk_at dksX0_avoidsCascades_0 3 rfl rfl)
theorem dX0_avoidsCascades_4 : decode cX0_avoidsCascades 4 = .ok (.invokevirtual 112, 3) := dk_182 0 112 (dk_at dksX0_avoidsCascades_0 4 rfl rfl)
theorem dX0_avoidsCascades_7 : decode cX0_avoidsCascades 7 = .ok (.ifCond .eq 7, 3) := dk_153 0 7 (dk_at dksX0_avoidsCascades_0 7 rfl rfl)
theorem dX0_avoidsCascades_10 : decode cX0_avoidsCascades 10 = .ok (.lconst 1, 1) := dk_10 (dk_at dksX0_avoidsCascades_0 10 rfl rfl)
theorem dX0_avoidsCascades_11 : decode cX0_avoidsCascades 11 = .ok (.goto 4, 3) := dk_167 0 4 (dk_at dksX0_avoidsCascades_0 11 rfl rfl)
theorem dX0_avoidsCascades_14 : decode cX0_avoidsCascades 14 = .ok (.lconst 0, 1) := dk_9 (dk_at dksX0_avoidsCascades_0 14 rfl rfl)
theorem dX0_avoidsCascades_15 : decode cX0_avoidsCascades 15 = .ok (.lastore, 1) := dk_80 (dk_at dksX0_avoidsCascades_0 15 rfl rfl)
theorem dX0_avoidsCascades_16 : decode cX0_avoidsCascades 16 = .ok (.goto 6, 3) := dk_167 0 6 (dk_at dksX0_avoidsCascades_0 16 rfl rfl)
theorem dX0_avoidsCascades_19 : decode cX0_avoidsCascades 19 = .ok (.astore_n 3, 1) := dk_78 (dk_at dksX0_avoidsCascades_0 19 rfl rfl)
theorem dX0_avoidsCascades_20 : decode cX0_avoidsCascades 20 = .ok (.iconst 1, 1) := dk_4 (dk_at dksX0_avoidsCascades_0 20 rfl rfl)
theorem dX0_avoidsCascades_21 : decode cX0_avoidsCascades 21 = .ok (.ireturn, 1) := dk_172 (dk_at dksX0_avoidsCascades_0 21 rfl rfl)
theorem dX0_avoidsCascades_22 : decode cX0_avoidsCascades 22 = .ok (.iconst 0, 1) := dk_3 (dk_at dksX0_avoidsCascades_0 22 rfl rfl)
theorem dX0_avoidsCascades_23 : decode cX0_avoidsCascades 23 = .ok (.ireturn, 1) := dk_172 (dk_at dksX0_avoidsCascades_0 23 rfl rfl)
abbrev cX0_isStrict : ByteArray := method_32_code
def yX0_isStrict : MethodName := ⟨RX0, "isStrict", "(LScheduleAnalyzer;I[J)I"⟩
def dkwX0_isStrict_0 : List UInt8 := [44, 3, 42, 27, 182, 0, 115, 153, 0, 7, 10, 167, 0, 4, 9, 80, 167, 0, 6, 78, 4, 172, 3, 172]
abbrev dktX0_isStrict_0 : List UInt8 := dkwX0_isStrict_0 ++ []
theorem dksX0_isStrict_0 : cX0_isStrict.data.toList.drop 0 = dktX0_isStrict_0 := by decide +kernel
theorem dX0_isStrict_0 : decode cX0_isStrict 0 = .ok (.aload_n 2, 1) := dk_44 (dk_at dksX0_isStrict_0 0 rfl rfl)
theorem dX0_isStrict_1 : decode cX0_isStrict 1 = .ok (.iconst 0, 1) := dk_3 (dk_at dksX0_isStrict_0 1 rfl rfl)
theorem dX0_isStrict_2 : decode cX0_isStrict 2 = .ok (.aload_n 0, 1) := dk_42 (dk_at dksX0_isStrict_0 2 rfl rfl)
theorem dX0_isStrict_3 : decode cX0_isStrict 3 = .ok (.iload_n 1, 1) := dk_27 (dk_at dksX0_isStrict_0 3 rfl rfl)
theorem dX0_isStrict_4 : decode cX0_isStrict 4 = .ok (.invokevirtual 115, 3) := dk_182 0 115 (dk_at dksX0_isStrict_0 4 rfl rfl)
theorem dX0_isStrict_7 : decode cX0_isStrict 7 = .ok (.ifCond .eq 7, 3) := dk_153 0 7 (dk_at dksX0_isStrict_0 7 rfl rfl)
theorem dX0_isStrict_10 : decode cX0_isStrict 10 = .ok (.lconst 1, 1) := dk_10 (dk_at dksX0_isStrict_0 10 rfl rfl)
theorem dX0_isStrict_11 : decode cX0_isStrict 11 = .ok (.goto 4, 3) := dk_167 0 4 (dk_at dksX0_isStrict_0 11 rfl rfl)
theorem dX0_isStrict_14 : decode cX0_isStrict 14 = .ok (.lconst 0, 1) := dk_9 (dk_at dksX0_isStrict_0 14 rfl rfl)
theorem dX0_isStrict_15 : decode cX0_isStrict 15 = .ok (.lastore, 1) := dk_80 (dk_at dksX0_isStrict_0 15 rfl rfl)
theorem dX0_isStrict_16 : decode cX0_isStrict 16 = .ok (.goto 6, 3) := dk_167 0 6 (dk_at dksX0_isStrict_0 16 rfl rfl)
theorem dX0_isStrict_19 : decode cX0_isStrict 19 = .ok (.astore_n 3, 1) := dk_78 (dk_at dksX0_isStrict_0 19 rfl rfl)
theorem dX0_isStrict_20 : decode cX0_isStrict 20 = .ok (.iconst 1, 1) := dk_4 (dk_at dksX0_isStrict_0 20 rfl rfl)
theorem dX0_isStrict_21 : decode cX0_isStrict 21 = .ok (.ireturn, 1) := dk_172 (dk_at dksX0_isStrict_0 21 rfl rfl)
theorem dX0_isStrict_22 : decode cX0_isStrict 22 = .ok (.iconst 0, 1) := dk_3 (dk_at dksX0_isStrict_0 22 rfl rfl)
theorem dX0_isStrict_23 : decode cX0_isStrict 23 = .ok (.ireturn, 1) := dk_172 (dk_at dksX0_isStrict_0 23 rfl rfl)
abbrev cX0_valueOf : ByteArray := method_33_code
def yX0_valueOf : MethodName := ⟨RX0, "valueOf", "(LScheduleAnalyzer;C[J)I"⟩
def dkwX0_valueOf_0 : List UInt8 := [44, 3, 42, 27, 182, 0, 118, 133, 80, 167, 0, 6, 78, 4, 172, 3, 172]
abbrev dktX0_valueOf_0 : List UInt8 := dkwX0_valueOf_0 ++ []
theorem dksX0_valueOf_0 : cX0_valueOf.data.toList.drop 0 = dktX0_valueOf_0 := by decide +kernel
theorem dX0_valueOf_0 : decode cX0_valueOf 0 = .ok (.aload_n 2, 1) := dk_44 (dk_at dksX0_valueOf_0 0 rfl rfl)
theorem dX0_valueOf_1 : decode cX0_valueOf 1 = .ok (.iconst 0, 1) := dk_3 (dk_at dksX0_valueOf_0 1 rfl rfl)
theorem dX0_valueOf_2 : decode cX0_valueOf 2 = .ok (.aload_n 0, 1) := dk_42 (dk_at dksX0_valueOf_0 2 rfl rfl)
theorem dX0_valueOf_3 : decode cX0_valueOf 3 = .ok (.iload_n 1, 1) := dk_27 (dk_at dksX0_valueOf_0 3 rfl rfl)
theorem dX0_valueOf_4 : decode cX0_valueOf 4 = .ok (.invokevirtual 118, 3) := dk_182 0 118 (dk_at dksX0_valueOf_0 4 rfl rfl)
theorem dX0_valueOf_7 : decode cX0_valueOf 7 = .ok (.i2l, 1) := dk_133 (dk_at dksX0_valueOf_0 7 rfl rfl)
theorem dX0_valueOf_8 : decode cX0_valueOf 8 = .ok (.lastore, 1) := dk_80 (dk_at dksX0_valueOf_0 8 rfl rfl)
theorem dX0_valueOf_9 : decode cX0_valueOf 9 = .ok (.goto 6, 3) := dk_167 0 6 (dk_at dksX0_valueOf_0 9 rfl rfl)
theorem dX0_valueOf_12 : decode cX0_valueOf 12 = .ok (.astore_n 3, 1) := dk_78 (dk_at dksX0_valueOf_0 12 rfl rfl)
theorem dX0_valueOf_13 : decode cX0_valueOf 13 = .ok (.iconst 1, 1) := dk_4 (dk_at dksX0_valueOf_0 13 rfl rfl)
theorem dX0_valueOf_14 : decode cX0_valueOf 14 = .ok (.ireturn, 1) := dk_172 (dk_at dksX0_valueOf_0 14 rfl rfl)
theorem dX0_valueOf_15 : decode cX0_valueOf 15 = .ok (.iconst 0, 1) := dk_3 (dk_at dksX0_valueOf_0 15 rfl rfl)
theorem dX0_valueOf_16 : decode cX0_valueOf 16 = .ok (.ireturn, 1) := dk_172 (dk_at dksX0_valueOf_0 16 rfl rfl)
abbrev cX0_finalValue : ByteArray := method_34_code
def yX0_finalValue : MethodName := ⟨RX0, "finalValue", "(LScheduleAnalyzer;IC[J)I"⟩
def dkwX0_finalValue_0 : List UInt8 := [45, 3, 42, 27, 28, 182, 0, 122, 133, 80, 167, 0, 11, 58, 4, 4, 172, 58, 4, 5, 172, 3, 172]
abbrev dktX0_finalValue_0 : List UInt8 := dkwX0_finalValue_0 ++ []
theorem dksX0_finalValue_0 : cX0_finalValue.data.toList.drop 0 = dktX0_finalValue_0 := by decide +kernel
theorem dX0_finalValue_0 : decode cX0_finalValue 0 = .ok (.aload_n 3, 1) := dk_45 (dk_at dksX0_finalValue_0 0 rfl rfl)
theorem dX0_finalValue_1 : decode cX0_finalValue 1 = .ok (.iconst 0, 1) := dk_3 (dk_at dksX0_finalValue_0 1 rfl rfl)
theorem dX0_finalValue_2 : decode cX0_finalValue 2 = .ok (.aload_n 0, 1) := dk_42 (dk_at dksX0_finalValue_0 2 rfl rfl)
theorem dX0_finalValue_3 : decode cX0_finalValue 3 = .ok (.iload_n 1, 1) := dk_27 (dk_at dksX0_finalValue_0 3 rfl rfl)
theorem dX0_finalValue_4 : decode cX0_finalValue 4 = .ok (.iload_n 2, 1) := dk_28 (dk_at dksX0_finalValue_0 4 rfl rfl)
theorem dX0_finalValue_5 : decode cX0_finalValue 5 = .ok (.invokevirtual 122, 3) := dk_182 0 122 (dk_at dksX0_finalValue_0 5 rfl rfl)
theorem dX0_finalValue_8 : decode cX0_finalValue 8 = .ok (.i2l, 1) := dk_133 (dk_at dksX0_finalValue_0 8 rfl rfl)
theorem dX0_finalValue_9 : decode cX0_finalValue 9 = .ok (.lastore, 1) := dk_80 (dk_at dksX0_finalValue_0 9 rfl rfl)
theorem dX0_finalValue_10 : decode cX0_finalValue 10 = .ok (.goto 11, 3) := dk_167 0 11 (dk_at dksX0_finalValue_0 10 rfl rfl)
theorem dX0_finalValue_13 : decode cX0_finalValue 13 = .ok (.astore 4, 2) := dk_58 4 (dk_at dksX0_finalValue_0 13 rfl rfl)
theorem dX0_finalValue_15 : decode cX0_finalValue 15 = .ok (.iconst 1, 1) := dk_4 (dk_at dksX0_finalValue_0 15 rfl rfl)
theorem dX0_finalValue_16 : decode cX0_finalValue 16 = .ok (.ireturn, 1) := dk_172 (dk_at dksX0_finalValue_0 16 rfl rfl)
theorem dX0_finalValue_17 : decode cX0_finalValue 17 = .ok (.astore 4, 2) := dk_58 4 (dk_at dksX0_finalValue_0 17 rfl rfl)
theorem dX0_finalValue_19 : decode cX0_finalValue 19 = .ok (.iconst 2, 1) := dk_5 (dk_at dksX0_finalValue_0 19 rfl rfl)
theorem dX0_finalValue_20 : decode cX0_finalValue 20 = .ok (.ireturn, 1) := dk_172 (dk_at dksX0_finalValue_0 20 rfl rfl)
theorem dX0_finalValue_21 : decode cX0_finalValue 21 = .ok (.iconst 0, 1) := dk_3 (dk_at dksX0_finalValue_0 21 rfl rfl)
theorem dX0_finalValue_22 : decode cX0_finalValue 22 = .ok (.ireturn, 1) := dk_172 (dk_at dksX0_finalValue_0 22 rfl rfl)
abbrev cX0_restValue : ByteArray := method_35_code
def yX0_restValue : MethodName := ⟨RX0, "restValue", "(LScheduleAnalyzer;IC[J)I"⟩
def dkwX0_restValue_0 : List UInt8 := [45, 3, 42, 27, 28, 182, 0, 126, 133, 80, 167, 0, 11, 58, 4, 4, 172, 58, 4, 5, 172, 3, 172]
abbrev dktX0_restValue_0 : List UInt8 := dkwX0_restValue_0 ++ []
theorem dksX0_restValue_0 : cX0_restValue.data.toList.drop 0 = dktX0_restValue_0 := by decide +kernel
theorem dX0_restValue_0 : decode cX0_restValue 0 = .ok (.aload_n 3, 1) := dk_45 (dk_at dksX0_restValue_0 0 rfl rfl)
theorem dX0_restValue_1 : decode cX0_restValue 1 = .ok (.iconst 0, 1) := dk_3 (dk_at dksX0_restValue_0 1 rfl rfl)
theorem dX0_restValue_2 : decode cX0_restValue 2 = .ok (.aload_n 0, 1) := dk_42 (dk_at dksX0_restValue_0 2 rfl rfl)
theorem dX0_restValue_3 : decode cX0_restValue 3 = .ok (.iload_n 1, 1) := dk_27 (dk_at dksX0_restValue_0 3 rfl rfl)
theorem dX0_restValue_4 : decode cX0_restValue 4 = .ok (.iload_n 2, 1) := dk_28 (dk_at dksX0_restValue_0 4 rfl rfl)
theorem dX0_restValue_5 : decode cX0_restValue 5 = .ok (.invokevirtual 126, 3) := dk_182 0 126 (dk_at dksX0_restValue_0 5 rfl rfl)
theorem dX0_restValue_8 : decode cX0_restValue 8 = .ok (.i2l, 1) := dk_133 (dk_at dksX0_restValue_0 8 rfl rfl)
theorem dX0_restValue_9 : decode cX0_restValue 9 = .ok (.lastore, 1) := dk_80 (dk_at dksX0_restValue_0 9 rfl rfl)
theorem dX0_restValue_10 : decode cX0_restValue 10 = .ok (.goto 11, 3) := dk_167 0 11 (dk_at dksX0_restValue_0 10 rfl rfl)
theorem dX0_restValue_13 : decode cX0_restValue 13 = .ok (.astore 4, 2) := dk_58 4 (dk_at dksX0_restValue_0 13 rfl rfl)
theorem dX0_restValue_15 : decode cX0_restValue 15 = .ok (.iconst 1, 1) := dk_4 (dk_at dksX0_restValue_0 15 rfl rfl)
theorem dX0_restValue_16 : decode cX0_restValue 16 = .ok (.ireturn, 1) := dk_172 (dk_at dksX0_restValue_0 16 rfl rfl)
theorem dX0_restValue_17 : decode cX0_restValue 17 = .ok (.astore 4, 2) := dk_58 4 (dk_at dksX0_restValue_0 17 rfl rfl)
theorem dX0_restValue_19 : decode cX0_restValue 19 = .ok (.iconst 2, 1) := dk_5 (dk_at dksX0_restValue_0 19 rfl rfl)
theorem dX0_restValue_20 : decode cX0_restValue 20 = .ok (.ireturn, 1) := dk_172 (dk_at dksX0_restValue_0 20 rfl rfl)
theorem dX0_restValue_21 : decode cX0_restValue 21 = .ok (.iconst 0, 1) := dk_3 (dk_at dksX0_restValue_0 21 rfl rfl)
theorem dX0_restValue_22 : decode cX0_restValue 22 = .ok (.ireturn, 1) := dk_172 (dk_at dksX0_restValue_0 22 rfl rfl)
abbrev cX0_registerOf : ByteArray := method_36_code
def yX0_registerOf : MethodName := ⟨RX0, "registerOf", "(LScheduleAnalyzer;II[J)I"⟩
def dkwX0_registerOf_1 : List UInt8 := [172, 3, 172]
abbrev dktX0_registerOf_1 : List UInt8 := dkwX0_registerOf_1 ++ []
def dkwX0_registerOf_0 : List UInt8 := [45, 3, 42, 27, 28, 182, 0, 129, 133, 80, 167, 0, 15, 58, 4, 4, 172, 58, 4, 5, 172, 58, 4, 6]
abbrev dktX0_registerOf_0 : List UInt8 := dkwX0_registerOf_0 ++ dktX0_registerOf_1
theorem dksX0_registerOf_0 : cX0_registerOf.data.toList.drop 0 = dktX0_registerOf_0 := by decide +kernel
theorem dksX0_registerOf_1 : cX0_registerOf.data.toList.drop 24 = dktX0_registerOf_1 := dk_seg dksX0_registerOf_0 24 rfl rfl
theorem dX0_registerOf_0 : decode cX0_registerOf 0 = .ok (.aload_n 3, 1) := dk_45 (dk_at dksX0_registerOf_0 0 rfl rfl)
theorem dX0_registerOf_1 : decode cX0_registerOf 1 = .ok (.iconst 0, 1) := dk_3 (dk_at dksX0_registerOf_0 1 rfl rfl)
theorem dX0_registerOf_2 : decode cX0_registerOf 2 = .ok (.aload_n 0, 1) := dk_42 (dk_at dksX0_registerOf_0 2 rfl rfl)
theorem dX0_registerOf_3 : decode cX0_registerOf 3 = .ok (.iload_n 1, 1) := dk_27 (dk_at dksX0_registerOf_0 3 rfl rfl)
theorem dX0_registerOf_4 : decode cX0_registerOf 4 = .ok (.iload_n 2, 1) := dk_28 (dk_at dksX0_registerOf_0 4 rfl rfl)
theorem dX0_registerOf_5 : decode cX0_registerOf 5 = .ok (.invokevirtual 129, 3) := dk_182 0 129 (dk_at dksX0_registerOf_0 5 rfl rfl)
theorem dX0_registerOf_8 : decode cX0_registerOf 8 = .ok (.i2l, 1) := dk_133 (dk_at dksX0_registerOf_0 8 rfl rfl)
theorem dX0_registerOf_9 : decode cX0_registerOf 9 = .ok (.lastore, 1) := dk_80 (dk_at dksX0_registerOf_0 9 rfl rfl)
theorem dX0_registerOf_10 : decode cX0_registerOf 10 = .ok (.goto 15, 3) := dk_167 0 15 (dk_at dksX0_registerOf_0 10 rfl rfl)
theorem dX0_registerOf_13 : decode cX0_registerOf 13 = .ok (.astore 4, 2) := dk_58 4 (dk_at dksX0_registerOf_0 13 rfl rfl)
theorem dX0_registerOf_15 : decode cX0_registerOf 15 = .ok (.iconst 1, 1) := dk_4 (dk_at dksX0_registerOf_0 15 rfl rfl)
theorem dX0_registerOf_16 : decode cX0_registerOf 16 = .ok (.ireturn, 1) := dk_172 (dk_at dksX0_registerOf_0 16 rfl rfl)
theorem dX0_registerOf_17 : decode cX0_registerOf 17 = .ok (.astore 4, 2) := dk_58 4 (dk_at dksX0_registerOf_0 17 rfl rfl)
theorem dX0_registerOf_19 : decode cX0_registerOf 19 = .ok (.iconst 2, 1) := dk_5 (dk_at dksX0_registerOf_0 19 rfl rfl)
theorem dX0_registerOf_20 : decode cX0_registerOf 20 = .ok (.ireturn, 1) := dk_172 (dk_at dksX0_registerOf_0 20 rfl rfl)
theorem dX0_registerOf_21 : decode cX0_registerOf 21 = .ok (.astore 4, 2) := dk_58 4 (dk_at dksX0_registerOf_0 21 rfl rfl)
theorem dX0_registerOf_23 : decode cX0_registerOf 23 = .ok (.iconst 3, 1) := dk_6 (dk_at dksX0_registerOf_0 23 rfl rfl)
theorem dX0_registerOf_24 : decode cX0_registerOf 24 = .ok (.ireturn, 1) := dk_172 (dk_at dksX0_registerOf_1 0 rfl rfl)
theorem dX0_registerOf_25 : decode cX0_registerOf 25 = .ok (.iconst 0, 1) := dk_3 (dk_at dksX0_registerOf_1 1 rfl rfl)
theorem dX0_registerOf_26 : decode cX0_registerOf 26 = .ok (.ireturn, 1) := dk_172 (dk_at dksX0_registerOf_1 2 rfl rfl)
abbrev cX0_waitingCount : ByteArray := method_37_code
def yX0_waitingCount : MethodName := ⟨RX0, "waitingCount", "(LScheduleAnalyzer;I[J)I"⟩
def dkwX0_waitingCount_0 : List UInt8 := [44, 3, 42, 27, 182, 0, 132, 133, 80, 167, 0, 6, 78, 4, 172, 3, 172]
abbrev dktX0_waitingCount_0 : List UInt8 := dkwX0_waitingCount_0 ++ []
theorem dksX0_waitingCount_0 : cX0_waitingCount.data.toList.drop 0 = dktX0_waitingCount_0 := by decide +kernel
theorem dX0_waitingCount_0 : decode cX0_waitingCount 0 = .ok (.aload_n 2, 1) := dk_44 (dk_at dksX0_waitingCount_0 0 rfl rfl)
theorem dX0_waitingCount_1 : decode cX0_waitingCount 1 = .ok (.iconst 0, 1) := dk_3 (dk_at dksX0_waitingCount_0 1 rfl rfl)
theorem dX0_waitingCount_2 : decode cX0_waitingCount 2 = .ok (.aload_n 0, 1) := dk_42 (dk_at dksX0_waitingCount_0 2 rfl rfl)
theorem dX0_waitingCount_3 : decode cX0_waitingCount 3 = .ok (.iload_n 1, 1) := dk_27 (dk_at dksX0_waitingCount_0 3 rfl rfl)
theorem dX0_waitingCount_4 : decode cX0_waitingCount 4 = .ok (.invokevirtual 132, 3) := dk_182 0 132 (dk_at dksX0_waitingCount_0 4 rfl rfl)
theorem dX0_waitingCount_7 : decode cX0_waitingCount 7 = .ok (.i2l, 1) := dk_133 (dk_at dksX0_waitingCount_0 7 rfl rfl)
theorem dX0_waitingCount_8 : decode cX0_waitingCount 8 = .ok (.lastore, 1) := dk_80 (dk_at dksX0_waitingCount_0 8 rfl rfl)
theorem dX0_waitingCount_9 : decode cX0_waitingCount 9 = .ok (.goto 6, 3) := dk_167 0 6 (dk_at dksX0_waitingCount_0 9 rfl rfl)
theorem dX0_waitingCount_12 : decode cX0_waitingCount 12 = .ok (.astore_n 3, 1) := dk_78 (dk_at dksX0_waitingCount_0 12 rfl rfl)
theorem dX0_waitingCount_13 : decode cX0_waitingCount 13 = .ok (.iconst 1, 1) := dk_4 (dk_at dksX0_waitingCount_0 13 rfl rfl)
theorem dX0_waitingCount_14 : decode cX0_waitingCount 14 = .ok (.ireturn, 1) := dk_172 (dk_at dksX0_waitingCount_0 14 rfl rfl)
theorem dX0_waitingCount_15 : decode cX0_waitingCount 15 = .ok (.iconst 0, 1) := dk_3 (dk_at dksX0_waitingCount_0 15 rfl rfl)
theorem dX0_waitingCount_16 : decode cX0_waitingCount 16 = .ok (.ireturn, 1) := dk_172 (dk_at dksX0_waitingCount_0 16 rfl rfl)
abbrev cX0_victimCount : ByteArray := method_38_code
def yX0_victimCount : MethodName := ⟨RX0, "victimCount", "(LScheduleAnalyzer;I[J)I"⟩
def dkwX0_victimCount_0 : List UInt8 := [44, 3, 42, 27, 182, 0, 135, 133, 80, 167, 0, 6, 78, 4, 172, 3, 172]
abbrev dktX0_victimCount_0 : List UInt8 := dkwX0_victimCount_0 ++ []
theorem dksX0_victimCount_0 : cX0_victimCount.data.toList.drop 0 = dktX0_victimCount_0 := by decide +kernel
theorem dX0_victimCount_0 : decode cX0_victimCount 0 = .ok (.aload_n 2, 1) := dk_44 (dk_at dksX0_victimCount_0 0 rfl rfl)
theorem dX0_victimCount_1 : decode cX0_victimCount 1 = .ok (.iconst 0, 1) := dk_3 (dk_at dksX0_victimCount_0 1 rfl rfl)
theorem dX0_victimCount_2 : decode cX0_victimCount 2 = .ok (.aload_n 0, 1) := dk_42 (dk_at dksX0_victimCount_0 2 rfl rfl)
theorem dX0_victimCount_3 : decode cX0_victimCount 3 = .ok (.iload_n 1, 1) := dk_27 (dk_at dksX0_victimCount_0 3 rfl rfl)
theorem dX0_victimCount_4 : decode cX0_victimCount 4 = .ok (.invokevirtual 135, 3) := dk_182 0 135 (dk_at dksX0_victimCount_0 4 rfl rfl)
theorem dX0_victimCount_7 : decode cX0_victimCount 7 = .ok (.i2l, 1) := dk_133 (dk_at dksX0_victimCount_0 7 rfl rfl)
theorem dX0_victimCount_8 : decode cX0_victimCount 8 = .ok (.lastore, 1) := dk_80 (dk_at dksX0_victimCount_0 8 rfl rfl)
theorem dX0_victimCount_9 : decode cX0_victimCount 9 = .ok (.goto 6, 3) := dk_167 0 6 (dk_at dksX0_victimCount_0 9 rfl rfl)
theorem dX0_victimCount_12 : decode cX0_victimCount 12 = .ok (.astore_n 3, 1) := dk_78 (dk_at dksX0_victimCount_0 12 rfl rfl)
theorem dX0_victimCount_13 : decode cX0_victimCount 13 = .ok (.iconst 1, 1) := dk_4 (dk_at dksX0_victimCount_0 13 rfl rfl)
theorem dX0_victimCount_14 : decode cX0_victimCount 14 = .ok (.ireturn, 1) := dk_172 (dk_at dksX0_victimCount_0 14 rfl rfl)
theorem dX0_victimCount_15 : decode cX0_victimCount 15 = .ok (.iconst 0, 1) := dk_3 (dk_at dksX0_victimCount_0 15 rfl rfl)
theorem dX0_victimCount_16 : decode cX0_victimCount 16 = .ok (.ireturn, 1) := dk_172 (dk_at dksX0_victimCount_0 16 rfl rfl)
abbrev cX0_isVictim : ByteArray := method_39_code
def yX0_isVictim : MethodName := ⟨RX0, "isVictim", "(LScheduleAnalyzer;II[J)I"⟩
def dkwX0_isVictim_1 : List UInt8 := [58, 4, 5, 172, 3, 172]
abbrev dktX0_isVictim_1 : List UInt8 := dkwX0_isVictim_1 ++ []
def dkwX0_isVictim_0 : List UInt8 := [45, 3, 42, 27, 28, 182, 0, 138, 153, 0, 7, 10, 167, 0, 4, 9, 80, 167, 0, 11, 58, 4, 4, 172]
abbrev dktX0_isVictim_0 : List UInt8 := dkwX0_isVictim_0 ++ dktX0_isVictim_1
theorem dksX0_isVictim_0 : cX0_isVictim.data.toList.drop 0 = dktX0_isVictim_0 := by decide +kernel
theorem dksX0_isVictim_1 : cX0_isVictim.data.toList.drop 24 = dktX0_isVictim_1 := dk_seg dksX0_isVictim_0 24 rfl rfl
theorem dX0_isVictim_0 : decode cX0_isVictim 0 = .ok (.aload_n 3, 1) := dk_45 (dk_at dksX0_isVictim_0 0 rfl rfl)
theorem dX0_isVictim_1 : decode cX0_isVictim 1 = .ok (.iconst 0, 1) := dk_3 (dk_at dksX0_isVictim_0 1 rfl rfl)
theorem dX0_isVictim_2 : decode cX0_isVictim 2 = .ok (.aload_n 0, 1) := dk_42 (dk_at dksX0_isVictim_0 2 rfl rfl)
theorem dX0_isVictim_3 : decode cX0_isVictim 3 = .ok (.iload_n 1, 1) := dk_27 (dk_at dksX0_isVictim_0 3 rfl rfl)
theorem dX0_isVictim_4 : decode cX0_isVictim 4 = .ok (.iload_n 2, 1) := dk_28 (dk_at dksX0_isVictim_0 4 rfl rfl)
theorem dX0_isVictim_5 : decode cX0_isVictim 5 = .ok (.invokevirtual 138, 3) := dk_182 0 138 (dk_at dksX0_isVictim_0 5 rfl rfl)
theorem dX0_isVictim_8 : decode cX0_isVictim 8 = .ok (.ifCond .eq 7, 3) := dk_153 0 7 (dk_at dksX0_isVictim_0 8 rfl rfl)
theorem dX0_isVictim_11 : decode cX0_isVictim 11 = .ok (.lconst 1, 1) := dk_10 (dk_at dksX0_isVictim_0 11 rfl rfl)
theorem dX0_isVictim_12 : decode cX0_isVictim 12 = .ok (.goto 4, 3) := dk_167 0 4 (dk_at dksX0_isVictim_0 12 rfl rfl)
theorem dX0_isVictim_15 : decode cX0_isVictim 15 = .ok (.lconst 0, 1) := dk_9 (dk_at dksX0_isVictim_0 15 rfl rfl)
theorem dX0_isVictim_16 : decode cX0_isVictim 16 = .ok (.lastore, 1) := dk_80 (dk_at dksX0_isVictim_0 16 rfl rfl)
theorem dX0_isVictim_17 : decode cX0_isVictim 17 = .ok (.goto 11, 3) := dk_167 0 11 (dk_at dksX0_isVictim_0 17 rfl rfl)
theorem dX0_isVictim_20 : decode cX0_isVictim 20 = .ok (.astore 4, 2) := dk_58 4 (dk_at dksX0_isVictim_0 20 rfl rfl)
theorem dX0_isVictim_22 : decode cX0_isVictim 22 = .ok (.iconst 1, 1) := dk_4 (dk_at dksX0_isVictim_0 22 rfl rfl)
theorem dX0_isVictim_23 : decode cX0_isVictim 23 = .ok (.ireturn, 1) := dk_172 (dk_at dksX0_isVictim_0 23 rfl rfl)
theorem dX0_isVictim_24 : decode cX0_isVictim 24 = .ok (.astore 4, 2) := dk_58 4 (dk_at dksX0_isVictim_1 0 rfl rfl)
theorem dX0_isVictim_26 : decode cX0_isVictim 26 = .ok (.iconst 2, 1) := dk_5 (dk_at dksX0_isVictim_1 2 rfl rfl)
theorem dX0_isVictim_27 : decode cX0_isVictim 27 = .ok (.ireturn, 1) := dk_172 (dk_at dksX0_isVictim_1 3 rfl rfl)
theorem dX0_isVictim_28 : decode cX0_isVictim 28 = .ok (.iconst 0, 1) := dk_3 (dk_at dksX0_isVictim_1 4 rfl rfl)
theorem dX0_isVictim_29 : decode cX0_isVictim 29 = .ok (.ireturn, 1) := dk_172 (dk_at dksX0_isVictim_1 5 rfl rfl)
abbrev cX0_slotByLength : ByteArray := method_40_code
def yX0_slotByLength : MethodName := ⟨RX0, "slotByLength", "(LScheduleAnalyzer;I[J)I"⟩
def dkwX0_slotByLength_0 : List UInt8 := [44, 3, 42, 27, 182, 0, 141, 133, 80, 167, 0, 6, 78, 4, 172, 3, 172]
abbrev dktX0_slotByLength_0 : List UInt8 := dkwX0_slotByLength_0 ++ []
theorem dksX0_slotByLength_0 : cX0_slotByLength.data.toList.drop 0 = dktX0_slotByLength_0 := by decide +kernel
theorem dX0_slotByLength_0 : decode cX0_slotByLength 0 = .ok (.aload_n 2, 1) := dk_44 (dk_at dksX0_slotByLength_0 0 rfl rfl)
theorem dX0_slotByLength_1 : decode cX0_slotByLength 1 = .ok (.iconst 0, 1) := dk_3 (dk_at dksX0_slotByLength_0 1 rfl rfl)
theorem dX0_slotByLength_2 : decode cX0_slotByLength 2 = .ok (.aload_n 0, 1) := dk_42 (dk_at dksX0_slotByLength_0 2 rfl rfl)
theorem dX0_slotByLength_3 : decode cX0_slotByLength 3 = .ok (.iload_n 1, 1) := dk_27 (dk_at dksX0_slotByLength_0 3 rfl rfl)
theorem dX0_slotByLength_4 : decode cX0_slotByLength 4 = .ok (.invokevirtual 141, 3) := dk_182 0 141 (dk_at dksX0_slotByLength_0 4 rfl rfl)
theorem dX0_slotByLength_7 : decode cX0_slotByLength 7 = .ok (.i2l, 1) := dk_133 (dk_at dksX0_slotByLength_0 7 rfl rfl)
theorem dX0_slotByLength_8 : decode cX0_slotByLength 8 = .ok (.lastore, 1) := dk_80 (dk_at dksX0_slotByLength_0 8 rfl rfl)
theorem dX0_slotByLength_9 : decode cX0_slotByLength 9 = .ok (.goto 6, 3) := dk_167 0 6 (dk_at dksX0_slotByLength_0 9 rfl rfl)
theorem dX0_slotByLength_12 : decode cX0_slotByLength 12 = .ok (.astore_n 3, 1) := dk_78 (dk_at dksX0_slotByLength_0 12 rfl rfl)
theorem dX0_slotByLength_13 : decode cX0_slotByLength 13 = .ok (.iconst 1, 1) := dk_4 (dk_at dksX0_slotByLength_0 13 rfl rfl)
theorem dX0_slotByLength_14 : decode cX0_slotByLength 14 = .ok (.ireturn, 1) := dk_172 (dk_at dksX0_slotByLength_0 14 rfl rfl)
theorem dX0_slotByLength_15 : decode cX0_slotByLength 15 = .ok (.iconst 0, 1) := dk_3 (dk_at dksX0_slotByLength_0 15 rfl rfl)
theorem dX0_slotByLength_16 : decode cX0_slotByLength 16 = .ok (.ireturn, 1) := dk_172 (dk_at dksX0_slotByLength_0 16 rfl rfl)
abbrev cX0_meanLength : ByteArray := method_41_code
def yX0_meanLength : MethodName := ⟨RX0, "meanLength", "(LScheduleAnalyzer;I[D)I"⟩
def dkwX0_meanLength_0 : List UInt8 := [44, 3, 42, 27, 182, 0, 144, 82, 167, 0, 9, 78, 4, 172, 78, 5, 172, 3, 172]
abbrev dktX0_meanLength_0 : List UInt8 := dkwX0_meanLength_0 ++ []
theorem dksX0_meanLength_0 : cX0_meanLength.data.toList.drop 0 = dktX0_meanLength_0 := by decide +kernel
theorem dX0_meanLength_0 : decode cX0_meanLength 0 = .ok (.aload_n 2, 1) := dk_44 (dk_at dksX0_meanLength_0 0 rfl rfl)
theorem dX0_meanLength_1 : decode cX0_meanLength 1 = .ok (.iconst 0, 1) := dk_3 (dk_at dksX0_meanLength_0 1 rfl rfl)
theorem dX0_meanLength_2 : decode cX0_meanLength 2 = .ok (.aload_n 0, 1) := dk_42 (dk_at dksX0_meanLength_0 2 rfl rfl)
theorem dX0_meanLength_3 : decode cX0_meanLength 3 = .ok (.iload_n 1, 1) := dk_27 (dk_at dksX0_meanLength_0 3 rfl rfl)
theorem dX0_meanLength_4 : decode cX0_meanLength 4 = .ok (.invokevirtual 144, 3) := dk_182 0 144 (dk_at dksX0_meanLength_0 4 rfl rfl)
theorem dX0_meanLength_7 : decode cX0_meanLength 7 = .ok (.dastore, 1) := dk_82 (dk_at dksX0_meanLength_0 7 rfl rfl)
theorem dX0_meanLength_8 : decode cX0_meanLength 8 = .ok (.goto 9, 3) := dk_167 0 9 (dk_at dksX0_meanLength_0 8 rfl rfl)
theorem dX0_meanLength_11 : decode cX0_meanLength 11 = .ok (.astore_n 3, 1) := dk_78 (dk_at dksX0_meanLength_0 11 rfl rfl)
theorem dX0_meanLength_12 : decode cX0_meanLength 12 = .ok (.iconst 1, 1) := dk_4 (dk_at dksX0_meanLength_0 12 rfl rfl)
theorem dX0_meanLength_13 : decode cX0_meanLength 13 = .ok (.ireturn, 1) := dk_172 (dk_at dksX0_meanLength_0 13 rfl rfl)
theorem dX0_meanLength_14 : decode cX0_meanLength 14 = .ok (.astore_n 3, 1) := dk_78 (dk_at dksX0_meanLength_0 14 rfl rfl)
theorem dX0_meanLength_15 : decode cX0_meanLength 15 = .ok (.iconst 2, 1) := dk_5 (dk_at dksX0_meanLength_0 15 rfl rfl)
theorem dX0_meanLength_16 : decode cX0_meanLength 16 = .ok (.ireturn, 1) := dk_172 (dk_at dksX0_meanLength_0 16 rfl rfl)
theorem dX0_meanLength_17 : decode cX0_meanLength 17 = .ok (.iconst 0, 1) := dk_3 (dk_at dksX0_meanLength_0 17 rfl rfl)
theorem dX0_meanLength_18 : decode cX0_meanLength 18 = .ok (.ireturn, 1) := dk_172 (dk_at dksX0_meanLength_0 18 rfl rfl)
abbrev cX0_readShare : ByteArray := method_42_code
def yX0_readShare : MethodName := ⟨RX0, "readShare", "(LScheduleAnalyzer;I[D)I"⟩
def dkwX0_readShare_0 : List UInt8 := [44, 3, 42, 27, 182, 0, 150, 141, 82, 167, 0, 9, 78, 4, 172, 78, 5, 172, 3, 172]
abbrev dktX0_readShare_0 : List UInt8 := dkwX0_readShare_0 ++ []
theorem dksX0_readShare_0 : cX0_readShare.data.toList.drop 0 = dktX0_readShare_0 := by decide +kernel
theorem dX0_readShare_0 : decode cX0_readShare 0 = .ok (.aload_n 2, 1) := dk_44 (dk_at dksX0_readShare_0 0 rfl rfl)
theorem dX0_readShare_1 : decode cX0_readShare 1 = .ok (.iconst 0, 1) := dk_3 (dk_at dksX0_readShare_0 1 rfl rfl)
theorem dX0_readShare_2 : decode cX0_readShare 2 = .ok (.aload_n 0, 1) := dk_42 (dk_at dksX0_readShare_0 2 rfl rfl)
theorem dX0_readShare_3 : decode cX0_readShare 3 = .ok (.iload_n 1, 1) := dk_27 (dk_at dksX0_readShare_0 3 rfl rfl)
theorem dX0_readShare_4 : decode cX0_readShare 4 = .ok (.invokevirtual 150, 3) := dk_182 0 150 (dk_at dksX0_readShare_0 4 rfl rfl)
theorem dX0_readShare_7 : decode cX0_readShare 7 = .ok (.f2d, 1) := dk_141 (dk_at dksX0_readShare_0 7 rfl rfl)
theorem dX0_readShare_8 : decode cX0_readShare 8 = .ok (.dastore, 1) := dk_82 (dk_at dksX0_readShare_0 8 rfl rfl)
theorem dX0_readShare_9 : decode cX0_readShare 9 = .ok (.goto 9, 3) := dk_167 0 9 (dk_at dksX0_readShare_0 9 rfl rfl)
theorem dX0_readShare_12 : decode cX0_readShare 12 = .ok (.astore_n 3, 1) := dk_78 (dk_at dksX0_readShare_0 12 rfl rfl)
theorem dX0_readShare_13 : decode cX0_readShare 13 = .ok (.iconst 1, 1) := dk_4 (dk_at dksX0_readShare_0 13 rfl rfl)
theorem dX0_readShare_14 : decode cX0_readShare 14 = .ok (.ireturn, 1) := dk_172 (dk_at dksX0_readShare_0 14 rfl rfl)
theorem dX0_readShare_15 : decode cX0_readShare 15 = .ok (.astore_n 3, 1) := dk_78 (dk_at dksX0_readShare_0 15 rfl rfl)
theorem dX0_readShare_16 : decode cX0_readShare 16 = .ok (.iconst 2, 1) := dk_5 (dk_at dksX0_readShare_0 16 rfl rfl)
theorem dX0_readShare_17 : decode cX0_readShare 17 = .ok (.ireturn, 1) := dk_172 (dk_at dksX0_readShare_0 17 rfl rfl)
theorem dX0_readShare_18 : decode cX0_readShare 18 = .ok (.iconst 0, 1) := dk_3 (dk_at dksX0_readShare_0 18 rfl rfl)
theorem dX0_readShare_19 : decode cX0_readShare 19 = .ok (.ireturn, 1) := dk_172 (dk_at dksX0_readShare_0 19 rfl rfl)
abbrev cX0_format : ByteArray := method_43_code
def yX0_format : MethodName := ⟨RX0, "format", "(LScheduleAnalyzer;I[J)I"⟩
def dkwX0_format_0 : List UInt8 := [44, 3, 42, 27, 182, 0, 154, 133, 80, 167, 0, 6, 78, 4, 172, 3, 172]
abbrev dktX0_format_0 : List UInt8 := dkwX0_format_0 ++ []
theorem dksX0_format_0 : cX0_format.data.toList.drop 0 = dktX0_format_0 := by decide +kernel
theorem dX0_format_0 : decode cX0_format 0 = .ok (.aload_n 2, 1) := dk_44 (dk_at dksX0_format_0 0 rfl rfl)
theorem dX0_format_1 : decode cX0_format 1 = .ok (.iconst 0, 1) := dk_3 (dk_at dksX0_format_0 1 rfl rfl)
theorem dX0_format_2 : decode cX0_format 2 = .ok (.aload_n 0, 1) := dk_42 (dk_at dksX0_format_0 2 rfl rfl)
theorem dX0_format_3 : decode cX0_format 3 = .ok (.iload_n 1, 1) := dk_27 (dk_at dksX0_format_0 3 rfl rfl)
theorem dX0_format_4 : decode cX0_format 4 = .ok (.invokevirtual 154, 3) := dk_182 0 154 (dk_at dksX0_format_0 4 rfl rfl)
theorem dX0_format_7 : decode cX0_format 7 = .ok (.i2l, 1) := dk_133 (dk_at dksX0_format_0 7 rfl rfl)
theorem dX0_format_8 : decode cX0_format 8 = .ok (.lastore, 1) := dk_80 (dk_at dksX0_format_0 8 rfl rfl)
theorem dX0_format_9 : decode cX0_format 9 = .ok (.goto 6, 3) := dk_167 0 6 (dk_at dksX0_format_0 9 rfl rfl)
theorem dX0_format_12 : decode cX0_format 12 = .ok (.astore_n 3, 1) := dk_78 (dk_at dksX0_format_0 12 rfl rfl)
theorem dX0_format_13 : decode cX0_format 13 = .ok (.iconst 1, 1) := dk_4 (dk_at dksX0_format_0 13 rfl rfl)
theorem dX0_format_14 : decode cX0_format 14 = .ok (.ireturn, 1) := dk_172 (dk_at dksX0_format_0 14 rfl rfl)
theorem dX0_format_15 : decode cX0_format 15 = .ok (.iconst 0, 1) := dk_3 (dk_at dksX0_format_0 15 rfl rfl)
theorem dX0_format_16 : decode cX0_format 16 = .ok (.ireturn, 1) := dk_172 (dk_at dksX0_format_0 16 rfl rfl)
abbrev cX0_formatOrder : ByteArray := method_44_code
def yX0_formatOrder : MethodName := ⟨RX0, "formatOrder", "(LScheduleAnalyzer;I[J)I"⟩
def dkwX0_formatOrder_0 : List UInt8 := [44, 3, 42, 27, 182, 0, 157, 133, 80, 167, 0, 9, 78, 4, 172, 78, 5, 172, 3, 172]
abbrev dktX0_formatOrder_0 : List UInt8 := dkwX0_formatOrder_0 ++ []
theorem dksX0_formatOrder_0 : cX0_formatOrder.data.toList.drop 0 = dktX0_formatOrder_0 := by decide +kernel
theorem dX0_formatOrder_0 : decode cX0_formatOrder 0 = .ok (.aload_n 2, 1) := dk_44 (dk_at dksX0_formatOrder_0 0 rfl rfl)
theorem dX0_formatOrder_1 : decode cX0_formatOrder 1 = .ok (.iconst 0, 1) := dk_3 (dk_at dksX0_formatOrder_0 1 rfl rfl)
theorem dX0_formatOrder_2 : decode cX0_formatOrder 2 = .ok (.aload_n 0, 1) := dk_42 (dk_at dksX0_formatOrder_0 2 rfl rfl)
theorem dX0_formatOrder_3 : decode cX0_formatOrder 3 = .ok (.iload_n 1, 1) := dk_27 (dk_at dksX0_formatOrder_0 3 rfl rfl)
theorem dX0_formatOrder_4 : decode cX0_formatOrder 4 = .ok (.invokevirtual 157, 3) := dk_182 0 157 (dk_at dksX0_formatOrder_0 4 rfl rfl)
theorem dX0_formatOrder_7 : decode cX0_formatOrder 7 = .ok (.i2l, 1) := dk_133 (dk_at dksX0_formatOrder_0 7 rfl rfl)
theorem dX0_formatOrder_8 : decode cX0_formatOrder 8 = .ok (.lastore, 1) := dk_80 (dk_at dksX0_formatOrder_0 8 rfl rfl)
theorem dX0_formatOrder_9 : decode cX0_formatOrder 9 = .ok (.goto 9, 3) := dk_167 0 9 (dk_at dksX0_formatOrder_0 9 rfl rfl)
theorem dX0_formatOrder_12 : decode cX0_formatOrder 12 = .ok (.astore_n 3, 1) := dk_78 (dk_at dksX0_formatOrder_0 12 rfl rfl)
theorem dX0_formatOrder_13 : decode cX0_formatOrder 13 = .ok (.iconst 1, 1) := dk_4 (dk_at dksX0_formatOrder_0 13 rfl rfl)
theorem dX0_formatOrder_14 : decode cX0_formatOrder 14 = .ok (.ireturn, 1) := dk_172 (dk_at dksX0_formatOrder_0 14 rfl rfl)
theorem dX0_formatOrder_15 : decode cX0_formatOrder 15 = .ok (.astore_n 3, 1) := dk_78 (dk_at dksX0_formatOrder_0 15 rfl rfl)
theorem dX0_formatOrder_16 : decode cX0_formatOrder 16 = .ok (.iconst 2, 1) := dk_5 (dk_at dksX0_formatOrder_0 16 rfl rfl)
theorem dX0_formatOrder_17 : decode cX0_formatOrder 17 = .ok (.ireturn, 1) := dk_172 (dk_at dksX0_formatOrder_0 17 rfl rfl)
theorem dX0_formatOrder_18 : decode cX0_formatOrder 18 = .ok (.iconst 0, 1) := dk_3 (dk_at dksX0_formatOrder_0 18 rfl rfl)
theorem dX0_formatOrder_19 : decode cX0_formatOrder 19 = .ok (.ireturn, 1) := dk_172 (dk_at dksX0_formatOrder_0 19 rfl rfl)
abbrev cX0_lineChar : ByteArray := method_45_code
def yX0_lineChar : MethodName := ⟨RX0, "lineChar", "(LScheduleAnalyzer;I[J)I"⟩
def dkwX0_lineChar_0 : List UInt8 := [44, 3, 42, 27, 182, 0, 160, 133, 80, 167, 0, 6, 78, 4, 172, 3, 172]
abbrev dktX0_lineChar_0 : List UInt8 := dkwX0_lineChar_0 ++ []
theorem dksX0_lineChar_0 : cX0_lineChar.data.toList.drop 0 = dktX0_lineChar_0 := by decide +kernel
theorem dX0_lineChar_0 : decode cX0_lineChar 0 = .ok (.aload_n 2, 1) := dk_44 (dk_at dksX0_lineChar_0 0 rfl rfl)
theorem dX0_lineChar_1 : decode cX0_lineChar 1 = .ok (.iconst 0, 1) := dk_3 (dk_at dksX0_lineChar_0 1 rfl rfl)
theorem dX0_lineChar_2 : decode cX0_lineChar 2 = .ok (.aload_n 0, 1) := dk_42 (dk_at dksX0_lineChar_0 2 rfl rfl)
theorem dX0_lineChar_3 : decode cX0_lineChar 3 = .ok (.iload_n 1, 1) := dk_27 (dk_at dksX0_lineChar_0 3 rfl rfl)
theorem dX0_lineChar_4 : decode cX0_lineChar 4 = .ok (.invokevirtual 160, 3) := dk_182 0 160 (dk_at dksX0_lineChar_0 4 rfl rfl)
theorem dX0_lineChar_7 : decode cX0_lineChar 7 = .ok (.i2l, 1) := dk_133 (dk_at dksX0_lineChar_0 7 rfl rfl)
theorem dX0_lineChar_8 : decode cX0_lineChar 8 = .ok (.lastore, 1) := dk_80 (dk_at dksX0_lineChar_0 8 rfl rfl)
theorem dX0_lineChar_9 : decode cX0_lineChar 9 = .ok (.goto 6, 3) := dk_167 0 6 (dk_at dksX0_lineChar_0 9 rfl rfl)
theorem dX0_lineChar_12 : decode cX0_lineChar 12 = .ok (.astore_n 3, 1) := dk_78 (dk_at dksX0_lineChar_0 12 rfl rfl)
theorem dX0_lineChar_13 : decode cX0_lineChar 13 = .ok (.iconst 1, 1) := dk_4 (dk_at dksX0_lineChar_0 13 rfl rfl)
theorem dX0_lineChar_14 : decode cX0_lineChar 14 = .ok (.ireturn, 1) := dk_172 (dk_at dksX0_lineChar_0 14 rfl rfl)
theorem dX0_lineChar_15 : decode cX0_lineChar 15 = .ok (.iconst 0, 1) := dk_3 (dk_at dksX0_lineChar_0 15 rfl rfl)
theorem dX0_lineChar_16 : decode cX0_lineChar 16 = .ok (.ireturn, 1) := dk_172 (dk_at dksX0_lineChar_0 16 rfl rfl)
abbrev cX0_append : ByteArray := method_46_code
def yX0_append : MethodName := ⟨RX0, "append", "(LScheduleAnalyzer;C[J)I"⟩
def dkwX0_append_0 : List UInt8 := [44, 3, 42, 27, 182, 0, 164, 133, 80, 167, 0, 9, 78, 4, 172, 78, 5, 172, 3, 172]
abbrev dktX0_append_0 : List UInt8 := dkwX0_append_0 ++ []
theorem dksX0_append_0 : cX0_append.data.toList.drop 0 = dktX0_append_0 := by decide +kernel
theorem dX0_append_0 : decode cX0_append 0 = .ok (.aload_n 2, 1) := dk_44 (dk_at dksX0_append_0 0 rfl rfl)
theorem dX0_append_1 : decode cX0_append 1 = .ok (.iconst 0, 1) := dk_3 (dk_at dksX0_append_0 1 rfl rfl)
theorem dX0_append_2 : decode cX0_append 2 = .ok (.aload_n 0, 1) := dk_42 (dk_at dksX0_append_0 2 rfl rfl)
theorem dX0_append_3 : decode cX0_append 3 = .ok (.iload_n 1, 1) := dk_27 (dk_at dksX0_append_0 3 rfl rfl)
theorem dX0_append_4 : decode cX0_append 4 = .ok (.invokevirtual 164, 3) := dk_182 0 164 (dk_at dksX0_append_0 4 rfl rfl)
theorem dX0_append_7 : decode cX0_append 7 = .ok (.i2l, 1) := dk_133 (dk_at dksX0_append_0 7 rfl rfl)
theorem dX0_append_8 : decode cX0_append 8 = .ok (.lastore, 1) := dk_80 (dk_at dksX0_append_0 8 rfl rfl)
theorem dX0_append_9 : decode cX0_append 9 = .ok (.goto 9, 3) := dk_167 0 9 (dk_at dksX0_append_0 9 rfl rfl)
theorem dX0_append_12 : decode cX0_append 12 = .ok (.astore_n 3, 1) := dk_78 (dk_at dksX0_append_0 12 rfl rfl)
theorem dX0_append_13 : decode cX0_append 13 = .ok (.iconst 1, 1) := dk_4 (dk_at dksX0_append_0 13 rfl rfl)
theorem dX0_append_14 : decode cX0_append 14 = .ok (.ireturn, 1) := dk_172 (dk_at dksX0_append_0 14 rfl rfl)
theorem dX0_append_15 : decode cX0_append 15 = .ok (.astore_n 3, 1) := dk_78 (dk_at dksX0_append_0 15 rfl rfl)
theorem dX0_append_16 : decode cX0_append 16 = .ok (.iconst 2, 1) := dk_5 (dk_at dksX0_append_0 16 rfl rfl)
theorem dX0_append_17 : decode cX0_append 17 = .ok (.ireturn, 1) := dk_172 (dk_at dksX0_append_0 17 rfl rfl)
theorem dX0_append_18 : decode cX0_append 18 = .ok (.iconst 0, 1) := dk_3 (dk_at dksX0_append_0 18 rfl rfl)
theorem dX0_append_19 : decode cX0_append 19 = .ok (.ireturn, 1) := dk_172 (dk_at dksX0_append_0 19 rfl rfl)
abbrev cX0_errorPosition : ByteArray := method_47_code
def yX0_errorPosition : MethodName := ⟨RX0, "errorPosition", "(LScheduleAnalyzer;[J)I"⟩
def dkwX0_errorPosition_0 : List UInt8 := [43, 3, 42, 182, 0, 167, 133, 80, 167, 0, 6, 77, 4, 172, 3, 172]
abbrev dktX0_errorPosition_0 : List UInt8 := dkwX0_errorPosition_0 ++ []
theorem dksX0_errorPosition_0 : cX0_errorPosition.data.toList.drop 0 = dktX0_errorPosition_0 := by decide +kernel
theorem dX0_errorPosition_0 : decode cX0_errorPosition 0 = .ok (.aload_n 1, 1) := dk_43 (dk_at dksX0_errorPosition_0 0 rfl rfl)
theorem dX0_errorPosition_1 : decode cX0_errorPosition 1 = .ok (.iconst 0, 1) := dk_3 (dk_at dksX0_errorPosition_0 1 rfl rfl)
theorem dX0_errorPosition_2 : decode cX0_errorPosition 2 = .ok (.aload_n 0, 1) := dk_42 (dk_at dksX0_errorPosition_0 2 rfl rfl)
theorem dX0_errorPosition_3 : decode cX0_errorPosition 3 = .ok (.invokevirtual 167, 3) := dk_182 0 167 (dk_at dksX0_errorPosition_0 3 rfl rfl)
theorem dX0_errorPosition_6 : decode cX0_errorPosition 6 = .ok (.i2l, 1) := dk_133 (dk_at dksX0_errorPosition_0 6 rfl rfl)
theorem dX0_errorPosition_7 : decode cX0_errorPosition 7 = .ok (.lastore, 1) := dk_80 (dk_at dksX0_errorPosition_0 7 rfl rfl)
theorem dX0_errorPosition_8 : decode cX0_errorPosition 8 = .ok (.goto 6, 3) := dk_167 0 6 (dk_at dksX0_errorPosition_0 8 rfl rfl)
theorem dX0_errorPosition_11 : decode cX0_errorPosition 11 = .ok (.astore_n 2, 1) := dk_77 (dk_at dksX0_errorPosition_0 11 rfl rfl)
theorem dX0_errorPosition_12 : decode cX0_errorPosition 12 = .ok (.iconst 1, 1) := dk_4 (dk_at dksX0_errorPosition_0 12 rfl rfl)
theorem dX0_errorPosition_13 : decode cX0_errorPosition 13 = .ok (.ireturn, 1) := dk_172 (dk_at dksX0_errorPosition_0 13 rfl rfl)
theorem dX0_errorPosition_14 : decode cX0_errorPosition 14 = .ok (.iconst 0, 1) := dk_3 (dk_at dksX0_errorPosition_0 14 rfl rfl)
theorem dX0_errorPosition_15 : decode cX0_errorPosition 15 = .ok (.ireturn, 1) := dk_172 (dk_at dksX0_errorPosition_0 15 rfl rfl)
abbrev cX0_undo : ByteArray := method_48_code
def yX0_undo : MethodName := ⟨RX0, "undo", "(LScheduleAnalyzer;[J)I"⟩
def dkwX0_undo_0 : List UInt8 := [43, 3, 42, 182, 0, 171, 133, 80, 167, 0, 6, 77, 4, 172, 3, 172]
abbrev dktX0_undo_0 : List UInt8 := dkwX0_undo_0 ++ []
theorem dksX0_undo_0 : cX0_undo.data.toList.drop 0 = dktX0_undo_0 := by decide +kernel
theorem dX0_undo_0 : decode cX0_undo 0 = .ok (.aload_n 1, 1) := dk_43 (dk_at dksX0_undo_0 0 rfl rfl)
theorem dX0_undo_1 : decode cX0_undo 1 = .ok (.iconst 0, 1) := dk_3 (dk_at dksX0_undo_0 1 rfl rfl)
theorem dX0_undo_2 : decode cX0_undo 2 = .ok (.aload_n 0, 1) := dk_42 (dk_at dksX0_undo_0 2 rfl rfl)
theorem dX0_undo_3 : decode cX0_undo 3 = .ok (.invokevirtual 171, 3) := dk_182 0 171 (dk_at dksX0_undo_0 3 rfl rfl)
theorem dX0_undo_6 : decode cX0_undo 6 = .ok (.i2l, 1) := dk_133 (dk_at dksX0_undo_0 6 rfl rfl)
theorem dX0_undo_7 : decode cX0_undo 7 = .ok (.lastore, 1) := dk_80 (dk_at dksX0_undo_0 7 rfl rfl)
theorem dX0_undo_8 : decode cX0_undo 8 = .ok (.goto 6, 3) := dk_167 0 6 (dk_at dksX0_undo_0 8 rfl rfl)
theorem dX0_undo_11 : decode cX0_undo 11 = .ok (.astore_n 2, 1) := dk_77 (dk_at dksX0_undo_0 11 rfl rfl)
theorem dX0_undo_12 : decode cX0_undo 12 = .ok (.iconst 1, 1) := dk_4 (dk_at dksX0_undo_0 12 rfl rfl)
theorem dX0_undo_13 : decode cX0_undo 13 = .ok (.ireturn, 1) := dk_172 (dk_at dksX0_undo_0 13 rfl rfl)
theorem dX0_undo_14 : decode cX0_undo 14 = .ok (.iconst 0, 1) := dk_3 (dk_at dksX0_undo_0 14 rfl rfl)
theorem dX0_undo_15 : decode cX0_undo 15 = .ok (.ireturn, 1) := dk_172 (dk_at dksX0_undo_0 15 rfl rfl)
abbrev cX0_restore : ByteArray := method_49_code
def yX0_restore : MethodName := ⟨RX0, "restore", "(LScheduleAnalyzer;[J)I"⟩
def dkwX0_restore_0 : List UInt8 := [43, 3, 42, 182, 0, 174, 133, 80, 167, 0, 6, 77, 4, 172, 3, 172]
abbrev dktX0_restore_0 : List UInt8 := dkwX0_restore_0 ++ []
theorem dksX0_restore_0 : cX0_restore.data.toList.drop 0 = dktX0_restore_0 := by decide +kernel
theorem dX0_restore_0 : decode cX0_restore 0 = .ok (.aload_n 1, 1) := dk_43 (dk_at dksX0_restore_0 0 rfl rfl)
theorem dX0_restore_1 : decode cX0_restore 1 = .ok (.iconst 0, 1) := dk_3 (dk_at dksX0_restore_0 1 rfl rfl)
theorem dX0_restore_2 : decode cX0_restore 2 = .ok (.aload_n 0, 1) := dk_42 (dk_at dksX0_restore_0 2 rfl rfl)
theorem dX0_restore_3 : decode cX0_restore 3 = .ok (.invokevirtual 174, 3) := dk_182 0 174 (dk_at dksX0_restore_0 3 rfl rfl)
theorem dX0_restore_6 : decode cX0_restore 6 = .ok (.i2l, 1) := dk_133 (dk_at dksX0_restore_0 6 rfl rfl)
theorem dX0_restore_7 : decode cX0_restore 7 = .ok (.lastore, 1) := dk_80 (dk_at dksX0_restore_0 7 rfl rfl)
theorem dX0_restore_8 : decode cX0_restore 8 = .ok (.goto 6, 3) := dk_167 0 6 (dk_at dksX0_restore_0 8 rfl rfl)
theorem dX0_restore_11 : decode cX0_restore 11 = .ok (.astore_n 2, 1) := dk_77 (dk_at dksX0_restore_0 11 rfl rfl)
theorem dX0_restore_12 : decode cX0_restore 12 = .ok (.iconst 1, 1) := dk_4 (dk_at dksX0_restore_0 12 rfl rfl)
theorem dX0_restore_13 : decode cX0_restore 13 = .ok (.ireturn, 1) := dk_172 (dk_at dksX0_restore_0 13 rfl rfl)
theorem dX0_restore_14 : decode cX0_restore 14 = .ok (.iconst 0, 1) := dk_3 (dk_at dksX0_restore_0 14 rfl rfl)
theorem dX0_restore_15 : decode cX0_restore 15 = .ok (.ireturn, 1) := dk_172 (dk_at dksX0_restore_0 15 rfl rfl)
theorem q114 : (Jvm.Cond.initialized "ScheduleAnalyzerLaw") ∈ lw_all := lw_g (lw_at lw_m1 0 rfl) rfl
theorem q165 : (Jvm.Cond.classLink "ScheduleAnalyzerLaw" (8 : Nat) "ScheduleAnalyzer") ∈ lw_all := lw_g (lw_at lw_m1 51 rfl) rfl
theorem q167 : (Jvm.Cond.methodLink "ScheduleAnalyzerLaw" (177 : Nat) ({ cls := "ScheduleAnalyzer", name := "<init>", desc := "()V" } : Jvm.MethodName)) ∈ lw_all := lw_g (lw_at lw_m1 53 rfl) rfl
theorem q858 : (Jvm.Cond.methodLink "ScheduleAnalyzerLaw" (315 : Nat) ({ cls := "ScheduleAnalyzer", name := "isConsistent", desc := "()Z" } : Jvm.MethodName)) ∈ lw_all := lw_g (lw_at lw_m4 24 rfl) rfl
theorem q1460 : (Jvm.Cond.methodLink "ScheduleAnalyzerLaw" (332 : Nat) ({ cls := "ScheduleAnalyzer", name := "clearBuffer", desc := "()I" } : Jvm.MethodName)) ∈ lw_all := lw_g (lw_at lw_m6 146 rfl) rfl
theorem q1530 : (Jvm.Cond.methodLink "ScheduleAnalyzerLaw" (340 : Nat) ({ cls := "ScheduleAnalyzer", name := "undoableCount", desc := "()I" } : Jvm.MethodName)) ∈ lw_all := lw_g (lw_at lw_m6 216 rfl) rfl
theorem q1541 : (Jvm.Cond.methodLink "ScheduleAnalyzerLaw" (347 : Nat) ({ cls := "ScheduleAnalyzer", name := "save", desc := "()I" } : Jvm.MethodName)) ∈ lw_all := lw_g (lw_at lw_m6 227 rfl) rfl
theorem q1558 : (Jvm.Cond.methodLink "ScheduleAnalyzerLaw" (181 : Nat) ({ cls := "ScheduleAnalyzerLaw", name := "write", desc := "(LScheduleAnalyzer;I[J)I" } : Jvm.MethodName)) ∈ lw_all := lw_g (lw_at lw_m7 4 rfl) rfl
theorem q1559 : (Jvm.Cond.static ({ cls := "ScheduleAnalyzerLaw", name := "write", desc := "(LScheduleAnalyzer;I[J)I" } : Jvm.MethodName)) ∈ lw_all := lw_g (lw_at lw_m7 5 rfl) rfl
theorem q1560 : (Jvm.Cond.codeWith ({ cls := "ScheduleAnalyzerLaw", name := "write", desc := "(LScheduleAnalyzer;I[J)I" } : Jvm.MethodName) method_3_code (4 : Nat) (Option.some Jvm.ClassFile.FieldType.int) [((0 : Nat), (9 : Nat), (12 : Nat), (13 : Nat)), ((0 : Nat), (9 : Nat), (15 : Nat), (15 : Nat)), ((0 : Nat), (9 : Nat), (18 : Nat), (17 : Nat))]) ∈ lw_all := lw_g (lw_at lw_m7 6 rfl) rfl
theorem q1561 : (Jvm.Cond.classLink "ScheduleAnalyzerLaw" (13 : Nat) "java/lang/IndexOutOfBoundsException") ∈ lw_all := lw_g (lw_at lw_m7 7 rfl) rfl
theorem q1564 : (Jvm.Cond.classLink "ScheduleAnalyzerLaw" (15 : Nat) "java/lang/IllegalArgumentException") ∈ lw_all := lw_g (lw_at lw_m7 10 rfl) rfl
theorem q1565 : (Jvm.Cond.classLink "ScheduleAnalyzerLaw" (17 : Nat) "java/lang/IllegalStateException") ∈ lw_all := lw_g (lw_at lw_m7 11 rfl) rfl
theorem q1566 : (Jvm.Cond.methodLink "ScheduleAnalyzerLaw" (7 : Nat) ({ cls := "ScheduleAnalyzer", name := "write", desc := "(I)I" } : Jvm.MethodName)) ∈ lw_all := lw_g (lw_at lw_m7 12 rfl) rfl
theorem q1762 : (Jvm.Cond.methodLink "ScheduleAnalyzerLaw" (190 : Nat) ({ cls := "ScheduleAnalyzerLaw", name := "addAccess", desc := "(LScheduleAnalyzer;ICIC[J)I" } : Jvm.MethodName)) ∈ lw_all := lw_g (lw_at lw_m7 208 rfl) rfl
theorem q1763 : (Jvm.Cond.static ({ cls := "ScheduleAnalyzerLaw", name := "addAccess", desc := "(LScheduleAnalyzer;ICIC[J)I" } : Jvm.MethodName)) ∈ lw_all := lw_g (lw_at lw_m7 209 rfl) rfl
theorem q1764 : (Jvm.Cond.codeWith ({ cls := "ScheduleAnalyzerLaw", name := "addAccess", desc := "(LScheduleAnalyzer;ICIC[J)I" } : Jvm.MethodName) method_4_code (7 : Nat) (Option.some Jvm.ClassFile.FieldType.int) [((0 : Nat), (14 : Nat), (17 : Nat), (13 : Nat)), ((0 : Nat), (14 : Nat), (21 : Nat), (15 : Nat)), ((0 : Nat), (14 : Nat), (25 : Nat), (17 : Nat))]) ∈ lw_all := lw_g (lw_at lw_m7 210 rfl) rfl
theorem q1765 : (Jvm.Cond.methodLink "ScheduleAnalyzerLaw" (19 : Nat) ({ cls := "ScheduleAnalyzer", name := "addAccess", desc := "(ICIC)I" } : Jvm.MethodName)) ∈ lw_all := lw_g (lw_at lw_m7 211 rfl) rfl
theorem q1793 : (Jvm.Cond.methodLink "ScheduleAnalyzerLaw" (194 : Nat) ({ cls := "ScheduleAnalyzerLaw", name := "addEnd", desc := "(LScheduleAnalyzer;IIZ[J)I" } : Jvm.MethodName)) ∈ lw_all := lw_g (lw_at lw_m7 239 rfl) rfl
theorem q1794 : (Jvm.Cond.static ({ cls := "ScheduleAnalyzerLaw", name := "addEnd", desc := "(LScheduleAnalyzer;IIZ[J)I" } : Jvm.MethodName)) ∈ lw_all := lw_g (lw_at lw_m8 0 rfl) rfl
theorem q1795 : (Jvm.Cond.codeWith ({ cls := "ScheduleAnalyzerLaw", name := "addEnd", desc := "(LScheduleAnalyzer;IIZ[J)I" } : Jvm.MethodName) method_5_code (6 : Nat) (Option.some Jvm.ClassFile.FieldType.int) [((0 : Nat), (12 : Nat), (15 : Nat), (13 : Nat)), ((0 : Nat), (12 : Nat), (19 : Nat), (15 : Nat)), ((0 : Nat), (12 : Nat), (23 : Nat), (17 : Nat))]) ∈ lw_all := lw_g (lw_at lw_m8 1 rfl) rfl
theorem q1796 : (Jvm.Cond.methodLink "ScheduleAnalyzerLaw" (23 : Nat) ({ cls := "ScheduleAnalyzer", name := "addEnd", desc := "(IIZ)I" } : Jvm.MethodName)) ∈ lw_all := lw_g (lw_at lw_m8 2 rfl) rfl
theorem q1800 : (Jvm.Cond.methodLink "ScheduleAnalyzerLaw" (198 : Nat) ({ cls := "ScheduleAnalyzerLaw", name := "removeAt", desc := "(LScheduleAnalyzer;II[J)I" } : Jvm.MethodName)) ∈ lw_all := lw_g (lw_at lw_m8 6 rfl) rfl
theorem q1801 : (Jvm.Cond.static ({ cls := "ScheduleAnalyzerLaw", name := "removeAt", desc := "(LScheduleAnalyzer;II[J)I" } : Jvm.MethodName)) ∈ lw_all := lw_g (lw_at lw_m8 7 rfl) rfl
theorem q1802 : (Jvm.Cond.codeWith ({ cls := "ScheduleAnalyzerLaw", name := "removeAt", desc := "(LScheduleAnalyzer;II[J)I" } : Jvm.MethodName) method_6_code (5 : Nat) (Option.some Jvm.ClassFile.FieldType.int) [((0 : Nat), (10 : Nat), (13 : Nat), (13 : Nat))]) ∈ lw_all := lw_g (lw_at lw_m8 8 rfl) rfl
theorem q1803 : (Jvm.Cond.methodLink "ScheduleAnalyzerLaw" (27 : Nat) ({ cls := "ScheduleAnalyzer", name := "removeAt", desc := "(II)I" } : Jvm.MethodName)) ∈ lw_all := lw_g (lw_at lw_m8 9 rfl) rfl
theorem q1873 : (Jvm.Cond.methodLink "ScheduleAnalyzerLaw" (202 : Nat) ({ cls := "ScheduleAnalyzerLaw", name := "exchange", desc := "(LScheduleAnalyzer;II[J)I" } : Jvm.MethodName)) ∈ lw_all := lw_g (lw_at lw_m8 79 rfl) rfl
theorem q1874 : (Jvm.Cond.static ({ cls := "ScheduleAnalyzerLaw", name := "exchange", desc := "(LScheduleAnalyzer;II[J)I" } : Jvm.MethodName)) ∈ lw_all := lw_g (lw_at lw_m8 80 rfl) rfl
theorem q1875 : (Jvm.Cond.codeWith ({ cls := "ScheduleAnalyzerLaw", name := "exchange", desc := "(LScheduleAnalyzer;II[J)I" } : Jvm.MethodName) method_7_code (5 : Nat) (Option.some Jvm.ClassFile.FieldType.int) [((0 : Nat), (10 : Nat), (13 : Nat), (13 : Nat)), ((0 : Nat), (10 : Nat), (17 : Nat), (17 : Nat))]) ∈ lw_all := lw_g (lw_at lw_m8 81 rfl) rfl
theorem q1876 : (Jvm.Cond.methodLink "ScheduleAnalyzerLaw" (31 : Nat) ({ cls := "ScheduleAnalyzer", name := "exchange", desc := "(II)I" } : Jvm.MethodName)) ∈ lw_all := lw_g (lw_at lw_m8 82 rfl) rfl
theorem q1900 : (Jvm.Cond.methodLink "ScheduleAnalyzerLaw" (205 : Nat) ({ cls := "ScheduleAnalyzerLaw", name := "copy", desc := "(LScheduleAnalyzer;II[J)I" } : Jvm.MethodName)) ∈ lw_all := lw_g (lw_at lw_m8 106 rfl) rfl
theorem q1901 : (Jvm.Cond.static ({ cls := "ScheduleAnalyzerLaw", name := "copy", desc := "(LScheduleAnalyzer;II[J)I" } : Jvm.MethodName)) ∈ lw_all := lw_g (lw_at lw_m8 107 rfl) rfl
theorem q1902 : (Jvm.Cond.codeWith ({ cls := "ScheduleAnalyzerLaw", name := "copy", desc := "(LScheduleAnalyzer;II[J)I" } : Jvm.MethodName) method_8_code (5 : Nat) (Option.some Jvm.ClassFile.FieldType.int) [((0 : Nat), (10 : Nat), (13 : Nat), (13 : Nat))]) ∈ lw_all := lw_g (lw_at lw_m8 108 rfl) rfl
theorem q1903 : (Jvm.Cond.methodLink "ScheduleAnalyzerLaw" (34 : Nat) ({ cls := "ScheduleAnalyzer", name := "copy", desc := "(II)I" } : Jvm.MethodName)) ∈ lw_all := lw_g (lw_at lw_m8 109 rfl) rfl
theorem q1911 : (Jvm.Cond.methodLink "ScheduleAnalyzerLaw" (208 : Nat) ({ cls := "ScheduleAnalyzerLaw", name := "clear", desc := "(LScheduleAnalyzer;I[J)I" } : Jvm.MethodName)) ∈ lw_all := lw_g (lw_at lw_m8 117 rfl) rfl
theorem q1912 : (Jvm.Cond.static ({ cls := "ScheduleAnalyzerLaw", name := "clear", desc := "(LScheduleAnalyzer;I[J)I" } : Jvm.MethodName)) ∈ lw_all := lw_g (lw_at lw_m8 118 rfl) rfl
theorem q1913 : (Jvm.Cond.codeWith ({ cls := "ScheduleAnalyzerLaw", name := "clear", desc := "(LScheduleAnalyzer;I[J)I" } : Jvm.MethodName) method_9_code (4 : Nat) (Option.some Jvm.ClassFile.FieldType.int) [((0 : Nat), (9 : Nat), (12 : Nat), (13 : Nat))]) ∈ lw_all := lw_g (lw_at lw_m8 119 rfl) rfl
theorem q1914 : (Jvm.Cond.methodLink "ScheduleAnalyzerLaw" (37 : Nat) ({ cls := "ScheduleAnalyzer", name := "clear", desc := "(I)I" } : Jvm.MethodName)) ∈ lw_all := lw_g (lw_at lw_m8 120 rfl) rfl
theorem q1920 : (Jvm.Cond.methodLink "ScheduleAnalyzerLaw" (211 : Nat) ({ cls := "ScheduleAnalyzerLaw", name := "serialize", desc := "(LScheduleAnalyzer;II[J)I" } : Jvm.MethodName)) ∈ lw_all := lw_g (lw_at lw_m8 126 rfl) rfl
theorem q1921 : (Jvm.Cond.static ({ cls := "ScheduleAnalyzerLaw", name := "serialize", desc := "(LScheduleAnalyzer;II[J)I" } : Jvm.MethodName)) ∈ lw_all := lw_g (lw_at lw_m8 127 rfl) rfl
theorem q1922 : (Jvm.Cond.codeWith ({ cls := "ScheduleAnalyzerLaw", name := "serialize", desc := "(LScheduleAnalyzer;II[J)I" } : Jvm.MethodName) method_10_code (5 : Nat) (Option.some Jvm.ClassFile.FieldType.int) [((0 : Nat), (10 : Nat), (13 : Nat), (13 : Nat)), ((0 : Nat), (10 : Nat), (17 : Nat), (43 : Nat))]) ∈ lw_all := lw_g (lw_at lw_m8 128 rfl) rfl
theorem q1923 : (Jvm.Cond.classLink "ScheduleAnalyzerLaw" (43 : Nat) "java/lang/UnsupportedOperationException") ∈ lw_all := lw_g (lw_at lw_m8 129 rfl) rfl
theorem q1924 : (Jvm.Cond.methodLink "ScheduleAnalyzerLaw" (40 : Nat) ({ cls := "ScheduleAnalyzer", name := "serialize", desc := "(II)I" } : Jvm.MethodName)) ∈ lw_all := lw_g (lw_at lw_m8 130 rfl) rfl
theorem q1945 : (Jvm.Cond.methodLink "ScheduleAnalyzerLaw" (214 : Nat) ({ cls := "ScheduleAnalyzerLaw", name := "lock", desc := "(LScheduleAnalyzer;II[J)I" } : Jvm.MethodName)) ∈ lw_all := lw_g (lw_at lw_m8 151 rfl) rfl
theorem q1946 : (Jvm.Cond.static ({ cls := "ScheduleAnalyzerLaw", name := "lock", desc := "(LScheduleAnalyzer;II[J)I" } : Jvm.MethodName)) ∈ lw_all := lw_g (lw_at lw_m8 152 rfl) rfl
theorem q1947 : (Jvm.Cond.codeWith ({ cls := "ScheduleAnalyzerLaw", name := "lock", desc := "(LScheduleAnalyzer;II[J)I" } : Jvm.MethodName) method_11_code (5 : Nat) (Option.some Jvm.ClassFile.FieldType.int) [((0 : Nat), (10 : Nat), (13 : Nat), (13 : Nat))]) ∈ lw_all := lw_g (lw_at lw_m8 153 rfl) rfl
theorem q1948 : (Jvm.Cond.methodLink "ScheduleAnalyzerLaw" (45 : Nat) ({ cls := "ScheduleAnalyzer", name := "lock", desc := "(II)I" } : Jvm.MethodName)) ∈ lw_all := lw_g (lw_at lw_m8 154 rfl) rfl
theorem q2098 : (Jvm.Cond.methodLink "ScheduleAnalyzerLaw" (217 : Nat) ({ cls := "ScheduleAnalyzerLaw", name := "setValue", desc := "(LScheduleAnalyzer;CI[J)I" } : Jvm.MethodName)) ∈ lw_all := lw_g (lw_at lw_m9 64 rfl) rfl
theorem q2099 : (Jvm.Cond.static ({ cls := "ScheduleAnalyzerLaw", name := "setValue", desc := "(LScheduleAnalyzer;CI[J)I" } : Jvm.MethodName)) ∈ lw_all := lw_g (lw_at lw_m9 65 rfl) rfl
theorem q2100 : (Jvm.Cond.codeWith ({ cls := "ScheduleAnalyzerLaw", name := "setValue", desc := "(LScheduleAnalyzer;CI[J)I" } : Jvm.MethodName) method_12_code (5 : Nat) (Option.some Jvm.ClassFile.FieldType.int) [((0 : Nat), (10 : Nat), (13 : Nat), (15 : Nat))]) ∈ lw_all := lw_g (lw_at lw_m9 66 rfl) rfl
theorem q2101 : (Jvm.Cond.methodLink "ScheduleAnalyzerLaw" (48 : Nat) ({ cls := "ScheduleAnalyzer", name := "setValue", desc := "(CI)I" } : Jvm.MethodName)) ∈ lw_all := lw_g (lw_at lw_m9 67 rfl) rfl
theorem q2105 : (Jvm.Cond.methodLink "ScheduleAnalyzerLaw" (221 : Nat) ({ cls := "ScheduleAnalyzerLaw", name := "operationCount", desc := "(LScheduleAnalyzer;I[J)I" } : Jvm.MethodName)) ∈ lw_all := lw_g (lw_at lw_m9 71 rfl) rfl
theorem q2106 : (Jvm.Cond.static ({ cls := "ScheduleAnalyzerLaw", name := "operationCount", desc := "(LScheduleAnalyzer;I[J)I" } : Jvm.MethodName)) ∈ lw_all := lw_g (lw_at lw_m9 72 rfl) rfl
theorem q2107 : (Jvm.Cond.codeWith ({ cls := "ScheduleAnalyzerLaw", name := "operationCount", desc := "(LScheduleAnalyzer;I[J)I" } : Jvm.MethodName) method_13_code (4 : Nat) (Option.some Jvm.ClassFile.FieldType.int) [((0 : Nat), (9 : Nat), (12 : Nat), (13 : Nat))]) ∈ lw_all := lw_g (lw_at lw_m9 73 rfl) rfl
theorem q2108 : (Jvm.Cond.methodLink "ScheduleAnalyzerLaw" (52 : Nat) ({ cls := "ScheduleAnalyzer", name := "operationCount", desc := "(I)I" } : Jvm.MethodName)) ∈ lw_all := lw_g (lw_at lw_m9 74 rfl) rfl
theorem q2112 : (Jvm.Cond.methodLink "ScheduleAnalyzerLaw" (224 : Nat) ({ cls := "ScheduleAnalyzerLaw", name := "kindAt", desc := "(LScheduleAnalyzer;II[J)I" } : Jvm.MethodName)) ∈ lw_all := lw_g (lw_at lw_m9 78 rfl) rfl
theorem q2113 : (Jvm.Cond.static ({ cls := "ScheduleAnalyzerLaw", name := "kindAt", desc := "(LScheduleAnalyzer;II[J)I" } : Jvm.MethodName)) ∈ lw_all := lw_g (lw_at lw_m9 79 rfl) rfl
theorem q2114 : (Jvm.Cond.codeWith ({ cls := "ScheduleAnalyzerLaw", name := "kindAt", desc := "(LScheduleAnalyzer;II[J)I" } : Jvm.MethodName) method_14_code (5 : Nat) (Option.some Jvm.ClassFile.FieldType.int) [((0 : Nat), (10 : Nat), (13 : Nat), (13 : Nat))]) ∈ lw_all := lw_g (lw_at lw_m9 80 rfl) rfl
theorem q2115 : (Jvm.Cond.methodLink "ScheduleAnalyzerLaw" (55 : Nat) ({ cls := "ScheduleAnalyzer", name := "kindAt", desc := "(II)C" } : Jvm.MethodName)) ∈ lw_all := lw_g (lw_at lw_m9 81 rfl) rfl
theorem q2119 : (Jvm.Cond.methodLink "ScheduleAnalyzerLaw" (227 : Nat) ({ cls := "ScheduleAnalyzerLaw", name := "transactionAt", desc := "(LScheduleAnalyzer;II[J)I" } : Jvm.MethodName)) ∈ lw_all := lw_g (lw_at lw_m9 85 rfl) rfl
theorem q2120 : (Jvm.Cond.static ({ cls := "ScheduleAnalyzerLaw", name := "transactionAt", desc := "(LScheduleAnalyzer;II[J)I" } : Jvm.MethodName)) ∈ lw_all := lw_g (lw_at lw_m9 86 rfl) rfl
theorem q2121 : (Jvm.Cond.codeWith ({ cls := "ScheduleAnalyzerLaw", name := "transactionAt", desc := "(LScheduleAnalyzer;II[J)I" } : Jvm.MethodName) method_15_code (5 : Nat) (Option.some Jvm.ClassFile.FieldType.int) [((0 : Nat), (10 : Nat), (13 : Nat), (13 : Nat))]) ∈ lw_all := lw_g (lw_at lw_m9 87 rfl) rfl
theorem q2122 : (Jvm.Cond.methodLink "ScheduleAnalyzerLaw" (59 : Nat) ({ cls := "ScheduleAnalyzer", name := "transactionAt", desc := "(II)I" } : Jvm.MethodName)) ∈ lw_all := lw_g (lw_at lw_m9 88 rfl) rfl
theorem q2126 : (Jvm.Cond.methodLink "ScheduleAnalyzerLaw" (230 : Nat) ({ cls := "ScheduleAnalyzerLaw", name := "itemAt", desc := "(LScheduleAnalyzer;II[J)I" } : Jvm.MethodName)) ∈ lw_all := lw_g (lw_at lw_m9 92 rfl) rfl
theorem q2127 : (Jvm.Cond.static ({ cls := "ScheduleAnalyzerLaw", name := "itemAt", desc := "(LScheduleAnalyzer;II[J)I" } : Jvm.MethodName)) ∈ lw_all := lw_g (lw_at lw_m9 93 rfl) rfl
theorem q2128 : (Jvm.Cond.codeWith ({ cls := "ScheduleAnalyzerLaw", name := "itemAt", desc := "(LScheduleAnalyzer;II[J)I" } : Jvm.MethodName) method_16_code (5 : Nat) (Option.some Jvm.ClassFile.FieldType.int) [((0 : Nat), (10 : Nat), (13 : Nat), (13 : Nat)), ((0 : Nat), (10 : Nat), (17 : Nat), (65 : Nat))]) ∈ lw_all := lw_g (lw_at lw_m9 94 rfl) rfl
theorem q2129 : (Jvm.Cond.classLink "ScheduleAnalyzerLaw" (65 : Nat) "java/util/NoSuchElementException") ∈ lw_all := lw_g (lw_at lw_m9 95 rfl) rfl
theorem q2130 : (Jvm.Cond.methodLink "ScheduleAnalyzerLaw" (62 : Nat) ({ cls := "ScheduleAnalyzer", name := "itemAt", desc := "(II)C" } : Jvm.MethodName)) ∈ lw_all := lw_g (lw_at lw_m9 96 rfl) rfl
theorem q2140 : (Jvm.Cond.methodLink "ScheduleAnalyzerLaw" (233 : Nat) ({ cls := "ScheduleAnalyzerLaw", name := "stateOf", desc := "(LScheduleAnalyzer;II[J)I" } : Jvm.MethodName)) ∈ lw_all := lw_g (lw_at lw_m9 106 rfl) rfl
theorem q2141 : (Jvm.Cond.static ({ cls := "ScheduleAnalyzerLaw", name := "stateOf", desc := "(LScheduleAnalyzer;II[J)I" } : Jvm.MethodName)) ∈ lw_all := lw_g (lw_at lw_m9 107 rfl) rfl
theorem q2142 : (Jvm.Cond.codeWith ({ cls := "ScheduleAnalyzerLaw", name := "stateOf", desc := "(LScheduleAnalyzer;II[J)I" } : Jvm.MethodName) method_17_code (5 : Nat) (Option.some Jvm.ClassFile.FieldType.int) [((0 : Nat), (10 : Nat), (13 : Nat), (13 : Nat)), ((0 : Nat), (10 : Nat), (17 : Nat), (15 : Nat))]) ∈ lw_all := lw_g (lw_at lw_m9 108 rfl) rfl
theorem q2143 : (Jvm.Cond.methodLink "ScheduleAnalyzerLaw" (67 : Nat) ({ cls := "ScheduleAnalyzer", name := "stateOf", desc := "(II)C" } : Jvm.MethodName)) ∈ lw_all := lw_g (lw_at lw_m9 109 rfl) rfl
theorem q2155 : (Jvm.Cond.methodLink "ScheduleAnalyzerLaw" (236 : Nat) ({ cls := "ScheduleAnalyzerLaw", name := "conflictCount", desc := "(LScheduleAnalyzer;I[J)I" } : Jvm.MethodName)) ∈ lw_all := lw_g (lw_at lw_m9 121 rfl) rfl
theorem q2156 : (Jvm.Cond.static ({ cls := "ScheduleAnalyzerLaw", name := "conflictCount", desc := "(LScheduleAnalyzer;I[J)I" } : Jvm.MethodName)) ∈ lw_all := lw_g (lw_at lw_m9 122 rfl) rfl
theorem q2157 : (Jvm.Cond.codeWith ({ cls := "ScheduleAnalyzerLaw", name := "conflictCount", desc := "(LScheduleAnalyzer;I[J)I" } : Jvm.MethodName) method_18_code (4 : Nat) (Option.some Jvm.ClassFile.FieldType.int) [((0 : Nat), (9 : Nat), (12 : Nat), (13 : Nat))]) ∈ lw_all := lw_g (lw_at lw_m9 123 rfl) rfl
theorem q2158 : (Jvm.Cond.methodLink "ScheduleAnalyzerLaw" (70 : Nat) ({ cls := "ScheduleAnalyzer", name := "conflictCount", desc := "(I)I" } : Jvm.MethodName)) ∈ lw_all := lw_g (lw_at lw_m9 124 rfl) rfl
theorem q2162 : (Jvm.Cond.methodLink "ScheduleAnalyzerLaw" (239 : Nat) ({ cls := "ScheduleAnalyzerLaw", name := "conflictCountByItems", desc := "(LScheduleAnalyzer;I[J)I" } : Jvm.MethodName)) ∈ lw_all := lw_g (lw_at lw_m9 128 rfl) rfl
theorem q2163 : (Jvm.Cond.static ({ cls := "ScheduleAnalyzerLaw", name := "conflictCountByItems", desc := "(LScheduleAnalyzer;I[J)I" } : Jvm.MethodName)) ∈ lw_all := lw_g (lw_at lw_m9 129 rfl) rfl
theorem q2164 : (Jvm.Cond.codeWith ({ cls := "ScheduleAnalyzerLaw", name := "conflictCountByItems", desc := "(LScheduleAnalyzer;I[J)I" } : Jvm.MethodName) method_19_code (4 : Nat) (Option.some Jvm.ClassFile.FieldType.int) [((0 : Nat), (9 : Nat), (12 : Nat), (13 : Nat))]) ∈ lw_all := lw_g (lw_at lw_m9 130 rfl) rfl
theorem q2165 : (Jvm.Cond.methodLink "ScheduleAnalyzerLaw" (73 : Nat) ({ cls := "ScheduleAnalyzer", name := "conflictCountByItems", desc := "(I)I" } : Jvm.MethodName)) ∈ lw_all := lw_g (lw_at lw_m9 131 rfl) rfl
theorem q2169 : (Jvm.Cond.methodLink "ScheduleAnalyzerLaw" (242 : Nat) ({ cls := "ScheduleAnalyzerLaw", name := "comesBefore", desc := "(LScheduleAnalyzer;III[J)I" } : Jvm.MethodName)) ∈ lw_all := lw_g (lw_at lw_m9 135 rfl) rfl
theorem q2170 : (Jvm.Cond.static ({ cls := "ScheduleAnalyzerLaw", name := "comesBefore", desc := "(LScheduleAnalyzer;III[J)I" } : Jvm.MethodName)) ∈ lw_all := lw_g (lw_at lw_m9 136 rfl) rfl
theorem q2171 : (Jvm.Cond.codeWith ({ cls := "ScheduleAnalyzerLaw", name := "comesBefore", desc := "(LScheduleAnalyzer;III[J)I" } : Jvm.MethodName) method_20_code (6 : Nat) (Option.some Jvm.ClassFile.FieldType.int) [((0 : Nat), (19 : Nat), (22 : Nat), (13 : Nat)), ((0 : Nat), (19 : Nat), (26 : Nat), (15 : Nat))]) ∈ lw_all := lw_g (lw_at lw_m9 137 rfl) rfl
theorem q2172 : (Jvm.Cond.methodLink "ScheduleAnalyzerLaw" (76 : Nat) ({ cls := "ScheduleAnalyzer", name := "comesBefore", desc := "(III)Z" } : Jvm.MethodName)) ∈ lw_all := lw_g (lw_at lw_m9 138 rfl) rfl
theorem q2181 : (Jvm.Cond.methodLink "ScheduleAnalyzerLaw" (246 : Nat) ({ cls := "ScheduleAnalyzerLaw", name := "isSerializable", desc := "(LScheduleAnalyzer;I[J)I" } : Jvm.MethodName)) ∈ lw_all := lw_g (lw_at lw_m9 147 rfl) rfl
theorem q2182 : (Jvm.Cond.static ({ cls := "ScheduleAnalyzerLaw", name := "isSerializable", desc := "(LScheduleAnalyzer;I[J)I" } : Jvm.MethodName)) ∈ lw_all := lw_g (lw_at lw_m9 148 rfl) rfl
theorem q2183 : (Jvm.Cond.codeWith ({ cls := "ScheduleAnalyzerLaw", name := "isSerializable", desc := "(LScheduleAnalyzer;I[J)I" } : Jvm.MethodName) method_21_code (4 : Nat) (Option.some Jvm.ClassFile.FieldType.int) [((0 : Nat), (16 : Nat), (19 : Nat), (13 : Nat))]) ∈ lw_all := lw_g (lw_at lw_m9 149 rfl) rfl
theorem q2184 : (Jvm.Cond.methodLink "ScheduleAnalyzerLaw" (80 : Nat) ({ cls := "ScheduleAnalyzer", name := "isSerializable", desc := "(I)Z" } : Jvm.MethodName)) ∈ lw_all := lw_g (lw_at lw_m9 150 rfl) rfl
theorem q2188 : (Jvm.Cond.methodLink "ScheduleAnalyzerLaw" (249 : Nat) ({ cls := "ScheduleAnalyzerLaw", name := "isSerializableByWalks", desc := "(LScheduleAnalyzer;I[J)I" } : Jvm.MethodName)) ∈ lw_all := lw_g (lw_at lw_m9 154 rfl) rfl
theorem q2189 : (Jvm.Cond.static ({ cls := "ScheduleAnalyzerLaw", name := "isSerializableByWalks", desc := "(LScheduleAnalyzer;I[J)I" } : Jvm.MethodName)) ∈ lw_all := lw_g (lw_at lw_m9 155 rfl) rfl
theorem q2190 : (Jvm.Cond.codeWith ({ cls := "ScheduleAnalyzerLaw", name := "isSerializableByWalks", desc := "(LScheduleAnalyzer;I[J)I" } : Jvm.MethodName) method_22_code (4 : Nat) (Option.some Jvm.ClassFile.FieldType.int) [((0 : Nat), (16 : Nat), (19 : Nat), (13 : Nat))]) ∈ lw_all := lw_g (lw_at lw_m9 156 rfl) rfl
theorem q2191 : (Jvm.Cond.methodLink "ScheduleAnalyzerLaw" (84 : Nat) ({ cls := "ScheduleAnalyzer", name := "isSerializableByWalks", desc := "(I)Z" } : Jvm.MethodName)) ∈ lw_all := lw_g (lw_at lw_m9 157 rfl) rfl
theorem q2195 : (Jvm.Cond.methodLink "ScheduleAnalyzerLaw" (252 : Nat) ({ cls := "ScheduleAnalyzerLaw", name := "serialOrders", desc := "(LScheduleAnalyzer;I[J)I" } : Jvm.MethodName)) ∈ lw_all := lw_g (lw_at lw_m9 161 rfl) rfl
theorem q2196 : (Jvm.Cond.static ({ cls := "ScheduleAnalyzerLaw", name := "serialOrders", desc := "(LScheduleAnalyzer;I[J)I" } : Jvm.MethodName)) ∈ lw_all := lw_g (lw_at lw_m9 162 rfl) rfl
theorem q2197 : (Jvm.Cond.codeWith ({ cls := "ScheduleAnalyzerLaw", name := "serialOrders", desc := "(LScheduleAnalyzer;I[J)I" } : Jvm.MethodName) method_23_code (4 : Nat) (Option.some Jvm.ClassFile.FieldType.int) [((0 : Nat), (9 : Nat), (12 : Nat), (13 : Nat))]) ∈ lw_all := lw_g (lw_at lw_m9 163 rfl) rfl
theorem q2198 : (Jvm.Cond.methodLink "ScheduleAnalyzerLaw" (87 : Nat) ({ cls := "ScheduleAnalyzer", name := "serialOrders", desc := "(I)I" } : Jvm.MethodName)) ∈ lw_all := lw_g (lw_at lw_m9 164 rfl) rfl
theorem q2202 : (Jvm.Cond.methodLink "ScheduleAnalyzerLaw" (255 : Nat) ({ cls := "ScheduleAnalyzerLaw", name := "serialOrdersByTrying", desc := "(LScheduleAnalyzer;I[J)I" } : Jvm.MethodName)) ∈ lw_all := lw_g (lw_at lw_m9 168 rfl) rfl
theorem q2203 : (Jvm.Cond.static ({ cls := "ScheduleAnalyzerLaw", name := "serialOrdersByTrying", desc := "(LScheduleAnalyzer;I[J)I" } : Jvm.MethodName)) ∈ lw_all := lw_g (lw_at lw_m9 169 rfl) rfl
theorem q2204 : (Jvm.Cond.codeWith ({ cls := "ScheduleAnalyzerLaw", name := "serialOrdersByTrying", desc := "(LScheduleAnalyzer;I[J)I" } : Jvm.MethodName) method_24_code (4 : Nat) (Option.some Jvm.ClassFile.FieldType.int) [((0 : Nat), (9 : Nat), (12 : Nat), (13 : Nat))]) ∈ lw_all := lw_g (lw_at lw_m9 170 rfl) rfl
theorem q2205 : (Jvm.Cond.methodLink "ScheduleAnalyzerLaw" (90 : Nat) ({ cls := "ScheduleAnalyzer", name := "serialOrdersByTrying", desc := "(I)I" } : Jvm.MethodName)) ∈ lw_all := lw_g (lw_at lw_m9 171 rfl) rfl
theorem q2209 : (Jvm.Cond.methodLink "ScheduleAnalyzerLaw" (258 : Nat) ({ cls := "ScheduleAnalyzerLaw", name := "serialAt", desc := "(LScheduleAnalyzer;II[J)I" } : Jvm.MethodName)) ∈ lw_all := lw_g (lw_at lw_m9 175 rfl) rfl
theorem q2210 : (Jvm.Cond.static ({ cls := "ScheduleAnalyzerLaw", name := "serialAt", desc := "(LScheduleAnalyzer;II[J)I" } : Jvm.MethodName)) ∈ lw_all := lw_g (lw_at lw_m9 176 rfl) rfl
theorem q2211 : (Jvm.Cond.codeWith ({ cls := "ScheduleAnalyzerLaw", name := "serialAt", desc := "(LScheduleAnalyzer;II[J)I" } : Jvm.MethodName) method_25_code (5 : Nat) (Option.some Jvm.ClassFile.FieldType.int) [((0 : Nat), (10 : Nat), (13 : Nat), (13 : Nat)), ((0 : Nat), (10 : Nat), (17 : Nat), (43 : Nat)), ((0 : Nat), (10 : Nat), (21 : Nat), (65 : Nat))]) ∈ lw_all := lw_g (lw_at lw_m9 177 rfl) rfl
theorem q2212 : (Jvm.Cond.methodLink "ScheduleAnalyzerLaw" (93 : Nat) ({ cls := "ScheduleAnalyzer", name := "serialAt", desc := "(II)I" } : Jvm.MethodName)) ∈ lw_all := lw_g (lw_at lw_m9 178 rfl) rfl
theorem q2222 : (Jvm.Cond.methodLink "ScheduleAnalyzerLaw" (261 : Nat) ({ cls := "ScheduleAnalyzerLaw", name := "areEquivalent", desc := "(LScheduleAnalyzer;II[J)I" } : Jvm.MethodName)) ∈ lw_all := lw_g (lw_at lw_m9 188 rfl) rfl
theorem q2223 : (Jvm.Cond.static ({ cls := "ScheduleAnalyzerLaw", name := "areEquivalent", desc := "(LScheduleAnalyzer;II[J)I" } : Jvm.MethodName)) ∈ lw_all := lw_g (lw_at lw_m9 189 rfl) rfl
theorem q2224 : (Jvm.Cond.codeWith ({ cls := "ScheduleAnalyzerLaw", name := "areEquivalent", desc := "(LScheduleAnalyzer;II[J)I" } : Jvm.MethodName) method_26_code (5 : Nat) (Option.some Jvm.ClassFile.FieldType.int) [((0 : Nat), (17 : Nat), (20 : Nat), (13 : Nat))]) ∈ lw_all := lw_g (lw_at lw_m9 190 rfl) rfl
theorem q2225 : (Jvm.Cond.methodLink "ScheduleAnalyzerLaw" (96 : Nat) ({ cls := "ScheduleAnalyzer", name := "areEquivalent", desc := "(II)Z" } : Jvm.MethodName)) ∈ lw_all := lw_g (lw_at lw_m9 191 rfl) rfl
theorem q2248 : (Jvm.Cond.methodLink "ScheduleAnalyzerLaw" (264 : Nat) ({ cls := "ScheduleAnalyzerLaw", name := "isViewSerializable", desc := "(LScheduleAnalyzer;I[J)I" } : Jvm.MethodName)) ∈ lw_all := lw_g (lw_at lw_m9 214 rfl) rfl
theorem q2249 : (Jvm.Cond.static ({ cls := "ScheduleAnalyzerLaw", name := "isViewSerializable", desc := "(LScheduleAnalyzer;I[J)I" } : Jvm.MethodName)) ∈ lw_all := lw_g (lw_at lw_m9 215 rfl) rfl
theorem q2250 : (Jvm.Cond.codeWith ({ cls := "ScheduleAnalyzerLaw", name := "isViewSerializable", desc := "(LScheduleAnalyzer;I[J)I" } : Jvm.MethodName) method_27_code (4 : Nat) (Option.some Jvm.ClassFile.FieldType.int) [((0 : Nat), (16 : Nat), (19 : Nat), (13 : Nat))]) ∈ lw_all := lw_g (lw_at lw_m9 216 rfl) rfl
theorem q2251 : (Jvm.Cond.methodLink "ScheduleAnalyzerLaw" (100 : Nat) ({ cls := "ScheduleAnalyzer", name := "isViewSerializable", desc := "(I)Z" } : Jvm.MethodName)) ∈ lw_all := lw_g (lw_at lw_m9 217 rfl) rfl
theorem q2255 : (Jvm.Cond.methodLink "ScheduleAnalyzerLaw" (267 : Nat) ({ cls := "ScheduleAnalyzerLaw", name := "sourceOf", desc := "(LScheduleAnalyzer;II[J)I" } : Jvm.MethodName)) ∈ lw_all := lw_g (lw_at lw_m9 221 rfl) rfl
theorem q2256 : (Jvm.Cond.static ({ cls := "ScheduleAnalyzerLaw", name := "sourceOf", desc := "(LScheduleAnalyzer;II[J)I" } : Jvm.MethodName)) ∈ lw_all := lw_g (lw_at lw_m9 222 rfl) rfl
theorem q2257 : (Jvm.Cond.codeWith ({ cls := "ScheduleAnalyzerLaw", name := "sourceOf", desc := "(LScheduleAnalyzer;II[J)I" } : Jvm.MethodName) method_28_code (5 : Nat) (Option.some Jvm.ClassFile.FieldType.int) [((0 : Nat), (10 : Nat), (13 : Nat), (13 : Nat)), ((0 : Nat), (10 : Nat), (17 : Nat), (17 : Nat)), ((0 : Nat), (10 : Nat), (21 : Nat), (65 : Nat))]) ∈ lw_all := lw_g (lw_at lw_m9 223 rfl) rfl
theorem q2258 : (Jvm.Cond.methodLink "ScheduleAnalyzerLaw" (103 : Nat) ({ cls := "ScheduleAnalyzer", name := "sourceOf", desc := "(II)I" } : Jvm.MethodName)) ∈ lw_all := lw_g (lw_at lw_m9 224 rfl) rfl
theorem q2263 : (Jvm.Cond.methodLink "ScheduleAnalyzerLaw" (270 : Nat) ({ cls := "ScheduleAnalyzerLaw", name := "dirtyReads", desc := "(LScheduleAnalyzer;I[J)I" } : Jvm.MethodName)) ∈ lw_all := lw_g (lw_at lw_m9 229 rfl) rfl
theorem q2264 : (Jvm.Cond.static ({ cls := "ScheduleAnalyzerLaw", name := "dirtyReads", desc := "(LScheduleAnalyzer;I[J)I" } : Jvm.MethodName)) ∈ lw_all := lw_g (lw_at lw_m9 230 rfl) rfl
theorem q2265 : (Jvm.Cond.codeWith ({ cls := "ScheduleAnalyzerLaw", name := "dirtyReads", desc := "(LScheduleAnalyzer;I[J)I" } : Jvm.MethodName) method_29_code (4 : Nat) (Option.some Jvm.ClassFile.FieldType.int) [((0 : Nat), (9 : Nat), (12 : Nat), (13 : Nat))]) ∈ lw_all := lw_g (lw_at lw_m9 231 rfl) rfl
theorem q2266 : (Jvm.Cond.methodLink "ScheduleAnalyzerLaw" (106 : Nat) ({ cls := "ScheduleAnalyzer", name := "dirtyReads", desc := "(I)I" } : Jvm.MethodName)) ∈ lw_all := lw_g (lw_at lw_m9 232 rfl) rfl
theorem q2270 : (Jvm.Cond.methodLink "ScheduleAnalyzerLaw" (273 : Nat) ({ cls := "ScheduleAnalyzerLaw", name := "isRecoverable", desc := "(LScheduleAnalyzer;I[J)I" } : Jvm.MethodName)) ∈ lw_all := lw_g (lw_at lw_m9 236 rfl) rfl
theorem q2271 : (Jvm.Cond.static ({ cls := "ScheduleAnalyzerLaw", name := "isRecoverable", desc := "(LScheduleAnalyzer;I[J)I" } : Jvm.MethodName)) ∈ lw_all := lw_g (lw_at lw_m9 237 rfl) rfl
theorem q2272 : (Jvm.Cond.codeWith ({ cls := "ScheduleAnalyzerLaw", name := "isRecoverable", desc := "(LScheduleAnalyzer;I[J)I" } : Jvm.MethodName) method_30_code (4 : Nat) (Option.some Jvm.ClassFile.FieldType.int) [((0 : Nat), (16 : Nat), (19 : Nat), (13 : Nat))]) ∈ lw_all := lw_g (lw_at lw_m9 238 rfl) rfl
theorem q2273 : (Jvm.Cond.methodLink "ScheduleAnalyzerLaw" (109 : Nat) ({ cls := "ScheduleAnalyzer", name := "isRecoverable", desc := "(I)Z" } : Jvm.MethodName)) ∈ lw_all := lw_g (lw_at lw_m9 239 rfl) rfl
theorem q2277 : (Jvm.Cond.methodLink "ScheduleAnalyzerLaw" (276 : Nat) ({ cls := "ScheduleAnalyzerLaw", name := "avoidsCascades", desc := "(LScheduleAnalyzer;I[J)I" } : Jvm.MethodName)) ∈ lw_all := lw_g (lw_at lw_m10 3 rfl) rfl
theorem q2278 : (Jvm.Cond.static ({ cls := "ScheduleAnalyzerLaw", name := "avoidsCascades", desc := "(LScheduleAnalyzer;I[J)I" } : Jvm.MethodName)) ∈ lw_all := lw_g (lw_at lw_m10 4 rfl) rfl
theorem q2279 : (Jvm.Cond.codeWith ({ cls := "ScheduleAnalyzerLaw", name := "avoidsCascades", desc := "(LScheduleAnalyzer;I[J)I" } : Jvm.MethodName) method_31_code (4 : Nat) (Option.some Jvm.ClassFile.FieldType.int) [((0 : Nat), (16 : Nat), (19 : Nat), (13 : Nat))]) ∈ lw_all := lw_g (lw_at lw_m10 5 rfl) rfl
theorem q2280 : (Jvm.Cond.methodLink "ScheduleAnalyzerLaw" (112 : Nat) ({ cls := "ScheduleAnalyzer", name := "avoidsCascades", desc := "(I)Z" } : Jvm.MethodName)) ∈ lw_all := lw_g (lw_at lw_m10 6 rfl) rfl
theorem q2284 : (Jvm.Cond.methodLink "ScheduleAnalyzerLaw" (279 : Nat) ({ cls := "ScheduleAnalyzerLaw", name := "isStrict", desc := "(LScheduleAnalyzer;I[J)I" } : Jvm.MethodName)) ∈ lw_all := lw_g (lw_at lw_m10 10 rfl) rfl
theorem q2285 : (Jvm.Cond.static ({ cls := "ScheduleAnalyzerLaw", name := "isStrict", desc := "(LScheduleAnalyzer;I[J)I" } : Jvm.MethodName)) ∈ lw_all := lw_g (lw_at lw_m10 11 rfl) rfl
theorem q2286 : (Jvm.Cond.codeWith ({ cls := "ScheduleAnalyzerLaw", name := "isStrict", desc := "(LScheduleAnalyzer;I[J)I" } : Jvm.MethodName) method_32_code (4 : Nat) (Option.some Jvm.ClassFile.FieldType.int) [((0 : Nat), (16 : Nat), (19 : Nat), (13 : Nat))]) ∈ lw_all := lw_g (lw_at lw_m10 12 rfl) rfl
theorem q2287 : (Jvm.Cond.methodLink "ScheduleAnalyzerLaw" (115 : Nat) ({ cls := "ScheduleAnalyzer", name := "isStrict", desc := "(I)Z" } : Jvm.MethodName)) ∈ lw_all := lw_g (lw_at lw_m10 13 rfl) rfl
theorem q2291 : (Jvm.Cond.methodLink "ScheduleAnalyzerLaw" (282 : Nat) ({ cls := "ScheduleAnalyzerLaw", name := "valueOf", desc := "(LScheduleAnalyzer;C[J)I" } : Jvm.MethodName)) ∈ lw_all := lw_g (lw_at lw_m10 17 rfl) rfl
theorem q2292 : (Jvm.Cond.static ({ cls := "ScheduleAnalyzerLaw", name := "valueOf", desc := "(LScheduleAnalyzer;C[J)I" } : Jvm.MethodName)) ∈ lw_all := lw_g (lw_at lw_m10 18 rfl) rfl
theorem q2293 : (Jvm.Cond.codeWith ({ cls := "ScheduleAnalyzerLaw", name := "valueOf", desc := "(LScheduleAnalyzer;C[J)I" } : Jvm.MethodName) method_33_code (4 : Nat) (Option.some Jvm.ClassFile.FieldType.int) [((0 : Nat), (9 : Nat), (12 : Nat), (15 : Nat))]) ∈ lw_all := lw_g (lw_at lw_m10 19 rfl) rfl
theorem q2294 : (Jvm.Cond.methodLink "ScheduleAnalyzerLaw" (118 : Nat) ({ cls := "ScheduleAnalyzer", name := "valueOf", desc := "(C)I" } : Jvm.MethodName)) ∈ lw_all := lw_g (lw_at lw_m10 20 rfl) rfl
theorem q2298 : (Jvm.Cond.methodLink "ScheduleAnalyzerLaw" (286 : Nat) ({ cls := "ScheduleAnalyzerLaw", name := "finalValue", desc := "(LScheduleAnalyzer;IC[J)I" } : Jvm.MethodName)) ∈ lw_all := lw_g (lw_at lw_m10 24 rfl) rfl
theorem q2299 : (Jvm.Cond.static ({ cls := "ScheduleAnalyzerLaw", name := "finalValue", desc := "(LScheduleAnalyzer;IC[J)I" } : Jvm.MethodName)) ∈ lw_all := lw_g (lw_at lw_m10 25 rfl) rfl
theorem q2300 : (Jvm.Cond.codeWith ({ cls := "ScheduleAnalyzerLaw", name := "finalValue", desc := "(LScheduleAnalyzer;IC[J)I" } : Jvm.MethodName) method_34_code (5 : Nat) (Option.some Jvm.ClassFile.FieldType.int) [((0 : Nat), (10 : Nat), (13 : Nat), (13 : Nat)), ((0 : Nat), (10 : Nat), (17 : Nat), (15 : Nat))]) ∈ lw_all := lw_g (lw_at lw_m10 26 rfl) rfl
theorem q2301 : (Jvm.Cond.methodLink "ScheduleAnalyzerLaw" (122 : Nat) ({ cls := "ScheduleAnalyzer", name := "finalValue", desc := "(IC)I" } : Jvm.MethodName)) ∈ lw_all := lw_g (lw_at lw_m10 27 rfl) rfl
theorem q2305 : (Jvm.Cond.methodLink "ScheduleAnalyzerLaw" (290 : Nat) ({ cls := "ScheduleAnalyzerLaw", name := "restValue", desc := "(LScheduleAnalyzer;IC[J)I" } : Jvm.MethodName)) ∈ lw_all := lw_g (lw_at lw_m10 31 rfl) rfl
theorem q2306 : (Jvm.Cond.static ({ cls := "ScheduleAnalyzerLaw", name := "restValue", desc := "(LScheduleAnalyzer;IC[J)I" } : Jvm.MethodName)) ∈ lw_all := lw_g (lw_at lw_m10 32 rfl) rfl
theorem q2307 : (Jvm.Cond.codeWith ({ cls := "ScheduleAnalyzerLaw", name := "restValue", desc := "(LScheduleAnalyzer;IC[J)I" } : Jvm.MethodName) method_35_code (5 : Nat) (Option.some Jvm.ClassFile.FieldType.int) [((0 : Nat), (10 : Nat), (13 : Nat), (13 : Nat)), ((0 : Nat), (10 : Nat), (17 : Nat), (15 : Nat))]) ∈ lw_all := lw_g (lw_at lw_m10 33 rfl) rfl
theorem q2308 : (Jvm.Cond.methodLink "ScheduleAnalyzerLaw" (126 : Nat) ({ cls := "ScheduleAnalyzer", name := "restValue", desc := "(IC)I" } : Jvm.MethodName)) ∈ lw_all := lw_g (lw_at lw_m10 34 rfl) rfl
theorem q2312 : (Jvm.Cond.methodLink "ScheduleAnalyzerLaw" (293 : Nat) ({ cls := "ScheduleAnalyzerLaw", name := "registerOf", desc := "(LScheduleAnalyzer;II[J)I" } : Jvm.MethodName)) ∈ lw_all := lw_g (lw_at lw_m10 38 rfl) rfl
theorem q2313 : (Jvm.Cond.static ({ cls := "ScheduleAnalyzerLaw", name := "registerOf", desc := "(LScheduleAnalyzer;II[J)I" } : Jvm.MethodName)) ∈ lw_all := lw_g (lw_at lw_m10 39 rfl) rfl
theorem q2314 : (Jvm.Cond.codeWith ({ cls := "ScheduleAnalyzerLaw", name := "registerOf", desc := "(LScheduleAnalyzer;II[J)I" } : Jvm.MethodName) method_36_code (5 : Nat) (Option.some Jvm.ClassFile.FieldType.int) [((0 : Nat), (10 : Nat), (13 : Nat), (13 : Nat)), ((0 : Nat), (10 : Nat), (17 : Nat), (15 : Nat)), ((0 : Nat), (10 : Nat), (21 : Nat), (65 : Nat))]) ∈ lw_all := lw_g (lw_at lw_m10 40 rfl) rfl
theorem q2315 : (Jvm.Cond.methodLink "ScheduleAnalyzerLaw" (129 : Nat) ({ cls := "ScheduleAnalyzer", name := "registerOf", desc := "(II)I" } : Jvm.MethodName)) ∈ lw_all := lw_g (lw_at lw_m10 41 rfl) rfl
theorem q2321 : (Jvm.Cond.methodLink "ScheduleAnalyzerLaw" (296 : Nat) ({ cls := "ScheduleAnalyzerLaw", name := "waitingCount", desc := "(LScheduleAnalyzer;I[J)I" } : Jvm.MethodName)) ∈ lw_all := lw_g (lw_at lw_m10 47 rfl) rfl
theorem q2322 : (Jvm.Cond.static ({ cls := "ScheduleAnalyzerLaw", name := "waitingCount", desc := "(LScheduleAnalyzer;I[J)I" } : Jvm.MethodName)) ∈ lw_all := lw_g (lw_at lw_m10 48 rfl) rfl
theorem q2323 : (Jvm.Cond.codeWith ({ cls := "ScheduleAnalyzerLaw", name := "waitingCount", desc := "(LScheduleAnalyzer;I[J)I" } : Jvm.MethodName) method_37_code (4 : Nat) (Option.some Jvm.ClassFile.FieldType.int) [((0 : Nat), (9 : Nat), (12 : Nat), (13 : Nat))]) ∈ lw_all := lw_g (lw_at lw_m10 49 rfl) rfl
theorem q2324 : (Jvm.Cond.methodLink "ScheduleAnalyzerLaw" (132 : Nat) ({ cls := "ScheduleAnalyzer", name := "waitingCount", desc := "(I)I" } : Jvm.MethodName)) ∈ lw_all := lw_g (lw_at lw_m10 50 rfl) rfl
theorem q2328 : (Jvm.Cond.methodLink "ScheduleAnalyzerLaw" (299 : Nat) ({ cls := "ScheduleAnalyzerLaw", name := "victimCount", desc := "(LScheduleAnalyzer;I[J)I" } : Jvm.MethodName)) ∈ lw_all := lw_g (lw_at lw_m10 54 rfl) rfl
theorem q2329 : (Jvm.Cond.static ({ cls := "ScheduleAnalyzerLaw", name := "victimCount", desc := "(LScheduleAnalyzer;I[J)I" } : Jvm.MethodName)) ∈ lw_all := lw_g (lw_at lw_m10 55 rfl) rfl
theorem q2330 : (Jvm.Cond.codeWith ({ cls := "ScheduleAnalyzerLaw", name := "victimCount", desc := "(LScheduleAnalyzer;I[J)I" } : Jvm.MethodName) method_38_code (4 : Nat) (Option.some Jvm.ClassFile.FieldType.int) [((0 : Nat), (9 : Nat), (12 : Nat), (13 : Nat))]) ∈ lw_all := lw_g (lw_at lw_m10 56 rfl) rfl
theorem q2331 : (Jvm.Cond.methodLink "ScheduleAnalyzerLaw" (135 : Nat) ({ cls := "ScheduleAnalyzer", name := "victimCount", desc := "(I)I" } : Jvm.MethodName)) ∈ lw_all := lw_g (lw_at lw_m10 57 rfl) rfl
theorem q2336 : (Jvm.Cond.methodLink "ScheduleAnalyzerLaw" (302 : Nat) ({ cls := "ScheduleAnalyzerLaw", name := "isVictim", desc := "(LScheduleAnalyzer;II[J)I" } : Jvm.MethodName)) ∈ lw_all := lw_g (lw_at lw_m10 62 rfl) rfl
theorem q2337 : (Jvm.Cond.static ({ cls := "ScheduleAnalyzerLaw", name := "isVictim", desc := "(LScheduleAnalyzer;II[J)I" } : Jvm.MethodName)) ∈ lw_all := lw_g (lw_at lw_m10 63 rfl) rfl
theorem q2338 : (Jvm.Cond.codeWith ({ cls := "ScheduleAnalyzerLaw", name := "isVictim", desc := "(LScheduleAnalyzer;II[J)I" } : Jvm.MethodName) method_39_code (5 : Nat) (Option.some Jvm.ClassFile.FieldType.int) [((0 : Nat), (17 : Nat), (20 : Nat), (13 : Nat)), ((0 : Nat), (17 : Nat), (24 : Nat), (15 : Nat))]) ∈ lw_all := lw_g (lw_at lw_m10 64 rfl) rfl
theorem q2339 : (Jvm.Cond.methodLink "ScheduleAnalyzerLaw" (138 : Nat) ({ cls := "ScheduleAnalyzer", name := "isVictim", desc := "(II)Z" } : Jvm.MethodName)) ∈ lw_all := lw_g (lw_at lw_m10 65 rfl) rfl
theorem q2343 : (Jvm.Cond.methodLink "ScheduleAnalyzerLaw" (305 : Nat) ({ cls := "ScheduleAnalyzerLaw", name := "slotByLength", desc := "(LScheduleAnalyzer;I[J)I" } : Jvm.MethodName)) ∈ lw_all := lw_g (lw_at lw_m10 69 rfl) rfl
theorem q2344 : (Jvm.Cond.static ({ cls := "ScheduleAnalyzerLaw", name := "slotByLength", desc := "(LScheduleAnalyzer;I[J)I" } : Jvm.MethodName)) ∈ lw_all := lw_g (lw_at lw_m10 70 rfl) rfl
theorem q2345 : (Jvm.Cond.codeWith ({ cls := "ScheduleAnalyzerLaw", name := "slotByLength", desc := "(LScheduleAnalyzer;I[J)I" } : Jvm.MethodName) method_40_code (4 : Nat) (Option.some Jvm.ClassFile.FieldType.int) [((0 : Nat), (9 : Nat), (12 : Nat), (65 : Nat))]) ∈ lw_all := lw_g (lw_at lw_m10 71 rfl) rfl
theorem q2346 : (Jvm.Cond.methodLink "ScheduleAnalyzerLaw" (141 : Nat) ({ cls := "ScheduleAnalyzer", name := "slotByLength", desc := "(I)I" } : Jvm.MethodName)) ∈ lw_all := lw_g (lw_at lw_m10 72 rfl) rfl
theorem q2350 : (Jvm.Cond.methodLink "ScheduleAnalyzerLaw" (308 : Nat) ({ cls := "ScheduleAnalyzerLaw", name := "meanLength", desc := "(LScheduleAnalyzer;I[D)I" } : Jvm.MethodName)) ∈ lw_all := lw_g (lw_at lw_m10 76 rfl) rfl
theorem q2351 : (Jvm.Cond.static ({ cls := "ScheduleAnalyzerLaw", name := "meanLength", desc := "(LScheduleAnalyzer;I[D)I" } : Jvm.MethodName)) ∈ lw_all := lw_g (lw_at lw_m10 77 rfl) rfl
theorem q2352 : (Jvm.Cond.codeWith ({ cls := "ScheduleAnalyzerLaw", name := "meanLength", desc := "(LScheduleAnalyzer;I[D)I" } : Jvm.MethodName) method_41_code (4 : Nat) (Option.some Jvm.ClassFile.FieldType.int) [((0 : Nat), (8 : Nat), (11 : Nat), (13 : Nat)), ((0 : Nat), (8 : Nat), (14 : Nat), (148 : Nat))]) ∈ lw_all := lw_g (lw_at lw_m10 78 rfl) rfl
theorem q2353 : (Jvm.Cond.classLink "ScheduleAnalyzerLaw" (148 : Nat) "java/lang/ArithmeticException") ∈ lw_all := lw_g (lw_at lw_m10 79 rfl) rfl
theorem q2367 : (Jvm.Cond.methodLink "ScheduleAnalyzerLaw" (144 : Nat) ({ cls := "ScheduleAnalyzer", name := "meanLength", desc := "(I)D" } : Jvm.MethodName)) ∈ lw_all := lw_g (lw_at lw_m10 93 rfl) rfl
theorem q2383 : (Jvm.Cond.methodLink "ScheduleAnalyzerLaw" (312 : Nat) ({ cls := "ScheduleAnalyzerLaw", name := "readShare", desc := "(LScheduleAnalyzer;I[D)I" } : Jvm.MethodName)) ∈ lw_all := lw_g (lw_at lw_m10 109 rfl) rfl
theorem q2384 : (Jvm.Cond.static ({ cls := "ScheduleAnalyzerLaw", name := "readShare", desc := "(LScheduleAnalyzer;I[D)I" } : Jvm.MethodName)) ∈ lw_all := lw_g (lw_at lw_m10 110 rfl) rfl
theorem q2385 : (Jvm.Cond.codeWith ({ cls := "ScheduleAnalyzerLaw", name := "readShare", desc := "(LScheduleAnalyzer;I[D)I" } : Jvm.MethodName) method_42_code (4 : Nat) (Option.some Jvm.ClassFile.FieldType.int) [((0 : Nat), (9 : Nat), (12 : Nat), (13 : Nat)), ((0 : Nat), (9 : Nat), (15 : Nat), (148 : Nat))]) ∈ lw_all := lw_g (lw_at lw_m10 111 rfl) rfl
theorem q2386 : (Jvm.Cond.methodLink "ScheduleAnalyzerLaw" (150 : Nat) ({ cls := "ScheduleAnalyzer", name := "readShare", desc := "(I)F" } : Jvm.MethodName)) ∈ lw_all := lw_g (lw_at lw_m10 112 rfl) rfl
theorem q2395 : (Jvm.Cond.methodLink "ScheduleAnalyzerLaw" (320 : Nat) ({ cls := "ScheduleAnalyzerLaw", name := "format", desc := "(LScheduleAnalyzer;I[J)I" } : Jvm.MethodName)) ∈ lw_all := lw_g (lw_at lw_m10 121 rfl) rfl
theorem q2396 : (Jvm.Cond.static ({ cls := "ScheduleAnalyzerLaw", name := "format", desc := "(LScheduleAnalyzer;I[J)I" } : Jvm.MethodName)) ∈ lw_all := lw_g (lw_at lw_m10 122 rfl) rfl
theorem q2397 : (Jvm.Cond.codeWith ({ cls := "ScheduleAnalyzerLaw", name := "format", desc := "(LScheduleAnalyzer;I[J)I" } : Jvm.MethodName) method_43_code (4 : Nat) (Option.some Jvm.ClassFile.FieldType.int) [((0 : Nat), (9 : Nat), (12 : Nat), (13 : Nat))]) ∈ lw_all := lw_g (lw_at lw_m10 123 rfl) rfl
theorem q2398 : (Jvm.Cond.methodLink "ScheduleAnalyzerLaw" (154 : Nat) ({ cls := "ScheduleAnalyzer", name := "format", desc := "(I)I" } : Jvm.MethodName)) ∈ lw_all := lw_g (lw_at lw_m10 124 rfl) rfl
theorem q2523 : (Jvm.Cond.methodLink "ScheduleAnalyzerLaw" (323 : Nat) ({ cls := "ScheduleAnalyzerLaw", name := "formatOrder", desc := "(LScheduleAnalyzer;I[J)I" } : Jvm.MethodName)) ∈ lw_all := lw_g (lw_at lw_m11 9 rfl) rfl
theorem q2524 : (Jvm.Cond.static ({ cls := "ScheduleAnalyzerLaw", name := "formatOrder", desc := "(LScheduleAnalyzer;I[J)I" } : Jvm.MethodName)) ∈ lw_all := lw_g (lw_at lw_m11 10 rfl) rfl
theorem q2525 : (Jvm.Cond.codeWith ({ cls := "ScheduleAnalyzerLaw", name := "formatOrder", desc := "(LScheduleAnalyzer;I[J)I" } : Jvm.MethodName) method_44_code (4 : Nat) (Option.some Jvm.ClassFile.FieldType.int) [((0 : Nat), (9 : Nat), (12 : Nat), (13 : Nat)), ((0 : Nat), (9 : Nat), (15 : Nat), (43 : Nat))]) ∈ lw_all := lw_g (lw_at lw_m11 11 rfl) rfl
theorem q2526 : (Jvm.Cond.methodLink "ScheduleAnalyzerLaw" (157 : Nat) ({ cls := "ScheduleAnalyzer", name := "formatOrder", desc := "(I)I" } : Jvm.MethodName)) ∈ lw_all := lw_g (lw_at lw_m11 12 rfl) rfl
theorem q2540 : (Jvm.Cond.methodLink "ScheduleAnalyzerLaw" (326 : Nat) ({ cls := "ScheduleAnalyzerLaw", name := "lineChar", desc := "(LScheduleAnalyzer;I[J)I" } : Jvm.MethodName)) ∈ lw_all := lw_g (lw_at lw_m11 26 rfl) rfl
theorem q2541 : (Jvm.Cond.static ({ cls := "ScheduleAnalyzerLaw", name := "lineChar", desc := "(LScheduleAnalyzer;I[J)I" } : Jvm.MethodName)) ∈ lw_all := lw_g (lw_at lw_m11 27 rfl) rfl
theorem q2542 : (Jvm.Cond.codeWith ({ cls := "ScheduleAnalyzerLaw", name := "lineChar", desc := "(LScheduleAnalyzer;I[J)I" } : Jvm.MethodName) method_45_code (4 : Nat) (Option.some Jvm.ClassFile.FieldType.int) [((0 : Nat), (9 : Nat), (12 : Nat), (13 : Nat))]) ∈ lw_all := lw_g (lw_at lw_m11 28 rfl) rfl
theorem q2543 : (Jvm.Cond.methodLink "ScheduleAnalyzerLaw" (160 : Nat) ({ cls := "ScheduleAnalyzer", name := "lineChar", desc := "(I)C" } : Jvm.MethodName)) ∈ lw_all := lw_g (lw_at lw_m11 29 rfl) rfl
theorem q2557 : (Jvm.Cond.methodLink "ScheduleAnalyzerLaw" (329 : Nat) ({ cls := "ScheduleAnalyzerLaw", name := "append", desc := "(LScheduleAnalyzer;C[J)I" } : Jvm.MethodName)) ∈ lw_all := lw_g (lw_at lw_m11 43 rfl) rfl
theorem q2558 : (Jvm.Cond.static ({ cls := "ScheduleAnalyzerLaw", name := "append", desc := "(LScheduleAnalyzer;C[J)I" } : Jvm.MethodName)) ∈ lw_all := lw_g (lw_at lw_m11 44 rfl) rfl
theorem q2559 : (Jvm.Cond.codeWith ({ cls := "ScheduleAnalyzerLaw", name := "append", desc := "(LScheduleAnalyzer;C[J)I" } : Jvm.MethodName) method_46_code (4 : Nat) (Option.some Jvm.ClassFile.FieldType.int) [((0 : Nat), (9 : Nat), (12 : Nat), (15 : Nat)), ((0 : Nat), (9 : Nat), (15 : Nat), (17 : Nat))]) ∈ lw_all := lw_g (lw_at lw_m11 45 rfl) rfl
theorem q2560 : (Jvm.Cond.methodLink "ScheduleAnalyzerLaw" (164 : Nat) ({ cls := "ScheduleAnalyzer", name := "append", desc := "(C)I" } : Jvm.MethodName)) ∈ lw_all := lw_g (lw_at lw_m11 46 rfl) rfl
theorem q2565 : (Jvm.Cond.methodLink "ScheduleAnalyzerLaw" (336 : Nat) ({ cls := "ScheduleAnalyzerLaw", name := "errorPosition", desc := "(LScheduleAnalyzer;[J)I" } : Jvm.MethodName)) ∈ lw_all := lw_g (lw_at lw_m11 51 rfl) rfl
theorem q2566 : (Jvm.Cond.static ({ cls := "ScheduleAnalyzerLaw", name := "errorPosition", desc := "(LScheduleAnalyzer;[J)I" } : Jvm.MethodName)) ∈ lw_all := lw_g (lw_at lw_m11 52 rfl) rfl
theorem q2567 : (Jvm.Cond.codeWith ({ cls := "ScheduleAnalyzerLaw", name := "errorPosition", desc := "(LScheduleAnalyzer;[J)I" } : Jvm.MethodName) method_47_code (3 : Nat) (Option.some Jvm.ClassFile.FieldType.int) [((0 : Nat), (8 : Nat), (11 : Nat), (65 : Nat))]) ∈ lw_all := lw_g (lw_at lw_m11 53 rfl) rfl
theorem q2568 : (Jvm.Cond.methodLink "ScheduleAnalyzerLaw" (167 : Nat) ({ cls := "ScheduleAnalyzer", name := "errorPosition", desc := "()I" } : Jvm.MethodName)) ∈ lw_all := lw_g (lw_at lw_m11 54 rfl) rfl
theorem q2572 : (Jvm.Cond.methodLink "ScheduleAnalyzerLaw" (344 : Nat) ({ cls := "ScheduleAnalyzerLaw", name := "undo", desc := "(LScheduleAnalyzer;[J)I" } : Jvm.MethodName)) ∈ lw_all := lw_g (lw_at lw_m11 58 rfl) rfl
theorem q2573 : (Jvm.Cond.static ({ cls := "ScheduleAnalyzerLaw", name := "undo", desc := "(LScheduleAnalyzer;[J)I" } : Jvm.MethodName)) ∈ lw_all := lw_g (lw_at lw_m11 59 rfl) rfl
theorem q2574 : (Jvm.Cond.codeWith ({ cls := "ScheduleAnalyzerLaw", name := "undo", desc := "(LScheduleAnalyzer;[J)I" } : Jvm.MethodName) method_48_code (3 : Nat) (Option.some Jvm.ClassFile.FieldType.int) [((0 : Nat), (8 : Nat), (11 : Nat), (17 : Nat))]) ∈ lw_all := lw_g (lw_at lw_m11 60 rfl) rfl
theorem q2575 : (Jvm.Cond.methodLink "ScheduleAnalyzerLaw" (171 : Nat) ({ cls := "ScheduleAnalyzer", name := "undo", desc := "()I" } : Jvm.MethodName)) ∈ lw_all := lw_g (lw_at lw_m11 61 rfl) rfl
theorem q2594 : (Jvm.Cond.methodLink "ScheduleAnalyzerLaw" (351 : Nat) ({ cls := "ScheduleAnalyzerLaw", name := "restore", desc := "(LScheduleAnalyzer;[J)I" } : Jvm.MethodName)) ∈ lw_all := lw_g (lw_at lw_m11 80 rfl) rfl
theorem q2595 : (Jvm.Cond.static ({ cls := "ScheduleAnalyzerLaw", name := "restore", desc := "(LScheduleAnalyzer;[J)I" } : Jvm.MethodName)) ∈ lw_all := lw_g (lw_at lw_m11 81 rfl) rfl
theorem q2596 : (Jvm.Cond.codeWith ({ cls := "ScheduleAnalyzerLaw", name := "restore", desc := "(LScheduleAnalyzer;[J)I" } : Jvm.MethodName) method_49_code (3 : Nat) (Option.some Jvm.ClassFile.FieldType.int) [((0 : Nat), (8 : Nat), (11 : Nat), (17 : Nat))]) ∈ lw_all := lw_g (lw_at lw_m11 82 rfl) rfl
theorem q2597 : (Jvm.Cond.methodLink "ScheduleAnalyzerLaw" (174 : Nat) ({ cls := "ScheduleAnalyzer", name := "restore", desc := "()I" } : Jvm.MethodName)) ∈ lw_all := lw_g (lw_at lw_m11 83 rfl) rfl
theorem q2608 : (Jvm.Cond.classLink "ScheduleAnalyzerLaw" (178 : Nat) "ScheduleAnalyzerModel") ∈ lw_all := lw_g (lw_at lw_m11 94 rfl) rfl
theorem q2610 : (Jvm.Cond.methodLink "ScheduleAnalyzerLaw" (180 : Nat) ({ cls := "ScheduleAnalyzerModel", name := "<init>", desc := "()V" } : Jvm.MethodName)) ∈ lw_all := lw_g (lw_at lw_m11 96 rfl) rfl
theorem q2726 : (Jvm.Cond.methodLink "ScheduleAnalyzerLaw" (187 : Nat) ({ cls := "ScheduleAnalyzerModel", name := "thrown", desc := "()I" } : Jvm.MethodName)) ∈ lw_all := lw_g (lw_at lw_m11 212 rfl) rfl
theorem q2730 : (Jvm.Cond.methodLink "ScheduleAnalyzerLaw" (331 : Nat) ({ cls := "ScheduleAnalyzerModel", name := "append", desc := "(C)I" } : Jvm.MethodName)) ∈ lw_all := lw_g (lw_at lw_m11 216 rfl) rfl
theorem q2737 : (Jvm.Cond.methodLink "ScheduleAnalyzerLaw" (335 : Nat) ({ cls := "ScheduleAnalyzerModel", name := "clearBuffer", desc := "()I" } : Jvm.MethodName)) ∈ lw_all := lw_g (lw_at lw_m11 223 rfl) rfl
theorem q2741 : (Jvm.Cond.methodLink "ScheduleAnalyzerLaw" (186 : Nat) ({ cls := "ScheduleAnalyzerModel", name := "write", desc := "(I)I" } : Jvm.MethodName)) ∈ lw_all := lw_g (lw_at lw_m11 227 rfl) rfl
theorem q2809 : (Jvm.Cond.methodLink "ScheduleAnalyzerLaw" (193 : Nat) ({ cls := "ScheduleAnalyzerModel", name := "addAccess", desc := "(ICIC)I" } : Jvm.MethodName)) ∈ lw_all := lw_g (lw_at lw_m12 55 rfl) rfl
theorem q2825 : (Jvm.Cond.methodLink "ScheduleAnalyzerLaw" (197 : Nat) ({ cls := "ScheduleAnalyzerModel", name := "addEnd", desc := "(IIZ)I" } : Jvm.MethodName)) ∈ lw_all := lw_g (lw_at lw_m12 71 rfl) rfl
theorem q2829 : (Jvm.Cond.methodLink "ScheduleAnalyzerLaw" (201 : Nat) ({ cls := "ScheduleAnalyzerModel", name := "removeAt", desc := "(II)I" } : Jvm.MethodName)) ∈ lw_all := lw_g (lw_at lw_m12 75 rfl) rfl
theorem q2841 : (Jvm.Cond.methodLink "ScheduleAnalyzerLaw" (204 : Nat) ({ cls := "ScheduleAnalyzerModel", name := "exchange", desc := "(II)I" } : Jvm.MethodName)) ∈ lw_all := lw_g (lw_at lw_m12 87 rfl) rfl
theorem q2849 : (Jvm.Cond.methodLink "ScheduleAnalyzerLaw" (207 : Nat) ({ cls := "ScheduleAnalyzerModel", name := "copy", desc := "(II)I" } : Jvm.MethodName)) ∈ lw_all := lw_g (lw_at lw_m12 95 rfl) rfl
theorem q2857 : (Jvm.Cond.methodLink "ScheduleAnalyzerLaw" (210 : Nat) ({ cls := "ScheduleAnalyzerModel", name := "clear", desc := "(I)I" } : Jvm.MethodName)) ∈ lw_all := lw_g (lw_at lw_m12 103 rfl) rfl
theorem q2865 : (Jvm.Cond.methodLink "ScheduleAnalyzerLaw" (220 : Nat) ({ cls := "ScheduleAnalyzerModel", name := "setValue", desc := "(CI)I" } : Jvm.MethodName)) ∈ lw_all := lw_g (lw_at lw_m12 111 rfl) rfl
theorem q2873 : (Jvm.Cond.methodLink "ScheduleAnalyzerLaw" (213 : Nat) ({ cls := "ScheduleAnalyzerModel", name := "serialize", desc := "(II)I" } : Jvm.MethodName)) ∈ lw_all := lw_g (lw_at lw_m12 119 rfl) rfl
theorem q2916 : (Jvm.Cond.methodLink "ScheduleAnalyzerLaw" (216 : Nat) ({ cls := "ScheduleAnalyzerModel", name := "lock", desc := "(II)I" } : Jvm.MethodName)) ∈ lw_all := lw_g (lw_at lw_m12 162 rfl) rfl
theorem q2968 : (Jvm.Cond.methodLink "ScheduleAnalyzerLaw" (298 : Nat) ({ cls := "ScheduleAnalyzerModel", name := "waitingCount", desc := "(I)I" } : Jvm.MethodName)) ∈ lw_all := lw_g (lw_at lw_m12 214 rfl) rfl
theorem q2976 : (Jvm.Cond.methodLink "ScheduleAnalyzerLaw" (301 : Nat) ({ cls := "ScheduleAnalyzerModel", name := "victimCount", desc := "(I)I" } : Jvm.MethodName)) ∈ lw_all := lw_g (lw_at lw_m12 222 rfl) rfl
theorem q2980 : (Jvm.Cond.methodLink "ScheduleAnalyzerLaw" (304 : Nat) ({ cls := "ScheduleAnalyzerModel", name := "isVictim", desc := "(II)Z" } : Jvm.MethodName)) ∈ lw_all := lw_g (lw_at lw_m12 226 rfl) rfl
theorem q2984 : (Jvm.Cond.methodLink "ScheduleAnalyzerLaw" (223 : Nat) ({ cls := "ScheduleAnalyzerModel", name := "operationCount", desc := "(I)I" } : Jvm.MethodName)) ∈ lw_all := lw_g (lw_at lw_m12 230 rfl) rfl
theorem q2988 : (Jvm.Cond.methodLink "ScheduleAnalyzerLaw" (226 : Nat) ({ cls := "ScheduleAnalyzerModel", name := "kindAt", desc := "(II)C" } : Jvm.MethodName)) ∈ lw_all := lw_g (lw_at lw_m12 234 rfl) rfl
theorem q2995 : (Jvm.Cond.methodLink "ScheduleAnalyzerLaw" (229 : Nat) ({ cls := "ScheduleAnalyzerModel", name := "transactionAt", desc := "(II)I" } : Jvm.MethodName)) ∈ lw_all := lw_g (lw_at lw_m13 1 rfl) rfl
theorem q2999 : (Jvm.Cond.methodLink "ScheduleAnalyzerLaw" (232 : Nat) ({ cls := "ScheduleAnalyzerModel", name := "itemAt", desc := "(II)C" } : Jvm.MethodName)) ∈ lw_all := lw_g (lw_at lw_m13 5 rfl) rfl
theorem q3003 : (Jvm.Cond.methodLink "ScheduleAnalyzerLaw" (235 : Nat) ({ cls := "ScheduleAnalyzerModel", name := "stateOf", desc := "(II)C" } : Jvm.MethodName)) ∈ lw_all := lw_g (lw_at lw_m13 9 rfl) rfl
theorem q3011 : (Jvm.Cond.methodLink "ScheduleAnalyzerLaw" (238 : Nat) ({ cls := "ScheduleAnalyzerModel", name := "conflictCount", desc := "(I)I" } : Jvm.MethodName)) ∈ lw_all := lw_g (lw_at lw_m13 17 rfl) rfl
theorem q3019 : (Jvm.Cond.methodLink "ScheduleAnalyzerLaw" (241 : Nat) ({ cls := "ScheduleAnalyzerModel", name := "conflictCountByItems", desc := "(I)I" } : Jvm.MethodName)) ∈ lw_all := lw_g (lw_at lw_m13 25 rfl) rfl
theorem q3023 : (Jvm.Cond.methodLink "ScheduleAnalyzerLaw" (245 : Nat) ({ cls := "ScheduleAnalyzerModel", name := "comesBefore", desc := "(III)Z" } : Jvm.MethodName)) ∈ lw_all := lw_g (lw_at lw_m13 29 rfl) rfl
theorem q3027 : (Jvm.Cond.methodLink "ScheduleAnalyzerLaw" (248 : Nat) ({ cls := "ScheduleAnalyzerModel", name := "isSerializable", desc := "(I)Z" } : Jvm.MethodName)) ∈ lw_all := lw_g (lw_at lw_m13 33 rfl) rfl
theorem q3031 : (Jvm.Cond.methodLink "ScheduleAnalyzerLaw" (251 : Nat) ({ cls := "ScheduleAnalyzerModel", name := "isSerializableByWalks", desc := "(I)Z" } : Jvm.MethodName)) ∈ lw_all := lw_g (lw_at lw_m13 37 rfl) rfl
theorem q3035 : (Jvm.Cond.methodLink "ScheduleAnalyzerLaw" (254 : Nat) ({ cls := "ScheduleAnalyzerModel", name := "serialOrders", desc := "(I)I" } : Jvm.MethodName)) ∈ lw_all := lw_g (lw_at lw_m13 41 rfl) rfl
theorem q3043 : (Jvm.Cond.methodLink "ScheduleAnalyzerLaw" (257 : Nat) ({ cls := "ScheduleAnalyzerModel", name := "serialOrdersByTrying", desc := "(I)I" } : Jvm.MethodName)) ∈ lw_all := lw_g (lw_at lw_m13 49 rfl) rfl
theorem q3047 : (Jvm.Cond.methodLink "ScheduleAnalyzerLaw" (260 : Nat) ({ cls := "ScheduleAnalyzerModel", name := "serialAt", desc := "(II)I" } : Jvm.MethodName)) ∈ lw_all := lw_g (lw_at lw_m13 53 rfl) rfl
theorem q3051 : (Jvm.Cond.methodLink "ScheduleAnalyzerLaw" (263 : Nat) ({ cls := "ScheduleAnalyzerModel", name := "areEquivalent", desc := "(II)Z" } : Jvm.MethodName)) ∈ lw_all := lw_g (lw_at lw_m13 57 rfl) rfl
theorem q3059 : (Jvm.Cond.methodLink "ScheduleAnalyzerLaw" (266 : Nat) ({ cls := "ScheduleAnalyzerModel", name := "isViewSerializable", desc := "(I)Z" } : Jvm.MethodName)) ∈ lw_all := lw_g (lw_at lw_m13 65 rfl) rfl
theorem q3087 : (Jvm.Cond.methodLink "ScheduleAnalyzerLaw" (269 : Nat) ({ cls := "ScheduleAnalyzerModel", name := "sourceOf", desc := "(II)I" } : Jvm.MethodName)) ∈ lw_all := lw_g (lw_at lw_m13 93 rfl) rfl
theorem q3099 : (Jvm.Cond.methodLink "ScheduleAnalyzerLaw" (272 : Nat) ({ cls := "ScheduleAnalyzerModel", name := "dirtyReads", desc := "(I)I" } : Jvm.MethodName)) ∈ lw_all := lw_g (lw_at lw_m13 105 rfl) rfl
theorem q3111 : (Jvm.Cond.methodLink "ScheduleAnalyzerLaw" (278 : Nat) ({ cls := "ScheduleAnalyzerModel", name := "avoidsCascades", desc := "(I)Z" } : Jvm.MethodName)) ∈ lw_all := lw_g (lw_at lw_m13 117 rfl) rfl
theorem q3115 : (Jvm.Cond.methodLink "ScheduleAnalyzerLaw" (275 : Nat) ({ cls := "ScheduleAnalyzerModel", name := "isRecoverable", desc := "(I)Z" } : Jvm.MethodName)) ∈ lw_all := lw_g (lw_at lw_m13 121 rfl) rfl
theorem q3119 : (Jvm.Cond.methodLink "ScheduleAnalyzerLaw" (281 : Nat) ({ cls := "ScheduleAnalyzerModel", name := "isStrict", desc := "(I)Z" } : Jvm.MethodName)) ∈ lw_all := lw_g (lw_at lw_m13 125 rfl) rfl
theorem q3127 : (Jvm.Cond.methodLink "ScheduleAnalyzerLaw" (285 : Nat) ({ cls := "ScheduleAnalyzerModel", name := "valueOf", desc := "(C)I" } : Jvm.MethodName)) ∈ lw_all := lw_g (lw_at lw_m13 133 rfl) rfl
theorem q3131 : (Jvm.Cond.methodLink "ScheduleAnalyzerLaw" (289 : Nat) ({ cls := "ScheduleAnalyzerModel", name := "finalValue", desc := "(IC)I" } : Jvm.MethodName)) ∈ lw_all := lw_g (lw_at lw_m13 137 rfl) rfl
theorem q3147 : (Jvm.Cond.methodLink "ScheduleAnalyzerLaw" (292 : Nat) ({ cls := "ScheduleAnalyzerModel", name := "restValue", desc := "(IC)I" } : Jvm.MethodName)) ∈ lw_all := lw_g (lw_at lw_m13 153 rfl) rfl
theorem q3151 : (Jvm.Cond.methodLink "ScheduleAnalyzerLaw" (295 : Nat) ({ cls := "ScheduleAnalyzerModel", name := "registerOf", desc := "(II)I" } : Jvm.MethodName)) ∈ lw_all := lw_g (lw_at lw_m13 157 rfl) rfl
theorem q3155 : (Jvm.Cond.methodLink "ScheduleAnalyzerLaw" (307 : Nat) ({ cls := "ScheduleAnalyzerModel", name := "slotByLength", desc := "(I)I" } : Jvm.MethodName)) ∈ lw_all := lw_g (lw_at lw_m13 161 rfl) rfl
theorem q3159 : (Jvm.Cond.methodLink "ScheduleAnalyzerLaw" (311 : Nat) ({ cls := "ScheduleAnalyzerModel", name := "meanLength", desc := "(I)D" } : Jvm.MethodName)) ∈ lw_all := lw_g (lw_at lw_m13 165 rfl) rfl
theorem q3163 : (Jvm.Cond.methodLink "ScheduleAnalyzerLaw" (314 : Nat) ({ cls := "ScheduleAnalyzerModel", name := "readShare", desc := "(I)F" } : Jvm.MethodName)) ∈ lw_all := lw_g (lw_at lw_m13 169 rfl) rfl
theorem q3167 : (Jvm.Cond.methodLink "ScheduleAnalyzerLaw" (319 : Nat) ({ cls := "ScheduleAnalyzerModel", name := "isConsistent", desc := "()Z" } : Jvm.MethodName)) ∈ lw_all := lw_g (lw_at lw_m13 173 rfl) rfl
theorem q3175 : (Jvm.Cond.methodLink "ScheduleAnalyzerLaw" (322 : Nat) ({ cls := "ScheduleAnalyzerModel", name := "format", desc := "(I)I" } : Jvm.MethodName)) ∈ lw_all := lw_g (lw_at lw_m13 181 rfl) rfl
theorem q3183 : (Jvm.Cond.methodLink "ScheduleAnalyzerLaw" (325 : Nat) ({ cls := "ScheduleAnalyzerModel", name := "formatOrder", desc := "(I)I" } : Jvm.MethodName)) ∈ lw_all := lw_g (lw_at lw_m13 189 rfl) rfl
theorem q3187 : (Jvm.Cond.methodLink "ScheduleAnalyzerLaw" (328 : Nat) ({ cls := "ScheduleAnalyzerModel", name := "lineChar", desc := "(I)C" } : Jvm.MethodName)) ∈ lw_all := lw_g (lw_at lw_m13 193 rfl) rfl
theorem q3191 : (Jvm.Cond.methodLink "ScheduleAnalyzerLaw" (339 : Nat) ({ cls := "ScheduleAnalyzerModel", name := "errorPosition", desc := "()I" } : Jvm.MethodName)) ∈ lw_all := lw_g (lw_at lw_m13 197 rfl) rfl
theorem q3195 : (Jvm.Cond.methodLink "ScheduleAnalyzerLaw" (343 : Nat) ({ cls := "ScheduleAnalyzerModel", name := "undoableCount", desc := "()I" } : Jvm.MethodName)) ∈ lw_all := lw_g (lw_at lw_m13 201 rfl) rfl
theorem q3199 : (Jvm.Cond.methodLink "ScheduleAnalyzerLaw" (346 : Nat) ({ cls := "ScheduleAnalyzerModel", name := "undo", desc := "()I" } : Jvm.MethodName)) ∈ lw_all := lw_g (lw_at lw_m13 205 rfl) rfl
theorem q3203 : (Jvm.Cond.methodLink "ScheduleAnalyzerLaw" (350 : Nat) ({ cls := "ScheduleAnalyzerModel", name := "save", desc := "()I" } : Jvm.MethodName)) ∈ lw_all := lw_g (lw_at lw_m13 209 rfl) rfl
theorem q3211 : (Jvm.Cond.methodLink "ScheduleAnalyzerLaw" (353 : Nat) ({ cls := "ScheduleAnalyzerModel", name := "restore", desc := "()I" } : Jvm.MethodName)) ∈ lw_all := lw_g (lw_at lw_m13 217 rfl) rfl

/-! ScheduleAnalyzer -/
set_option maxRecDepth 100000
def RX1 : String := "ScheduleAnalyzer"
def TX1 : u_T := fun k => match k with
  | 0 => ("ScheduleAnalyzer", "state", "LScheduleAnalyzer$State;", false)
  | 1 => ("ScheduleAnalyzer", "saved", "LScheduleAnalyzer$State;", false)
  | 2 => ("ScheduleAnalyzer", "history", "Ljava/util/ArrayDeque;", true)
  | 3 => ("ScheduleAnalyzer", "input", "Ljava/lang/StringBuilder;", true)
  | 4 => ("ScheduleAnalyzer", "line", "Ljava/lang/StringBuilder;", true)
  | _ => ("ScheduleAnalyzer", "errorPosition", "I", false)
def tyX1 : Nat → FieldType := fun k => match k with
  | 0 => .object "ScheduleAnalyzer$State"
  | 1 => .object "ScheduleAnalyzer$State"
  | 2 => .object "java/util/ArrayDeque"
  | 3 => .object "java/lang/StringBuilder"
  | 4 => .object "java/lang/StringBuilder"
  | _ => .int
abbrev wsX10 : List Cond := u_ws RX1 TX1 6
theorem nmX1 : ∀ a, a < 6 → ∀ b, b < 6 → a ≠ b → (TX1 a).2.1 ≠ (TX1 b).2.1 := by decide +kernel
theorem tyX1_ok : ∀ k, k < 6 → parseFieldDescriptor (TX1 k).2.2.1 = some (tyX1 k) := by decide +kernel
abbrev cX1_init : ByteArray := prog_1_method_1_code
def yX1_init : MethodName := ⟨RX1, "<init>", "()V"⟩
def dkwX1_init_2 : List UInt8 := [181, 0, 30, 42, 2, 181, 0, 33, 177]
abbrev dktX1_init_2 : List UInt8 := dkwX1_init_2 ++ []
def dkwX1_init_1 : List UInt8 := [181, 0, 19, 42, 187, 0, 23, 89, 183, 0, 25, 181, 0, 26, 42, 187, 0, 23, 89, 183, 0, 25]
abbrev dktX1_init_1 : List UInt8 := dkwX1_init_1 ++ dktX1_init_2
def dkwX1_init_0 : List UInt8 := [42, 183, 0, 1, 42, 187, 0, 7, 89, 183, 0, 9, 181, 0, 10, 42, 187, 0, 16, 89, 183, 0, 18]
abbrev dktX1_init_0 : List UInt8 := dkwX1_init_0 ++ dktX1_init_1
theorem dksX1_init_0 : cX1_init.data.toList.drop 0 = dktX1_init_0 := by decide +kernel
theorem dksX1_init_1 : cX1_init.data.toList.drop 23 = dktX1_init_1 := dk_seg dksX1_init_0 23 rfl rfl
theorem dksX1_init_2 : cX1_init.data.toList.drop 45 = dktX1_init_2 := dk_seg dksX1_init_1 22 rfl rfl
theorem dX1_init_0 : decode cX1_init 0 = .ok (.aload_n 0, 1) := dk_42 (dk_at dksX1_init_0 0 rfl rfl)
theorem dX1_init_1 : decode cX1_init 1 = .ok (.invokespecial 1, 3) := dk_183 0 1 (dk_at dksX1_init_0 1 rfl rfl)
theorem dX1_init_4 : decode cX1_init 4 = .ok (.aload_n 0, 1) := dk_42 (dk_at dksX1_init_0 4 rfl rfl)
theorem dX1_init_5 : decode cX1_init 5 = .ok (.new 7, 3) := dk_187 0 7 (dk_at dksX1_init_0 5 rfl rfl)
theorem dX1_init_8 : decode cX1_init 8 = .ok (.dup, 1) := dk_89 (dk_at dksX1_init_0 8 rfl rfl)
theorem dX1_init_9 : decode cX1_init 9 = .ok (.invokespecial 9, 3) := dk_183 0 9 (dk_at dksX1_init_0 9 rfl rfl)
theorem dX1_init_12 : decode cX1_init 12 = .ok (.putfield 10, 3) := dk_181 0 10 (dk_at dksX1_init_0 12 rfl rfl)
theorem dX1_init_15 : decode cX1_init 15 = .ok (.aload_n 0, 1) := dk_42 (dk_at dksX1_init_0 15 rfl rfl)
theorem dX1_init_16 : decode cX1_init 16 = .ok (.new 16, 3) := dk_187 0 16 (dk_at dksX1_init_0 16 rfl rfl)
theorem dX1_init_19 : decode cX1_init 19 = .ok (.dup, 1) := dk_89 (dk_at dksX1_init_0 19 rfl rfl)
theorem dX1_init_20 : decode cX1_init 20 = .ok (.invokespecial 18, 3) := dk_183 0 18 (dk_at dksX1_init_0 20 rfl rfl)
theorem dX1_init_23 : decode cX1_init 23 = .ok (.putfield 19, 3) := dk_181 0 19 (dk_at dksX1_init_1 0 rfl rfl)
theorem dX1_init_26 : decode cX1_init 26 = .ok (.aload_n 0, 1) := dk_42 (dk_at dksX1_init_1 3 rfl rfl)
theorem dX1_init_27 : decode cX1_init 27 = .ok (.new 23, 3) := dk_187 0 23 (dk_at dksX1_init_1 4 rfl rfl)
theorem dX1_init_30 : decode cX1_init 30 = .ok (.dup, 1) := dk_89 (dk_at dksX1_init_1 7 rfl rfl)
theorem dX1_init_31 : decode cX1_init 31 = .ok (.invokespecial 25, 3) := dk_183 0 25 (dk_at dksX1_init_1 8 rfl rfl)
theorem dX1_init_34 : decode cX1_init 34 = .ok (.putfield 26, 3) := dk_181 0 26 (dk_at dksX1_init_1 11 rfl rfl)
theorem dX1_init_37 : decode cX1_init 37 = .ok (.aload_n 0, 1) := dk_42 (dk_at dksX1_init_1 14 rfl rfl)
theorem dX1_init_38 : decode cX1_init 38 = .ok (.new 23, 3) := dk_187 0 23 (dk_at dksX1_init_1 15 rfl rfl)
theorem dX1_init_41 : decode cX1_init 41 = .ok (.dup, 1) := dk_89 (dk_at dksX1_init_1 18 rfl rfl)
theorem dX1_init_42 : decode cX1_init 42 = .ok (.invokespecial 25, 3) := dk_183 0 25 (dk_at dksX1_init_1 19 rfl rfl)
theorem dX1_init_45 : decode cX1_init 45 = .ok (.putfield 30, 3) := dk_181 0 30 (dk_at dksX1_init_2 0 rfl rfl)
theorem dX1_init_48 : decode cX1_init 48 = .ok (.aload_n 0, 1) := dk_42 (dk_at dksX1_init_2 3 rfl rfl)
theorem dX1_init_49 : decode cX1_init 49 = .ok (.iconst (-1), 1) := dk_2 (dk_at dksX1_init_2 4 rfl rfl)
theorem dX1_init_50 : decode cX1_init 50 = .ok (.putfield 33, 3) := dk_181 0 33 (dk_at dksX1_init_2 5 rfl rfl)
theorem dX1_init_53 : decode cX1_init 53 = .ok (.return_, 1) := dk_177 (dk_at dksX1_init_2 8 rfl rfl)
abbrev cX1_isConsistent : ByteArray := prog_1_method_68_code
def yX1_isConsistent : MethodName := ⟨RX1, "isConsistent", "()Z"⟩
def dkwX1_isConsistent_1 : List UInt8 := [21, 4, 50, 58, 5, 27, 42, 25, 5, 182, 1, 107, 126, 60, 132, 4, 1, 167, 255, 232, 27, 172]
abbrev dktX1_isConsistent_1 : List UInt8 := dkwX1_isConsistent_1 ++ []
def dkwX1_isConsistent_0 : List UInt8 := [4, 60, 42, 180, 0, 10, 180, 0, 102, 77, 44, 190, 62, 3, 54, 4, 21, 4, 29, 162, 0, 24, 44]
abbrev dktX1_isConsistent_0 : List UInt8 := dkwX1_isConsistent_0 ++ dktX1_isConsistent_1
theorem dksX1_isConsistent_0 : cX1_isConsistent.data.toList.drop 0 = dktX1_isConsistent_0 := by decide +kernel
theorem dksX1_isConsistent_1 : cX1_isConsistent.data.toList.drop 23 = dktX1_isConsistent_1 := dk_seg dksX1_isConsistent_0 23 rfl rfl
theorem dX1_isConsistent_0 : decode cX1_isConsistent 0 = .ok (.iconst 1, 1) := dk_4 (dk_at dksX1_isConsistent_0 0 rfl rfl)
theorem dX1_isConsistent_1 : decode cX1_isConsistent 1 = .ok (.istore_n 1, 1) := dk_60 (dk_at dksX1_isConsistent_0 1 rfl rfl)
theorem dX1_isConsistent_2 : decode cX1_isConsistent 2 = .ok (.aload_n 0, 1) := dk_42 (dk_at dksX1_isConsistent_0 2 rfl rfl)
theorem dX1_isConsistent_3 : decode cX1_isConsistent 3 = .ok (.getfield 10, 3) := dk_180 0 10 (dk_at dksX1_isConsistent_0 3 rfl rfl)
theorem dX1_isConsistent_6 : decode cX1_isConsistent 6 = .ok (.getfield 102, 3) := dk_180 0 102 (dk_at dksX1_isConsistent_0 6 rfl rfl)
theorem dX1_isConsistent_9 : decode cX1_isConsistent 9 = .ok (.astore_n 2, 1) := dk_77 (dk_at dksX1_isConsistent_0 9 rfl rfl)
theorem dX1_isConsistent_10 : decode cX1_isConsistent 10 = .ok (.aload_n 2, 1) := dk_44 (dk_at dksX1_isConsistent_0 10 rfl rfl)
theorem dX1_isConsistent_11 : decode cX1_isConsistent 11 = .ok (.arraylength, 1) := dk_190 (dk_at dksX1_isConsistent_0 11 rfl rfl)
theorem dX1_isConsistent_12 : decode cX1_isConsistent 12 = .ok (.istore_n 3, 1) := dk_62 (dk_at dksX1_isConsistent_0 12 rfl rfl)
theorem dX1_isConsistent_13 : decode cX1_isConsistent 13 = .ok (.iconst 0, 1) := dk_3 (dk_at dksX1_isConsistent_0 13 rfl rfl)
theorem dX1_isConsistent_14 : decode cX1_isConsistent 14 = .ok (.istore 4, 2) := dk_54 4 (dk_at dksX1_isConsistent_0 14 rfl rfl)
theorem dX1_isConsistent_16 : decode cX1_isConsistent 16 = .ok (.iload 4, 2) := dk_21 4 (dk_at dksX1_isConsistent_0 16 rfl rfl)
theorem dX1_isConsistent_18 : decode cX1_isConsistent 18 = .ok (.iload_n 3, 1) := dk_29 (dk_at dksX1_isConsistent_0 18 rfl rfl)
theorem dX1_isConsistent_19 : decode cX1_isConsistent 19 = .ok (.if_icmp .ge 24, 3) := dk_162 0 24 (dk_at dksX1_isConsistent_0 19 rfl rfl)
theorem dX1_isConsistent_22 : decode cX1_isConsistent 22 = .ok (.aload_n 2, 1) := dk_44 (dk_at dksX1_isConsistent_0 22 rfl rfl)
theorem dX1_isConsistent_23 : decode cX1_isConsistent 23 = .ok (.iload 4, 2) := dk_21 4 (dk_at dksX1_isConsistent_1 0 rfl rfl)
theorem dX1_isConsistent_25 : decode cX1_isConsistent 25 = .ok (.aaload, 1) := dk_50 (dk_at dksX1_isConsistent_1 2 rfl rfl)
theorem dX1_isConsistent_26 : decode cX1_isConsistent 26 = .ok (.astore 5, 2) := dk_58 5 (dk_at dksX1_isConsistent_1 3 rfl rfl)
theorem dX1_isConsistent_28 : decode cX1_isConsistent 28 = .ok (.iload_n 1, 1) := dk_27 (dk_at dksX1_isConsistent_1 5 rfl rfl)
theorem dX1_isConsistent_29 : decode cX1_isConsistent 29 = .ok (.aload_n 0, 1) := dk_42 (dk_at dksX1_isConsistent_1 6 rfl rfl)
theorem dX1_isConsistent_30 : decode cX1_isConsistent 30 = .ok (.aload 5, 2) := dk_25 5 (dk_at dksX1_isConsistent_1 7 rfl rfl)
theorem dX1_isConsistent_32 : decode cX1_isConsistent 32 = .ok (.invokevirtual 363, 3) := dk_182 1 107 (dk_at dksX1_isConsistent_1 9 rfl rfl)
theorem dX1_isConsistent_35 : decode cX1_isConsistent 35 = .ok (.iand, 1) := dk_126 (dk_at dksX1_isConsistent_1 12 rfl rfl)
theorem dX1_isConsistent_36 : decode cX1_isConsistent 36 = .ok (.istore_n 1, 1) := dk_60 (dk_at dksX1_isConsistent_1 13 rfl rfl)
theorem dX1_isConsistent_37 : decode cX1_isConsistent 37 = .ok (.iinc 4 1, 3) := dk_132 4 1 (dk_at dksX1_isConsistent_1 14 rfl rfl)
theorem dX1_isConsistent_40 : decode cX1_isConsistent 40 = .ok (.goto (-24), 3) := dk_167 255 232 (dk_at dksX1_isConsistent_1 17 rfl rfl)
theorem dX1_isConsistent_43 : decode cX1_isConsistent 43 = .ok (.iload_n 1, 1) := dk_27 (dk_at dksX1_isConsistent_1 20 rfl rfl)
theorem dX1_isConsistent_44 : decode cX1_isConsistent 44 = .ok (.ireturn, 1) := dk_172 (dk_at dksX1_isConsistent_1 21 rfl rfl)
abbrev cX1_isConfirmed : ByteArray := prog_1_method_67_code
def yX1_isConfirmed : MethodName := ⟨RX1, "isConfirmed", "(LScheduleAnalyzer$Schedule;)Z"⟩
def dkwX1_isConfirmed_6 : List UInt8 := [153, 0, 10, 43, 182, 1, 63, 153, 0, 7, 4, 167, 0, 4, 3, 172]
abbrev dktX1_isConfirmed_6 : List UInt8 := dkwX1_isConfirmed_6 ++ []
def dkwX1_isConfirmed_5 : List UInt8 := [54, 7, 21, 4, 153, 0, 33, 21, 5, 153, 0, 28, 21, 6, 153, 0, 23, 21, 7, 153, 0, 18, 29]
abbrev dktX1_isConfirmed_5 : List UInt8 := dkwX1_isConfirmed_5 ++ dktX1_isConfirmed_6
def dkwX1_isConfirmed_4 : List UInt8 := [182, 1, 66, 153, 0, 15, 29, 153, 0, 15, 42, 43, 182, 1, 104, 153, 0, 7, 4, 167, 0, 4, 3]
abbrev dktX1_isConfirmed_4 : List UInt8 := dkwX1_isConfirmed_4 ++ dktX1_isConfirmed_5
def dkwX1_isConfirmed_3 : List UInt8 := [153, 0, 15, 43, 184, 1, 49, 3, 3, 182, 1, 53, 153, 0, 7, 4, 167, 0, 4, 3, 54, 6, 43]
abbrev dktX1_isConfirmed_3 : List UInt8 := dkwX1_isConfirmed_3 ++ dktX1_isConfirmed_4
def dkwX1_isConfirmed_2 : List UInt8 := [44, 182, 1, 29, 44, 3, 182, 1, 32, 160, 0, 7, 4, 167, 0, 4, 3, 54, 5, 44, 182, 0, 209]
abbrev dktX1_isConfirmed_2 : List UInt8 := dkwX1_isConfirmed_2 ++ dktX1_isConfirmed_3
def dkwX1_isConfirmed_1 : List UInt8 := [182, 1, 13, 160, 0, 7, 4, 167, 0, 4, 3, 54, 4, 44, 182, 0, 209, 44, 182, 1, 26, 160, 0, 19]
abbrev dktX1_isConfirmed_1 : List UInt8 := dkwX1_isConfirmed_1 ++ dktX1_isConfirmed_2
def dkwX1_isConfirmed_0 : List UInt8 := [43, 182, 0, 205, 77, 43, 182, 1, 60, 154, 0, 7, 4, 167, 0, 4, 3, 62, 43, 182, 1, 10, 43]
abbrev dktX1_isConfirmed_0 : List UInt8 := dkwX1_isConfirmed_0 ++ dktX1_isConfirmed_1
theorem dksX1_isConfirmed_0 : cX1_isConfirmed.data.toList.drop 0 = dktX1_isConfirmed_0 := by decide +kernel
theorem dksX1_isConfirmed_1 : cX1_isConfirmed.data.toList.drop 23 = dktX1_isConfirmed_1 := dk_seg dksX1_isConfirmed_0 23 rfl rfl
theorem dksX1_isConfirmed_2 : cX1_isConfirmed.data.toList.drop 47 = dktX1_isConfirmed_2 := dk_seg dksX1_isConfirmed_1 24 rfl rfl
theorem dksX1_isConfirmed_3 : cX1_isConfirmed.data.toList.drop 70 = dktX1_isConfirmed_3 := dk_seg dksX1_isConfirmed_2 23 rfl rfl
theorem dksX1_isConfirmed_4 : cX1_isConfirmed.data.toList.drop 93 = dktX1_isConfirmed_4 := dk_seg dksX1_isConfirmed_3 23 rfl rfl
theorem dksX1_isConfirmed_5 : cX1_isConfirmed.data.toList.drop 116 = dktX1_isConfirmed_5 := dk_seg dksX1_isConfirmed_4 23 rfl rfl
theorem dksX1_isConfirmed_6 : cX1_isConfirmed.data.toList.drop 139 = dktX1_isConfirmed_6 := dk_seg dksX1_isConfirmed_5 23 rfl rfl
theorem dX1_isConfirmed_0 : decode cX1_isConfirmed 0 = .ok (.aload_n 1, 1) := dk_43 (dk_at dksX1_isConfirmed_0 0 rfl rfl)
theorem dX1_isConfirmed_1 : decode cX1_isConfirmed 1 = .ok (.invokevirtual 205, 3) := dk_182 0 205 (dk_at dksX1_isConfirmed_0 1 rfl rfl)
theorem dX1_isConfirmed_4 : decode cX1_isConfirmed 4 = .ok (.astore_n 2, 1) := dk_77 (dk_at dksX1_isConfirmed_0 4 rfl rfl)
theorem dX1_isConfirmed_5 : decode cX1_isConfirmed 5 = .ok (.aload_n 1, 1) := dk_43 (dk_at dksX1_isConfirmed_0 5 rfl rfl)
theorem dX1_isConfirmed_6 : decode cX1_isConfirmed 6 = .ok (.invokevirtual 316, 3) := dk_182 1 60 (dk_at dksX1_isConfirmed_0 6 rfl rfl)
theorem dX1_isConfirmed_9 : decode cX1_isConfirmed 9 = .ok (.ifCond .ne 7, 3) := dk_154 0 7 (dk_at dksX1_isConfirmed_0 9 rfl rfl)
theorem dX1_isConfirmed_12 : decode cX1_isConfirmed 12 = .ok (.iconst 1, 1) := dk_4 (dk_at dksX1_isConfirmed_0 12 rfl rfl)
theorem dX1_isConfirmed_13 : decode cX1_isConfirmed 13 = .ok (.goto 4, 3) := dk_167 0 4 (dk_at dksX1_isConfirmed_0 13 rfl rfl)
theorem dX1_isConfirmed_16 : decode cX1_isConfirmed 16 = .ok (.iconst 0, 1) := dk_3 (dk_at dksX1_isConfirmed_0 16 rfl rfl)
theorem dX1_isConfirmed_17 : decode cX1_isConfirmed 17 = .ok (.istore_n 3, 1) := dk_62 (dk_at dksX1_isConfirmed_0 17 rfl rfl)
theorem dX1_isConfirmed_18 : decode cX1_isConfirmed 18 = .ok (.aload_n 1, 1) := dk_43 (dk_at dksX1_isConfirmed_0 18 rfl rfl)
theorem dX1_isConfirmed_19 : decode cX1_isConfirmed 19 = .ok (.invokevirtual 266, 3) := dk_182 1 10 (dk_at dksX1_isConfirmed_0 19 rfl rfl)
theorem dX1_isConfirmed_22 : decode cX1_isConfirmed 22 = .ok (.aload_n 1, 1) := dk_43 (dk_at dksX1_isConfirmed_0 22 rfl rfl)
theorem dX1_isConfirmed_23 : decode cX1_isConfirmed 23 = .ok (.invokevirtual 269, 3) := dk_182 1 13 (dk_at dksX1_isConfirmed_1 0 rfl rfl)
theorem dX1_isConfirmed_26 : decode cX1_isConfirmed 26 = .ok (.if_icmp .ne 7, 3) := dk_160 0 7 (dk_at dksX1_isConfirmed_1 3 rfl rfl)
theorem dX1_isConfirmed_29 : decode cX1_isConfirmed 29 = .ok (.iconst 1, 1) := dk_4 (dk_at dksX1_isConfirmed_1 6 rfl rfl)
theorem dX1_isConfirmed_30 : decode cX1_isConfirmed 30 = .ok (.goto 4, 3) := dk_167 0 4 (dk_at dksX1_isConfirmed_1 7 rfl rfl)
theorem dX1_isConfirmed_33 : decode cX1_isConfirmed 33 = .ok (.iconst 0, 1) := dk_3 (dk_at dksX1_isConfirmed_1 10 rfl rfl)
theorem dX1_isConfirmed_34 : decode cX1_isConfirmed 34 = .ok (.istore 4, 2) := dk_54 4 (dk_at dksX1_isConfirmed_1 11 rfl rfl)
theorem dX1_isConfirmed_36 : decode cX1_isConfirmed 36 = .ok (.aload_n 2, 1) := dk_44 (dk_at dksX1_isConfirmed_1 13 rfl rfl)
theorem dX1_isConfirmed_37 : decode cX1_isConfirmed 37 = .ok (.invokevirtual 209, 3) := dk_182 0 209 (dk_at dksX1_isConfirmed_1 14 rfl rfl)
theorem dX1_isConfirmed_40 : decode cX1_isConfirmed 40 = .ok (.aload_n 2, 1) := dk_44 (dk_at dksX1_isConfirmed_1 17 rfl rfl)
theorem dX1_isConfirmed_41 : decode cX1_isConfirmed 41 = .ok (.invokevirtual 282, 3) := dk_182 1 26 (dk_at dksX1_isConfirmed_1 18 rfl rfl)
theorem dX1_isConfirmed_44 : decode cX1_isConfirmed 44 = .ok (.if_icmp .ne 19, 3) := dk_160 0 19 (dk_at dksX1_isConfirmed_1 21 rfl rfl)
theorem dX1_isConfirmed_47 : decode cX1_isConfirmed 47 = .ok (.aload_n 2, 1) := dk_44 (dk_at dksX1_isConfirmed_2 0 rfl rfl)
theorem dX1_isConfirmed_48 : decode cX1_isConfirmed 48 = .ok (.invokevirtual 285, 3) := dk_182 1 29 (dk_at dksX1_isConfirmed_2 1 rfl rfl)
theorem dX1_isConfirmed_51 : decode cX1_isConfirmed 51 = .ok (.aload_n 2, 1) := dk_44 (dk_at dksX1_isConfirmed_2 4 rfl rfl)
theorem dX1_isConfirmed_52 : decode cX1_isConfirmed 52 = .ok (.iconst 0, 1) := dk_3 (dk_at dksX1_isConfirmed_2 5 rfl rfl)
theorem dX1_isConfirmed_53 : decode cX1_isConfirmed 53 = .ok (.invokevirtual 288, 3) := dk_182 1 32 (dk_at dksX1_isConfirmed_2 6 rfl rfl)
theorem dX1_isConfirmed_56 : decode cX1_isConfirmed 56 = .ok (.if_icmp .ne 7, 3) := dk_160 0 7 (dk_at dksX1_isConfirmed_2 9 rfl rfl)
theorem dX1_isConfirmed_59 : decode cX1_isConfirmed 59 = .ok (.iconst 1, 1) := dk_4 (dk_at dksX1_isConfirmed_2 12 rfl rfl)
theorem dX1_isConfirmed_60 : decode cX1_isConfirmed 60 = .ok (.goto 4, 3) := dk_167 0 4 (dk_at dksX1_isConfirmed_2 13 rfl rfl)
theorem dX1_isConfirmed_63 : decode cX1_isConfirmed 63 = .ok (.iconst 0, 1) := dk_3 (dk_at dksX1_isConfirmed_2 16 rfl rfl)
theorem dX1_isConfirmed_64 : decode cX1_isConfirmed 64 = .ok (.istore 5, 2) := dk_54 5 (dk_at dksX1_isConfirmed_2 17 rfl rfl)
theorem dX1_isConfirmed_66 : decode cX1_isConfirmed 66 = .ok (.aload_n 2, 1) := dk_44 (dk_at dksX1_isConfirmed_2 19 rfl rfl)
theorem dX1_isConfirmed_67 : decode cX1_isConfirmed 67 = .ok (.invokevirtual 209, 3) := dk_182 0 209 (dk_at dksX1_isConfirmed_2 20 rfl rfl)
theorem dX1_isConfirmed_70 : decode cX1_isConfirmed 70 = .ok (.ifCond .eq 15, 3) := dk_153 0 15 (dk_at dksX1_isConfirmed_3 0 rfl rfl)
theorem dX1_isConfirmed_73 : decode cX1_isConfirmed 73 = .ok (.aload_n 1, 1) := dk_43 (dk_at dksX1_isConfirmed_3 3 rfl rfl)
theorem dX1_isConfirmed_74 : decode cX1_isConfirmed 74 = .ok (.invokestatic 305, 3) := dk_184 1 49 (dk_at dksX1_isConfirmed_3 4 rfl rfl)
theorem dX1_isConfirmed_77 : decode cX1_isConfirmed 77 = .ok (.iconst 0, 1) := dk_3 (dk_at dksX1_isConfirmed_3 7 rfl rfl)
theorem dX1_isConfirmed_78 : decode cX1_isConfirmed 78 = .ok (.iconst 0, 1) := dk_3 (dk_at dksX1_isConfirmed_3 8 rfl rfl)
theorem dX1_isConfirmed_79 : decode cX1_isConfirmed 79 = .ok (.invokevirtual 309, 3) := dk_182 1 53 (dk_at dksX1_isConfirmed_3 9 rfl rfl)
theorem dX1_isConfirmed_82 : decode cX1_isConfirmed 82 = .ok (.ifCond .eq 7, 3) := dk_153 0 7 (dk_at dksX1_isConfirmed_3 12 rfl rfl)
theorem dX1_isConfirmed_85 : decode cX1_isConfirmed 85 = .ok (.iconst 1, 1) := dk_4 (dk_at dksX1_isConfirmed_3 15 rfl rfl)
theorem dX1_isConfirmed_86 : decode cX1_isConfirmed 86 = .ok (.goto 4, 3) := dk_167 0 4 (dk_at dksX1_isConfirmed_3 16 rfl rfl)
theorem dX1_isConfirmed_89 : decode cX1_isConfirmed 89 = .ok (.iconst 0, 1) := dk_3 (dk_at dksX1_isConfirmed_3 19 rfl rfl)
theorem dX1_isConfirmed_90 : decode cX1_isConfirmed 90 = .ok (.istore 6, 2) := dk_54 6 (dk_at dksX1_isConfirmed_3 20 rfl rfl)
theorem dX1_isConfirmed_92 : decode cX1_isConfirmed 92 = .ok (.aload_n 1, 1) := dk_43 (dk_at dksX1_isConfirmed_3 22 rfl rfl)
theorem dX1_isConfirmed_93 : decode cX1_isConfirmed 93 = .ok (.invokevirtual 322, 3) := dk_182 1 66 (dk_at dksX1_isConfirmed_4 0 rfl rfl)
theorem dX1_isConfirmed_96 : decode cX1_isConfirmed 96 = .ok (.ifCond .eq 15, 3) := dk_153 0 15 (dk_at dksX1_isConfirmed_4 3 rfl rfl)
theorem dX1_isConfirmed_99 : decode cX1_isConfirmed 99 = .ok (.iload_n 3, 1) := dk_29 (dk_at dksX1_isConfirmed_4 6 rfl rfl)
theorem dX1_isConfirmed_100 : decode cX1_isConfirmed 100 = .ok (.ifCond .eq 15, 3) := dk_153 0 15 (dk_at dksX1_isConfirmed_4 7 rfl rfl)
theorem dX1_isConfirmed_103 : decode cX1_isConfirmed 103 = .ok (.aload_n 0, 1) := dk_42 (dk_at dksX1_isConfirmed_4 10 rfl rfl)
theorem dX1_isConfirmed_104 : decode cX1_isConfirmed 104 = .ok (.aload_n 1, 1) := dk_43 (dk_at dksX1_isConfirmed_4 11 rfl rfl)
theorem dX1_isConfirmed_105 : decode cX1_isConfirmed 105 = .ok (.invokevirtual 360, 3) := dk_182 1 104 (dk_at dksX1_isConfirmed_4 12 rfl rfl)
theorem dX1_isConfirmed_108 : decode cX1_isConfirmed 108 = .ok (.ifCond .eq 7, 3) := dk_153 0 7 (dk_at dksX1_isConfirmed_4 15 rfl rfl)
theorem dX1_isConfirmed_111 : decode cX1_isConfirmed 111 = .ok (.iconst 1, 1) := dk_4 (dk_at dksX1_isConfirmed_4 18 rfl rfl)
theorem dX1_isConfirmed_112 : decode cX1_isConfirmed 112 = .ok (.goto 4, 3) := dk_167 0 4 (dk_at dksX1_isConfirmed_4 19 rfl rfl)
theorem dX1_isConfirmed_115 : decode cX1_isConfirmed 115 = .ok (.iconst 0, 1) := dk_3 (dk_at dksX1_isConfirmed_4 22 rfl rfl)
theorem dX1_isConfirmed_116 : decode cX1_isConfirmed 116 = .ok (.istore 7, 2) := dk_54 7 (dk_at dksX1_isConfirmed_5 0 rfl rfl)
theorem dX1_isConfirmed_118 : decode cX1_isConfirmed 118 = .ok (.iload 4, 2) := dk_21 4 (dk_at dksX1_isConfirmed_5 2 rfl rfl)
theorem dX1_isConfirmed_120 : decode cX1_isConfirmed 120 = .ok (.ifCond .eq 33, 3) := dk_153 0 33 (dk_at dksX1_isConfirmed_5 4 rfl rfl)
theorem dX1_isConfirmed_123 : decode cX1_isConfirmed 123 = .ok (.iload 5, 2) := dk_21 5 (dk_at dksX1_isConfirmed_5 7 rfl rfl)
theorem dX1_isConfirmed_125 : decode cX1_isConfirmed 125 = .ok (.ifCond .eq 28, 3) := dk_153 0 28 (dk_at dksX1_isConfirmed_5 9 rfl rfl)
theorem dX1_isConfirmed_128 : decode cX1_isConfirmed 128 = .ok (.iload 6, 2) := dk_21 6 (dk_at dksX1_isConfirmed_5 12 rfl rfl)
theorem dX1_isConfirmed_130 : decode cX1_isConfirmed 130 = .ok (.ifCond .eq 23, 3) := dk_153 0 23 (dk_at dksX1_isConfirmed_5 14 rfl rfl)
theorem dX1_isConfirmed_133 : decode cX1_isConfirmed 133 = .ok (.iload 7, 2) := dk_21 7 (dk_at dksX1_isConfirmed_5 17 rfl rfl)
theorem dX1_isConfirmed_135 : decode cX1_isConfirmed 135 = .ok (.ifCond .eq 18, 3) := dk_153 0 18 (dk_at dksX1_isConfirmed_5 19 rfl rfl)
theorem dX1_isConfirmed_138 : decode cX1_isConfirmed 138 = .ok (.iload_n 3, 1) := dk_29 (dk_at dksX1_isConfirmed_5 22 rfl rfl)
theorem dX1_isConfirmed_139 : decode cX1_isConfirmed 139 = .ok (.ifCond .eq 10, 3) := dk_153 0 10 (dk_at dksX1_isConfirmed_6 0 rfl rfl)
theorem dX1_isConfirmed_142 : decode cX1_isConfirmed 142 = .ok (.aload_n 1, 1) := dk_43 (dk_at dksX1_isConfirmed_6 3 rfl rfl)
theorem dX1_isConfirmed_143 : decode cX1_isConfirmed 143 = .ok (.invokevirtual 319, 3) := dk_182 1 63 (dk_at dksX1_isConfirmed_6 4 rfl rfl)
theorem dX1_isConfirmed_146 : decode cX1_isConfirmed 146 = .ok (.ifCond .eq 7, 3) := dk_153 0 7 (dk_at dksX1_isConfirmed_6 7 rfl rfl)
theorem dX1_isConfirmed_149 : decode cX1_isConfirmed 149 = .ok (.iconst 1, 1) := dk_4 (dk_at dksX1_isConfirmed_6 10 rfl rfl)
theorem dX1_isConfirmed_150 : decode cX1_isConfirmed 150 = .ok (.goto 4, 3) := dk_167 0 4 (dk_at dksX1_isConfirmed_6 11 rfl rfl)
theorem dX1_isConfirmed_153 : decode cX1_isConfirmed 153 = .ok (.iconst 0, 1) := dk_3 (dk_at dksX1_isConfirmed_6 14 rfl rfl)
theorem dX1_isConfirmed_154 : decode cX1_isConfirmed 154 = .ok (.ireturn, 1) := dk_172 (dk_at dksX1_isConfirmed_6 15 rfl rfl)
abbrev cX1_findBefore : ByteArray := prog_1_method_14_code
def yX1_findBefore : MethodName := ⟨RX1, "findBefore", "(Ljava/util/List;ILScheduleAnalyzer$OperationTest;)I"⟩
def dkwX1_findBefore_1 : List UInt8 := [154, 0, 9, 132, 3, 255, 167, 255, 230, 29, 172]
abbrev dktX1_findBefore_1 : List UInt8 := dkwX1_findBefore_1 ++ []
def dkwX1_findBefore_0 : List UInt8 := [27, 4, 100, 62, 29, 155, 0, 28, 44, 42, 29, 185, 0, 69, 2, 0, 192, 0, 73, 185, 0, 75, 2, 0]
abbrev dktX1_findBefore_0 : List UInt8 := dkwX1_findBefore_0 ++ dktX1_findBefore_1
theorem dksX1_findBefore_0 : cX1_findBefore.data.toList.drop 0 = dktX1_findBefore_0 := by decide +kernel
theorem dksX1_findBefore_1 : cX1_findBefore.data.toList.drop 24 = dktX1_findBefore_1 := dk_seg dksX1_findBefore_0 24 rfl rfl
theorem dX1_findBefore_0 : decode cX1_findBefore 0 = .ok (.iload_n 1, 1) := dk_27 (dk_at dksX1_findBefore_0 0 rfl rfl)
theorem dX1_findBefore_1 : decode cX1_findBefore 1 = .ok (.iconst 1, 1) := dk_4 (dk_at dksX1_findBefore_0 1 rfl rfl)
theorem dX1_findBefore_2 : decode cX1_findBefore 2 = .ok (.isub, 1) := dk_100 (dk_at dksX1_findBefore_0 2 rfl rfl)
theorem dX1_findBefore_3 : decode cX1_findBefore 3 = .ok (.istore_n 3, 1) := dk_62 (dk_at dksX1_findBefore_0 3 rfl rfl)
theorem dX1_findBefore_4 : decode cX1_findBefore 4 = .ok (.iload_n 3, 1) := dk_29 (dk_at dksX1_findBefore_0 4 rfl rfl)
theorem dX1_findBefore_5 : decode cX1_findBefore 5 = .ok (.ifCond .lt 28, 3) := dk_155 0 28 (dk_at dksX1_findBefore_0 5 rfl rfl)
theorem dX1_findBefore_8 : decode cX1_findBefore 8 = .ok (.aload_n 2, 1) := dk_44 (dk_at dksX1_findBefore_0 8 rfl rfl)
theorem dX1_findBefore_9 : decode cX1_findBefore 9 = .ok (.aload_n 0, 1) := dk_42 (dk_at dksX1_findBefore_0 9 rfl rfl)
theorem dX1_findBefore_10 : decode cX1_findBefore 10 = .ok (.iload_n 3, 1) := dk_29 (dk_at dksX1_findBefore_0 10 rfl rfl)
theorem dX1_findBefore_11 : decode cX1_findBefore 11 = .ok (.invokeinterface 69 2, 5) := by decide +kernel
theorem dX1_findBefore_16 : decode cX1_findBefore 16 = .ok (.checkcast 73, 3) := dk_192 0 73 (dk_at dksX1_findBefore_0 16 rfl rfl)
theorem dX1_findBefore_19 : decode cX1_findBefore 19 = .ok (.invokeinterface 75 2, 5) := by decide +kernel
theorem dX1_findBefore_24 : decode cX1_findBefore 24 = .ok (.ifCond .ne 9, 3) := dk_154 0 9 (dk_at dksX1_findBefore_1 0 rfl rfl)
theorem dX1_findBefore_27 : decode cX1_findBefore 27 = .ok (.iinc 3 (-1), 3) := dk_132 3 255 (dk_at dksX1_findBefore_1 3 rfl rfl)
theorem dX1_findBefore_30 : decode cX1_findBefore 30 = .ok (.goto (-26), 3) := dk_167 255 230 (dk_at dksX1_findBefore_1 6 rfl rfl)
theorem dX1_findBefore_33 : decode cX1_findBefore 33 = .ok (.iload_n 3, 1) := dk_29 (dk_at dksX1_findBefore_1 9 rfl rfl)
theorem dX1_findBefore_34 : decode cX1_findBefore 34 = .ok (.ireturn, 1) := dk_172 (dk_at dksX1_findBefore_1 10 rfl rfl)
abbrev cX1_countBefore : ByteArray := prog_1_method_13_code
def yX1_countBefore : MethodName := ⟨RX1, "countBefore", "(Ljava/util/List;ILScheduleAnalyzer$OperationTest;)I"⟩
def dkwX1_countBefore_1 : List UInt8 := [185, 0, 75, 2, 0, 153, 0, 7, 4, 167, 0, 4, 3, 96, 62, 132, 4, 1, 167, 255, 219, 29, 172]
abbrev dktX1_countBefore_1 : List UInt8 := dkwX1_countBefore_1 ++ []
def dkwX1_countBefore_0 : List UInt8 := [3, 62, 3, 54, 4, 21, 4, 27, 162, 0, 37, 29, 44, 42, 21, 4, 185, 0, 69, 2, 0, 192, 0, 73]
abbrev dktX1_countBefore_0 : List UInt8 := dkwX1_countBefore_0 ++ dktX1_countBefore_1
theorem dksX1_countBefore_0 : cX1_countBefore.data.toList.drop 0 = dktX1_countBefore_0 := by decide +kernel
theorem dksX1_countBefore_1 : cX1_countBefore.data.toList.drop 24 = dktX1_countBefore_1 := dk_seg dksX1_countBefore_0 24 rfl rfl
theorem dX1_countBefore_0 : decode cX1_countBefore 0 = .ok (.iconst 0, 1) := dk_3 (dk_at dksX1_countBefore_0 0 rfl rfl)
theorem dX1_countBefore_1 : decode cX1_countBefore 1 = .ok (.istore_n 3, 1) := dk_62 (dk_at dksX1_countBefore_0 1 rfl rfl)
theorem dX1_countBefore_2 : decode cX1_countBefore 2 = .ok (.iconst 0, 1) := dk_3 (dk_at dksX1_countBefore_0 2 rfl rfl)
theorem dX1_countBefore_3 : decode cX1_countBefore 3 = .ok (.istore 4, 2) := dk_54 4 (dk_at dksX1_countBefore_0 3 rfl rfl)
theorem dX1_countBefore_5 : decode cX1_countBefore 5 = .ok (.iload 4, 2) := dk_21 4 (dk_at dksX1_countBefore_0 5 rfl rfl)
theorem dX1_countBefore_7 : decode cX1_countBefore 7 = .ok (.iload_n 1, 1) := dk_27 (dk_at dksX1_countBefore_0 7 rfl rfl)
theorem dX1_countBefore_8 : decode cX1_countBefore 8 = .ok (.if_icmp .ge 37, 3) := dk_162 0 37 (dk_at dksX1_countBefore_0 8 rfl rfl)
theorem dX1_countBefore_11 : decode cX1_countBefore 11 = .ok (.iload_n 3, 1) := dk_29 (dk_at dksX1_countBefore_0 11 rfl rfl)
theorem dX1_countBefore_12 : decode cX1_countBefore 12 = .ok (.aload_n 2, 1) := dk_44 (dk_at dksX1_countBefore_0 12 rfl rfl)
theorem dX1_countBefore_13 : decode cX1_countBefore 13 = .ok (.aload_n 0, 1) := dk_42 (dk_at dksX1_countBefore_0 13 rfl rfl)
theorem dX1_countBefore_14 : decode cX1_countBefore 14 = .ok (.iload 4, 2) := dk_21 4 (dk_at dksX1_countBefore_0 14 rfl rfl)
theorem dX1_countBefore_16 : decode cX1_countBefore 16 = .ok (.invokeinterface 69 2, 5) := by decide +kernel
theorem dX1_countBefore_21 : decode cX1_countBefore 21 = .ok (.checkcast 73, 3) := dk_192 0 73 (dk_at dksX1_countBefore_0 21 rfl rfl)
theorem dX1_countBefore_24 : decode cX1_countBefore 24 = .ok (.invokeinterface 75 2, 5) := by decide +kernel
theorem dX1_countBefore_29 : decode cX1_countBefore 29 = .ok (.ifCond .eq 7, 3) := dk_153 0 7 (dk_at dksX1_countBefore_1 5 rfl rfl)
theorem dX1_countBefore_32 : decode cX1_countBefore 32 = .ok (.iconst 1, 1) := dk_4 (dk_at dksX1_countBefore_1 8 rfl rfl)
theorem dX1_countBefore_33 : decode cX1_countBefore 33 = .ok (.goto 4, 3) := dk_167 0 4 (dk_at dksX1_countBefore_1 9 rfl rfl)
theorem dX1_countBefore_36 : decode cX1_countBefore 36 = .ok (.iconst 0, 1) := dk_3 (dk_at dksX1_countBefore_1 12 rfl rfl)
theorem dX1_countBefore_37 : decode cX1_countBefore 37 = .ok (.iadd, 1) := dk_96 (dk_at dksX1_countBefore_1 13 rfl rfl)
theorem dX1_countBefore_38 : decode cX1_countBefore 38 = .ok (.istore_n 3, 1) := dk_62 (dk_at dksX1_countBefore_1 14 rfl rfl)
theorem dX1_countBefore_39 : decode cX1_countBefore 39 = .ok (.iinc 4 1, 3) := dk_132 4 1 (dk_at dksX1_countBefore_1 15 rfl rfl)
theorem dX1_countBefore_42 : decode cX1_countBefore 42 = .ok (.goto (-37), 3) := dk_167 255 219 (dk_at dksX1_countBefore_1 18 rfl rfl)
theorem dX1_countBefore_45 : decode cX1_countBefore 45 = .ok (.iload_n 3, 1) := dk_29 (dk_at dksX1_countBefore_1 21 rfl rfl)
theorem dX1_countBefore_46 : decode cX1_countBefore 46 = .ok (.ireturn, 1) := dk_172 (dk_at dksX1_countBefore_1 22 rfl rfl)
abbrev cX1_count : ByteArray := prog_1_method_12_code
def yX1_count : MethodName := ⟨RX1, "count", "(Ljava/util/List;LScheduleAnalyzer$OperationTest;)I"⟩
def dkwX1_count_0 : List UInt8 := [42, 42, 185, 0, 59, 1, 0, 43, 184, 0, 65, 172]
abbrev dktX1_count_0 : List UInt8 := dkwX1_count_0 ++ []
theorem dksX1_count_0 : cX1_count.data.toList.drop 0 = dktX1_count_0 := by decide +kernel
theorem dX1_count_0 : decode cX1_count 0 = .ok (.aload_n 0, 1) := dk_42 (dk_at dksX1_count_0 0 rfl rfl)
theorem dX1_count_1 : decode cX1_count 1 = .ok (.aload_n 0, 1) := dk_42 (dk_at dksX1_count_0 1 rfl rfl)
theorem dX1_count_2 : decode cX1_count 2 = .ok (.invokeinterface 59 1, 5) := by decide +kernel
theorem dX1_count_7 : decode cX1_count 7 = .ok (.aload_n 1, 1) := dk_43 (dk_at dksX1_count_0 7 rfl rfl)
theorem dX1_count_8 : decode cX1_count 8 = .ok (.invokestatic 65, 3) := dk_184 0 65 (dk_at dksX1_count_0 8 rfl rfl)
theorem dX1_count_11 : decode cX1_count 11 = .ok (.ireturn, 1) := dk_172 (dk_at dksX1_count_0 11 rfl rfl)
abbrev cX1_isIn : ByteArray := prog_1_method_9_code
def yX1_isIn : MethodName := ⟨RX1, "isIn", "(II)Z"⟩
def dkwX1_isIn_0 : List UInt8 := [27, 26, 122, 4, 126, 4, 160, 0, 7, 4, 167, 0, 4, 3, 172]
abbrev dktX1_isIn_0 : List UInt8 := dkwX1_isIn_0 ++ []
theorem dksX1_isIn_0 : cX1_isIn.data.toList.drop 0 = dktX1_isIn_0 := by decide +kernel
theorem dX1_isIn_0 : decode cX1_isIn 0 = .ok (.iload_n 1, 1) := dk_27 (dk_at dksX1_isIn_0 0 rfl rfl)
theorem dX1_isIn_1 : decode cX1_isIn 1 = .ok (.iload_n 0, 1) := dk_26 (dk_at dksX1_isIn_0 1 rfl rfl)
theorem dX1_isIn_2 : decode cX1_isIn 2 = .ok (.ishr, 1) := dk_122 (dk_at dksX1_isIn_0 2 rfl rfl)
theorem dX1_isIn_3 : decode cX1_isIn 3 = .ok (.iconst 1, 1) := dk_4 (dk_at dksX1_isIn_0 3 rfl rfl)
theorem dX1_isIn_4 : decode cX1_isIn 4 = .ok (.iand, 1) := dk_126 (dk_at dksX1_isIn_0 4 rfl rfl)
theorem dX1_isIn_5 : decode cX1_isIn 5 = .ok (.iconst 1, 1) := dk_4 (dk_at dksX1_isIn_0 5 rfl rfl)
theorem dX1_isIn_6 : decode cX1_isIn 6 = .ok (.if_icmp .ne 7, 3) := dk_160 0 7 (dk_at dksX1_isIn_0 6 rfl rfl)
theorem dX1_isIn_9 : decode cX1_isIn 9 = .ok (.iconst 1, 1) := dk_4 (dk_at dksX1_isIn_0 9 rfl rfl)
theorem dX1_isIn_10 : decode cX1_isIn 10 = .ok (.goto 4, 3) := dk_167 0 4 (dk_at dksX1_isIn_0 10 rfl rfl)
theorem dX1_isIn_13 : decode cX1_isIn 13 = .ok (.iconst 0, 1) := dk_3 (dk_at dksX1_isIn_0 13 rfl rfl)
theorem dX1_isIn_14 : decode cX1_isIn 14 = .ok (.ireturn, 1) := dk_172 (dk_at dksX1_isIn_0 14 rfl rfl)
abbrev cX1_viewsOf : ByteArray := prog_1_method_49_code
def yX1_viewsOf : MethodName := ⟨RX1, "viewsOf", "(LScheduleAnalyzer$Schedule;)LScheduleAnalyzer$ViewSearch;"⟩
def dkwX1_viewsOf_0 : List UInt8 := [187, 1, 46, 89, 42, 182, 0, 217, 183, 1, 48, 176]
abbrev dktX1_viewsOf_0 : List UInt8 := dkwX1_viewsOf_0 ++ []
theorem dksX1_viewsOf_0 : cX1_viewsOf.data.toList.drop 0 = dktX1_viewsOf_0 := by decide +kernel
theorem dX1_viewsOf_0 : decode cX1_viewsOf 0 = .ok (.new 302, 3) := dk_187 1 46 (dk_at dksX1_viewsOf_0 0 rfl rfl)
theorem dX1_viewsOf_3 : decode cX1_viewsOf 3 = .ok (.dup, 1) := dk_89 (dk_at dksX1_viewsOf_0 3 rfl rfl)
theorem dX1_viewsOf_4 : decode cX1_viewsOf 4 = .ok (.aload_n 0, 1) := dk_42 (dk_at dksX1_viewsOf_0 4 rfl rfl)
theorem dX1_viewsOf_5 : decode cX1_viewsOf 5 = .ok (.invokevirtual 217, 3) := dk_182 0 217 (dk_at dksX1_viewsOf_0 5 rfl rfl)
theorem dX1_viewsOf_8 : decode cX1_viewsOf 8 = .ok (.invokespecial 304, 3) := dk_183 1 48 (dk_at dksX1_viewsOf_0 8 rfl rfl)
theorem dX1_viewsOf_11 : decode cX1_viewsOf 11 = .ok (.areturn, 1) := dk_176 (dk_at dksX1_viewsOf_0 11 rfl rfl)
abbrev cX1_haveSameValues : ByteArray := prog_1_method_66_code
def yX1_haveSameValues : MethodName := ⟨RX1, "haveSameValues", "(LScheduleAnalyzer$Schedule;)Z"⟩
def dkwX1_haveSameValues_3 : List UInt8 := [126, 54, 4, 132, 5, 1, 167, 255, 226, 21, 4, 172]
abbrev dktX1_haveSameValues_3 : List UInt8 := dkwX1_haveSameValues_3 ++ []
def dkwX1_haveSameValues_2 : List UInt8 := [21, 5, 7, 162, 0, 30, 21, 4, 44, 21, 5, 46, 45, 21, 5, 46, 160, 0, 7, 4, 167, 0, 4, 3]
abbrev dktX1_haveSameValues_2 : List UInt8 := dkwX1_haveSameValues_2 ++ dktX1_haveSameValues_3
def dkwX1_haveSameValues_1 : List UInt8 := [180, 0, 10, 180, 0, 237, 43, 182, 0, 217, 183, 1, 71, 180, 1, 74, 78, 4, 54, 4, 3, 54, 5]
abbrev dktX1_haveSameValues_1 : List UInt8 := dkwX1_haveSameValues_1 ++ dktX1_haveSameValues_2
def dkwX1_haveSameValues_0 : List UInt8 := [187, 1, 69, 89, 42, 180, 0, 10, 180, 0, 237, 43, 183, 1, 71, 180, 1, 74, 77, 187, 1, 69, 89, 42]
abbrev dktX1_haveSameValues_0 : List UInt8 := dkwX1_haveSameValues_0 ++ dktX1_haveSameValues_1
theorem dksX1_haveSameValues_0 : cX1_haveSameValues.data.toList.drop 0 = dktX1_haveSameValues_0 := by decide +kernel
theorem dksX1_haveSameValues_1 : cX1_haveSameValues.data.toList.drop 24 = dktX1_haveSameValues_1 := dk_seg dksX1_haveSameValues_0 24 rfl rfl
theorem dksX1_haveSameValues_2 : cX1_haveSameValues.data.toList.drop 47 = dktX1_haveSameValues_2 := dk_seg dksX1_haveSameValues_1 23 rfl rfl
theorem dksX1_haveSameValues_3 : cX1_haveSameValues.data.toList.drop 71 = dktX1_haveSameValues_3 := dk_seg dksX1_haveSameValues_2 24 rfl rfl
theorem dX1_haveSameValues_0 : decode cX1_haveSameValues 0 = .ok (.new 325, 3) := dk_187 1 69 (dk_at dksX1_haveSameValues_0 0 rfl rfl)
theorem dX1_haveSameValues_3 : decode cX1_haveSameValues 3 = .ok (.dup, 1) := dk_89 (dk_at dksX1_haveSameValues_0 3 rfl rfl)
theorem dX1_haveSameValues_4 : decode cX1_haveSameValues 4 = .ok (.aload_n 0, 1) := dk_42 (dk_at dksX1_haveSameValues_0 4 rfl rfl)
theorem dX1_haveSameValues_5 : decode cX1_haveSameValues 5 = .ok (.getfield 10, 3) := dk_180 0 10 (dk_at dksX1_haveSameValues_0 5 rfl rfl)
theorem dX1_haveSameValues_8 : decode cX1_haveSameValues 8 = .ok (.getfield 237, 3) := dk_180 0 237 (dk_at dksX1_haveSameValues_0 8 rfl rfl)
theorem dX1_haveSameValues_11 : decode cX1_haveSameValues 11 = .ok (.aload_n 1, 1) := dk_43 (dk_at dksX1_haveSameValues_0 11 rfl rfl)
theorem dX1_haveSameValues_12 : decode cX1_haveSameValues 12 = .ok (.invokespecial 327, 3) := dk_183 1 71 (dk_at dksX1_haveSameValues_0 12 rfl rfl)
theorem dX1_haveSameValues_15 : decode cX1_haveSameValues 15 = .ok (.getfield 330, 3) := dk_180 1 74 (dk_at dksX1_haveSameValues_0 15 rfl rfl)
theorem dX1_haveSameValues_18 : decode cX1_haveSameValues 18 = .ok (.astore_n 2, 1) := dk_77 (dk_at dksX1_haveSameValues_0 18 rfl rfl)
theorem dX1_haveSameValues_19 : decode cX1_haveSameValues 19 = .ok (.new 325, 3) := dk_187 1 69 (dk_at dksX1_haveSameValues_0 19 rfl rfl)
theorem dX1_haveSameValues_22 : decode cX1_haveSameValues 22 = .ok (.dup, 1) := dk_89 (dk_at dksX1_haveSameValues_0 22 rfl rfl)
theorem dX1_haveSameValues_23 : decode cX1_haveSameValues 23 = .ok (.aload_n 0, 1) := dk_42 (dk_at dksX1_haveSameValues_0 23 rfl rfl)
theorem dX1_haveSameValues_24 : decode cX1_haveSameValues 24 = .ok (.getfield 10, 3) := dk_180 0 10 (dk_at dksX1_haveSameValues_1 0 rfl rfl)
theorem dX1_haveSameValues_27 : decode cX1_haveSameValues 27 = .ok (.getfield 237, 3) := dk_180 0 237 (dk_at dksX1_haveSameValues_1 3 rfl rfl)
theorem dX1_haveSameValues_30 : decode cX1_haveSameValues 30 = .ok (.aload_n 1, 1) := dk_43 (dk_at dksX1_haveSameValues_1 6 rfl rfl)
theorem dX1_haveSameValues_31 : decode cX1_haveSameValues 31 = .ok (.invokevirtual 217, 3) := dk_182 0 217 (dk_at dksX1_haveSameValues_1 7 rfl rfl)
theorem dX1_haveSameValues_34 : decode cX1_haveSameValues 34 = .ok (.invokespecial 327, 3) := dk_183 1 71 (dk_at dksX1_haveSameValues_1 10 rfl rfl)
theorem dX1_haveSameValues_37 : decode cX1_haveSameValues 37 = .ok (.getfield 330, 3) := dk_180 1 74 (dk_at dksX1_haveSameValues_1 13 rfl rfl)
theorem dX1_haveSameValues_40 : decode cX1_haveSameValues 40 = .ok (.astore_n 3, 1) := dk_78 (dk_at dksX1_haveSameValues_1 16 rfl rfl)
theorem dX1_haveSameValues_41 : decode cX1_haveSameValues 41 = .ok (.iconst 1, 1) := dk_4 (dk_at dksX1_haveSameValues_1 17 rfl rfl)
theorem dX1_haveSameValues_42 : decode cX1_haveSameValues 42 = .ok (.istore 4, 2) := dk_54 4 (dk_at dksX1_haveSameValues_1 18 rfl rfl)
theorem dX1_haveSameValues_44 : decode cX1_haveSameValues 44 = .ok (.iconst 0, 1) := dk_3 (dk_at dksX1_haveSameValues_1 20 rfl rfl)
theorem dX1_haveSameValues_45 : decode cX1_haveSameValues 45 = .ok (.istore 5, 2) := dk_54 5 (dk_at dksX1_haveSameValues_1 21 rfl rfl)
theorem dX1_haveSameValues_47 : decode cX1_haveSameValues 47 = .ok (.iload 5, 2) := dk_21 5 (dk_at dksX1_haveSameValues_2 0 rfl rfl)
theorem dX1_haveSameValues_49 : decode cX1_haveSameValues 49 = .ok (.iconst 4, 1) := dk_7 (dk_at dksX1_haveSameValues_2 2 rfl rfl)
theorem dX1_haveSameValues_50 : decode cX1_haveSameValues 50 = .ok (.if_icmp .ge 30, 3) := dk_162 0 30 (dk_at dksX1_haveSameValues_2 3 rfl rfl)
theorem dX1_haveSameValues_53 : decode cX1_haveSameValues 53 = .ok (.iload 4, 2) := dk_21 4 (dk_at dksX1_haveSameValues_2 6 rfl rfl)
theorem dX1_haveSameValues_55 : decode cX1_haveSameValues 55 = .ok (.aload_n 2, 1) := dk_44 (dk_at dksX1_haveSameValues_2 8 rfl rfl)
theorem dX1_haveSameValues_56 : decode cX1_haveSameValues 56 = .ok (.iload 5, 2) := dk_21 5 (dk_at dksX1_haveSameValues_2 9 rfl rfl)
theorem dX1_haveSameValues_58 : decode cX1_haveSameValues 58 = .ok (.iaload, 1) := dk_46 (dk_at dksX1_haveSameValues_2 11 rfl rfl)
theorem dX1_haveSameValues_59 : decode cX1_haveSameValues 59 = .ok (.aload_n 3, 1) := dk_45 (dk_at dksX1_haveSameValues_2 12 rfl rfl)
theorem dX1_haveSameValues_60 : decode cX1_haveSameValues 60 = .ok (.iload 5, 2) := dk_21 5 (dk_at dksX1_haveSameValues_2 13 rfl rfl)
theorem dX1_haveSameValues_62 : decode cX1_haveSameValues 62 = .ok (.iaload, 1) := dk_46 (dk_at dksX1_haveSameValues_2 15 rfl rfl)
theorem dX1_haveSameValues_63 : decode cX1_haveSameValues 63 = .ok (.if_icmp .ne 7, 3) := dk_160 0 7 (dk_at dksX1_haveSameValues_2 16 rfl rfl)
theorem dX1_haveSameValues_66 : decode cX1_haveSameValues 66 = .ok (.iconst 1, 1) := dk_4 (dk_at dksX1_haveSameValues_2 19 rfl rfl)
theorem dX1_haveSameValues_67 : decode cX1_haveSameValues 67 = .ok (.goto 4, 3) := dk_167 0 4 (dk_at dksX1_haveSameValues_2 20 rfl rfl)
theorem dX1_haveSameValues_70 : decode cX1_haveSameValues 70 = .ok (.iconst 0, 1) := dk_3 (dk_at dksX1_haveSameValues_2 23 rfl rfl)
theorem dX1_haveSameValues_71 : decode cX1_haveSameValues 71 = .ok (.iand, 1) := dk_126 (dk_at dksX1_haveSameValues_3 0 rfl rfl)
theorem dX1_haveSameValues_72 : decode cX1_haveSameValues 72 = .ok (.istore 4, 2) := dk_54 4 (dk_at dksX1_haveSameValues_3 1 rfl rfl)
theorem dX1_haveSameValues_74 : decode cX1_haveSameValues 74 = .ok (.iinc 5 1, 3) := dk_132 5 1 (dk_at dksX1_haveSameValues_3 3 rfl rfl)
theorem dX1_haveSameValues_77 : decode cX1_haveSameValues 77 = .ok (.goto (-30), 3) := dk_167 255 226 (dk_at dksX1_haveSameValues_3 6 rfl rfl)
theorem dX1_haveSameValues_80 : decode cX1_haveSameValues 80 = .ok (.iload 4, 2) := dk_21 4 (dk_at dksX1_haveSameValues_3 9 rfl rfl)
theorem dX1_haveSameValues_82 : decode cX1_haveSameValues 82 = .ok (.ireturn, 1) := dk_172 (dk_at dksX1_haveSameValues_3 11 rfl rfl)
abbrev cX1_clearBuffer : ByteArray := prog_1_method_74_code
def yX1_clearBuffer : MethodName := ⟨RX1, "clearBuffer", "()I"⟩
def dkwX1_clearBuffer_0 : List UInt8 := [42, 180, 0, 26, 182, 1, 114, 60, 42, 180, 0, 26, 3, 182, 0, 138, 27, 172]
abbrev dktX1_clearBuffer_0 : List UInt8 := dkwX1_clearBuffer_0 ++ []
theorem dksX1_clearBuffer_0 : cX1_clearBuffer.data.toList.drop 0 = dktX1_clearBuffer_0 := by decide +kernel
theorem dX1_clearBuffer_0 : decode cX1_clearBuffer 0 = .ok (.aload_n 0, 1) := dk_42 (dk_at dksX1_clearBuffer_0 0 rfl rfl)
theorem dX1_clearBuffer_1 : decode cX1_clearBuffer 1 = .ok (.getfield 26, 3) := dk_180 0 26 (dk_at dksX1_clearBuffer_0 1 rfl rfl)
theorem dX1_clearBuffer_4 : decode cX1_clearBuffer 4 = .ok (.invokevirtual 370, 3) := dk_182 1 114 (dk_at dksX1_clearBuffer_0 4 rfl rfl)
theorem dX1_clearBuffer_7 : decode cX1_clearBuffer 7 = .ok (.istore_n 1, 1) := dk_60 (dk_at dksX1_clearBuffer_0 7 rfl rfl)
theorem dX1_clearBuffer_8 : decode cX1_clearBuffer 8 = .ok (.aload_n 0, 1) := dk_42 (dk_at dksX1_clearBuffer_0 8 rfl rfl)
theorem dX1_clearBuffer_9 : decode cX1_clearBuffer 9 = .ok (.getfield 26, 3) := dk_180 0 26 (dk_at dksX1_clearBuffer_0 9 rfl rfl)
theorem dX1_clearBuffer_12 : decode cX1_clearBuffer 12 = .ok (.iconst 0, 1) := dk_3 (dk_at dksX1_clearBuffer_0 12 rfl rfl)
theorem dX1_clearBuffer_13 : decode cX1_clearBuffer 13 = .ok (.invokevirtual 138, 3) := dk_182 0 138 (dk_at dksX1_clearBuffer_0 13 rfl rfl)
theorem dX1_clearBuffer_16 : decode cX1_clearBuffer 16 = .ok (.iload_n 1, 1) := dk_27 (dk_at dksX1_clearBuffer_0 16 rfl rfl)
theorem dX1_clearBuffer_17 : decode cX1_clearBuffer 17 = .ok (.ireturn, 1) := dk_172 (dk_at dksX1_clearBuffer_0 17 rfl rfl)
abbrev cX1_undoableCount : ByteArray := prog_1_method_76_code
def yX1_undoableCount : MethodName := ⟨RX1, "undoableCount", "()I"⟩
def dkwX1_undoableCount_0 : List UInt8 := [42, 180, 0, 19, 182, 0, 89, 172]
abbrev dktX1_undoableCount_0 : List UInt8 := dkwX1_undoableCount_0 ++ []
theorem dksX1_undoableCount_0 : cX1_undoableCount.data.toList.drop 0 = dktX1_undoableCount_0 := by decide +kernel
theorem dX1_undoableCount_0 : decode cX1_undoableCount 0 = .ok (.aload_n 0, 1) := dk_42 (dk_at dksX1_undoableCount_0 0 rfl rfl)
theorem dX1_undoableCount_1 : decode cX1_undoableCount 1 = .ok (.getfield 19, 3) := dk_180 0 19 (dk_at dksX1_undoableCount_0 1 rfl rfl)
theorem dX1_undoableCount_4 : decode cX1_undoableCount 4 = .ok (.invokevirtual 89, 3) := dk_182 0 89 (dk_at dksX1_undoableCount_0 4 rfl rfl)
theorem dX1_undoableCount_7 : decode cX1_undoableCount 7 = .ok (.ireturn, 1) := dk_172 (dk_at dksX1_undoableCount_0 7 rfl rfl)
abbrev cX1_save : ByteArray := prog_1_method_78_code
def yX1_save : MethodName := ⟨RX1, "save", "()I"⟩
def dkwX1_save_0 : List UInt8 := [42, 42, 180, 0, 10, 182, 0, 81, 181, 1, 157, 42, 180, 0, 10, 182, 1, 160, 172]
abbrev dktX1_save_0 : List UInt8 := dkwX1_save_0 ++ []
theorem dksX1_save_0 : cX1_save.data.toList.drop 0 = dktX1_save_0 := by decide +kernel
theorem dX1_save_0 : decode cX1_save 0 = .ok (.aload_n 0, 1) := dk_42 (dk_at dksX1_save_0 0 rfl rfl)
theorem dX1_save_1 : decode cX1_save 1 = .ok (.aload_n 0, 1) := dk_42 (dk_at dksX1_save_0 1 rfl rfl)
theorem dX1_save_2 : decode cX1_save 2 = .ok (.getfield 10, 3) := dk_180 0 10 (dk_at dksX1_save_0 2 rfl rfl)
theorem dX1_save_5 : decode cX1_save 5 = .ok (.invokevirtual 81, 3) := dk_182 0 81 (dk_at dksX1_save_0 5 rfl rfl)
theorem dX1_save_8 : decode cX1_save 8 = .ok (.putfield 413, 3) := dk_181 1 157 (dk_at dksX1_save_0 8 rfl rfl)
theorem dX1_save_11 : decode cX1_save 11 = .ok (.aload_n 0, 1) := dk_42 (dk_at dksX1_save_0 11 rfl rfl)
theorem dX1_save_12 : decode cX1_save 12 = .ok (.getfield 10, 3) := dk_180 0 10 (dk_at dksX1_save_0 12 rfl rfl)
theorem dX1_save_15 : decode cX1_save 15 = .ok (.invokevirtual 416, 3) := dk_182 1 160 (dk_at dksX1_save_0 15 rfl rfl)
theorem dX1_save_18 : decode cX1_save 18 = .ok (.ireturn, 1) := dk_172 (dk_at dksX1_save_0 18 rfl rfl)
abbrev cX1_write : ByteArray := prog_1_method_21_code
def yX1_write : MethodName := ⟨RX1, "write", "(I)I"⟩
def dkwX1_write_3 : List UInt8 := [184, 0, 157, 42, 27, 45, 182, 0, 160, 172]
abbrev dktX1_write_3 : List UInt8 := dkwX1_write_3 ++ []
def dkwX1_write_2 : List UInt8 := [187, 0, 37, 89, 183, 0, 39, 191, 187, 0, 110, 89, 44, 180, 0, 149, 183, 0, 150, 78, 45, 184, 0, 153]
abbrev dktX1_write_2 : List UInt8 := dkwX1_write_2 ++ dktX1_write_3
def dkwX1_write_1 : List UInt8 := [180, 0, 26, 3, 182, 0, 138, 44, 182, 0, 142, 154, 0, 19, 42, 44, 180, 0, 146, 181, 0, 33]
abbrev dktX1_write_1 : List UInt8 := dkwX1_write_1 ++ dktX1_write_2
def dkwX1_write_0 : List UInt8 := [27, 184, 0, 94, 184, 0, 98, 187, 0, 129, 89, 42, 180, 0, 26, 182, 0, 131, 183, 0, 135, 77, 42]
abbrev dktX1_write_0 : List UInt8 := dkwX1_write_0 ++ dktX1_write_1
theorem dksX1_write_0 : cX1_write.data.toList.drop 0 = dktX1_write_0 := by decide +kernel
theorem dksX1_write_1 : cX1_write.data.toList.drop 23 = dktX1_write_1 := dk_seg dksX1_write_0 23 rfl rfl
theorem dksX1_write_2 : cX1_write.data.toList.drop 45 = dktX1_write_2 := dk_seg dksX1_write_1 22 rfl rfl
theorem dksX1_write_3 : cX1_write.data.toList.drop 69 = dktX1_write_3 := dk_seg dksX1_write_2 24 rfl rfl
theorem dX1_write_0 : decode cX1_write 0 = .ok (.iload_n 1, 1) := dk_27 (dk_at dksX1_write_0 0 rfl rfl)
theorem dX1_write_1 : decode cX1_write 1 = .ok (.invokestatic 94, 3) := dk_184 0 94 (dk_at dksX1_write_0 1 rfl rfl)
theorem dX1_write_4 : decode cX1_write 4 = .ok (.invokestatic 98, 3) := dk_184 0 98 (dk_at dksX1_write_0 4 rfl rfl)
theorem dX1_write_7 : decode cX1_write 7 = .ok (.new 129, 3) := dk_187 0 129 (dk_at dksX1_write_0 7 rfl rfl)
theorem dX1_write_10 : decode cX1_write 10 = .ok (.dup, 1) := dk_89 (dk_at dksX1_write_0 10 rfl rfl)
theorem dX1_write_11 : decode cX1_write 11 = .ok (.aload_n 0, 1) := dk_42 (dk_at dksX1_write_0 11 rfl rfl)
theorem dX1_write_12 : decode cX1_write 12 = .ok (.getfield 26, 3) := dk_180 0 26 (dk_at dksX1_write_0 12 rfl rfl)
theorem dX1_write_15 : decode cX1_write 15 = .ok (.invokevirtual 131, 3) := dk_182 0 131 (dk_at dksX1_write_0 15 rfl rfl)
theorem dX1_write_18 : decode cX1_write 18 = .ok (.invokespecial 135, 3) := dk_183 0 135 (dk_at dksX1_write_0 18 rfl rfl)
theorem dX1_write_21 : decode cX1_write 21 = .ok (.astore_n 2, 1) := dk_77 (dk_at dksX1_write_0 21 rfl rfl)
theorem dX1_write_22 : decode cX1_write 22 = .ok (.aload_n 0, 1) := dk_42 (dk_at dksX1_write_0 22 rfl rfl)
theorem dX1_write_23 : decode cX1_write 23 = .ok (.getfield 26, 3) := dk_180 0 26 (dk_at dksX1_write_1 0 rfl rfl)
theorem dX1_write_26 : decode cX1_write 26 = .ok (.iconst 0, 1) := dk_3 (dk_at dksX1_write_1 3 rfl rfl)
theorem dX1_write_27 : decode cX1_write 27 = .ok (.invokevirtual 138, 3) := dk_182 0 138 (dk_at dksX1_write_1 4 rfl rfl)
theorem dX1_write_30 : decode cX1_write 30 = .ok (.aload_n 2, 1) := dk_44 (dk_at dksX1_write_1 7 rfl rfl)
theorem dX1_write_31 : decode cX1_write 31 = .ok (.invokevirtual 142, 3) := dk_182 0 142 (dk_at dksX1_write_1 8 rfl rfl)
theorem dX1_write_34 : decode cX1_write 34 = .ok (.ifCond .ne 19, 3) := dk_154 0 19 (dk_at dksX1_write_1 11 rfl rfl)
theorem dX1_write_37 : decode cX1_write 37 = .ok (.aload_n 0, 1) := dk_42 (dk_at dksX1_write_1 14 rfl rfl)
theorem dX1_write_38 : decode cX1_write 38 = .ok (.aload_n 2, 1) := dk_44 (dk_at dksX1_write_1 15 rfl rfl)
theorem dX1_write_39 : decode cX1_write 39 = .ok (.getfield 146, 3) := dk_180 0 146 (dk_at dksX1_write_1 16 rfl rfl)
theorem dX1_write_42 : decode cX1_write 42 = .ok (.putfield 33, 3) := dk_181 0 33 (dk_at dksX1_write_1 19 rfl rfl)
theorem dX1_write_45 : decode cX1_write 45 = .ok (.new 37, 3) := dk_187 0 37 (dk_at dksX1_write_2 0 rfl rfl)
theorem dX1_write_48 : decode cX1_write 48 = .ok (.dup, 1) := dk_89 (dk_at dksX1_write_2 3 rfl rfl)
theorem dX1_write_49 : decode cX1_write 49 = .ok (.invokespecial 39, 3) := dk_183 0 39 (dk_at dksX1_write_2 4 rfl rfl)
theorem dX1_write_52 : decode cX1_write 52 = .ok (.athrow, 1) := dk_191 (dk_at dksX1_write_2 7 rfl rfl)
theorem dX1_write_53 : decode cX1_write 53 = .ok (.new 110, 3) := dk_187 0 110 (dk_at dksX1_write_2 8 rfl rfl)
theorem dX1_write_56 : decode cX1_write 56 = .ok (.dup, 1) := dk_89 (dk_at dksX1_write_2 11 rfl rfl)
theorem dX1_write_57 : decode cX1_write 57 = .ok (.aload_n 2, 1) := dk_44 (dk_at dksX1_write_2 12 rfl rfl)
theorem dX1_write_58 : decode cX1_write 58 = .ok (.getfield 149, 3) := dk_180 0 149 (dk_at dksX1_write_2 13 rfl rfl)
theorem dX1_write_61 : decode cX1_write 61 = .ok (.invokespecial 150, 3) := dk_183 0 150 (dk_at dksX1_write_2 16 rfl rfl)
theorem dX1_write_64 : decode cX1_write 64 = .ok (.astore_n 3, 1) := dk_78 (dk_at dksX1_write_2 19 rfl rfl)
theorem dX1_write_65 : decode cX1_write 65 = .ok (.aload_n 3, 1) := dk_45 (dk_at dksX1_write_2 20 rfl rfl)
theorem dX1_write_66 : decode cX1_write 66 = .ok (.invokestatic 153, 3) := dk_184 0 153 (dk_at dksX1_write_2 21 rfl rfl)
theorem dX1_write_69 : decode cX1_write 69 = .ok (.invokestatic 157, 3) := dk_184 0 157 (dk_at dksX1_write_3 0 rfl rfl)
theorem dX1_write_72 : decode cX1_write 72 = .ok (.aload_n 0, 1) := dk_42 (dk_at dksX1_write_3 3 rfl rfl)
theorem dX1_write_73 : decode cX1_write 73 = .ok (.iload_n 1, 1) := dk_27 (dk_at dksX1_write_3 4 rfl rfl)
theorem dX1_write_74 : decode cX1_write 74 = .ok (.aload_n 3, 1) := dk_45 (dk_at dksX1_write_3 5 rfl rfl)
theorem dX1_write_75 : decode cX1_write 75 = .ok (.invokevirtual 160, 3) := dk_182 0 160 (dk_at dksX1_write_3 6 rfl rfl)
theorem dX1_write_78 : decode cX1_write 78 = .ok (.ireturn, 1) := dk_172 (dk_at dksX1_write_3 9 rfl rfl)
abbrev cX1_isSlot : ByteArray := prog_1_method_16_code
def yX1_isSlot : MethodName := ⟨RX1, "isSlot", "(I)Z"⟩
def dkwX1_isSlot_0 : List UInt8 := [26, 3, 6, 184, 0, 55, 172]
abbrev dktX1_isSlot_0 : List UInt8 := dkwX1_isSlot_0 ++ []
theorem dksX1_isSlot_0 : cX1_isSlot.data.toList.drop 0 = dktX1_isSlot_0 := by decide +kernel
theorem dX1_isSlot_0 : decode cX1_isSlot 0 = .ok (.iload_n 0, 1) := dk_26 (dk_at dksX1_isSlot_0 0 rfl rfl)
theorem dX1_isSlot_1 : decode cX1_isSlot 1 = .ok (.iconst 0, 1) := dk_3 (dk_at dksX1_isSlot_0 1 rfl rfl)
theorem dX1_isSlot_2 : decode cX1_isSlot 2 = .ok (.iconst 3, 1) := dk_6 (dk_at dksX1_isSlot_0 2 rfl rfl)
theorem dX1_isSlot_3 : decode cX1_isSlot 3 = .ok (.invokestatic 55, 3) := dk_184 0 55 (dk_at dksX1_isSlot_0 3 rfl rfl)
theorem dX1_isSlot_6 : decode cX1_isSlot 6 = .ok (.ireturn, 1) := dk_172 (dk_at dksX1_isSlot_0 6 rfl rfl)
abbrev cX1_isBetween : ByteArray := prog_1_method_8_code
def yX1_isBetween : MethodName := ⟨RX1, "isBetween", "(III)Z"⟩
def dkwX1_isBetween_0 : List UInt8 := [26, 27, 161, 0, 12, 26, 28, 163, 0, 7, 4, 167, 0, 4, 3, 172]
abbrev dktX1_isBetween_0 : List UInt8 := dkwX1_isBetween_0 ++ []
theorem dksX1_isBetween_0 : cX1_isBetween.data.toList.drop 0 = dktX1_isBetween_0 := by decide +kernel
theorem dX1_isBetween_0 : decode cX1_isBetween 0 = .ok (.iload_n 0, 1) := dk_26 (dk_at dksX1_isBetween_0 0 rfl rfl)
theorem dX1_isBetween_1 : decode cX1_isBetween 1 = .ok (.iload_n 1, 1) := dk_27 (dk_at dksX1_isBetween_0 1 rfl rfl)
theorem dX1_isBetween_2 : decode cX1_isBetween 2 = .ok (.if_icmp .lt 12, 3) := dk_161 0 12 (dk_at dksX1_isBetween_0 2 rfl rfl)
theorem dX1_isBetween_5 : decode cX1_isBetween 5 = .ok (.iload_n 0, 1) := dk_26 (dk_at dksX1_isBetween_0 5 rfl rfl)
theorem dX1_isBetween_6 : decode cX1_isBetween 6 = .ok (.iload_n 2, 1) := dk_28 (dk_at dksX1_isBetween_0 6 rfl rfl)
theorem dX1_isBetween_7 : decode cX1_isBetween 7 = .ok (.if_icmp .gt 7, 3) := dk_163 0 7 (dk_at dksX1_isBetween_0 7 rfl rfl)
theorem dX1_isBetween_10 : decode cX1_isBetween 10 = .ok (.iconst 1, 1) := dk_4 (dk_at dksX1_isBetween_0 10 rfl rfl)
theorem dX1_isBetween_11 : decode cX1_isBetween 11 = .ok (.goto 4, 3) := dk_167 0 4 (dk_at dksX1_isBetween_0 11 rfl rfl)
theorem dX1_isBetween_14 : decode cX1_isBetween 14 = .ok (.iconst 0, 1) := dk_3 (dk_at dksX1_isBetween_0 14 rfl rfl)
theorem dX1_isBetween_15 : decode cX1_isBetween 15 = .ok (.ireturn, 1) := dk_172 (dk_at dksX1_isBetween_0 15 rfl rfl)
abbrev cX1_checkIndex : ByteArray := prog_1_method_5_code
def yX1_checkIndex : MethodName := ⟨RX1, "checkIndex", "(Z)V"⟩
def dkwX1_checkIndex_0 : List UInt8 := [26, 154, 0, 11, 187, 0, 46, 89, 183, 0, 48, 191, 177]
abbrev dktX1_checkIndex_0 : List UInt8 := dkwX1_checkIndex_0 ++ []
theorem dksX1_checkIndex_0 : cX1_checkIndex.data.toList.drop 0 = dktX1_checkIndex_0 := by decide +kernel
theorem dX1_checkIndex_0 : decode cX1_checkIndex 0 = .ok (.iload_n 0, 1) := dk_26 (dk_at dksX1_checkIndex_0 0 rfl rfl)
theorem dX1_checkIndex_1 : decode cX1_checkIndex 1 = .ok (.ifCond .ne 11, 3) := dk_154 0 11 (dk_at dksX1_checkIndex_0 1 rfl rfl)
theorem dX1_checkIndex_4 : decode cX1_checkIndex 4 = .ok (.new 46, 3) := dk_187 0 46 (dk_at dksX1_checkIndex_0 4 rfl rfl)
theorem dX1_checkIndex_7 : decode cX1_checkIndex 7 = .ok (.dup, 1) := dk_89 (dk_at dksX1_checkIndex_0 7 rfl rfl)
theorem dX1_checkIndex_8 : decode cX1_checkIndex 8 = .ok (.invokespecial 48, 3) := dk_183 0 48 (dk_at dksX1_checkIndex_0 8 rfl rfl)
theorem dX1_checkIndex_11 : decode cX1_checkIndex 11 = .ok (.athrow, 1) := dk_191 (dk_at dksX1_checkIndex_0 11 rfl rfl)
theorem dX1_checkIndex_12 : decode cX1_checkIndex 12 = .ok (.return_, 1) := dk_177 (dk_at dksX1_checkIndex_0 12 rfl rfl)
abbrev cX1_isAllowed : ByteArray := prog_1_method_20_code
def yX1_isAllowed : MethodName := ⟨RX1, "isAllowed", "(LScheduleAnalyzer$Schedule;)Z"⟩
def dkwX1_isAllowed_3 : List UInt8 := [132, 2, 1, 167, 255, 202, 27, 172]
abbrev dktX1_isAllowed_3 : List UInt8 := dkwX1_isAllowed_3 ++ []
def dkwX1_isAllowed_2 : List UInt8 := [180, 0, 116, 28, 29, 186, 0, 123, 0, 0, 184, 0, 126, 2, 160, 0, 7, 4, 167, 0, 4, 3, 126, 60]
abbrev dktX1_isAllowed_2 : List UInt8 := dkwX1_isAllowed_2 ++ dktX1_isAllowed_3
def dkwX1_isAllowed_1 : List UInt8 := [162, 0, 52, 42, 180, 0, 116, 28, 185, 0, 69, 2, 0, 192, 0, 73, 180, 0, 120, 62, 27, 42]
abbrev dktX1_isAllowed_1 : List UInt8 := dkwX1_isAllowed_1 ++ dktX1_isAllowed_2
def dkwX1_isAllowed_0 : List UInt8 := [42, 182, 0, 109, 16, 20, 163, 0, 7, 4, 167, 0, 4, 3, 60, 3, 61, 28, 42, 182, 0, 109]
abbrev dktX1_isAllowed_0 : List UInt8 := dkwX1_isAllowed_0 ++ dktX1_isAllowed_1
theorem dksX1_isAllowed_0 : cX1_isAllowed.data.toList.drop 0 = dktX1_isAllowed_0 := by decide +kernel
theorem dksX1_isAllowed_1 : cX1_isAllowed.data.toList.drop 22 = dktX1_isAllowed_1 := dk_seg dksX1_isAllowed_0 22 rfl rfl
theorem dksX1_isAllowed_2 : cX1_isAllowed.data.toList.drop 44 = dktX1_isAllowed_2 := dk_seg dksX1_isAllowed_1 22 rfl rfl
theorem dksX1_isAllowed_3 : cX1_isAllowed.data.toList.drop 68 = dktX1_isAllowed_3 := dk_seg dksX1_isAllowed_2 24 rfl rfl
theorem dX1_isAllowed_0 : decode cX1_isAllowed 0 = .ok (.aload_n 0, 1) := dk_42 (dk_at dksX1_isAllowed_0 0 rfl rfl)
theorem dX1_isAllowed_1 : decode cX1_isAllowed 1 = .ok (.invokevirtual 109, 3) := dk_182 0 109 (dk_at dksX1_isAllowed_0 1 rfl rfl)
theorem dX1_isAllowed_4 : decode cX1_isAllowed 4 = .ok (.bipush 20, 2) := dk_16 20 (dk_at dksX1_isAllowed_0 4 rfl rfl)
theorem dX1_isAllowed_6 : decode cX1_isAllowed 6 = .ok (.if_icmp .gt 7, 3) := dk_163 0 7 (dk_at dksX1_isAllowed_0 6 rfl rfl)
theorem dX1_isAllowed_9 : decode cX1_isAllowed 9 = .ok (.iconst 1, 1) := dk_4 (dk_at dksX1_isAllowed_0 9 rfl rfl)
theorem dX1_isAllowed_10 : decode cX1_isAllowed 10 = .ok (.goto 4, 3) := dk_167 0 4 (dk_at dksX1_isAllowed_0 10 rfl rfl)
theorem dX1_isAllowed_13 : decode cX1_isAllowed 13 = .ok (.iconst 0, 1) := dk_3 (dk_at dksX1_isAllowed_0 13 rfl rfl)
theorem dX1_isAllowed_14 : decode cX1_isAllowed 14 = .ok (.istore_n 1, 1) := dk_60 (dk_at dksX1_isAllowed_0 14 rfl rfl)
theorem dX1_isAllowed_15 : decode cX1_isAllowed 15 = .ok (.iconst 0, 1) := dk_3 (dk_at dksX1_isAllowed_0 15 rfl rfl)
theorem dX1_isAllowed_16 : decode cX1_isAllowed 16 = .ok (.istore_n 2, 1) := dk_61 (dk_at dksX1_isAllowed_0 16 rfl rfl)
theorem dX1_isAllowed_17 : decode cX1_isAllowed 17 = .ok (.iload_n 2, 1) := dk_28 (dk_at dksX1_isAllowed_0 17 rfl rfl)
theorem dX1_isAllowed_18 : decode cX1_isAllowed 18 = .ok (.aload_n 0, 1) := dk_42 (dk_at dksX1_isAllowed_0 18 rfl rfl)
theorem dX1_isAllowed_19 : decode cX1_isAllowed 19 = .ok (.invokevirtual 109, 3) := dk_182 0 109 (dk_at dksX1_isAllowed_0 19 rfl rfl)
theorem dX1_isAllowed_22 : decode cX1_isAllowed 22 = .ok (.if_icmp .ge 52, 3) := dk_162 0 52 (dk_at dksX1_isAllowed_1 0 rfl rfl)
theorem dX1_isAllowed_25 : decode cX1_isAllowed 25 = .ok (.aload_n 0, 1) := dk_42 (dk_at dksX1_isAllowed_1 3 rfl rfl)
theorem dX1_isAllowed_26 : decode cX1_isAllowed 26 = .ok (.getfield 116, 3) := dk_180 0 116 (dk_at dksX1_isAllowed_1 4 rfl rfl)
theorem dX1_isAllowed_29 : decode cX1_isAllowed 29 = .ok (.iload_n 2, 1) := dk_28 (dk_at dksX1_isAllowed_1 7 rfl rfl)
theorem dX1_isAllowed_30 : decode cX1_isAllowed 30 = .ok (.invokeinterface 69 2, 5) := by decide +kernel
theorem dX1_isAllowed_35 : decode cX1_isAllowed 35 = .ok (.checkcast 73, 3) := dk_192 0 73 (dk_at dksX1_isAllowed_1 13 rfl rfl)
theorem dX1_isAllowed_38 : decode cX1_isAllowed 38 = .ok (.getfield 120, 3) := dk_180 0 120 (dk_at dksX1_isAllowed_1 16 rfl rfl)
theorem dX1_isAllowed_41 : decode cX1_isAllowed 41 = .ok (.istore_n 3, 1) := dk_62 (dk_at dksX1_isAllowed_1 19 rfl rfl)
theorem dX1_isAllowed_42 : decode cX1_isAllowed 42 = .ok (.iload_n 1, 1) := dk_27 (dk_at dksX1_isAllowed_1 20 rfl rfl)
theorem dX1_isAllowed_43 : decode cX1_isAllowed 43 = .ok (.aload_n 0, 1) := dk_42 (dk_at dksX1_isAllowed_1 21 rfl rfl)
theorem dX1_isAllowed_44 : decode cX1_isAllowed 44 = .ok (.getfield 116, 3) := dk_180 0 116 (dk_at dksX1_isAllowed_2 0 rfl rfl)
theorem dX1_isAllowed_47 : decode cX1_isAllowed 47 = .ok (.iload_n 2, 1) := dk_28 (dk_at dksX1_isAllowed_2 3 rfl rfl)
theorem dX1_isAllowed_48 : decode cX1_isAllowed 48 = .ok (.iload_n 3, 1) := dk_29 (dk_at dksX1_isAllowed_2 4 rfl rfl)
theorem dX1_isAllowed_49 : decode cX1_isAllowed 49 = .ok (.invokedynamic 123, 5) := by decide +kernel
theorem dX1_isAllowed_54 : decode cX1_isAllowed 54 = .ok (.invokestatic 126, 3) := dk_184 0 126 (dk_at dksX1_isAllowed_2 10 rfl rfl)
theorem dX1_isAllowed_57 : decode cX1_isAllowed 57 = .ok (.iconst (-1), 1) := dk_2 (dk_at dksX1_isAllowed_2 13 rfl rfl)
theorem dX1_isAllowed_58 : decode cX1_isAllowed 58 = .ok (.if_icmp .ne 7, 3) := dk_160 0 7 (dk_at dksX1_isAllowed_2 14 rfl rfl)
theorem dX1_isAllowed_61 : decode cX1_isAllowed 61 = .ok (.iconst 1, 1) := dk_4 (dk_at dksX1_isAllowed_2 17 rfl rfl)
theorem dX1_isAllowed_62 : decode cX1_isAllowed 62 = .ok (.goto 4, 3) := dk_167 0 4 (dk_at dksX1_isAllowed_2 18 rfl rfl)
theorem dX1_isAllowed_65 : decode cX1_isAllowed 65 = .ok (.iconst 0, 1) := dk_3 (dk_at dksX1_isAllowed_2 21 rfl rfl)
theorem dX1_isAllowed_66 : decode cX1_isAllowed 66 = .ok (.iand, 1) := dk_126 (dk_at dksX1_isAllowed_2 22 rfl rfl)
theorem dX1_isAllowed_67 : decode cX1_isAllowed 67 = .ok (.istore_n 1, 1) := dk_60 (dk_at dksX1_isAllowed_2 23 rfl rfl)
theorem dX1_isAllowed_68 : decode cX1_isAllowed 68 = .ok (.iinc 2 1, 3) := dk_132 2 1 (dk_at dksX1_isAllowed_3 0 rfl rfl)
theorem dX1_isAllowed_71 : decode cX1_isAllowed 71 = .ok (.goto (-54), 3) := dk_167 255 202 (dk_at dksX1_isAllowed_3 3 rfl rfl)
theorem dX1_isAllowed_74 : decode cX1_isAllowed 74 = .ok (.iload_n 1, 1) := dk_27 (dk_at dksX1_isAllowed_3 6 rfl rfl)
theorem dX1_isAllowed_75 : decode cX1_isAllowed 75 = .ok (.ireturn, 1) := dk_172 (dk_at dksX1_isAllowed_3 7 rfl rfl)
abbrev cX1_lambda_isAllowed_0 : ByteArray := prog_1_method_84_code
def yX1_lambda_isAllowed_0 : MethodName := ⟨RX1, "lambda$isAllowed$0", "(ILScheduleAnalyzer$Operation;)Z"⟩
def dkwX1_lambda_isAllowed_0_0 : List UInt8 := [43, 26, 182, 1, 166, 172]
abbrev dktX1_lambda_isAllowed_0_0 : List UInt8 := dkwX1_lambda_isAllowed_0_0 ++ []
theorem dksX1_lambda_isAllowed_0_0 : cX1_lambda_isAllowed_0.data.toList.drop 0 = dktX1_lambda_isAllowed_0_0 := by decide +kernel
theorem dX1_lambda_isAllowed_0_0 : decode cX1_lambda_isAllowed_0 0 = .ok (.aload_n 1, 1) := dk_43 (dk_at dksX1_lambda_isAllowed_0_0 0 rfl rfl)
theorem dX1_lambda_isAllowed_0_1 : decode cX1_lambda_isAllowed_0 1 = .ok (.iload_n 0, 1) := dk_26 (dk_at dksX1_lambda_isAllowed_0_0 1 rfl rfl)
theorem dX1_lambda_isAllowed_0_2 : decode cX1_lambda_isAllowed_0 2 = .ok (.invokevirtual 422, 3) := dk_182 1 166 (dk_at dksX1_lambda_isAllowed_0_0 2 rfl rfl)
theorem dX1_lambda_isAllowed_0_5 : decode cX1_lambda_isAllowed_0 5 = .ok (.ireturn, 1) := dk_172 (dk_at dksX1_lambda_isAllowed_0_0 5 rfl rfl)
abbrev cX1_checkState : ByteArray := prog_1_method_3_code
def yX1_checkState : MethodName := ⟨RX1, "checkState", "(Z)V"⟩
def dkwX1_checkState_0 : List UInt8 := [26, 154, 0, 11, 187, 0, 40, 89, 183, 0, 42, 191, 177]
abbrev dktX1_checkState_0 : List UInt8 := dkwX1_checkState_0 ++ []
theorem dksX1_checkState_0 : cX1_checkState.data.toList.drop 0 = dktX1_checkState_0 := by decide +kernel
theorem dX1_checkState_0 : decode cX1_checkState 0 = .ok (.iload_n 0, 1) := dk_26 (dk_at dksX1_checkState_0 0 rfl rfl)
theorem dX1_checkState_1 : decode cX1_checkState 1 = .ok (.ifCond .ne 11, 3) := dk_154 0 11 (dk_at dksX1_checkState_0 1 rfl rfl)
theorem dX1_checkState_4 : decode cX1_checkState 4 = .ok (.new 40, 3) := dk_187 0 40 (dk_at dksX1_checkState_0 4 rfl rfl)
theorem dX1_checkState_7 : decode cX1_checkState 7 = .ok (.dup, 1) := dk_89 (dk_at dksX1_checkState_0 7 rfl rfl)
theorem dX1_checkState_8 : decode cX1_checkState 8 = .ok (.invokespecial 42, 3) := dk_183 0 42 (dk_at dksX1_checkState_0 8 rfl rfl)
theorem dX1_checkState_11 : decode cX1_checkState 11 = .ok (.athrow, 1) := dk_191 (dk_at dksX1_checkState_0 11 rfl rfl)
theorem dX1_checkState_12 : decode cX1_checkState 12 = .ok (.return_, 1) := dk_177 (dk_at dksX1_checkState_0 12 rfl rfl)
abbrev cX1_put : ByteArray := prog_1_method_18_code
def yX1_put : MethodName := ⟨RX1, "put", "(ILScheduleAnalyzer$Schedule;)I"⟩
def dkwX1_put_0 : List UInt8 := [42, 182, 0, 106, 42, 180, 0, 10, 180, 0, 102, 27, 44, 83, 44, 182, 0, 109, 172]
abbrev dktX1_put_0 : List UInt8 := dkwX1_put_0 ++ []
theorem dksX1_put_0 : cX1_put.data.toList.drop 0 = dktX1_put_0 := by decide +kernel
theorem dX1_put_0 : decode cX1_put 0 = .ok (.aload_n 0, 1) := dk_42 (dk_at dksX1_put_0 0 rfl rfl)
theorem dX1_put_1 : decode cX1_put 1 = .ok (.invokevirtual 106, 3) := dk_182 0 106 (dk_at dksX1_put_0 1 rfl rfl)
theorem dX1_put_4 : decode cX1_put 4 = .ok (.aload_n 0, 1) := dk_42 (dk_at dksX1_put_0 4 rfl rfl)
theorem dX1_put_5 : decode cX1_put 5 = .ok (.getfield 10, 3) := dk_180 0 10 (dk_at dksX1_put_0 5 rfl rfl)
theorem dX1_put_8 : decode cX1_put 8 = .ok (.getfield 102, 3) := dk_180 0 102 (dk_at dksX1_put_0 8 rfl rfl)
theorem dX1_put_11 : decode cX1_put 11 = .ok (.iload_n 1, 1) := dk_27 (dk_at dksX1_put_0 11 rfl rfl)
theorem dX1_put_12 : decode cX1_put 12 = .ok (.aload_n 2, 1) := dk_44 (dk_at dksX1_put_0 12 rfl rfl)
theorem dX1_put_13 : decode cX1_put 13 = .ok (.aastore, 1) := dk_83 (dk_at dksX1_put_0 13 rfl rfl)
theorem dX1_put_14 : decode cX1_put 14 = .ok (.aload_n 2, 1) := dk_44 (dk_at dksX1_put_0 14 rfl rfl)
theorem dX1_put_15 : decode cX1_put 15 = .ok (.invokevirtual 109, 3) := dk_182 0 109 (dk_at dksX1_put_0 15 rfl rfl)
theorem dX1_put_18 : decode cX1_put 18 = .ok (.ireturn, 1) := dk_172 (dk_at dksX1_put_0 18 rfl rfl)
abbrev cX1_beginChange : ByteArray := prog_1_method_15_code
def yX1_beginChange : MethodName := ⟨RX1, "beginChange", "()V"⟩
def dkwX1_beginChange_1 : List UInt8 := [164, 0, 11, 42, 180, 0, 19, 182, 0, 90, 87, 177]
abbrev dktX1_beginChange_1 : List UInt8 := dkwX1_beginChange_1 ++ []
def dkwX1_beginChange_0 : List UInt8 := [42, 180, 0, 19, 42, 180, 0, 10, 182, 0, 81, 182, 0, 85, 42, 180, 0, 19, 182, 0, 89, 16, 8]
abbrev dktX1_beginChange_0 : List UInt8 := dkwX1_beginChange_0 ++ dktX1_beginChange_1
theorem dksX1_beginChange_0 : cX1_beginChange.data.toList.drop 0 = dktX1_beginChange_0 := by decide +kernel
theorem dksX1_beginChange_1 : cX1_beginChange.data.toList.drop 23 = dktX1_beginChange_1 := dk_seg dksX1_beginChange_0 23 rfl rfl
theorem dX1_beginChange_0 : decode cX1_beginChange 0 = .ok (.aload_n 0, 1) := dk_42 (dk_at dksX1_beginChange_0 0 rfl rfl)
theorem dX1_beginChange_1 : decode cX1_beginChange 1 = .ok (.getfield 19, 3) := dk_180 0 19 (dk_at dksX1_beginChange_0 1 rfl rfl)
theorem dX1_beginChange_4 : decode cX1_beginChange 4 = .ok (.aload_n 0, 1) := dk_42 (dk_at dksX1_beginChange_0 4 rfl rfl)
theorem dX1_beginChange_5 : decode cX1_beginChange 5 = .ok (.getfield 10, 3) := dk_180 0 10 (dk_at dksX1_beginChange_0 5 rfl rfl)
theorem dX1_beginChange_8 : decode cX1_beginChange 8 = .ok (.invokevirtual 81, 3) := dk_182 0 81 (dk_at dksX1_beginChange_0 8 rfl rfl)
theorem dX1_beginChange_11 : decode cX1_beginChange 11 = .ok (.invokevirtual 85, 3) := dk_182 0 85 (dk_at dksX1_beginChange_0 11 rfl rfl)
theorem dX1_beginChange_14 : decode cX1_beginChange 14 = .ok (.aload_n 0, 1) := dk_42 (dk_at dksX1_beginChange_0 14 rfl rfl)
theorem dX1_beginChange_15 : decode cX1_beginChange 15 = .ok (.getfield 19, 3) := dk_180 0 19 (dk_at dksX1_beginChange_0 15 rfl rfl)
theorem dX1_beginChange_18 : decode cX1_beginChange 18 = .ok (.invokevirtual 89, 3) := dk_182 0 89 (dk_at dksX1_beginChange_0 18 rfl rfl)
theorem dX1_beginChange_21 : decode cX1_beginChange 21 = .ok (.bipush 8, 2) := dk_16 8 (dk_at dksX1_beginChange_0 21 rfl rfl)
theorem dX1_beginChange_23 : decode cX1_beginChange 23 = .ok (.if_icmp .le 11, 3) := dk_164 0 11 (dk_at dksX1_beginChange_1 0 rfl rfl)
theorem dX1_beginChange_26 : decode cX1_beginChange 26 = .ok (.aload_n 0, 1) := dk_42 (dk_at dksX1_beginChange_1 3 rfl rfl)
theorem dX1_beginChange_27 : decode cX1_beginChange 27 = .ok (.getfield 19, 3) := dk_180 0 19 (dk_at dksX1_beginChange_1 4 rfl rfl)
theorem dX1_beginChange_30 : decode cX1_beginChange 30 = .ok (.invokevirtual 90, 3) := dk_182 0 90 (dk_at dksX1_beginChange_1 7 rfl rfl)
theorem dX1_beginChange_33 : decode cX1_beginChange 33 = .ok (.pop, 1) := dk_87 (dk_at dksX1_beginChange_1 10 rfl rfl)
theorem dX1_beginChange_34 : decode cX1_beginChange 34 = .ok (.return_, 1) := dk_177 (dk_at dksX1_beginChange_1 11 rfl rfl)
abbrev cX1_addAccess : ByteArray := prog_1_method_23_code
def yX1_addAccess : MethodName := ⟨RX1, "addAccess", "(ICIC)I"⟩
def dkwX1_addAccess_2 : List UInt8 := [89, 28, 29, 21, 4, 183, 0, 181, 182, 0, 184, 172]
abbrev dktX1_addAccess_2 : List UInt8 := dkwX1_addAccess_2 ++ []
def dkwX1_addAccess_1 : List UInt8 := [153, 0, 15, 21, 4, 184, 0, 174, 153, 0, 7, 4, 167, 0, 4, 3, 184, 0, 178, 42, 27, 187, 0, 73]
abbrev dktX1_addAccess_1 : List UInt8 := dkwX1_addAccess_1 ++ dktX1_addAccess_2
def dkwX1_addAccess_0 : List UInt8 := [27, 184, 0, 94, 184, 0, 98, 28, 16, 114, 159, 0, 9, 28, 16, 119, 160, 0, 22, 29, 184, 0, 171]
abbrev dktX1_addAccess_0 : List UInt8 := dkwX1_addAccess_0 ++ dktX1_addAccess_1
theorem dksX1_addAccess_0 : cX1_addAccess.data.toList.drop 0 = dktX1_addAccess_0 := by decide +kernel
theorem dksX1_addAccess_1 : cX1_addAccess.data.toList.drop 23 = dktX1_addAccess_1 := dk_seg dksX1_addAccess_0 23 rfl rfl
theorem dksX1_addAccess_2 : cX1_addAccess.data.toList.drop 47 = dktX1_addAccess_2 := dk_seg dksX1_addAccess_1 24 rfl rfl
theorem dX1_addAccess_0 : decode cX1_addAccess 0 = .ok (.iload_n 1, 1) := dk_27 (dk_at dksX1_addAccess_0 0 rfl rfl)
theorem dX1_addAccess_1 : decode cX1_addAccess 1 = .ok (.invokestatic 94, 3) := dk_184 0 94 (dk_at dksX1_addAccess_0 1 rfl rfl)
theorem dX1_addAccess_4 : decode cX1_addAccess 4 = .ok (.invokestatic 98, 3) := dk_184 0 98 (dk_at dksX1_addAccess_0 4 rfl rfl)
theorem dX1_addAccess_7 : decode cX1_addAccess 7 = .ok (.iload_n 2, 1) := dk_28 (dk_at dksX1_addAccess_0 7 rfl rfl)
theorem dX1_addAccess_8 : decode cX1_addAccess 8 = .ok (.bipush 114, 2) := dk_16 114 (dk_at dksX1_addAccess_0 8 rfl rfl)
theorem dX1_addAccess_10 : decode cX1_addAccess 10 = .ok (.if_icmp .eq 9, 3) := dk_159 0 9 (dk_at dksX1_addAccess_0 10 rfl rfl)
theorem dX1_addAccess_13 : decode cX1_addAccess 13 = .ok (.iload_n 2, 1) := dk_28 (dk_at dksX1_addAccess_0 13 rfl rfl)
theorem dX1_addAccess_14 : decode cX1_addAccess 14 = .ok (.bipush 119, 2) := dk_16 119 (dk_at dksX1_addAccess_0 14 rfl rfl)
theorem dX1_addAccess_16 : decode cX1_addAccess 16 = .ok (.if_icmp .ne 22, 3) := dk_160 0 22 (dk_at dksX1_addAccess_0 16 rfl rfl)
theorem dX1_addAccess_19 : decode cX1_addAccess 19 = .ok (.iload_n 3, 1) := dk_29 (dk_at dksX1_addAccess_0 19 rfl rfl)
theorem dX1_addAccess_20 : decode cX1_addAccess 20 = .ok (.invokestatic 171, 3) := dk_184 0 171 (dk_at dksX1_addAccess_0 20 rfl rfl)
theorem dX1_addAccess_23 : decode cX1_addAccess 23 = .ok (.ifCond .eq 15, 3) := dk_153 0 15 (dk_at dksX1_addAccess_1 0 rfl rfl)
theorem dX1_addAccess_26 : decode cX1_addAccess 26 = .ok (.iload 4, 2) := dk_21 4 (dk_at dksX1_addAccess_1 3 rfl rfl)
theorem dX1_addAccess_28 : decode cX1_addAccess 28 = .ok (.invokestatic 174, 3) := dk_184 0 174 (dk_at dksX1_addAccess_1 5 rfl rfl)
theorem dX1_addAccess_31 : decode cX1_addAccess 31 = .ok (.ifCond .eq 7, 3) := dk_153 0 7 (dk_at dksX1_addAccess_1 8 rfl rfl)
theorem dX1_addAccess_34 : decode cX1_addAccess 34 = .ok (.iconst 1, 1) := dk_4 (dk_at dksX1_addAccess_1 11 rfl rfl)
theorem dX1_addAccess_35 : decode cX1_addAccess 35 = .ok (.goto 4, 3) := dk_167 0 4 (dk_at dksX1_addAccess_1 12 rfl rfl)
theorem dX1_addAccess_38 : decode cX1_addAccess 38 = .ok (.iconst 0, 1) := dk_3 (dk_at dksX1_addAccess_1 15 rfl rfl)
theorem dX1_addAccess_39 : decode cX1_addAccess 39 = .ok (.invokestatic 178, 3) := dk_184 0 178 (dk_at dksX1_addAccess_1 16 rfl rfl)
theorem dX1_addAccess_42 : decode cX1_addAccess 42 = .ok (.aload_n 0, 1) := dk_42 (dk_at dksX1_addAccess_1 19 rfl rfl)
theorem dX1_addAccess_43 : decode cX1_addAccess 43 = .ok (.iload_n 1, 1) := dk_27 (dk_at dksX1_addAccess_1 20 rfl rfl)
theorem dX1_addAccess_44 : decode cX1_addAccess 44 = .ok (.new 73, 3) := dk_187 0 73 (dk_at dksX1_addAccess_1 21 rfl rfl)
theorem dX1_addAccess_47 : decode cX1_addAccess 47 = .ok (.dup, 1) := dk_89 (dk_at dksX1_addAccess_2 0 rfl rfl)
theorem dX1_addAccess_48 : decode cX1_addAccess 48 = .ok (.iload_n 2, 1) := dk_28 (dk_at dksX1_addAccess_2 1 rfl rfl)
theorem dX1_addAccess_49 : decode cX1_addAccess 49 = .ok (.iload_n 3, 1) := dk_29 (dk_at dksX1_addAccess_2 2 rfl rfl)
theorem dX1_addAccess_50 : decode cX1_addAccess 50 = .ok (.iload 4, 2) := dk_21 4 (dk_at dksX1_addAccess_2 3 rfl rfl)
theorem dX1_addAccess_52 : decode cX1_addAccess 52 = .ok (.invokespecial 181, 3) := dk_183 0 181 (dk_at dksX1_addAccess_2 5 rfl rfl)
theorem dX1_addAccess_55 : decode cX1_addAccess 55 = .ok (.invokevirtual 184, 3) := dk_182 0 184 (dk_at dksX1_addAccess_2 8 rfl rfl)
theorem dX1_addAccess_58 : decode cX1_addAccess 58 = .ok (.ireturn, 1) := dk_172 (dk_at dksX1_addAccess_2 11 rfl rfl)
abbrev cX1_isTransaction : ByteArray := prog_1_method_10_code
def yX1_isTransaction : MethodName := ⟨RX1, "isTransaction", "(I)Z"⟩
def dkwX1_isTransaction_0 : List UInt8 := [26, 4, 8, 184, 0, 55, 172]
abbrev dktX1_isTransaction_0 : List UInt8 := dkwX1_isTransaction_0 ++ []
theorem dksX1_isTransaction_0 : cX1_isTransaction.data.toList.drop 0 = dktX1_isTransaction_0 := by decide +kernel
theorem dX1_isTransaction_0 : decode cX1_isTransaction 0 = .ok (.iload_n 0, 1) := dk_26 (dk_at dksX1_isTransaction_0 0 rfl rfl)
theorem dX1_isTransaction_1 : decode cX1_isTransaction 1 = .ok (.iconst 1, 1) := dk_4 (dk_at dksX1_isTransaction_0 1 rfl rfl)
theorem dX1_isTransaction_2 : decode cX1_isTransaction 2 = .ok (.iconst 5, 1) := dk_8 (dk_at dksX1_isTransaction_0 2 rfl rfl)
theorem dX1_isTransaction_3 : decode cX1_isTransaction 3 = .ok (.invokestatic 55, 3) := dk_184 0 55 (dk_at dksX1_isTransaction_0 3 rfl rfl)
theorem dX1_isTransaction_6 : decode cX1_isTransaction 6 = .ok (.ireturn, 1) := dk_172 (dk_at dksX1_isTransaction_0 6 rfl rfl)
abbrev cX1_isItem : ByteArray := prog_1_method_11_code
def yX1_isItem : MethodName := ⟨RX1, "isItem", "(C)Z"⟩
def dkwX1_isItem_0 : List UInt8 := [26, 16, 97, 16, 100, 184, 0, 55, 172]
abbrev dktX1_isItem_0 : List UInt8 := dkwX1_isItem_0 ++ []
theorem dksX1_isItem_0 : cX1_isItem.data.toList.drop 0 = dktX1_isItem_0 := by decide +kernel
theorem dX1_isItem_0 : decode cX1_isItem 0 = .ok (.iload_n 0, 1) := dk_26 (dk_at dksX1_isItem_0 0 rfl rfl)
theorem dX1_isItem_1 : decode cX1_isItem 1 = .ok (.bipush 97, 2) := dk_16 97 (dk_at dksX1_isItem_0 1 rfl rfl)
theorem dX1_isItem_3 : decode cX1_isItem 3 = .ok (.bipush 100, 2) := dk_16 100 (dk_at dksX1_isItem_0 3 rfl rfl)
theorem dX1_isItem_5 : decode cX1_isItem 5 = .ok (.invokestatic 55, 3) := dk_184 0 55 (dk_at dksX1_isItem_0 5 rfl rfl)
theorem dX1_isItem_8 : decode cX1_isItem 8 = .ok (.ireturn, 1) := dk_172 (dk_at dksX1_isItem_0 8 rfl rfl)
abbrev cX1_checkArgument : ByteArray := prog_1_method_2_code
def yX1_checkArgument : MethodName := ⟨RX1, "checkArgument", "(Z)V"⟩
def dkwX1_checkArgument_0 : List UInt8 := [26, 154, 0, 11, 187, 0, 37, 89, 183, 0, 39, 191, 177]
abbrev dktX1_checkArgument_0 : List UInt8 := dkwX1_checkArgument_0 ++ []
theorem dksX1_checkArgument_0 : cX1_checkArgument.data.toList.drop 0 = dktX1_checkArgument_0 := by decide +kernel
theorem dX1_checkArgument_0 : decode cX1_checkArgument 0 = .ok (.iload_n 0, 1) := dk_26 (dk_at dksX1_checkArgument_0 0 rfl rfl)
theorem dX1_checkArgument_1 : decode cX1_checkArgument 1 = .ok (.ifCond .ne 11, 3) := dk_154 0 11 (dk_at dksX1_checkArgument_0 1 rfl rfl)
theorem dX1_checkArgument_4 : decode cX1_checkArgument 4 = .ok (.new 37, 3) := dk_187 0 37 (dk_at dksX1_checkArgument_0 4 rfl rfl)
theorem dX1_checkArgument_7 : decode cX1_checkArgument 7 = .ok (.dup, 1) := dk_89 (dk_at dksX1_checkArgument_0 7 rfl rfl)
theorem dX1_checkArgument_8 : decode cX1_checkArgument 8 = .ok (.invokespecial 39, 3) := dk_183 0 39 (dk_at dksX1_checkArgument_0 8 rfl rfl)
theorem dX1_checkArgument_11 : decode cX1_checkArgument 11 = .ok (.athrow, 1) := dk_191 (dk_at dksX1_checkArgument_0 11 rfl rfl)
theorem dX1_checkArgument_12 : decode cX1_checkArgument 12 = .ok (.return_, 1) := dk_177 (dk_at dksX1_checkArgument_0 12 rfl rfl)
abbrev cX1_add : ByteArray := prog_1_method_22_code
def yX1_add : MethodName := ⟨RX1, "add", "(ILScheduleAnalyzer$Operation;)I"⟩
def dkwX1_add_2 : List UInt8 := [172]
abbrev dktX1_add_2 : List UInt8 := dkwX1_add_2 ++ []
def dkwX1_add_1 : List UInt8 := [182, 0, 164, 154, 0, 7, 4, 167, 0, 4, 3, 184, 0, 157, 42, 27, 45, 44, 182, 0, 167, 182, 0, 160]
abbrev dktX1_add_1 : List UInt8 := dkwX1_add_1 ++ dktX1_add_2
def dkwX1_add_0 : List UInt8 := [42, 180, 0, 10, 180, 0, 102, 27, 50, 78, 45, 182, 0, 109, 16, 20, 162, 0, 18, 45, 44, 180, 0, 120]
abbrev dktX1_add_0 : List UInt8 := dkwX1_add_0 ++ dktX1_add_1
theorem dksX1_add_0 : cX1_add.data.toList.drop 0 = dktX1_add_0 := by decide +kernel
theorem dksX1_add_1 : cX1_add.data.toList.drop 24 = dktX1_add_1 := dk_seg dksX1_add_0 24 rfl rfl
theorem dksX1_add_2 : cX1_add.data.toList.drop 48 = dktX1_add_2 := dk_seg dksX1_add_1 24 rfl rfl
theorem dX1_add_0 : decode cX1_add 0 = .ok (.aload_n 0, 1) := dk_42 (dk_at dksX1_add_0 0 rfl rfl)
theorem dX1_add_1 : decode cX1_add 1 = .ok (.getfield 10, 3) := dk_180 0 10 (dk_at dksX1_add_0 1 rfl rfl)
theorem dX1_add_4 : decode cX1_add 4 = .ok (.getfield 102, 3) := dk_180 0 102 (dk_at dksX1_add_0 4 rfl rfl)
theorem dX1_add_7 : decode cX1_add 7 = .ok (.iload_n 1, 1) := dk_27 (dk_at dksX1_add_0 7 rfl rfl)
theorem dX1_add_8 : decode cX1_add 8 = .ok (.aaload, 1) := dk_50 (dk_at dksX1_add_0 8 rfl rfl)
theorem dX1_add_9 : decode cX1_add 9 = .ok (.astore_n 3, 1) := dk_78 (dk_at dksX1_add_0 9 rfl rfl)
theorem dX1_add_10 : decode cX1_add 10 = .ok (.aload_n 3, 1) := dk_45 (dk_at dksX1_add_0 10 rfl rfl)
theorem dX1_add_11 : decode cX1_add 11 = .ok (.invokevirtual 109, 3) := dk_182 0 109 (dk_at dksX1_add_0 11 rfl rfl)
theorem dX1_add_14 : decode cX1_add 14 = .ok (.bipush 20, 2) := dk_16 20 (dk_at dksX1_add_0 14 rfl rfl)
theorem dX1_add_16 : decode cX1_add 16 = .ok (.if_icmp .ge 18, 3) := dk_162 0 18 (dk_at dksX1_add_0 16 rfl rfl)
theorem dX1_add_19 : decode cX1_add 19 = .ok (.aload_n 3, 1) := dk_45 (dk_at dksX1_add_0 19 rfl rfl)
theorem dX1_add_20 : decode cX1_add 20 = .ok (.aload_n 2, 1) := dk_44 (dk_at dksX1_add_0 20 rfl rfl)
theorem dX1_add_21 : decode cX1_add 21 = .ok (.getfield 120, 3) := dk_180 0 120 (dk_at dksX1_add_0 21 rfl rfl)
theorem dX1_add_24 : decode cX1_add 24 = .ok (.invokevirtual 164, 3) := dk_182 0 164 (dk_at dksX1_add_1 0 rfl rfl)
theorem dX1_add_27 : decode cX1_add 27 = .ok (.ifCond .ne 7, 3) := dk_154 0 7 (dk_at dksX1_add_1 3 rfl rfl)
theorem dX1_add_30 : decode cX1_add 30 = .ok (.iconst 1, 1) := dk_4 (dk_at dksX1_add_1 6 rfl rfl)
theorem dX1_add_31 : decode cX1_add 31 = .ok (.goto 4, 3) := dk_167 0 4 (dk_at dksX1_add_1 7 rfl rfl)
theorem dX1_add_34 : decode cX1_add 34 = .ok (.iconst 0, 1) := dk_3 (dk_at dksX1_add_1 10 rfl rfl)
theorem dX1_add_35 : decode cX1_add 35 = .ok (.invokestatic 157, 3) := dk_184 0 157 (dk_at dksX1_add_1 11 rfl rfl)
theorem dX1_add_38 : decode cX1_add 38 = .ok (.aload_n 0, 1) := dk_42 (dk_at dksX1_add_1 14 rfl rfl)
theorem dX1_add_39 : decode cX1_add 39 = .ok (.iload_n 1, 1) := dk_27 (dk_at dksX1_add_1 15 rfl rfl)
theorem dX1_add_40 : decode cX1_add 40 = .ok (.aload_n 3, 1) := dk_45 (dk_at dksX1_add_1 16 rfl rfl)
theorem dX1_add_41 : decode cX1_add 41 = .ok (.aload_n 2, 1) := dk_44 (dk_at dksX1_add_1 17 rfl rfl)
theorem dX1_add_42 : decode cX1_add 42 = .ok (.invokevirtual 167, 3) := dk_182 0 167 (dk_at dksX1_add_1 18 rfl rfl)
theorem dX1_add_45 : decode cX1_add 45 = .ok (.invokevirtual 160, 3) := dk_182 0 160 (dk_at dksX1_add_1 21 rfl rfl)
theorem dX1_add_48 : decode cX1_add 48 = .ok (.ireturn, 1) := dk_172 (dk_at dksX1_add_2 0 rfl rfl)
abbrev cX1_addEnd : ByteArray := prog_1_method_24_code
def yX1_addEnd : MethodName := ⟨RX1, "addEnd", "(IIZ)I"⟩
def dkwX1_addEnd_1 : List UInt8 := [16, 99, 167, 0, 5, 16, 120, 28, 16, 97, 183, 0, 181, 182, 0, 184, 172]
abbrev dktX1_addEnd_1 : List UInt8 := dkwX1_addEnd_1 ++ []
def dkwX1_addEnd_0 : List UInt8 := [27, 184, 0, 94, 184, 0, 98, 28, 184, 0, 171, 184, 0, 178, 42, 27, 187, 0, 73, 89, 29, 153, 0, 8]
abbrev dktX1_addEnd_0 : List UInt8 := dkwX1_addEnd_0 ++ dktX1_addEnd_1
theorem dksX1_addEnd_0 : cX1_addEnd.data.toList.drop 0 = dktX1_addEnd_0 := by decide +kernel
theorem dksX1_addEnd_1 : cX1_addEnd.data.toList.drop 24 = dktX1_addEnd_1 := dk_seg dksX1_addEnd_0 24 rfl rfl
theorem dX1_addEnd_0 : decode cX1_addEnd 0 = .ok (.iload_n 1, 1) := dk_27 (dk_at dksX1_addEnd_0 0 rfl rfl)
theorem dX1_addEnd_1 : decode cX1_addEnd 1 = .ok (.invokestatic 94, 3) := dk_184 0 94 (dk_at dksX1_addEnd_0 1 rfl rfl)
theorem dX1_addEnd_4 : decode cX1_addEnd 4 = .ok (.invokestatic 98, 3) := dk_184 0 98 (dk_at dksX1_addEnd_0 4 rfl rfl)
theorem dX1_addEnd_7 : decode cX1_addEnd 7 = .ok (.iload_n 2, 1) := dk_28 (dk_at dksX1_addEnd_0 7 rfl rfl)
theorem dX1_addEnd_8 : decode cX1_addEnd 8 = .ok (.invokestatic 171, 3) := dk_184 0 171 (dk_at dksX1_addEnd_0 8 rfl rfl)
theorem dX1_addEnd_11 : decode cX1_addEnd 11 = .ok (.invokestatic 178, 3) := dk_184 0 178 (dk_at dksX1_addEnd_0 11 rfl rfl)
theorem dX1_addEnd_14 : decode cX1_addEnd 14 = .ok (.aload_n 0, 1) := dk_42 (dk_at dksX1_addEnd_0 14 rfl rfl)
theorem dX1_addEnd_15 : decode cX1_addEnd 15 = .ok (.iload_n 1, 1) := dk_27 (dk_at dksX1_addEnd_0 15 rfl rfl)
theorem dX1_addEnd_16 : decode cX1_addEnd 16 = .ok (.new 73, 3) := dk_187 0 73 (dk_at dksX1_addEnd_0 16 rfl rfl)
theorem dX1_addEnd_19 : decode cX1_addEnd 19 = .ok (.dup, 1) := dk_89 (dk_at dksX1_addEnd_0 19 rfl rfl)
theorem dX1_addEnd_20 : decode cX1_addEnd 20 = .ok (.iload_n 3, 1) := dk_29 (dk_at dksX1_addEnd_0 20 rfl rfl)
theorem dX1_addEnd_21 : decode cX1_addEnd 21 = .ok (.ifCond .eq 8, 3) := dk_153 0 8 (dk_at dksX1_addEnd_0 21 rfl rfl)
theorem dX1_addEnd_24 : decode cX1_addEnd 24 = .ok (.bipush 99, 2) := dk_16 99 (dk_at dksX1_addEnd_1 0 rfl rfl)
theorem dX1_addEnd_26 : decode cX1_addEnd 26 = .ok (.goto 5, 3) := dk_167 0 5 (dk_at dksX1_addEnd_1 2 rfl rfl)
theorem dX1_addEnd_29 : decode cX1_addEnd 29 = .ok (.bipush 120, 2) := dk_16 120 (dk_at dksX1_addEnd_1 5 rfl rfl)
theorem dX1_addEnd_31 : decode cX1_addEnd 31 = .ok (.iload_n 2, 1) := dk_28 (dk_at dksX1_addEnd_1 7 rfl rfl)
theorem dX1_addEnd_32 : decode cX1_addEnd 32 = .ok (.bipush 97, 2) := dk_16 97 (dk_at dksX1_addEnd_1 8 rfl rfl)
theorem dX1_addEnd_34 : decode cX1_addEnd 34 = .ok (.invokespecial 181, 3) := dk_183 0 181 (dk_at dksX1_addEnd_1 10 rfl rfl)
theorem dX1_addEnd_37 : decode cX1_addEnd 37 = .ok (.invokevirtual 184, 3) := dk_182 0 184 (dk_at dksX1_addEnd_1 13 rfl rfl)
theorem dX1_addEnd_40 : decode cX1_addEnd 40 = .ok (.ireturn, 1) := dk_172 (dk_at dksX1_addEnd_1 16 rfl rfl)
abbrev cX1_removeAt : ByteArray := prog_1_method_25_code
def yX1_removeAt : MethodName := ⟨RX1, "removeAt", "(II)I"⟩
def dkwX1_removeAt_1 : List UInt8 := [28, 182, 0, 192, 182, 0, 160, 172]
abbrev dktX1_removeAt_1 : List UInt8 := dkwX1_removeAt_1 ++ []
def dkwX1_removeAt_0 : List UInt8 := [42, 27, 28, 182, 0, 188, 198, 0, 7, 4, 167, 0, 4, 3, 184, 0, 98, 42, 27, 42, 27, 182, 0, 112]
abbrev dktX1_removeAt_0 : List UInt8 := dkwX1_removeAt_0 ++ dktX1_removeAt_1
theorem dksX1_removeAt_0 : cX1_removeAt.data.toList.drop 0 = dktX1_removeAt_0 := by decide +kernel
theorem dksX1_removeAt_1 : cX1_removeAt.data.toList.drop 24 = dktX1_removeAt_1 := dk_seg dksX1_removeAt_0 24 rfl rfl
theorem dX1_removeAt_0 : decode cX1_removeAt 0 = .ok (.aload_n 0, 1) := dk_42 (dk_at dksX1_removeAt_0 0 rfl rfl)
theorem dX1_removeAt_1 : decode cX1_removeAt 1 = .ok (.iload_n 1, 1) := dk_27 (dk_at dksX1_removeAt_0 1 rfl rfl)
theorem dX1_removeAt_2 : decode cX1_removeAt 2 = .ok (.iload_n 2, 1) := dk_28 (dk_at dksX1_removeAt_0 2 rfl rfl)
theorem dX1_removeAt_3 : decode cX1_removeAt 3 = .ok (.invokevirtual 188, 3) := dk_182 0 188 (dk_at dksX1_removeAt_0 3 rfl rfl)
theorem dX1_removeAt_6 : decode cX1_removeAt 6 = .ok (.ifnull 7, 3) := dk_198 0 7 (dk_at dksX1_removeAt_0 6 rfl rfl)
theorem dX1_removeAt_9 : decode cX1_removeAt 9 = .ok (.iconst 1, 1) := dk_4 (dk_at dksX1_removeAt_0 9 rfl rfl)
theorem dX1_removeAt_10 : decode cX1_removeAt 10 = .ok (.goto 4, 3) := dk_167 0 4 (dk_at dksX1_removeAt_0 10 rfl rfl)
theorem dX1_removeAt_13 : decode cX1_removeAt 13 = .ok (.iconst 0, 1) := dk_3 (dk_at dksX1_removeAt_0 13 rfl rfl)
theorem dX1_removeAt_14 : decode cX1_removeAt 14 = .ok (.invokestatic 98, 3) := dk_184 0 98 (dk_at dksX1_removeAt_0 14 rfl rfl)
theorem dX1_removeAt_17 : decode cX1_removeAt 17 = .ok (.aload_n 0, 1) := dk_42 (dk_at dksX1_removeAt_0 17 rfl rfl)
theorem dX1_removeAt_18 : decode cX1_removeAt 18 = .ok (.iload_n 1, 1) := dk_27 (dk_at dksX1_removeAt_0 18 rfl rfl)
theorem dX1_removeAt_19 : decode cX1_removeAt 19 = .ok (.aload_n 0, 1) := dk_42 (dk_at dksX1_removeAt_0 19 rfl rfl)
theorem dX1_removeAt_20 : decode cX1_removeAt 20 = .ok (.iload_n 1, 1) := dk_27 (dk_at dksX1_removeAt_0 20 rfl rfl)
theorem dX1_removeAt_21 : decode cX1_removeAt 21 = .ok (.invokevirtual 112, 3) := dk_182 0 112 (dk_at dksX1_removeAt_0 21 rfl rfl)
theorem dX1_removeAt_24 : decode cX1_removeAt 24 = .ok (.iload_n 2, 1) := dk_28 (dk_at dksX1_removeAt_1 0 rfl rfl)
theorem dX1_removeAt_25 : decode cX1_removeAt 25 = .ok (.invokevirtual 192, 3) := dk_182 0 192 (dk_at dksX1_removeAt_1 1 rfl rfl)
theorem dX1_removeAt_28 : decode cX1_removeAt 28 = .ok (.invokevirtual 160, 3) := dk_182 0 160 (dk_at dksX1_removeAt_1 4 rfl rfl)
theorem dX1_removeAt_31 : decode cX1_removeAt 31 = .ok (.ireturn, 1) := dk_172 (dk_at dksX1_removeAt_1 7 rfl rfl)
abbrev cX1_operation : ByteArray := prog_1_method_19_code
def yX1_operation : MethodName := ⟨RX1, "operation", "(II)LScheduleAnalyzer$Operation;"⟩
def dkwX1_operation_1 : List UInt8 := [28, 185, 0, 69, 2, 0, 192, 0, 73, 176]
abbrev dktX1_operation_1 : List UInt8 := dkwX1_operation_1 ++ []
def dkwX1_operation_0 : List UInt8 := [42, 27, 182, 0, 112, 78, 28, 3, 45, 182, 0, 109, 4, 100, 184, 0, 55, 184, 0, 98, 45, 180, 0, 116]
abbrev dktX1_operation_0 : List UInt8 := dkwX1_operation_0 ++ dktX1_operation_1
theorem dksX1_operation_0 : cX1_operation.data.toList.drop 0 = dktX1_operation_0 := by decide +kernel
theorem dksX1_operation_1 : cX1_operation.data.toList.drop 24 = dktX1_operation_1 := dk_seg dksX1_operation_0 24 rfl rfl
theorem dX1_operation_0 : decode cX1_operation 0 = .ok (.aload_n 0, 1) := dk_42 (dk_at dksX1_operation_0 0 rfl rfl)
theorem dX1_operation_1 : decode cX1_operation 1 = .ok (.iload_n 1, 1) := dk_27 (dk_at dksX1_operation_0 1 rfl rfl)
theorem dX1_operation_2 : decode cX1_operation 2 = .ok (.invokevirtual 112, 3) := dk_182 0 112 (dk_at dksX1_operation_0 2 rfl rfl)
theorem dX1_operation_5 : decode cX1_operation 5 = .ok (.astore_n 3, 1) := dk_78 (dk_at dksX1_operation_0 5 rfl rfl)
theorem dX1_operation_6 : decode cX1_operation 6 = .ok (.iload_n 2, 1) := dk_28 (dk_at dksX1_operation_0 6 rfl rfl)
theorem dX1_operation_7 : decode cX1_operation 7 = .ok (.iconst 0, 1) := dk_3 (dk_at dksX1_operation_0 7 rfl rfl)
theorem dX1_operation_8 : decode cX1_operation 8 = .ok (.aload_n 3, 1) := dk_45 (dk_at dksX1_operation_0 8 rfl rfl)
theorem dX1_operation_9 : decode cX1_operation 9 = .ok (.invokevirtual 109, 3) := dk_182 0 109 (dk_at dksX1_operation_0 9 rfl rfl)
theorem dX1_operation_12 : decode cX1_operation 12 = .ok (.iconst 1, 1) := dk_4 (dk_at dksX1_operation_0 12 rfl rfl)
theorem dX1_operation_13 : decode cX1_operation 13 = .ok (.isub, 1) := dk_100 (dk_at dksX1_operation_0 13 rfl rfl)
theorem dX1_operation_14 : decode cX1_operation 14 = .ok (.invokestatic 55, 3) := dk_184 0 55 (dk_at dksX1_operation_0 14 rfl rfl)
theorem dX1_operation_17 : decode cX1_operation 17 = .ok (.invokestatic 98, 3) := dk_184 0 98 (dk_at dksX1_operation_0 17 rfl rfl)
theorem dX1_operation_20 : decode cX1_operation 20 = .ok (.aload_n 3, 1) := dk_45 (dk_at dksX1_operation_0 20 rfl rfl)
theorem dX1_operation_21 : decode cX1_operation 21 = .ok (.getfield 116, 3) := dk_180 0 116 (dk_at dksX1_operation_0 21 rfl rfl)
theorem dX1_operation_24 : decode cX1_operation 24 = .ok (.iload_n 2, 1) := dk_28 (dk_at dksX1_operation_1 0 rfl rfl)
theorem dX1_operation_25 : decode cX1_operation 25 = .ok (.invokeinterface 69 2, 5) := by decide +kernel
theorem dX1_operation_30 : decode cX1_operation 30 = .ok (.checkcast 73, 3) := dk_192 0 73 (dk_at dksX1_operation_1 6 rfl rfl)
theorem dX1_operation_33 : decode cX1_operation 33 = .ok (.areturn, 1) := dk_176 (dk_at dksX1_operation_1 9 rfl rfl)
abbrev cX1_schedule : ByteArray := prog_1_method_17_code
def yX1_schedule : MethodName := ⟨RX1, "schedule", "(I)LScheduleAnalyzer$Schedule;"⟩
def dkwX1_schedule_0 : List UInt8 := [27, 184, 0, 94, 184, 0, 98, 42, 180, 0, 10, 180, 0, 102, 27, 50, 176]
abbrev dktX1_schedule_0 : List UInt8 := dkwX1_schedule_0 ++ []
theorem dksX1_schedule_0 : cX1_schedule.data.toList.drop 0 = dktX1_schedule_0 := by decide +kernel
theorem dX1_schedule_0 : decode cX1_schedule 0 = .ok (.iload_n 1, 1) := dk_27 (dk_at dksX1_schedule_0 0 rfl rfl)
theorem dX1_schedule_1 : decode cX1_schedule 1 = .ok (.invokestatic 94, 3) := dk_184 0 94 (dk_at dksX1_schedule_0 1 rfl rfl)
theorem dX1_schedule_4 : decode cX1_schedule 4 = .ok (.invokestatic 98, 3) := dk_184 0 98 (dk_at dksX1_schedule_0 4 rfl rfl)
theorem dX1_schedule_7 : decode cX1_schedule 7 = .ok (.aload_n 0, 1) := dk_42 (dk_at dksX1_schedule_0 7 rfl rfl)
theorem dX1_schedule_8 : decode cX1_schedule 8 = .ok (.getfield 10, 3) := dk_180 0 10 (dk_at dksX1_schedule_0 8 rfl rfl)
theorem dX1_schedule_11 : decode cX1_schedule 11 = .ok (.getfield 102, 3) := dk_180 0 102 (dk_at dksX1_schedule_0 11 rfl rfl)
theorem dX1_schedule_14 : decode cX1_schedule 14 = .ok (.iload_n 1, 1) := dk_27 (dk_at dksX1_schedule_0 14 rfl rfl)
theorem dX1_schedule_15 : decode cX1_schedule 15 = .ok (.aaload, 1) := dk_50 (dk_at dksX1_schedule_0 15 rfl rfl)
theorem dX1_schedule_16 : decode cX1_schedule 16 = .ok (.areturn, 1) := dk_176 (dk_at dksX1_schedule_0 16 rfl rfl)
abbrev cX1_exchange : ByteArray := prog_1_method_26_code
def yX1_exchange : MethodName := ⟨RX1, "exchange", "(II)I"⟩
def dkwX1_exchange_2 : List UInt8 := [182, 0, 195, 182, 0, 160, 158, 0, 11, 25, 4, 180, 0, 120, 167, 0, 4, 2, 172]
abbrev dktX1_exchange_2 : List UInt8 := dkwX1_exchange_2 ++ []
def dkwX1_exchange_1 : List UInt8 := [180, 0, 120, 159, 0, 7, 4, 167, 0, 4, 3, 184, 0, 157, 42, 27, 42, 27, 182, 0, 112, 28]
abbrev dktX1_exchange_1 : List UInt8 := dkwX1_exchange_1 ++ dktX1_exchange_2
def dkwX1_exchange_0 : List UInt8 := [42, 27, 28, 182, 0, 188, 78, 42, 27, 28, 4, 96, 182, 0, 188, 58, 4, 45, 180, 0, 120, 25, 4]
abbrev dktX1_exchange_0 : List UInt8 := dkwX1_exchange_0 ++ dktX1_exchange_1
theorem dksX1_exchange_0 : cX1_exchange.data.toList.drop 0 = dktX1_exchange_0 := by decide +kernel
theorem dksX1_exchange_1 : cX1_exchange.data.toList.drop 23 = dktX1_exchange_1 := dk_seg dksX1_exchange_0 23 rfl rfl
theorem dksX1_exchange_2 : cX1_exchange.data.toList.drop 45 = dktX1_exchange_2 := dk_seg dksX1_exchange_1 22 rfl rfl
theorem dX1_exchange_0 : decode cX1_exchange 0 = .ok (.aload_n 0, 1) := dk_42 (dk_at dksX1_exchange_0 0 rfl rfl)
theorem dX1_exchange_1 : decode cX1_exchange 1 = .ok (.iload_n 1, 1) := dk_27 (dk_at dksX1_exchange_0 1 rfl rfl)
theorem dX1_exchange_2 : decode cX1_exchange 2 = .ok (.iload_n 2, 1) := dk_28 (dk_at dksX1_exchange_0 2 rfl rfl)
theorem dX1_exchange_3 : decode cX1_exchange 3 = .ok (.invokevirtual 188, 3) := dk_182 0 188 (dk_at dksX1_exchange_0 3 rfl rfl)
theorem dX1_exchange_6 : decode cX1_exchange 6 = .ok (.astore_n 3, 1) := dk_78 (dk_at dksX1_exchange_0 6 rfl rfl)
theorem dX1_exchange_7 : decode cX1_exchange 7 = .ok (.aload_n 0, 1) := dk_42 (dk_at dksX1_exchange_0 7 rfl rfl)
theorem dX1_exchange_8 : decode cX1_exchange 8 = .ok (.iload_n 1, 1) := dk_27 (dk_at dksX1_exchange_0 8 rfl rfl)
theorem dX1_exchange_9 : decode cX1_exchange 9 = .ok (.iload_n 2, 1) := dk_28 (dk_at dksX1_exchange_0 9 rfl rfl)
theorem dX1_exchange_10 : decode cX1_exchange 10 = .ok (.iconst 1, 1) := dk_4 (dk_at dksX1_exchange_0 10 rfl rfl)
theorem dX1_exchange_11 : decode cX1_exchange 11 = .ok (.iadd, 1) := dk_96 (dk_at dksX1_exchange_0 11 rfl rfl)
theorem dX1_exchange_12 : decode cX1_exchange 12 = .ok (.invokevirtual 188, 3) := dk_182 0 188 (dk_at dksX1_exchange_0 12 rfl rfl)
theorem dX1_exchange_15 : decode cX1_exchange 15 = .ok (.astore 4, 2) := dk_58 4 (dk_at dksX1_exchange_0 15 rfl rfl)
theorem dX1_exchange_17 : decode cX1_exchange 17 = .ok (.aload_n 3, 1) := dk_45 (dk_at dksX1_exchange_0 17 rfl rfl)
theorem dX1_exchange_18 : decode cX1_exchange 18 = .ok (.getfield 120, 3) := dk_180 0 120 (dk_at dksX1_exchange_0 18 rfl rfl)
theorem dX1_exchange_21 : decode cX1_exchange 21 = .ok (.aload 4, 2) := dk_25 4 (dk_at dksX1_exchange_0 21 rfl rfl)
theorem dX1_exchange_23 : decode cX1_exchange 23 = .ok (.getfield 120, 3) := dk_180 0 120 (dk_at dksX1_exchange_1 0 rfl rfl)
theorem dX1_exchange_26 : decode cX1_exchange 26 = .ok (.if_icmp .eq 7, 3) := dk_159 0 7 (dk_at dksX1_exchange_1 3 rfl rfl)
theorem dX1_exchange_29 : decode cX1_exchange 29 = .ok (.iconst 1, 1) := dk_4 (dk_at dksX1_exchange_1 6 rfl rfl)
theorem dX1_exchange_30 : decode cX1_exchange 30 = .ok (.goto 4, 3) := dk_167 0 4 (dk_at dksX1_exchange_1 7 rfl rfl)
theorem dX1_exchange_33 : decode cX1_exchange 33 = .ok (.iconst 0, 1) := dk_3 (dk_at dksX1_exchange_1 10 rfl rfl)
theorem dX1_exchange_34 : decode cX1_exchange 34 = .ok (.invokestatic 157, 3) := dk_184 0 157 (dk_at dksX1_exchange_1 11 rfl rfl)
theorem dX1_exchange_37 : decode cX1_exchange 37 = .ok (.aload_n 0, 1) := dk_42 (dk_at dksX1_exchange_1 14 rfl rfl)
theorem dX1_exchange_38 : decode cX1_exchange 38 = .ok (.iload_n 1, 1) := dk_27 (dk_at dksX1_exchange_1 15 rfl rfl)
theorem dX1_exchange_39 : decode cX1_exchange 39 = .ok (.aload_n 0, 1) := dk_42 (dk_at dksX1_exchange_1 16 rfl rfl)
theorem dX1_exchange_40 : decode cX1_exchange 40 = .ok (.iload_n 1, 1) := dk_27 (dk_at dksX1_exchange_1 17 rfl rfl)
theorem dX1_exchange_41 : decode cX1_exchange 41 = .ok (.invokevirtual 112, 3) := dk_182 0 112 (dk_at dksX1_exchange_1 18 rfl rfl)
theorem dX1_exchange_44 : decode cX1_exchange 44 = .ok (.iload_n 2, 1) := dk_28 (dk_at dksX1_exchange_1 21 rfl rfl)
theorem dX1_exchange_45 : decode cX1_exchange 45 = .ok (.invokevirtual 195, 3) := dk_182 0 195 (dk_at dksX1_exchange_2 0 rfl rfl)
theorem dX1_exchange_48 : decode cX1_exchange 48 = .ok (.invokevirtual 160, 3) := dk_182 0 160 (dk_at dksX1_exchange_2 3 rfl rfl)
theorem dX1_exchange_51 : decode cX1_exchange 51 = .ok (.ifCond .le 11, 3) := dk_158 0 11 (dk_at dksX1_exchange_2 6 rfl rfl)
theorem dX1_exchange_54 : decode cX1_exchange 54 = .ok (.aload 4, 2) := dk_25 4 (dk_at dksX1_exchange_2 9 rfl rfl)
theorem dX1_exchange_56 : decode cX1_exchange 56 = .ok (.getfield 120, 3) := dk_180 0 120 (dk_at dksX1_exchange_2 11 rfl rfl)
theorem dX1_exchange_59 : decode cX1_exchange 59 = .ok (.goto 4, 3) := dk_167 0 4 (dk_at dksX1_exchange_2 14 rfl rfl)
theorem dX1_exchange_62 : decode cX1_exchange 62 = .ok (.iconst (-1), 1) := dk_2 (dk_at dksX1_exchange_2 17 rfl rfl)
theorem dX1_exchange_63 : decode cX1_exchange 63 = .ok (.ireturn, 1) := dk_172 (dk_at dksX1_exchange_2 18 rfl rfl)
abbrev cX1_copy : ByteArray := prog_1_method_28_code
def yX1_copy : MethodName := ⟨RX1, "copy", "(II)I"⟩
def dkwX1_copy_0 : List UInt8 := [42, 27, 28, 182, 0, 198, 42, 27, 42, 28, 182, 0, 112, 182, 0, 160, 172]
abbrev dktX1_copy_0 : List UInt8 := dkwX1_copy_0 ++ []
theorem dksX1_copy_0 : cX1_copy.data.toList.drop 0 = dktX1_copy_0 := by decide +kernel
theorem dX1_copy_0 : decode cX1_copy 0 = .ok (.aload_n 0, 1) := dk_42 (dk_at dksX1_copy_0 0 rfl rfl)
theorem dX1_copy_1 : decode cX1_copy 1 = .ok (.iload_n 1, 1) := dk_27 (dk_at dksX1_copy_0 1 rfl rfl)
theorem dX1_copy_2 : decode cX1_copy 2 = .ok (.iload_n 2, 1) := dk_28 (dk_at dksX1_copy_0 2 rfl rfl)
theorem dX1_copy_3 : decode cX1_copy 3 = .ok (.invokevirtual 198, 3) := dk_182 0 198 (dk_at dksX1_copy_0 3 rfl rfl)
theorem dX1_copy_6 : decode cX1_copy 6 = .ok (.aload_n 0, 1) := dk_42 (dk_at dksX1_copy_0 6 rfl rfl)
theorem dX1_copy_7 : decode cX1_copy 7 = .ok (.iload_n 1, 1) := dk_27 (dk_at dksX1_copy_0 7 rfl rfl)
theorem dX1_copy_8 : decode cX1_copy 8 = .ok (.aload_n 0, 1) := dk_42 (dk_at dksX1_copy_0 8 rfl rfl)
theorem dX1_copy_9 : decode cX1_copy 9 = .ok (.iload_n 2, 1) := dk_28 (dk_at dksX1_copy_0 9 rfl rfl)
theorem dX1_copy_10 : decode cX1_copy 10 = .ok (.invokevirtual 112, 3) := dk_182 0 112 (dk_at dksX1_copy_0 10 rfl rfl)
theorem dX1_copy_13 : decode cX1_copy 13 = .ok (.invokevirtual 160, 3) := dk_182 0 160 (dk_at dksX1_copy_0 13 rfl rfl)
theorem dX1_copy_16 : decode cX1_copy 16 = .ok (.ireturn, 1) := dk_172 (dk_at dksX1_copy_0 16 rfl rfl)
abbrev cX1_checkSlots : ByteArray := prog_1_method_27_code
def yX1_checkSlots : MethodName := ⟨RX1, "checkSlots", "(II)V"⟩
def dkwX1_checkSlots_0 : List UInt8 := [27, 184, 0, 94, 153, 0, 14, 28, 184, 0, 94, 153, 0, 7, 4, 167, 0, 4, 3, 184, 0, 98, 177]
abbrev dktX1_checkSlots_0 : List UInt8 := dkwX1_checkSlots_0 ++ []
theorem dksX1_checkSlots_0 : cX1_checkSlots.data.toList.drop 0 = dktX1_checkSlots_0 := by decide +kernel
theorem dX1_checkSlots_0 : decode cX1_checkSlots 0 = .ok (.iload_n 1, 1) := dk_27 (dk_at dksX1_checkSlots_0 0 rfl rfl)
theorem dX1_checkSlots_1 : decode cX1_checkSlots 1 = .ok (.invokestatic 94, 3) := dk_184 0 94 (dk_at dksX1_checkSlots_0 1 rfl rfl)
theorem dX1_checkSlots_4 : decode cX1_checkSlots 4 = .ok (.ifCond .eq 14, 3) := dk_153 0 14 (dk_at dksX1_checkSlots_0 4 rfl rfl)
theorem dX1_checkSlots_7 : decode cX1_checkSlots 7 = .ok (.iload_n 2, 1) := dk_28 (dk_at dksX1_checkSlots_0 7 rfl rfl)
theorem dX1_checkSlots_8 : decode cX1_checkSlots 8 = .ok (.invokestatic 94, 3) := dk_184 0 94 (dk_at dksX1_checkSlots_0 8 rfl rfl)
theorem dX1_checkSlots_11 : decode cX1_checkSlots 11 = .ok (.ifCond .eq 7, 3) := dk_153 0 7 (dk_at dksX1_checkSlots_0 11 rfl rfl)
theorem dX1_checkSlots_14 : decode cX1_checkSlots 14 = .ok (.iconst 1, 1) := dk_4 (dk_at dksX1_checkSlots_0 14 rfl rfl)
theorem dX1_checkSlots_15 : decode cX1_checkSlots 15 = .ok (.goto 4, 3) := dk_167 0 4 (dk_at dksX1_checkSlots_0 15 rfl rfl)
theorem dX1_checkSlots_18 : decode cX1_checkSlots 18 = .ok (.iconst 0, 1) := dk_3 (dk_at dksX1_checkSlots_0 18 rfl rfl)
theorem dX1_checkSlots_19 : decode cX1_checkSlots 19 = .ok (.invokestatic 98, 3) := dk_184 0 98 (dk_at dksX1_checkSlots_0 19 rfl rfl)
theorem dX1_checkSlots_22 : decode cX1_checkSlots 22 = .ok (.return_, 1) := dk_177 (dk_at dksX1_checkSlots_0 22 rfl rfl)
abbrev cX1_clear : ByteArray := prog_1_method_29_code
def yX1_clear : MethodName := ⟨RX1, "clear", "(I)I"⟩
def dkwX1_clear_1 : List UInt8 := [183, 0, 150, 182, 0, 160, 154, 0, 7, 28, 167, 0, 4, 2, 172]
abbrev dktX1_clear_1 : List UInt8 := dkwX1_clear_1 ++ []
def dkwX1_clear_0 : List UInt8 := [42, 27, 182, 0, 112, 182, 0, 109, 61, 42, 27, 187, 0, 110, 89, 187, 0, 202, 89, 183, 0, 204]
abbrev dktX1_clear_0 : List UInt8 := dkwX1_clear_0 ++ dktX1_clear_1
theorem dksX1_clear_0 : cX1_clear.data.toList.drop 0 = dktX1_clear_0 := by decide +kernel
theorem dksX1_clear_1 : cX1_clear.data.toList.drop 22 = dktX1_clear_1 := dk_seg dksX1_clear_0 22 rfl rfl
theorem dX1_clear_0 : decode cX1_clear 0 = .ok (.aload_n 0, 1) := dk_42 (dk_at dksX1_clear_0 0 rfl rfl)
theorem dX1_clear_1 : decode cX1_clear 1 = .ok (.iload_n 1, 1) := dk_27 (dk_at dksX1_clear_0 1 rfl rfl)
theorem dX1_clear_2 : decode cX1_clear 2 = .ok (.invokevirtual 112, 3) := dk_182 0 112 (dk_at dksX1_clear_0 2 rfl rfl)
theorem dX1_clear_5 : decode cX1_clear 5 = .ok (.invokevirtual 109, 3) := dk_182 0 109 (dk_at dksX1_clear_0 5 rfl rfl)
theorem dX1_clear_8 : decode cX1_clear 8 = .ok (.istore_n 2, 1) := dk_61 (dk_at dksX1_clear_0 8 rfl rfl)
theorem dX1_clear_9 : decode cX1_clear 9 = .ok (.aload_n 0, 1) := dk_42 (dk_at dksX1_clear_0 9 rfl rfl)
theorem dX1_clear_10 : decode cX1_clear 10 = .ok (.iload_n 1, 1) := dk_27 (dk_at dksX1_clear_0 10 rfl rfl)
theorem dX1_clear_11 : decode cX1_clear 11 = .ok (.new 110, 3) := dk_187 0 110 (dk_at dksX1_clear_0 11 rfl rfl)
theorem dX1_clear_14 : decode cX1_clear 14 = .ok (.dup, 1) := dk_89 (dk_at dksX1_clear_0 14 rfl rfl)
theorem dX1_clear_15 : decode cX1_clear 15 = .ok (.new 202, 3) := dk_187 0 202 (dk_at dksX1_clear_0 15 rfl rfl)
theorem dX1_clear_18 : decode cX1_clear 18 = .ok (.dup, 1) := dk_89 (dk_at dksX1_clear_0 18 rfl rfl)
theorem dX1_clear_19 : decode cX1_clear 19 = .ok (.invokespecial 204, 3) := dk_183 0 204 (dk_at dksX1_clear_0 19 rfl rfl)
theorem dX1_clear_22 : decode cX1_clear 22 = .ok (.invokespecial 150, 3) := dk_183 0 150 (dk_at dksX1_clear_1 0 rfl rfl)
theorem dX1_clear_25 : decode cX1_clear 25 = .ok (.invokevirtual 160, 3) := dk_182 0 160 (dk_at dksX1_clear_1 3 rfl rfl)
theorem dX1_clear_28 : decode cX1_clear 28 = .ok (.ifCond .ne 7, 3) := dk_154 0 7 (dk_at dksX1_clear_1 6 rfl rfl)
theorem dX1_clear_31 : decode cX1_clear 31 = .ok (.iload_n 2, 1) := dk_28 (dk_at dksX1_clear_1 9 rfl rfl)
theorem dX1_clear_32 : decode cX1_clear 32 = .ok (.goto 4, 3) := dk_167 0 4 (dk_at dksX1_clear_1 10 rfl rfl)
theorem dX1_clear_35 : decode cX1_clear 35 = .ok (.iconst (-1), 1) := dk_2 (dk_at dksX1_clear_1 13 rfl rfl)
theorem dX1_clear_36 : decode cX1_clear 36 = .ok (.ireturn, 1) := dk_172 (dk_at dksX1_clear_1 14 rfl rfl)
abbrev cX1_serialize : ByteArray := prog_1_method_30_code
def yX1_serialize : MethodName := ⟨RX1, "serialize", "(II)I"⟩
def dkwX1_serialize_1 : List UInt8 := [42, 28, 182, 0, 112, 182, 0, 217, 45, 182, 0, 221, 182, 0, 225, 182, 0, 160, 172]
abbrev dktX1_serialize_1 : List UInt8 := dkwX1_serialize_1 ++ []
def dkwX1_serialize_0 : List UInt8 := [42, 27, 28, 182, 0, 198, 42, 28, 182, 0, 112, 182, 0, 205, 78, 45, 182, 0, 209, 184, 0, 214, 42, 27]
abbrev dktX1_serialize_0 : List UInt8 := dkwX1_serialize_0 ++ dktX1_serialize_1
theorem dksX1_serialize_0 : cX1_serialize.data.toList.drop 0 = dktX1_serialize_0 := by decide +kernel
theorem dksX1_serialize_1 : cX1_serialize.data.toList.drop 24 = dktX1_serialize_1 := dk_seg dksX1_serialize_0 24 rfl rfl
theorem dX1_serialize_0 : decode cX1_serialize 0 = .ok (.aload_n 0, 1) := dk_42 (dk_at dksX1_serialize_0 0 rfl rfl)
theorem dX1_serialize_1 : decode cX1_serialize 1 = .ok (.iload_n 1, 1) := dk_27 (dk_at dksX1_serialize_0 1 rfl rfl)
theorem dX1_serialize_2 : decode cX1_serialize 2 = .ok (.iload_n 2, 1) := dk_28 (dk_at dksX1_serialize_0 2 rfl rfl)
theorem dX1_serialize_3 : decode cX1_serialize 3 = .ok (.invokevirtual 198, 3) := dk_182 0 198 (dk_at dksX1_serialize_0 3 rfl rfl)
theorem dX1_serialize_6 : decode cX1_serialize 6 = .ok (.aload_n 0, 1) := dk_42 (dk_at dksX1_serialize_0 6 rfl rfl)
theorem dX1_serialize_7 : decode cX1_serialize 7 = .ok (.iload_n 2, 1) := dk_28 (dk_at dksX1_serialize_0 7 rfl rfl)
theorem dX1_serialize_8 : decode cX1_serialize 8 = .ok (.invokevirtual 112, 3) := dk_182 0 112 (dk_at dksX1_serialize_0 8 rfl rfl)
theorem dX1_serialize_11 : decode cX1_serialize 11 = .ok (.invokevirtual 205, 3) := dk_182 0 205 (dk_at dksX1_serialize_0 11 rfl rfl)
theorem dX1_serialize_14 : decode cX1_serialize 14 = .ok (.astore_n 3, 1) := dk_78 (dk_at dksX1_serialize_0 14 rfl rfl)
theorem dX1_serialize_15 : decode cX1_serialize 15 = .ok (.aload_n 3, 1) := dk_45 (dk_at dksX1_serialize_0 15 rfl rfl)
theorem dX1_serialize_16 : decode cX1_serialize 16 = .ok (.invokevirtual 209, 3) := dk_182 0 209 (dk_at dksX1_serialize_0 16 rfl rfl)
theorem dX1_serialize_19 : decode cX1_serialize 19 = .ok (.invokestatic 214, 3) := dk_184 0 214 (dk_at dksX1_serialize_0 19 rfl rfl)
theorem dX1_serialize_22 : decode cX1_serialize 22 = .ok (.aload_n 0, 1) := dk_42 (dk_at dksX1_serialize_0 22 rfl rfl)
theorem dX1_serialize_23 : decode cX1_serialize 23 = .ok (.iload_n 1, 1) := dk_27 (dk_at dksX1_serialize_0 23 rfl rfl)
theorem dX1_serialize_24 : decode cX1_serialize 24 = .ok (.aload_n 0, 1) := dk_42 (dk_at dksX1_serialize_1 0 rfl rfl)
theorem dX1_serialize_25 : decode cX1_serialize 25 = .ok (.iload_n 2, 1) := dk_28 (dk_at dksX1_serialize_1 1 rfl rfl)
theorem dX1_serialize_26 : decode cX1_serialize 26 = .ok (.invokevirtual 112, 3) := dk_182 0 112 (dk_at dksX1_serialize_1 2 rfl rfl)
theorem dX1_serialize_29 : decode cX1_serialize 29 = .ok (.invokevirtual 217, 3) := dk_182 0 217 (dk_at dksX1_serialize_1 5 rfl rfl)
theorem dX1_serialize_32 : decode cX1_serialize 32 = .ok (.aload_n 3, 1) := dk_45 (dk_at dksX1_serialize_1 8 rfl rfl)
theorem dX1_serialize_33 : decode cX1_serialize 33 = .ok (.invokevirtual 221, 3) := dk_182 0 221 (dk_at dksX1_serialize_1 9 rfl rfl)
theorem dX1_serialize_36 : decode cX1_serialize 36 = .ok (.invokevirtual 225, 3) := dk_182 0 225 (dk_at dksX1_serialize_1 12 rfl rfl)
theorem dX1_serialize_39 : decode cX1_serialize 39 = .ok (.invokevirtual 160, 3) := dk_182 0 160 (dk_at dksX1_serialize_1 15 rfl rfl)
theorem dX1_serialize_42 : decode cX1_serialize 42 = .ok (.ireturn, 1) := dk_172 (dk_at dksX1_serialize_1 18 rfl rfl)
abbrev cX1_checkSupported : ByteArray := prog_1_method_6_code
def yX1_checkSupported : MethodName := ⟨RX1, "checkSupported", "(Z)V"⟩
def dkwX1_checkSupported_0 : List UInt8 := [26, 154, 0, 11, 187, 0, 49, 89, 183, 0, 51, 191, 177]
abbrev dktX1_checkSupported_0 : List UInt8 := dkwX1_checkSupported_0 ++ []
theorem dksX1_checkSupported_0 : cX1_checkSupported.data.toList.drop 0 = dktX1_checkSupported_0 := by decide +kernel
theorem dX1_checkSupported_0 : decode cX1_checkSupported 0 = .ok (.iload_n 0, 1) := dk_26 (dk_at dksX1_checkSupported_0 0 rfl rfl)
theorem dX1_checkSupported_1 : decode cX1_checkSupported 1 = .ok (.ifCond .ne 11, 3) := dk_154 0 11 (dk_at dksX1_checkSupported_0 1 rfl rfl)
theorem dX1_checkSupported_4 : decode cX1_checkSupported 4 = .ok (.new 49, 3) := dk_187 0 49 (dk_at dksX1_checkSupported_0 4 rfl rfl)
theorem dX1_checkSupported_7 : decode cX1_checkSupported 7 = .ok (.dup, 1) := dk_89 (dk_at dksX1_checkSupported_0 7 rfl rfl)
theorem dX1_checkSupported_8 : decode cX1_checkSupported 8 = .ok (.invokespecial 51, 3) := dk_183 0 51 (dk_at dksX1_checkSupported_0 8 rfl rfl)
theorem dX1_checkSupported_11 : decode cX1_checkSupported 11 = .ok (.athrow, 1) := dk_191 (dk_at dksX1_checkSupported_0 11 rfl rfl)
theorem dX1_checkSupported_12 : decode cX1_checkSupported 12 = .ok (.return_, 1) := dk_177 (dk_at dksX1_checkSupported_0 12 rfl rfl)
abbrev cX1_lock : ByteArray := prog_1_method_31_code
def yX1_lock : MethodName := ⟨RX1, "lock", "(II)I"⟩
def dkwX1_lock_1 : List UInt8 := [180, 0, 234, 183, 0, 150, 182, 0, 160, 172]
abbrev dktX1_lock_1 : List UInt8 := dkwX1_lock_1 ++ []
def dkwX1_lock_0 : List UInt8 := [42, 27, 28, 182, 0, 198, 42, 27, 187, 0, 110, 89, 187, 0, 229, 89, 42, 28, 182, 0, 112, 183, 0, 231]
abbrev dktX1_lock_0 : List UInt8 := dkwX1_lock_0 ++ dktX1_lock_1
theorem dksX1_lock_0 : cX1_lock.data.toList.drop 0 = dktX1_lock_0 := by decide +kernel
theorem dksX1_lock_1 : cX1_lock.data.toList.drop 24 = dktX1_lock_1 := dk_seg dksX1_lock_0 24 rfl rfl
theorem dX1_lock_0 : decode cX1_lock 0 = .ok (.aload_n 0, 1) := dk_42 (dk_at dksX1_lock_0 0 rfl rfl)
theorem dX1_lock_1 : decode cX1_lock 1 = .ok (.iload_n 1, 1) := dk_27 (dk_at dksX1_lock_0 1 rfl rfl)
theorem dX1_lock_2 : decode cX1_lock 2 = .ok (.iload_n 2, 1) := dk_28 (dk_at dksX1_lock_0 2 rfl rfl)
theorem dX1_lock_3 : decode cX1_lock 3 = .ok (.invokevirtual 198, 3) := dk_182 0 198 (dk_at dksX1_lock_0 3 rfl rfl)
theorem dX1_lock_6 : decode cX1_lock 6 = .ok (.aload_n 0, 1) := dk_42 (dk_at dksX1_lock_0 6 rfl rfl)
theorem dX1_lock_7 : decode cX1_lock 7 = .ok (.iload_n 1, 1) := dk_27 (dk_at dksX1_lock_0 7 rfl rfl)
theorem dX1_lock_8 : decode cX1_lock 8 = .ok (.new 110, 3) := dk_187 0 110 (dk_at dksX1_lock_0 8 rfl rfl)
theorem dX1_lock_11 : decode cX1_lock 11 = .ok (.dup, 1) := dk_89 (dk_at dksX1_lock_0 11 rfl rfl)
theorem dX1_lock_12 : decode cX1_lock 12 = .ok (.new 229, 3) := dk_187 0 229 (dk_at dksX1_lock_0 12 rfl rfl)
theorem dX1_lock_15 : decode cX1_lock 15 = .ok (.dup, 1) := dk_89 (dk_at dksX1_lock_0 15 rfl rfl)
theorem dX1_lock_16 : decode cX1_lock 16 = .ok (.aload_n 0, 1) := dk_42 (dk_at dksX1_lock_0 16 rfl rfl)
theorem dX1_lock_17 : decode cX1_lock 17 = .ok (.iload_n 2, 1) := dk_28 (dk_at dksX1_lock_0 17 rfl rfl)
theorem dX1_lock_18 : decode cX1_lock 18 = .ok (.invokevirtual 112, 3) := dk_182 0 112 (dk_at dksX1_lock_0 18 rfl rfl)
theorem dX1_lock_21 : decode cX1_lock 21 = .ok (.invokespecial 231, 3) := dk_183 0 231 (dk_at dksX1_lock_0 21 rfl rfl)
theorem dX1_lock_24 : decode cX1_lock 24 = .ok (.getfield 234, 3) := dk_180 0 234 (dk_at dksX1_lock_1 0 rfl rfl)
theorem dX1_lock_27 : decode cX1_lock 27 = .ok (.invokespecial 150, 3) := dk_183 0 150 (dk_at dksX1_lock_1 3 rfl rfl)
theorem dX1_lock_30 : decode cX1_lock 30 = .ok (.invokevirtual 160, 3) := dk_182 0 160 (dk_at dksX1_lock_1 6 rfl rfl)
theorem dX1_lock_33 : decode cX1_lock 33 = .ok (.ireturn, 1) := dk_172 (dk_at dksX1_lock_1 9 rfl rfl)
abbrev cX1_setValue : ByteArray := prog_1_method_32_code
def yX1_setValue : MethodName := ⟨RX1, "setValue", "(CI)I"⟩
def dkwX1_setValue_2 : List UInt8 := [180, 0, 237, 27, 16, 97, 100, 28, 79, 29, 172]
abbrev dktX1_setValue_2 : List UInt8 := dkwX1_setValue_2 ++ []
def dkwX1_setValue_1 : List UInt8 := [184, 0, 178, 42, 180, 0, 10, 180, 0, 237, 27, 16, 97, 100, 46, 62, 42, 182, 0, 106, 42, 180, 0, 10]
abbrev dktX1_setValue_1 : List UInt8 := dkwX1_setValue_1 ++ dktX1_setValue_2
def dkwX1_setValue_0 : List UInt8 := [27, 184, 0, 174, 153, 0, 18, 28, 3, 17, 3, 231, 184, 0, 55, 153, 0, 7, 4, 167, 0, 4, 3]
abbrev dktX1_setValue_0 : List UInt8 := dkwX1_setValue_0 ++ dktX1_setValue_1
theorem dksX1_setValue_0 : cX1_setValue.data.toList.drop 0 = dktX1_setValue_0 := by decide +kernel
theorem dksX1_setValue_1 : cX1_setValue.data.toList.drop 23 = dktX1_setValue_1 := dk_seg dksX1_setValue_0 23 rfl rfl
theorem dksX1_setValue_2 : cX1_setValue.data.toList.drop 47 = dktX1_setValue_2 := dk_seg dksX1_setValue_1 24 rfl rfl
theorem dX1_setValue_0 : decode cX1_setValue 0 = .ok (.iload_n 1, 1) := dk_27 (dk_at dksX1_setValue_0 0 rfl rfl)
theorem dX1_setValue_1 : decode cX1_setValue 1 = .ok (.invokestatic 174, 3) := dk_184 0 174 (dk_at dksX1_setValue_0 1 rfl rfl)
theorem dX1_setValue_4 : decode cX1_setValue 4 = .ok (.ifCond .eq 18, 3) := dk_153 0 18 (dk_at dksX1_setValue_0 4 rfl rfl)
theorem dX1_setValue_7 : decode cX1_setValue 7 = .ok (.iload_n 2, 1) := dk_28 (dk_at dksX1_setValue_0 7 rfl rfl)
theorem dX1_setValue_8 : decode cX1_setValue 8 = .ok (.iconst 0, 1) := dk_3 (dk_at dksX1_setValue_0 8 rfl rfl)
theorem dX1_setValue_9 : decode cX1_setValue 9 = .ok (.sipush 999, 3) := dk_17 3 231 (dk_at dksX1_setValue_0 9 rfl rfl)
theorem dX1_setValue_12 : decode cX1_setValue 12 = .ok (.invokestatic 55, 3) := dk_184 0 55 (dk_at dksX1_setValue_0 12 rfl rfl)
theorem dX1_setValue_15 : decode cX1_setValue 15 = .ok (.ifCond .eq 7, 3) := dk_153 0 7 (dk_at dksX1_setValue_0 15 rfl rfl)
theorem dX1_setValue_18 : decode cX1_setValue 18 = .ok (.iconst 1, 1) := dk_4 (dk_at dksX1_setValue_0 18 rfl rfl)
theorem dX1_setValue_19 : decode cX1_setValue 19 = .ok (.goto 4, 3) := dk_167 0 4 (dk_at dksX1_setValue_0 19 rfl rfl)
theorem dX1_setValue_22 : decode cX1_setValue 22 = .ok (.iconst 0, 1) := dk_3 (dk_at dksX1_setValue_0 22 rfl rfl)
theorem dX1_setValue_23 : decode cX1_setValue 23 = .ok (.invokestatic 178, 3) := dk_184 0 178 (dk_at dksX1_setValue_1 0 rfl rfl)
theorem dX1_setValue_26 : decode cX1_setValue 26 = .ok (.aload_n 0, 1) := dk_42 (dk_at dksX1_setValue_1 3 rfl rfl)
theorem dX1_setValue_27 : decode cX1_setValue 27 = .ok (.getfield 10, 3) := dk_180 0 10 (dk_at dksX1_setValue_1 4 rfl rfl)
theorem dX1_setValue_30 : decode cX1_setValue 30 = .ok (.getfield 237, 3) := dk_180 0 237 (dk_at dksX1_setValue_1 7 rfl rfl)
theorem dX1_setValue_33 : decode cX1_setValue 33 = .ok (.iload_n 1, 1) := dk_27 (dk_at dksX1_setValue_1 10 rfl rfl)
theorem dX1_setValue_34 : decode cX1_setValue 34 = .ok (.bipush 97, 2) := dk_16 97 (dk_at dksX1_setValue_1 11 rfl rfl)
theorem dX1_setValue_36 : decode cX1_setValue 36 = .ok (.isub, 1) := dk_100 (dk_at dksX1_setValue_1 13 rfl rfl)
theorem dX1_setValue_37 : decode cX1_setValue 37 = .ok (.iaload, 1) := dk_46 (dk_at dksX1_setValue_1 14 rfl rfl)
theorem dX1_setValue_38 : decode cX1_setValue 38 = .ok (.istore_n 3, 1) := dk_62 (dk_at dksX1_setValue_1 15 rfl rfl)
theorem dX1_setValue_39 : decode cX1_setValue 39 = .ok (.aload_n 0, 1) := dk_42 (dk_at dksX1_setValue_1 16 rfl rfl)
theorem dX1_setValue_40 : decode cX1_setValue 40 = .ok (.invokevirtual 106, 3) := dk_182 0 106 (dk_at dksX1_setValue_1 17 rfl rfl)
theorem dX1_setValue_43 : decode cX1_setValue 43 = .ok (.aload_n 0, 1) := dk_42 (dk_at dksX1_setValue_1 20 rfl rfl)
theorem dX1_setValue_44 : decode cX1_setValue 44 = .ok (.getfield 10, 3) := dk_180 0 10 (dk_at dksX1_setValue_1 21 rfl rfl)
theorem dX1_setValue_47 : decode cX1_setValue 47 = .ok (.getfield 237, 3) := dk_180 0 237 (dk_at dksX1_setValue_2 0 rfl rfl)
theorem dX1_setValue_50 : decode cX1_setValue 50 = .ok (.iload_n 1, 1) := dk_27 (dk_at dksX1_setValue_2 3 rfl rfl)
theorem dX1_setValue_51 : decode cX1_setValue 51 = .ok (.bipush 97, 2) := dk_16 97 (dk_at dksX1_setValue_2 4 rfl rfl)
theorem dX1_setValue_53 : decode cX1_setValue 53 = .ok (.isub, 1) := dk_100 (dk_at dksX1_setValue_2 6 rfl rfl)
theorem dX1_setValue_54 : decode cX1_setValue 54 = .ok (.iload_n 2, 1) := dk_28 (dk_at dksX1_setValue_2 7 rfl rfl)
theorem dX1_setValue_55 : decode cX1_setValue 55 = .ok (.iastore, 1) := dk_79 (dk_at dksX1_setValue_2 8 rfl rfl)
theorem dX1_setValue_56 : decode cX1_setValue 56 = .ok (.iload_n 3, 1) := dk_29 (dk_at dksX1_setValue_2 9 rfl rfl)
theorem dX1_setValue_57 : decode cX1_setValue 57 = .ok (.ireturn, 1) := dk_172 (dk_at dksX1_setValue_2 10 rfl rfl)
abbrev cX1_operationCount : ByteArray := prog_1_method_33_code
def yX1_operationCount : MethodName := ⟨RX1, "operationCount", "(I)I"⟩
def dkwX1_operationCount_0 : List UInt8 := [42, 27, 182, 0, 112, 182, 0, 109, 172]
abbrev dktX1_operationCount_0 : List UInt8 := dkwX1_operationCount_0 ++ []
theorem dksX1_operationCount_0 : cX1_operationCount.data.toList.drop 0 = dktX1_operationCount_0 := by decide +kernel
theorem dX1_operationCount_0 : decode cX1_operationCount 0 = .ok (.aload_n 0, 1) := dk_42 (dk_at dksX1_operationCount_0 0 rfl rfl)
theorem dX1_operationCount_1 : decode cX1_operationCount 1 = .ok (.iload_n 1, 1) := dk_27 (dk_at dksX1_operationCount_0 1 rfl rfl)
theorem dX1_operationCount_2 : decode cX1_operationCount 2 = .ok (.invokevirtual 112, 3) := dk_182 0 112 (dk_at dksX1_operationCount_0 2 rfl rfl)
theorem dX1_operationCount_5 : decode cX1_operationCount 5 = .ok (.invokevirtual 109, 3) := dk_182 0 109 (dk_at dksX1_operationCount_0 5 rfl rfl)
theorem dX1_operationCount_8 : decode cX1_operationCount 8 = .ok (.ireturn, 1) := dk_172 (dk_at dksX1_operationCount_0 8 rfl rfl)
abbrev cX1_kindAt : ByteArray := prog_1_method_34_code
def yX1_kindAt : MethodName := ⟨RX1, "kindAt", "(II)C"⟩
def dkwX1_kindAt_0 : List UInt8 := [42, 27, 28, 182, 0, 188, 180, 0, 241, 172]
abbrev dktX1_kindAt_0 : List UInt8 := dkwX1_kindAt_0 ++ []
theorem dksX1_kindAt_0 : cX1_kindAt.data.toList.drop 0 = dktX1_kindAt_0 := by decide +kernel
theorem dX1_kindAt_0 : decode cX1_kindAt 0 = .ok (.aload_n 0, 1) := dk_42 (dk_at dksX1_kindAt_0 0 rfl rfl)
theorem dX1_kindAt_1 : decode cX1_kindAt 1 = .ok (.iload_n 1, 1) := dk_27 (dk_at dksX1_kindAt_0 1 rfl rfl)
theorem dX1_kindAt_2 : decode cX1_kindAt 2 = .ok (.iload_n 2, 1) := dk_28 (dk_at dksX1_kindAt_0 2 rfl rfl)
theorem dX1_kindAt_3 : decode cX1_kindAt 3 = .ok (.invokevirtual 188, 3) := dk_182 0 188 (dk_at dksX1_kindAt_0 3 rfl rfl)
theorem dX1_kindAt_6 : decode cX1_kindAt 6 = .ok (.getfield 241, 3) := dk_180 0 241 (dk_at dksX1_kindAt_0 6 rfl rfl)
theorem dX1_kindAt_9 : decode cX1_kindAt 9 = .ok (.ireturn, 1) := dk_172 (dk_at dksX1_kindAt_0 9 rfl rfl)
abbrev cX1_transactionAt : ByteArray := prog_1_method_35_code
def yX1_transactionAt : MethodName := ⟨RX1, "transactionAt", "(II)I"⟩
def dkwX1_transactionAt_0 : List UInt8 := [42, 27, 28, 182, 0, 188, 180, 0, 120, 172]
abbrev dktX1_transactionAt_0 : List UInt8 := dkwX1_transactionAt_0 ++ []
theorem dksX1_transactionAt_0 : cX1_transactionAt.data.toList.drop 0 = dktX1_transactionAt_0 := by decide +kernel
theorem dX1_transactionAt_0 : decode cX1_transactionAt 0 = .ok (.aload_n 0, 1) := dk_42 (dk_at dksX1_transactionAt_0 0 rfl rfl)
theorem dX1_transactionAt_1 : decode cX1_transactionAt 1 = .ok (.iload_n 1, 1) := dk_27 (dk_at dksX1_transactionAt_0 1 rfl rfl)
theorem dX1_transactionAt_2 : decode cX1_transactionAt 2 = .ok (.iload_n 2, 1) := dk_28 (dk_at dksX1_transactionAt_0 2 rfl rfl)
theorem dX1_transactionAt_3 : decode cX1_transactionAt 3 = .ok (.invokevirtual 188, 3) := dk_182 0 188 (dk_at dksX1_transactionAt_0 3 rfl rfl)
theorem dX1_transactionAt_6 : decode cX1_transactionAt 6 = .ok (.getfield 120, 3) := dk_180 0 120 (dk_at dksX1_transactionAt_0 6 rfl rfl)
theorem dX1_transactionAt_9 : decode cX1_transactionAt 9 = .ok (.ireturn, 1) := dk_172 (dk_at dksX1_transactionAt_0 9 rfl rfl)
abbrev cX1_itemAt : ByteArray := prog_1_method_36_code
def yX1_itemAt : MethodName := ⟨RX1, "itemAt", "(II)C"⟩
def dkwX1_itemAt_0 : List UInt8 := [42, 27, 28, 182, 0, 188, 78, 45, 182, 0, 245, 184, 0, 248, 45, 180, 0, 251, 172]
abbrev dktX1_itemAt_0 : List UInt8 := dkwX1_itemAt_0 ++ []
theorem dksX1_itemAt_0 : cX1_itemAt.data.toList.drop 0 = dktX1_itemAt_0 := by decide +kernel
theorem dX1_itemAt_0 : decode cX1_itemAt 0 = .ok (.aload_n 0, 1) := dk_42 (dk_at dksX1_itemAt_0 0 rfl rfl)
theorem dX1_itemAt_1 : decode cX1_itemAt 1 = .ok (.iload_n 1, 1) := dk_27 (dk_at dksX1_itemAt_0 1 rfl rfl)
theorem dX1_itemAt_2 : decode cX1_itemAt 2 = .ok (.iload_n 2, 1) := dk_28 (dk_at dksX1_itemAt_0 2 rfl rfl)
theorem dX1_itemAt_3 : decode cX1_itemAt 3 = .ok (.invokevirtual 188, 3) := dk_182 0 188 (dk_at dksX1_itemAt_0 3 rfl rfl)
theorem dX1_itemAt_6 : decode cX1_itemAt 6 = .ok (.astore_n 3, 1) := dk_78 (dk_at dksX1_itemAt_0 6 rfl rfl)
theorem dX1_itemAt_7 : decode cX1_itemAt 7 = .ok (.aload_n 3, 1) := dk_45 (dk_at dksX1_itemAt_0 7 rfl rfl)
theorem dX1_itemAt_8 : decode cX1_itemAt 8 = .ok (.invokevirtual 245, 3) := dk_182 0 245 (dk_at dksX1_itemAt_0 8 rfl rfl)
theorem dX1_itemAt_11 : decode cX1_itemAt 11 = .ok (.invokestatic 248, 3) := dk_184 0 248 (dk_at dksX1_itemAt_0 11 rfl rfl)
theorem dX1_itemAt_14 : decode cX1_itemAt 14 = .ok (.aload_n 3, 1) := dk_45 (dk_at dksX1_itemAt_0 14 rfl rfl)
theorem dX1_itemAt_15 : decode cX1_itemAt 15 = .ok (.getfield 251, 3) := dk_180 0 251 (dk_at dksX1_itemAt_0 15 rfl rfl)
theorem dX1_itemAt_18 : decode cX1_itemAt 18 = .ok (.ireturn, 1) := dk_172 (dk_at dksX1_itemAt_0 18 rfl rfl)
abbrev cX1_checkElement : ByteArray := prog_1_method_4_code
def yX1_checkElement : MethodName := ⟨RX1, "checkElement", "(Z)V"⟩
def dkwX1_checkElement_0 : List UInt8 := [26, 154, 0, 11, 187, 0, 43, 89, 183, 0, 45, 191, 177]
abbrev dktX1_checkElement_0 : List UInt8 := dkwX1_checkElement_0 ++ []
theorem dksX1_checkElement_0 : cX1_checkElement.data.toList.drop 0 = dktX1_checkElement_0 := by decide +kernel
theorem dX1_checkElement_0 : decode cX1_checkElement 0 = .ok (.iload_n 0, 1) := dk_26 (dk_at dksX1_checkElement_0 0 rfl rfl)
theorem dX1_checkElement_1 : decode cX1_checkElement 1 = .ok (.ifCond .ne 11, 3) := dk_154 0 11 (dk_at dksX1_checkElement_0 1 rfl rfl)
theorem dX1_checkElement_4 : decode cX1_checkElement 4 = .ok (.new 43, 3) := dk_187 0 43 (dk_at dksX1_checkElement_0 4 rfl rfl)
theorem dX1_checkElement_7 : decode cX1_checkElement 7 = .ok (.dup, 1) := dk_89 (dk_at dksX1_checkElement_0 7 rfl rfl)
theorem dX1_checkElement_8 : decode cX1_checkElement 8 = .ok (.invokespecial 45, 3) := dk_183 0 45 (dk_at dksX1_checkElement_0 8 rfl rfl)
theorem dX1_checkElement_11 : decode cX1_checkElement 11 = .ok (.athrow, 1) := dk_191 (dk_at dksX1_checkElement_0 11 rfl rfl)
theorem dX1_checkElement_12 : decode cX1_checkElement 12 = .ok (.return_, 1) := dk_177 (dk_at dksX1_checkElement_0 12 rfl rfl)
abbrev cX1_stateOf : ByteArray := prog_1_method_38_code
def yX1_stateOf : MethodName := ⟨RX1, "stateOf", "(II)C"⟩
def dkwX1_stateOf_2 : List UInt8 := [16, 45, 172]
abbrev dktX1_stateOf_2 : List UInt8 := dkwX1_stateOf_2 ++ []
def dkwX1_stateOf_1 : List UInt8 := [153, 0, 6, 16, 99, 172, 45, 28, 186, 1, 5, 0, 0, 182, 1, 6, 153, 0, 8, 16, 97, 167, 0, 5]
abbrev dktX1_stateOf_1 : List UInt8 := dkwX1_stateOf_1 ++ dktX1_stateOf_2
def dkwX1_stateOf_0 : List UInt8 := [42, 27, 28, 182, 0, 254, 78, 45, 28, 182, 1, 2, 153, 0, 6, 16, 120, 172, 45, 28, 182, 0, 164]
abbrev dktX1_stateOf_0 : List UInt8 := dkwX1_stateOf_0 ++ dktX1_stateOf_1
theorem dksX1_stateOf_0 : cX1_stateOf.data.toList.drop 0 = dktX1_stateOf_0 := by decide +kernel
theorem dksX1_stateOf_1 : cX1_stateOf.data.toList.drop 23 = dktX1_stateOf_1 := dk_seg dksX1_stateOf_0 23 rfl rfl
theorem dksX1_stateOf_2 : cX1_stateOf.data.toList.drop 47 = dktX1_stateOf_2 := dk_seg dksX1_stateOf_1 24 rfl rfl
theorem dX1_stateOf_0 : decode cX1_stateOf 0 = .ok (.aload_n 0, 1) := dk_42 (dk_at dksX1_stateOf_0 0 rfl rfl)
theorem dX1_stateOf_1 : decode cX1_stateOf 1 = .ok (.iload_n 1, 1) := dk_27 (dk_at dksX1_stateOf_0 1 rfl rfl)
theorem dX1_stateOf_2 : decode cX1_stateOf 2 = .ok (.iload_n 2, 1) := dk_28 (dk_at dksX1_stateOf_0 2 rfl rfl)
theorem dX1_stateOf_3 : decode cX1_stateOf 3 = .ok (.invokevirtual 254, 3) := dk_182 0 254 (dk_at dksX1_stateOf_0 3 rfl rfl)
theorem dX1_stateOf_6 : decode cX1_stateOf 6 = .ok (.astore_n 3, 1) := dk_78 (dk_at dksX1_stateOf_0 6 rfl rfl)
theorem dX1_stateOf_7 : decode cX1_stateOf 7 = .ok (.aload_n 3, 1) := dk_45 (dk_at dksX1_stateOf_0 7 rfl rfl)
theorem dX1_stateOf_8 : decode cX1_stateOf 8 = .ok (.iload_n 2, 1) := dk_28 (dk_at dksX1_stateOf_0 8 rfl rfl)
theorem dX1_stateOf_9 : decode cX1_stateOf 9 = .ok (.invokevirtual 258, 3) := dk_182 1 2 (dk_at dksX1_stateOf_0 9 rfl rfl)
theorem dX1_stateOf_12 : decode cX1_stateOf 12 = .ok (.ifCond .eq 6, 3) := dk_153 0 6 (dk_at dksX1_stateOf_0 12 rfl rfl)
theorem dX1_stateOf_15 : decode cX1_stateOf 15 = .ok (.bipush 120, 2) := dk_16 120 (dk_at dksX1_stateOf_0 15 rfl rfl)
theorem dX1_stateOf_17 : decode cX1_stateOf 17 = .ok (.ireturn, 1) := dk_172 (dk_at dksX1_stateOf_0 17 rfl rfl)
theorem dX1_stateOf_18 : decode cX1_stateOf 18 = .ok (.aload_n 3, 1) := dk_45 (dk_at dksX1_stateOf_0 18 rfl rfl)
theorem dX1_stateOf_19 : decode cX1_stateOf 19 = .ok (.iload_n 2, 1) := dk_28 (dk_at dksX1_stateOf_0 19 rfl rfl)
theorem dX1_stateOf_20 : decode cX1_stateOf 20 = .ok (.invokevirtual 164, 3) := dk_182 0 164 (dk_at dksX1_stateOf_0 20 rfl rfl)
theorem dX1_stateOf_23 : decode cX1_stateOf 23 = .ok (.ifCond .eq 6, 3) := dk_153 0 6 (dk_at dksX1_stateOf_1 0 rfl rfl)
theorem dX1_stateOf_26 : decode cX1_stateOf 26 = .ok (.bipush 99, 2) := dk_16 99 (dk_at dksX1_stateOf_1 3 rfl rfl)
theorem dX1_stateOf_28 : decode cX1_stateOf 28 = .ok (.ireturn, 1) := dk_172 (dk_at dksX1_stateOf_1 5 rfl rfl)
theorem dX1_stateOf_29 : decode cX1_stateOf 29 = .ok (.aload_n 3, 1) := dk_45 (dk_at dksX1_stateOf_1 6 rfl rfl)
theorem dX1_stateOf_30 : decode cX1_stateOf 30 = .ok (.iload_n 2, 1) := dk_28 (dk_at dksX1_stateOf_1 7 rfl rfl)
theorem dX1_stateOf_31 : decode cX1_stateOf 31 = .ok (.invokedynamic 261, 5) := by decide +kernel
theorem dX1_stateOf_36 : decode cX1_stateOf 36 = .ok (.invokevirtual 262, 3) := dk_182 1 6 (dk_at dksX1_stateOf_1 13 rfl rfl)
theorem dX1_stateOf_39 : decode cX1_stateOf 39 = .ok (.ifCond .eq 8, 3) := dk_153 0 8 (dk_at dksX1_stateOf_1 16 rfl rfl)
theorem dX1_stateOf_42 : decode cX1_stateOf 42 = .ok (.bipush 97, 2) := dk_16 97 (dk_at dksX1_stateOf_1 19 rfl rfl)
theorem dX1_stateOf_44 : decode cX1_stateOf 44 = .ok (.goto 5, 3) := dk_167 0 5 (dk_at dksX1_stateOf_1 21 rfl rfl)
theorem dX1_stateOf_47 : decode cX1_stateOf 47 = .ok (.bipush 45, 2) := dk_16 45 (dk_at dksX1_stateOf_2 0 rfl rfl)
theorem dX1_stateOf_49 : decode cX1_stateOf 49 = .ok (.ireturn, 1) := dk_172 (dk_at dksX1_stateOf_2 2 rfl rfl)
abbrev cX1_scheduleFor : ByteArray := prog_1_method_37_code
def yX1_scheduleFor : MethodName := ⟨RX1, "scheduleFor", "(II)LScheduleAnalyzer$Schedule;"⟩
def dkwX1_scheduleFor_0 : List UInt8 := [42, 27, 182, 0, 112, 78, 28, 184, 0, 171, 184, 0, 178, 45, 176]
abbrev dktX1_scheduleFor_0 : List UInt8 := dkwX1_scheduleFor_0 ++ []
theorem dksX1_scheduleFor_0 : cX1_scheduleFor.data.toList.drop 0 = dktX1_scheduleFor_0 := by decide +kernel
theorem dX1_scheduleFor_0 : decode cX1_scheduleFor 0 = .ok (.aload_n 0, 1) := dk_42 (dk_at dksX1_scheduleFor_0 0 rfl rfl)
theorem dX1_scheduleFor_1 : decode cX1_scheduleFor 1 = .ok (.iload_n 1, 1) := dk_27 (dk_at dksX1_scheduleFor_0 1 rfl rfl)
theorem dX1_scheduleFor_2 : decode cX1_scheduleFor 2 = .ok (.invokevirtual 112, 3) := dk_182 0 112 (dk_at dksX1_scheduleFor_0 2 rfl rfl)
theorem dX1_scheduleFor_5 : decode cX1_scheduleFor 5 = .ok (.astore_n 3, 1) := dk_78 (dk_at dksX1_scheduleFor_0 5 rfl rfl)
theorem dX1_scheduleFor_6 : decode cX1_scheduleFor 6 = .ok (.iload_n 2, 1) := dk_28 (dk_at dksX1_scheduleFor_0 6 rfl rfl)
theorem dX1_scheduleFor_7 : decode cX1_scheduleFor 7 = .ok (.invokestatic 171, 3) := dk_184 0 171 (dk_at dksX1_scheduleFor_0 7 rfl rfl)
theorem dX1_scheduleFor_10 : decode cX1_scheduleFor 10 = .ok (.invokestatic 178, 3) := dk_184 0 178 (dk_at dksX1_scheduleFor_0 10 rfl rfl)
theorem dX1_scheduleFor_13 : decode cX1_scheduleFor 13 = .ok (.aload_n 3, 1) := dk_45 (dk_at dksX1_scheduleFor_0 13 rfl rfl)
theorem dX1_scheduleFor_14 : decode cX1_scheduleFor 14 = .ok (.areturn, 1) := dk_176 (dk_at dksX1_scheduleFor_0 14 rfl rfl)
abbrev cX1_lambda_stateOf_1 : ByteArray := prog_1_method_83_code
def yX1_lambda_stateOf_1 : MethodName := ⟨RX1, "lambda$stateOf$1", "(ILScheduleAnalyzer$Operation;)Z"⟩
def dkwX1_lambda_stateOf_1_0 : List UInt8 := [43, 180, 0, 120, 26, 160, 0, 7, 4, 167, 0, 4, 3, 172]
abbrev dktX1_lambda_stateOf_1_0 : List UInt8 := dkwX1_lambda_stateOf_1_0 ++ []
theorem dksX1_lambda_stateOf_1_0 : cX1_lambda_stateOf_1.data.toList.drop 0 = dktX1_lambda_stateOf_1_0 := by decide +kernel
theorem dX1_lambda_stateOf_1_0 : decode cX1_lambda_stateOf_1 0 = .ok (.aload_n 1, 1) := dk_43 (dk_at dksX1_lambda_stateOf_1_0 0 rfl rfl)
theorem dX1_lambda_stateOf_1_1 : decode cX1_lambda_stateOf_1 1 = .ok (.getfield 120, 3) := dk_180 0 120 (dk_at dksX1_lambda_stateOf_1_0 1 rfl rfl)
theorem dX1_lambda_stateOf_1_4 : decode cX1_lambda_stateOf_1 4 = .ok (.iload_n 0, 1) := dk_26 (dk_at dksX1_lambda_stateOf_1_0 4 rfl rfl)
theorem dX1_lambda_stateOf_1_5 : decode cX1_lambda_stateOf_1 5 = .ok (.if_icmp .ne 7, 3) := dk_160 0 7 (dk_at dksX1_lambda_stateOf_1_0 5 rfl rfl)
theorem dX1_lambda_stateOf_1_8 : decode cX1_lambda_stateOf_1 8 = .ok (.iconst 1, 1) := dk_4 (dk_at dksX1_lambda_stateOf_1_0 8 rfl rfl)
theorem dX1_lambda_stateOf_1_9 : decode cX1_lambda_stateOf_1 9 = .ok (.goto 4, 3) := dk_167 0 4 (dk_at dksX1_lambda_stateOf_1_0 9 rfl rfl)
theorem dX1_lambda_stateOf_1_12 : decode cX1_lambda_stateOf_1 12 = .ok (.iconst 0, 1) := dk_3 (dk_at dksX1_lambda_stateOf_1_0 12 rfl rfl)
theorem dX1_lambda_stateOf_1_13 : decode cX1_lambda_stateOf_1 13 = .ok (.ireturn, 1) := dk_172 (dk_at dksX1_lambda_stateOf_1_0 13 rfl rfl)
abbrev cX1_conflictCount : ByteArray := prog_1_method_39_code
def yX1_conflictCount : MethodName := ⟨RX1, "conflictCount", "(I)I"⟩
def dkwX1_conflictCount_0 : List UInt8 := [42, 27, 182, 0, 112, 182, 1, 10, 172]
abbrev dktX1_conflictCount_0 : List UInt8 := dkwX1_conflictCount_0 ++ []
theorem dksX1_conflictCount_0 : cX1_conflictCount.data.toList.drop 0 = dktX1_conflictCount_0 := by decide +kernel
theorem dX1_conflictCount_0 : decode cX1_conflictCount 0 = .ok (.aload_n 0, 1) := dk_42 (dk_at dksX1_conflictCount_0 0 rfl rfl)
theorem dX1_conflictCount_1 : decode cX1_conflictCount 1 = .ok (.iload_n 1, 1) := dk_27 (dk_at dksX1_conflictCount_0 1 rfl rfl)
theorem dX1_conflictCount_2 : decode cX1_conflictCount 2 = .ok (.invokevirtual 112, 3) := dk_182 0 112 (dk_at dksX1_conflictCount_0 2 rfl rfl)
theorem dX1_conflictCount_5 : decode cX1_conflictCount 5 = .ok (.invokevirtual 266, 3) := dk_182 1 10 (dk_at dksX1_conflictCount_0 5 rfl rfl)
theorem dX1_conflictCount_8 : decode cX1_conflictCount 8 = .ok (.ireturn, 1) := dk_172 (dk_at dksX1_conflictCount_0 8 rfl rfl)
abbrev cX1_conflictCountByItems : ByteArray := prog_1_method_40_code
def yX1_conflictCountByItems : MethodName := ⟨RX1, "conflictCountByItems", "(I)I"⟩
def dkwX1_conflictCountByItems_0 : List UInt8 := [42, 27, 182, 0, 112, 182, 1, 13, 172]
abbrev dktX1_conflictCountByItems_0 : List UInt8 := dkwX1_conflictCountByItems_0 ++ []
theorem dksX1_conflictCountByItems_0 : cX1_conflictCountByItems.data.toList.drop 0 = dktX1_conflictCountByItems_0 := by decide +kernel
theorem dX1_conflictCountByItems_0 : decode cX1_conflictCountByItems 0 = .ok (.aload_n 0, 1) := dk_42 (dk_at dksX1_conflictCountByItems_0 0 rfl rfl)
theorem dX1_conflictCountByItems_1 : decode cX1_conflictCountByItems 1 = .ok (.iload_n 1, 1) := dk_27 (dk_at dksX1_conflictCountByItems_0 1 rfl rfl)
theorem dX1_conflictCountByItems_2 : decode cX1_conflictCountByItems 2 = .ok (.invokevirtual 112, 3) := dk_182 0 112 (dk_at dksX1_conflictCountByItems_0 2 rfl rfl)
theorem dX1_conflictCountByItems_5 : decode cX1_conflictCountByItems 5 = .ok (.invokevirtual 269, 3) := dk_182 1 13 (dk_at dksX1_conflictCountByItems_0 5 rfl rfl)
theorem dX1_conflictCountByItems_8 : decode cX1_conflictCountByItems 8 = .ok (.ireturn, 1) := dk_172 (dk_at dksX1_conflictCountByItems_0 8 rfl rfl)
abbrev cX1_comesBefore : ByteArray := prog_1_method_41_code
def yX1_comesBefore : MethodName := ⟨RX1, "comesBefore", "(III)Z"⟩
def dkwX1_comesBefore_1 : List UInt8 := [29, 184, 1, 16, 182, 1, 22, 172]
abbrev dktX1_comesBefore_1 : List UInt8 := dkwX1_comesBefore_1 ++ []
def dkwX1_comesBefore_0 : List UInt8 := [42, 27, 28, 182, 0, 254, 58, 4, 29, 184, 0, 171, 184, 0, 178, 25, 4, 182, 0, 205, 28, 184, 1, 16]
abbrev dktX1_comesBefore_0 : List UInt8 := dkwX1_comesBefore_0 ++ dktX1_comesBefore_1
theorem dksX1_comesBefore_0 : cX1_comesBefore.data.toList.drop 0 = dktX1_comesBefore_0 := by decide +kernel
theorem dksX1_comesBefore_1 : cX1_comesBefore.data.toList.drop 24 = dktX1_comesBefore_1 := dk_seg dksX1_comesBefore_0 24 rfl rfl
theorem dX1_comesBefore_0 : decode cX1_comesBefore 0 = .ok (.aload_n 0, 1) := dk_42 (dk_at dksX1_comesBefore_0 0 rfl rfl)
theorem dX1_comesBefore_1 : decode cX1_comesBefore 1 = .ok (.iload_n 1, 1) := dk_27 (dk_at dksX1_comesBefore_0 1 rfl rfl)
theorem dX1_comesBefore_2 : decode cX1_comesBefore 2 = .ok (.iload_n 2, 1) := dk_28 (dk_at dksX1_comesBefore_0 2 rfl rfl)
theorem dX1_comesBefore_3 : decode cX1_comesBefore 3 = .ok (.invokevirtual 254, 3) := dk_182 0 254 (dk_at dksX1_comesBefore_0 3 rfl rfl)
theorem dX1_comesBefore_6 : decode cX1_comesBefore 6 = .ok (.astore 4, 2) := dk_58 4 (dk_at dksX1_comesBefore_0 6 rfl rfl)
theorem dX1_comesBefore_8 : decode cX1_comesBefore 8 = .ok (.iload_n 3, 1) := dk_29 (dk_at dksX1_comesBefore_0 8 rfl rfl)
theorem dX1_comesBefore_9 : decode cX1_comesBefore 9 = .ok (.invokestatic 171, 3) := dk_184 0 171 (dk_at dksX1_comesBefore_0 9 rfl rfl)
theorem dX1_comesBefore_12 : decode cX1_comesBefore 12 = .ok (.invokestatic 178, 3) := dk_184 0 178 (dk_at dksX1_comesBefore_0 12 rfl rfl)
theorem dX1_comesBefore_15 : decode cX1_comesBefore 15 = .ok (.aload 4, 2) := dk_25 4 (dk_at dksX1_comesBefore_0 15 rfl rfl)
theorem dX1_comesBefore_17 : decode cX1_comesBefore 17 = .ok (.invokevirtual 205, 3) := dk_182 0 205 (dk_at dksX1_comesBefore_0 17 rfl rfl)
theorem dX1_comesBefore_20 : decode cX1_comesBefore 20 = .ok (.iload_n 2, 1) := dk_28 (dk_at dksX1_comesBefore_0 20 rfl rfl)
theorem dX1_comesBefore_21 : decode cX1_comesBefore 21 = .ok (.invokestatic 272, 3) := dk_184 1 16 (dk_at dksX1_comesBefore_0 21 rfl rfl)
theorem dX1_comesBefore_24 : decode cX1_comesBefore 24 = .ok (.iload_n 3, 1) := dk_29 (dk_at dksX1_comesBefore_1 0 rfl rfl)
theorem dX1_comesBefore_25 : decode cX1_comesBefore 25 = .ok (.invokestatic 272, 3) := dk_184 1 16 (dk_at dksX1_comesBefore_1 1 rfl rfl)
theorem dX1_comesBefore_28 : decode cX1_comesBefore 28 = .ok (.invokevirtual 278, 3) := dk_182 1 22 (dk_at dksX1_comesBefore_1 4 rfl rfl)
theorem dX1_comesBefore_31 : decode cX1_comesBefore 31 = .ok (.ireturn, 1) := dk_172 (dk_at dksX1_comesBefore_1 7 rfl rfl)
abbrev cX1_isSerializable : ByteArray := prog_1_method_42_code
def yX1_isSerializable : MethodName := ⟨RX1, "isSerializable", "(I)Z"⟩
def dkwX1_isSerializable_0 : List UInt8 := [42, 27, 182, 0, 112, 182, 0, 205, 182, 0, 209, 172]
abbrev dktX1_isSerializable_0 : List UInt8 := dkwX1_isSerializable_0 ++ []
theorem dksX1_isSerializable_0 : cX1_isSerializable.data.toList.drop 0 = dktX1_isSerializable_0 := by decide +kernel
theorem dX1_isSerializable_0 : decode cX1_isSerializable 0 = .ok (.aload_n 0, 1) := dk_42 (dk_at dksX1_isSerializable_0 0 rfl rfl)
theorem dX1_isSerializable_1 : decode cX1_isSerializable 1 = .ok (.iload_n 1, 1) := dk_27 (dk_at dksX1_isSerializable_0 1 rfl rfl)
theorem dX1_isSerializable_2 : decode cX1_isSerializable 2 = .ok (.invokevirtual 112, 3) := dk_182 0 112 (dk_at dksX1_isSerializable_0 2 rfl rfl)
theorem dX1_isSerializable_5 : decode cX1_isSerializable 5 = .ok (.invokevirtual 205, 3) := dk_182 0 205 (dk_at dksX1_isSerializable_0 5 rfl rfl)
theorem dX1_isSerializable_8 : decode cX1_isSerializable 8 = .ok (.invokevirtual 209, 3) := dk_182 0 209 (dk_at dksX1_isSerializable_0 8 rfl rfl)
theorem dX1_isSerializable_11 : decode cX1_isSerializable 11 = .ok (.ireturn, 1) := dk_172 (dk_at dksX1_isSerializable_0 11 rfl rfl)
abbrev cX1_isSerializableByWalks : ByteArray := prog_1_method_43_code
def yX1_isSerializableByWalks : MethodName := ⟨RX1, "isSerializableByWalks", "(I)Z"⟩
def dkwX1_isSerializableByWalks_0 : List UInt8 := [42, 27, 182, 0, 112, 182, 0, 205, 182, 1, 26, 172]
abbrev dktX1_isSerializableByWalks_0 : List UInt8 := dkwX1_isSerializableByWalks_0 ++ []
theorem dksX1_isSerializableByWalks_0 : cX1_isSerializableByWalks.data.toList.drop 0 = dktX1_isSerializableByWalks_0 := by decide +kernel
theorem dX1_isSerializableByWalks_0 : decode cX1_isSerializableByWalks 0 = .ok (.aload_n 0, 1) := dk_42 (dk_at dksX1_isSerializableByWalks_0 0 rfl rfl)
theorem dX1_isSerializableByWalks_1 : decode cX1_isSerializableByWalks 1 = .ok (.iload_n 1, 1) := dk_27 (dk_at dksX1_isSerializableByWalks_0 1 rfl rfl)
theorem dX1_isSerializableByWalks_2 : decode cX1_isSerializableByWalks 2 = .ok (.invokevirtual 112, 3) := dk_182 0 112 (dk_at dksX1_isSerializableByWalks_0 2 rfl rfl)
theorem dX1_isSerializableByWalks_5 : decode cX1_isSerializableByWalks 5 = .ok (.invokevirtual 205, 3) := dk_182 0 205 (dk_at dksX1_isSerializableByWalks_0 5 rfl rfl)
theorem dX1_isSerializableByWalks_8 : decode cX1_isSerializableByWalks 8 = .ok (.invokevirtual 282, 3) := dk_182 1 26 (dk_at dksX1_isSerializableByWalks_0 8 rfl rfl)
theorem dX1_isSerializableByWalks_11 : decode cX1_isSerializableByWalks 11 = .ok (.ireturn, 1) := dk_172 (dk_at dksX1_isSerializableByWalks_0 11 rfl rfl)
abbrev cX1_serialOrders : ByteArray := prog_1_method_44_code
def yX1_serialOrders : MethodName := ⟨RX1, "serialOrders", "(I)I"⟩
def dkwX1_serialOrders_0 : List UInt8 := [42, 27, 182, 0, 112, 182, 0, 205, 182, 1, 29, 172]
abbrev dktX1_serialOrders_0 : List UInt8 := dkwX1_serialOrders_0 ++ []
theorem dksX1_serialOrders_0 : cX1_serialOrders.data.toList.drop 0 = dktX1_serialOrders_0 := by decide +kernel
theorem dX1_serialOrders_0 : decode cX1_serialOrders 0 = .ok (.aload_n 0, 1) := dk_42 (dk_at dksX1_serialOrders_0 0 rfl rfl)
theorem dX1_serialOrders_1 : decode cX1_serialOrders 1 = .ok (.iload_n 1, 1) := dk_27 (dk_at dksX1_serialOrders_0 1 rfl rfl)
theorem dX1_serialOrders_2 : decode cX1_serialOrders 2 = .ok (.invokevirtual 112, 3) := dk_182 0 112 (dk_at dksX1_serialOrders_0 2 rfl rfl)
theorem dX1_serialOrders_5 : decode cX1_serialOrders 5 = .ok (.invokevirtual 205, 3) := dk_182 0 205 (dk_at dksX1_serialOrders_0 5 rfl rfl)
theorem dX1_serialOrders_8 : decode cX1_serialOrders 8 = .ok (.invokevirtual 285, 3) := dk_182 1 29 (dk_at dksX1_serialOrders_0 8 rfl rfl)
theorem dX1_serialOrders_11 : decode cX1_serialOrders 11 = .ok (.ireturn, 1) := dk_172 (dk_at dksX1_serialOrders_0 11 rfl rfl)
abbrev cX1_serialOrdersByTrying : ByteArray := prog_1_method_45_code
def yX1_serialOrdersByTrying : MethodName := ⟨RX1, "serialOrdersByTrying", "(I)I"⟩
def dkwX1_serialOrdersByTrying_0 : List UInt8 := [42, 27, 182, 0, 112, 182, 0, 205, 3, 182, 1, 32, 172]
abbrev dktX1_serialOrdersByTrying_0 : List UInt8 := dkwX1_serialOrdersByTrying_0 ++ []
theorem dksX1_serialOrdersByTrying_0 : cX1_serialOrdersByTrying.data.toList.drop 0 = dktX1_serialOrdersByTrying_0 := by decide +kernel
theorem dX1_serialOrdersByTrying_0 : decode cX1_serialOrdersByTrying 0 = .ok (.aload_n 0, 1) := dk_42 (dk_at dksX1_serialOrdersByTrying_0 0 rfl rfl)
theorem dX1_serialOrdersByTrying_1 : decode cX1_serialOrdersByTrying 1 = .ok (.iload_n 1, 1) := dk_27 (dk_at dksX1_serialOrdersByTrying_0 1 rfl rfl)
theorem dX1_serialOrdersByTrying_2 : decode cX1_serialOrdersByTrying 2 = .ok (.invokevirtual 112, 3) := dk_182 0 112 (dk_at dksX1_serialOrdersByTrying_0 2 rfl rfl)
theorem dX1_serialOrdersByTrying_5 : decode cX1_serialOrdersByTrying 5 = .ok (.invokevirtual 205, 3) := dk_182 0 205 (dk_at dksX1_serialOrdersByTrying_0 5 rfl rfl)
theorem dX1_serialOrdersByTrying_8 : decode cX1_serialOrdersByTrying 8 = .ok (.iconst 0, 1) := dk_3 (dk_at dksX1_serialOrdersByTrying_0 8 rfl rfl)
theorem dX1_serialOrdersByTrying_9 : decode cX1_serialOrdersByTrying 9 = .ok (.invokevirtual 288, 3) := dk_182 1 32 (dk_at dksX1_serialOrdersByTrying_0 9 rfl rfl)
theorem dX1_serialOrdersByTrying_12 : decode cX1_serialOrdersByTrying 12 = .ok (.ireturn, 1) := dk_172 (dk_at dksX1_serialOrdersByTrying_0 12 rfl rfl)
abbrev cX1_serialAt : ByteArray := prog_1_method_47_code
def yX1_serialAt : MethodName := ⟨RX1, "serialAt", "(II)I"⟩
def dkwX1_serialAt_1 : List UInt8 := [185, 0, 69, 2, 0, 192, 1, 17, 182, 1, 40, 172]
abbrev dktX1_serialAt_1 : List UInt8 := dkwX1_serialAt_1 ++ []
def dkwX1_serialAt_0 : List UInt8 := [42, 27, 182, 1, 36, 78, 28, 3, 45, 185, 0, 59, 1, 0, 4, 100, 184, 0, 55, 184, 0, 248, 45, 28]
abbrev dktX1_serialAt_0 : List UInt8 := dkwX1_serialAt_0 ++ dktX1_serialAt_1
theorem dksX1_serialAt_0 : cX1_serialAt.data.toList.drop 0 = dktX1_serialAt_0 := by decide +kernel
theorem dksX1_serialAt_1 : cX1_serialAt.data.toList.drop 24 = dktX1_serialAt_1 := dk_seg dksX1_serialAt_0 24 rfl rfl
theorem dX1_serialAt_0 : decode cX1_serialAt 0 = .ok (.aload_n 0, 1) := dk_42 (dk_at dksX1_serialAt_0 0 rfl rfl)
theorem dX1_serialAt_1 : decode cX1_serialAt 1 = .ok (.iload_n 1, 1) := dk_27 (dk_at dksX1_serialAt_0 1 rfl rfl)
theorem dX1_serialAt_2 : decode cX1_serialAt 2 = .ok (.invokevirtual 292, 3) := dk_182 1 36 (dk_at dksX1_serialAt_0 2 rfl rfl)
theorem dX1_serialAt_5 : decode cX1_serialAt 5 = .ok (.astore_n 3, 1) := dk_78 (dk_at dksX1_serialAt_0 5 rfl rfl)
theorem dX1_serialAt_6 : decode cX1_serialAt 6 = .ok (.iload_n 2, 1) := dk_28 (dk_at dksX1_serialAt_0 6 rfl rfl)
theorem dX1_serialAt_7 : decode cX1_serialAt 7 = .ok (.iconst 0, 1) := dk_3 (dk_at dksX1_serialAt_0 7 rfl rfl)
theorem dX1_serialAt_8 : decode cX1_serialAt 8 = .ok (.aload_n 3, 1) := dk_45 (dk_at dksX1_serialAt_0 8 rfl rfl)
theorem dX1_serialAt_9 : decode cX1_serialAt 9 = .ok (.invokeinterface 59 1, 5) := by decide +kernel
theorem dX1_serialAt_14 : decode cX1_serialAt 14 = .ok (.iconst 1, 1) := dk_4 (dk_at dksX1_serialAt_0 14 rfl rfl)
theorem dX1_serialAt_15 : decode cX1_serialAt 15 = .ok (.isub, 1) := dk_100 (dk_at dksX1_serialAt_0 15 rfl rfl)
theorem dX1_serialAt_16 : decode cX1_serialAt 16 = .ok (.invokestatic 55, 3) := dk_184 0 55 (dk_at dksX1_serialAt_0 16 rfl rfl)
theorem dX1_serialAt_19 : decode cX1_serialAt 19 = .ok (.invokestatic 248, 3) := dk_184 0 248 (dk_at dksX1_serialAt_0 19 rfl rfl)
theorem dX1_serialAt_22 : decode cX1_serialAt 22 = .ok (.aload_n 3, 1) := dk_45 (dk_at dksX1_serialAt_0 22 rfl rfl)
theorem dX1_serialAt_23 : decode cX1_serialAt 23 = .ok (.iload_n 2, 1) := dk_28 (dk_at dksX1_serialAt_0 23 rfl rfl)
theorem dX1_serialAt_24 : decode cX1_serialAt 24 = .ok (.invokeinterface 69 2, 5) := by decide +kernel
theorem dX1_serialAt_29 : decode cX1_serialAt 29 = .ok (.checkcast 273, 3) := dk_192 1 17 (dk_at dksX1_serialAt_1 5 rfl rfl)
theorem dX1_serialAt_32 : decode cX1_serialAt 32 = .ok (.invokevirtual 296, 3) := dk_182 1 40 (dk_at dksX1_serialAt_1 8 rfl rfl)
theorem dX1_serialAt_35 : decode cX1_serialAt 35 = .ok (.ireturn, 1) := dk_172 (dk_at dksX1_serialAt_1 11 rfl rfl)
abbrev cX1_serialOrder : ByteArray := prog_1_method_46_code
def yX1_serialOrder : MethodName := ⟨RX1, "serialOrder", "(I)Ljava/util/List;"⟩
def dkwX1_serialOrder_0 : List UInt8 := [42, 27, 182, 0, 112, 182, 0, 205, 77, 44, 182, 0, 209, 184, 0, 214, 44, 182, 0, 221, 176]
abbrev dktX1_serialOrder_0 : List UInt8 := dkwX1_serialOrder_0 ++ []
theorem dksX1_serialOrder_0 : cX1_serialOrder.data.toList.drop 0 = dktX1_serialOrder_0 := by decide +kernel
theorem dX1_serialOrder_0 : decode cX1_serialOrder 0 = .ok (.aload_n 0, 1) := dk_42 (dk_at dksX1_serialOrder_0 0 rfl rfl)
theorem dX1_serialOrder_1 : decode cX1_serialOrder 1 = .ok (.iload_n 1, 1) := dk_27 (dk_at dksX1_serialOrder_0 1 rfl rfl)
theorem dX1_serialOrder_2 : decode cX1_serialOrder 2 = .ok (.invokevirtual 112, 3) := dk_182 0 112 (dk_at dksX1_serialOrder_0 2 rfl rfl)
theorem dX1_serialOrder_5 : decode cX1_serialOrder 5 = .ok (.invokevirtual 205, 3) := dk_182 0 205 (dk_at dksX1_serialOrder_0 5 rfl rfl)
theorem dX1_serialOrder_8 : decode cX1_serialOrder 8 = .ok (.astore_n 2, 1) := dk_77 (dk_at dksX1_serialOrder_0 8 rfl rfl)
theorem dX1_serialOrder_9 : decode cX1_serialOrder 9 = .ok (.aload_n 2, 1) := dk_44 (dk_at dksX1_serialOrder_0 9 rfl rfl)
theorem dX1_serialOrder_10 : decode cX1_serialOrder 10 = .ok (.invokevirtual 209, 3) := dk_182 0 209 (dk_at dksX1_serialOrder_0 10 rfl rfl)
theorem dX1_serialOrder_13 : decode cX1_serialOrder 13 = .ok (.invokestatic 214, 3) := dk_184 0 214 (dk_at dksX1_serialOrder_0 13 rfl rfl)
theorem dX1_serialOrder_16 : decode cX1_serialOrder 16 = .ok (.aload_n 2, 1) := dk_44 (dk_at dksX1_serialOrder_0 16 rfl rfl)
theorem dX1_serialOrder_17 : decode cX1_serialOrder 17 = .ok (.invokevirtual 221, 3) := dk_182 0 221 (dk_at dksX1_serialOrder_0 17 rfl rfl)
theorem dX1_serialOrder_20 : decode cX1_serialOrder 20 = .ok (.areturn, 1) := dk_176 (dk_at dksX1_serialOrder_0 20 rfl rfl)
abbrev cX1_areEquivalent : ByteArray := prog_1_method_48_code
def yX1_areEquivalent : MethodName := ⟨RX1, "areEquivalent", "(II)Z"⟩
def dkwX1_areEquivalent_0 : List UInt8 := [42, 27, 28, 182, 0, 198, 42, 27, 182, 0, 112, 42, 28, 182, 0, 112, 182, 1, 43, 172]
abbrev dktX1_areEquivalent_0 : List UInt8 := dkwX1_areEquivalent_0 ++ []
theorem dksX1_areEquivalent_0 : cX1_areEquivalent.data.toList.drop 0 = dktX1_areEquivalent_0 := by decide +kernel
theorem dX1_areEquivalent_0 : decode cX1_areEquivalent 0 = .ok (.aload_n 0, 1) := dk_42 (dk_at dksX1_areEquivalent_0 0 rfl rfl)
theorem dX1_areEquivalent_1 : decode cX1_areEquivalent 1 = .ok (.iload_n 1, 1) := dk_27 (dk_at dksX1_areEquivalent_0 1 rfl rfl)
theorem dX1_areEquivalent_2 : decode cX1_areEquivalent 2 = .ok (.iload_n 2, 1) := dk_28 (dk_at dksX1_areEquivalent_0 2 rfl rfl)
theorem dX1_areEquivalent_3 : decode cX1_areEquivalent 3 = .ok (.invokevirtual 198, 3) := dk_182 0 198 (dk_at dksX1_areEquivalent_0 3 rfl rfl)
theorem dX1_areEquivalent_6 : decode cX1_areEquivalent 6 = .ok (.aload_n 0, 1) := dk_42 (dk_at dksX1_areEquivalent_0 6 rfl rfl)
theorem dX1_areEquivalent_7 : decode cX1_areEquivalent 7 = .ok (.iload_n 1, 1) := dk_27 (dk_at dksX1_areEquivalent_0 7 rfl rfl)
theorem dX1_areEquivalent_8 : decode cX1_areEquivalent 8 = .ok (.invokevirtual 112, 3) := dk_182 0 112 (dk_at dksX1_areEquivalent_0 8 rfl rfl)
theorem dX1_areEquivalent_11 : decode cX1_areEquivalent 11 = .ok (.aload_n 0, 1) := dk_42 (dk_at dksX1_areEquivalent_0 11 rfl rfl)
theorem dX1_areEquivalent_12 : decode cX1_areEquivalent 12 = .ok (.iload_n 2, 1) := dk_28 (dk_at dksX1_areEquivalent_0 12 rfl rfl)
theorem dX1_areEquivalent_13 : decode cX1_areEquivalent 13 = .ok (.invokevirtual 112, 3) := dk_182 0 112 (dk_at dksX1_areEquivalent_0 13 rfl rfl)
theorem dX1_areEquivalent_16 : decode cX1_areEquivalent 16 = .ok (.invokevirtual 299, 3) := dk_182 1 43 (dk_at dksX1_areEquivalent_0 16 rfl rfl)
theorem dX1_areEquivalent_19 : decode cX1_areEquivalent 19 = .ok (.ireturn, 1) := dk_172 (dk_at dksX1_areEquivalent_0 19 rfl rfl)
abbrev cX1_isViewSerializable : ByteArray := prog_1_method_50_code
def yX1_isViewSerializable : MethodName := ⟨RX1, "isViewSerializable", "(I)Z"⟩
def dkwX1_isViewSerializable_0 : List UInt8 := [42, 27, 182, 0, 112, 184, 1, 49, 3, 3, 182, 1, 53, 172]
abbrev dktX1_isViewSerializable_0 : List UInt8 := dkwX1_isViewSerializable_0 ++ []
theorem dksX1_isViewSerializable_0 : cX1_isViewSerializable.data.toList.drop 0 = dktX1_isViewSerializable_0 := by decide +kernel
theorem dX1_isViewSerializable_0 : decode cX1_isViewSerializable 0 = .ok (.aload_n 0, 1) := dk_42 (dk_at dksX1_isViewSerializable_0 0 rfl rfl)
theorem dX1_isViewSerializable_1 : decode cX1_isViewSerializable 1 = .ok (.iload_n 1, 1) := dk_27 (dk_at dksX1_isViewSerializable_0 1 rfl rfl)
theorem dX1_isViewSerializable_2 : decode cX1_isViewSerializable 2 = .ok (.invokevirtual 112, 3) := dk_182 0 112 (dk_at dksX1_isViewSerializable_0 2 rfl rfl)
theorem dX1_isViewSerializable_5 : decode cX1_isViewSerializable 5 = .ok (.invokestatic 305, 3) := dk_184 1 49 (dk_at dksX1_isViewSerializable_0 5 rfl rfl)
theorem dX1_isViewSerializable_8 : decode cX1_isViewSerializable 8 = .ok (.iconst 0, 1) := dk_3 (dk_at dksX1_isViewSerializable_0 8 rfl rfl)
theorem dX1_isViewSerializable_9 : decode cX1_isViewSerializable 9 = .ok (.iconst 0, 1) := dk_3 (dk_at dksX1_isViewSerializable_0 9 rfl rfl)
theorem dX1_isViewSerializable_10 : decode cX1_isViewSerializable 10 = .ok (.invokevirtual 309, 3) := dk_182 1 53 (dk_at dksX1_isViewSerializable_0 10 rfl rfl)
theorem dX1_isViewSerializable_13 : decode cX1_isViewSerializable 13 = .ok (.ireturn, 1) := dk_172 (dk_at dksX1_isViewSerializable_0 13 rfl rfl)
abbrev cX1_sourceOf : ByteArray := prog_1_method_51_code
def yX1_sourceOf : MethodName := ⟨RX1, "sourceOf", "(II)I"⟩
def dkwX1_sourceOf_1 : List UInt8 := [182, 0, 112, 28, 182, 1, 57, 62, 29, 2, 159, 0, 7, 4, 167, 0, 4, 3, 184, 0, 248, 29, 172]
abbrev dktX1_sourceOf_1 : List UInt8 := dkwX1_sourceOf_1 ++ []
def dkwX1_sourceOf_0 : List UInt8 := [42, 27, 28, 182, 0, 188, 180, 0, 241, 16, 114, 160, 0, 7, 4, 167, 0, 4, 3, 184, 0, 157, 42, 27]
abbrev dktX1_sourceOf_0 : List UInt8 := dkwX1_sourceOf_0 ++ dktX1_sourceOf_1
theorem dksX1_sourceOf_0 : cX1_sourceOf.data.toList.drop 0 = dktX1_sourceOf_0 := by decide +kernel
theorem dksX1_sourceOf_1 : cX1_sourceOf.data.toList.drop 24 = dktX1_sourceOf_1 := dk_seg dksX1_sourceOf_0 24 rfl rfl
theorem dX1_sourceOf_0 : decode cX1_sourceOf 0 = .ok (.aload_n 0, 1) := dk_42 (dk_at dksX1_sourceOf_0 0 rfl rfl)
theorem dX1_sourceOf_1 : decode cX1_sourceOf 1 = .ok (.iload_n 1, 1) := dk_27 (dk_at dksX1_sourceOf_0 1 rfl rfl)
theorem dX1_sourceOf_2 : decode cX1_sourceOf 2 = .ok (.iload_n 2, 1) := dk_28 (dk_at dksX1_sourceOf_0 2 rfl rfl)
theorem dX1_sourceOf_3 : decode cX1_sourceOf 3 = .ok (.invokevirtual 188, 3) := dk_182 0 188 (dk_at dksX1_sourceOf_0 3 rfl rfl)
theorem dX1_sourceOf_6 : decode cX1_sourceOf 6 = .ok (.getfield 241, 3) := dk_180 0 241 (dk_at dksX1_sourceOf_0 6 rfl rfl)
theorem dX1_sourceOf_9 : decode cX1_sourceOf 9 = .ok (.bipush 114, 2) := dk_16 114 (dk_at dksX1_sourceOf_0 9 rfl rfl)
theorem dX1_sourceOf_11 : decode cX1_sourceOf 11 = .ok (.if_icmp .ne 7, 3) := dk_160 0 7 (dk_at dksX1_sourceOf_0 11 rfl rfl)
theorem dX1_sourceOf_14 : decode cX1_sourceOf 14 = .ok (.iconst 1, 1) := dk_4 (dk_at dksX1_sourceOf_0 14 rfl rfl)
theorem dX1_sourceOf_15 : decode cX1_sourceOf 15 = .ok (.goto 4, 3) := dk_167 0 4 (dk_at dksX1_sourceOf_0 15 rfl rfl)
theorem dX1_sourceOf_18 : decode cX1_sourceOf 18 = .ok (.iconst 0, 1) := dk_3 (dk_at dksX1_sourceOf_0 18 rfl rfl)
theorem dX1_sourceOf_19 : decode cX1_sourceOf 19 = .ok (.invokestatic 157, 3) := dk_184 0 157 (dk_at dksX1_sourceOf_0 19 rfl rfl)
theorem dX1_sourceOf_22 : decode cX1_sourceOf 22 = .ok (.aload_n 0, 1) := dk_42 (dk_at dksX1_sourceOf_0 22 rfl rfl)
theorem dX1_sourceOf_23 : decode cX1_sourceOf 23 = .ok (.iload_n 1, 1) := dk_27 (dk_at dksX1_sourceOf_0 23 rfl rfl)
theorem dX1_sourceOf_24 : decode cX1_sourceOf 24 = .ok (.invokevirtual 112, 3) := dk_182 0 112 (dk_at dksX1_sourceOf_1 0 rfl rfl)
theorem dX1_sourceOf_27 : decode cX1_sourceOf 27 = .ok (.iload_n 2, 1) := dk_28 (dk_at dksX1_sourceOf_1 3 rfl rfl)
theorem dX1_sourceOf_28 : decode cX1_sourceOf 28 = .ok (.invokevirtual 313, 3) := dk_182 1 57 (dk_at dksX1_sourceOf_1 4 rfl rfl)
theorem dX1_sourceOf_31 : decode cX1_sourceOf 31 = .ok (.istore_n 3, 1) := dk_62 (dk_at dksX1_sourceOf_1 7 rfl rfl)
theorem dX1_sourceOf_32 : decode cX1_sourceOf 32 = .ok (.iload_n 3, 1) := dk_29 (dk_at dksX1_sourceOf_1 8 rfl rfl)
theorem dX1_sourceOf_33 : decode cX1_sourceOf 33 = .ok (.iconst (-1), 1) := dk_2 (dk_at dksX1_sourceOf_1 9 rfl rfl)
theorem dX1_sourceOf_34 : decode cX1_sourceOf 34 = .ok (.if_icmp .eq 7, 3) := dk_159 0 7 (dk_at dksX1_sourceOf_1 10 rfl rfl)
theorem dX1_sourceOf_37 : decode cX1_sourceOf 37 = .ok (.iconst 1, 1) := dk_4 (dk_at dksX1_sourceOf_1 13 rfl rfl)
theorem dX1_sourceOf_38 : decode cX1_sourceOf 38 = .ok (.goto 4, 3) := dk_167 0 4 (dk_at dksX1_sourceOf_1 14 rfl rfl)
theorem dX1_sourceOf_41 : decode cX1_sourceOf 41 = .ok (.iconst 0, 1) := dk_3 (dk_at dksX1_sourceOf_1 17 rfl rfl)
theorem dX1_sourceOf_42 : decode cX1_sourceOf 42 = .ok (.invokestatic 248, 3) := dk_184 0 248 (dk_at dksX1_sourceOf_1 18 rfl rfl)
theorem dX1_sourceOf_45 : decode cX1_sourceOf 45 = .ok (.iload_n 3, 1) := dk_29 (dk_at dksX1_sourceOf_1 21 rfl rfl)
theorem dX1_sourceOf_46 : decode cX1_sourceOf 46 = .ok (.ireturn, 1) := dk_172 (dk_at dksX1_sourceOf_1 22 rfl rfl)
abbrev cX1_dirtyReads : ByteArray := prog_1_method_52_code
def yX1_dirtyReads : MethodName := ⟨RX1, "dirtyReads", "(I)I"⟩
def dkwX1_dirtyReads_0 : List UInt8 := [42, 27, 182, 0, 112, 182, 1, 60, 172]
abbrev dktX1_dirtyReads_0 : List UInt8 := dkwX1_dirtyReads_0 ++ []
theorem dksX1_dirtyReads_0 : cX1_dirtyReads.data.toList.drop 0 = dktX1_dirtyReads_0 := by decide +kernel
theorem dX1_dirtyReads_0 : decode cX1_dirtyReads 0 = .ok (.aload_n 0, 1) := dk_42 (dk_at dksX1_dirtyReads_0 0 rfl rfl)
theorem dX1_dirtyReads_1 : decode cX1_dirtyReads 1 = .ok (.iload_n 1, 1) := dk_27 (dk_at dksX1_dirtyReads_0 1 rfl rfl)
theorem dX1_dirtyReads_2 : decode cX1_dirtyReads 2 = .ok (.invokevirtual 112, 3) := dk_182 0 112 (dk_at dksX1_dirtyReads_0 2 rfl rfl)
theorem dX1_dirtyReads_5 : decode cX1_dirtyReads 5 = .ok (.invokevirtual 316, 3) := dk_182 1 60 (dk_at dksX1_dirtyReads_0 5 rfl rfl)
theorem dX1_dirtyReads_8 : decode cX1_dirtyReads 8 = .ok (.ireturn, 1) := dk_172 (dk_at dksX1_dirtyReads_0 8 rfl rfl)
abbrev cX1_isRecoverable : ByteArray := prog_1_method_53_code
def yX1_isRecoverable : MethodName := ⟨RX1, "isRecoverable", "(I)Z"⟩
def dkwX1_isRecoverable_0 : List UInt8 := [42, 27, 182, 0, 112, 182, 1, 63, 172]
abbrev dktX1_isRecoverable_0 : List UInt8 := dkwX1_isRecoverable_0 ++ []
theorem dksX1_isRecoverable_0 : cX1_isRecoverable.data.toList.drop 0 = dktX1_isRecoverable_0 := by decide +kernel
theorem dX1_isRecoverable_0 : decode cX1_isRecoverable 0 = .ok (.aload_n 0, 1) := dk_42 (dk_at dksX1_isRecoverable_0 0 rfl rfl)
theorem dX1_isRecoverable_1 : decode cX1_isRecoverable 1 = .ok (.iload_n 1, 1) := dk_27 (dk_at dksX1_isRecoverable_0 1 rfl rfl)
theorem dX1_isRecoverable_2 : decode cX1_isRecoverable 2 = .ok (.invokevirtual 112, 3) := dk_182 0 112 (dk_at dksX1_isRecoverable_0 2 rfl rfl)
theorem dX1_isRecoverable_5 : decode cX1_isRecoverable 5 = .ok (.invokevirtual 319, 3) := dk_182 1 63 (dk_at dksX1_isRecoverable_0 5 rfl rfl)
theorem dX1_isRecoverable_8 : decode cX1_isRecoverable 8 = .ok (.ireturn, 1) := dk_172 (dk_at dksX1_isRecoverable_0 8 rfl rfl)
abbrev cX1_avoidsCascades : ByteArray := prog_1_method_54_code
def yX1_avoidsCascades : MethodName := ⟨RX1, "avoidsCascades", "(I)Z"⟩
def dkwX1_avoidsCascades_0 : List UInt8 := [42, 27, 182, 0, 112, 182, 1, 60, 154, 0, 7, 4, 167, 0, 4, 3, 172]
abbrev dktX1_avoidsCascades_0 : List UInt8 := dkwX1_avoidsCascades_0 ++ []
theorem dksX1_avoidsCascades_0 : cX1_avoidsCascades.data.toList.drop 0 = dktX1_avoidsCascades_0 := by decide +kernel
theorem dX1_avoidsCascades_0 : decode cX1_avoidsCascades 0 = .ok (.aload_n 0, 1) := dk_42 (dk_at dksX1_avoidsCascades_0 0 rfl rfl)
theorem dX1_avoidsCascades_1 : decode cX1_avoidsCascades 1 = .ok (.iload_n 1, 1) := dk_27 (dk_at dksX1_avoidsCascades_0 1 rfl rfl)
theorem dX1_avoidsCascades_2 : decode cX1_avoidsCascades 2 = .ok (.invokevirtual 112, 3) := dk_182 0 112 (dk_at dksX1_avoidsCascades_0 2 rfl rfl)
theorem dX1_avoidsCascades_5 : decode cX1_avoidsCascades 5 = .ok (.invokevirtual 316, 3) := dk_182 1 60 (dk_at dksX1_avoidsCascades_0 5 rfl rfl)
theorem dX1_avoidsCascades_8 : decode cX1_avoidsCascades 8 = .ok (.ifCond .ne 7, 3) := dk_154 0 7 (dk_at dksX1_avoidsCascades_0 8 rfl rfl)
theorem dX1_avoidsCascades_11 : decode cX1_avoidsCascades 11 = .ok (.iconst 1, 1) := dk_4 (dk_at dksX1_avoidsCascades_0 11 rfl rfl)
theorem dX1_avoidsCascades_12 : decode cX1_avoidsCascades 12 = .ok (.goto 4, 3) := dk_167 0 4 (dk_at dksX1_avoidsCascades_0 12 rfl rfl)
theorem dX1_avoidsCascades_15 : decode cX1_avoidsCascades 15 = .ok (.iconst 0, 1) := dk_3 (dk_at dksX1_avoidsCascades_0 15 rfl rfl)
theorem dX1_avoidsCascades_16 : decode cX1_avoidsCascades 16 = .ok (.ireturn, 1) := dk_172 (dk_at dksX1_avoidsCascades_0 16 rfl rfl)
abbrev cX1_isStrict : ByteArray := prog_1_method_55_code
def yX1_isStrict : MethodName := ⟨RX1, "isStrict", "(I)Z"⟩
def dkwX1_isStrict_0 : List UInt8 := [42, 27, 182, 0, 112, 182, 1, 66, 172]
abbrev dktX1_isStrict_0 : List UInt8 := dkwX1_isStrict_0 ++ []
theorem dksX1_isStrict_0 : cX1_isStrict.data.toList.drop 0 = dktX1_isStrict_0 := by decide +kernel
theorem dX1_isStrict_0 : decode cX1_isStrict 0 = .ok (.aload_n 0, 1) := dk_42 (dk_at dksX1_isStrict_0 0 rfl rfl)
theorem dX1_isStrict_1 : decode cX1_isStrict 1 = .ok (.iload_n 1, 1) := dk_27 (dk_at dksX1_isStrict_0 1 rfl rfl)
theorem dX1_isStrict_2 : decode cX1_isStrict 2 = .ok (.invokevirtual 112, 3) := dk_182 0 112 (dk_at dksX1_isStrict_0 2 rfl rfl)
theorem dX1_isStrict_5 : decode cX1_isStrict 5 = .ok (.invokevirtual 322, 3) := dk_182 1 66 (dk_at dksX1_isStrict_0 5 rfl rfl)
theorem dX1_isStrict_8 : decode cX1_isStrict 8 = .ok (.ireturn, 1) := dk_172 (dk_at dksX1_isStrict_0 8 rfl rfl)
abbrev cX1_valueOf : ByteArray := prog_1_method_56_code
def yX1_valueOf : MethodName := ⟨RX1, "valueOf", "(C)I"⟩
def dkwX1_valueOf_0 : List UInt8 := [27, 184, 0, 174, 184, 0, 178, 42, 180, 0, 10, 180, 0, 237, 27, 16, 97, 100, 46, 172]
abbrev dktX1_valueOf_0 : List UInt8 := dkwX1_valueOf_0 ++ []
theorem dksX1_valueOf_0 : cX1_valueOf.data.toList.drop 0 = dktX1_valueOf_0 := by decide +kernel
theorem dX1_valueOf_0 : decode cX1_valueOf 0 = .ok (.iload_n 1, 1) := dk_27 (dk_at dksX1_valueOf_0 0 rfl rfl)
theorem dX1_valueOf_1 : decode cX1_valueOf 1 = .ok (.invokestatic 174, 3) := dk_184 0 174 (dk_at dksX1_valueOf_0 1 rfl rfl)
theorem dX1_valueOf_4 : decode cX1_valueOf 4 = .ok (.invokestatic 178, 3) := dk_184 0 178 (dk_at dksX1_valueOf_0 4 rfl rfl)
theorem dX1_valueOf_7 : decode cX1_valueOf 7 = .ok (.aload_n 0, 1) := dk_42 (dk_at dksX1_valueOf_0 7 rfl rfl)
theorem dX1_valueOf_8 : decode cX1_valueOf 8 = .ok (.getfield 10, 3) := dk_180 0 10 (dk_at dksX1_valueOf_0 8 rfl rfl)
theorem dX1_valueOf_11 : decode cX1_valueOf 11 = .ok (.getfield 237, 3) := dk_180 0 237 (dk_at dksX1_valueOf_0 11 rfl rfl)
theorem dX1_valueOf_14 : decode cX1_valueOf 14 = .ok (.iload_n 1, 1) := dk_27 (dk_at dksX1_valueOf_0 14 rfl rfl)
theorem dX1_valueOf_15 : decode cX1_valueOf 15 = .ok (.bipush 97, 2) := dk_16 97 (dk_at dksX1_valueOf_0 15 rfl rfl)
theorem dX1_valueOf_17 : decode cX1_valueOf 17 = .ok (.isub, 1) := dk_100 (dk_at dksX1_valueOf_0 17 rfl rfl)
theorem dX1_valueOf_18 : decode cX1_valueOf 18 = .ok (.iaload, 1) := dk_46 (dk_at dksX1_valueOf_0 18 rfl rfl)
theorem dX1_valueOf_19 : decode cX1_valueOf 19 = .ok (.ireturn, 1) := dk_172 (dk_at dksX1_valueOf_0 19 rfl rfl)
abbrev cX1_finalValue : ByteArray := prog_1_method_57_code
def yX1_finalValue : MethodName := ⟨RX1, "finalValue", "(IC)I"⟩
def dkwX1_finalValue_1 : List UInt8 := [45, 183, 1, 71, 180, 1, 74, 28, 16, 97, 100, 46, 172]
abbrev dktX1_finalValue_1 : List UInt8 := dkwX1_finalValue_1 ++ []
def dkwX1_finalValue_0 : List UInt8 := [42, 27, 182, 0, 112, 78, 28, 184, 0, 174, 184, 0, 178, 187, 1, 69, 89, 42, 180, 0, 10, 180, 0, 237]
abbrev dktX1_finalValue_0 : List UInt8 := dkwX1_finalValue_0 ++ dktX1_finalValue_1
theorem dksX1_finalValue_0 : cX1_finalValue.data.toList.drop 0 = dktX1_finalValue_0 := by decide +kernel
theorem dksX1_finalValue_1 : cX1_finalValue.data.toList.drop 24 = dktX1_finalValue_1 := dk_seg dksX1_finalValue_0 24 rfl rfl
theorem dX1_finalValue_0 : decode cX1_finalValue 0 = .ok (.aload_n 0, 1) := dk_42 (dk_at dksX1_finalValue_0 0 rfl rfl)
theorem dX1_finalValue_1 : decode cX1_finalValue 1 = .ok (.iload_n 1, 1) := dk_27 (dk_at dksX1_finalValue_0 1 rfl rfl)
theorem dX1_finalValue_2 : decode cX1_finalValue 2 = .ok (.invokevirtual 112, 3) := dk_182 0 112 (dk_at dksX1_finalValue_0 2 rfl rfl)
theorem dX1_finalValue_5 : decode cX1_finalValue 5 = .ok (.astore_n 3, 1) := dk_78 (dk_at dksX1_finalValue_0 5 rfl rfl)
theorem dX1_finalValue_6 : decode cX1_finalValue 6 = .ok (.iload_n 2, 1) := dk_28 (dk_at dksX1_finalValue_0 6 rfl rfl)
theorem dX1_finalValue_7 : decode cX1_finalValue 7 = .ok (.invokestatic 174, 3) := dk_184 0 174 (dk_at dksX1_finalValue_0 7 rfl rfl)
theorem dX1_finalValue_10 : decode cX1_finalValue 10 = .ok (.invokestatic 178, 3) := dk_184 0 178 (dk_at dksX1_finalValue_0 10 rfl rfl)
theorem dX1_finalValue_13 : decode cX1_finalValue 13 = .ok (.new 325, 3) := dk_187 1 69 (dk_at dksX1_finalValue_0 13 rfl rfl)
theorem dX1_finalValue_16 : decode cX1_finalValue 16 = .ok (.dup, 1) := dk_89 (dk_at dksX1_finalValue_0 16 rfl rfl)
theorem dX1_finalValue_17 : decode cX1_finalValue 17 = .ok (.aload_n 0, 1) := dk_42 (dk_at dksX1_finalValue_0 17 rfl rfl)
theorem dX1_finalValue_18 : decode cX1_finalValue 18 = .ok (.getfield 10, 3) := dk_180 0 10 (dk_at dksX1_finalValue_0 18 rfl rfl)
theorem dX1_finalValue_21 : decode cX1_finalValue 21 = .ok (.getfield 237, 3) := dk_180 0 237 (dk_at dksX1_finalValue_0 21 rfl rfl)
theorem dX1_finalValue_24 : decode cX1_finalValue 24 = .ok (.aload_n 3, 1) := dk_45 (dk_at dksX1_finalValue_1 0 rfl rfl)
theorem dX1_finalValue_25 : decode cX1_finalValue 25 = .ok (.invokespecial 327, 3) := dk_183 1 71 (dk_at dksX1_finalValue_1 1 rfl rfl)
theorem dX1_finalValue_28 : decode cX1_finalValue 28 = .ok (.getfield 330, 3) := dk_180 1 74 (dk_at dksX1_finalValue_1 4 rfl rfl)
theorem dX1_finalValue_31 : decode cX1_finalValue 31 = .ok (.iload_n 2, 1) := dk_28 (dk_at dksX1_finalValue_1 7 rfl rfl)
theorem dX1_finalValue_32 : decode cX1_finalValue 32 = .ok (.bipush 97, 2) := dk_16 97 (dk_at dksX1_finalValue_1 8 rfl rfl)
theorem dX1_finalValue_34 : decode cX1_finalValue 34 = .ok (.isub, 1) := dk_100 (dk_at dksX1_finalValue_1 10 rfl rfl)
theorem dX1_finalValue_35 : decode cX1_finalValue 35 = .ok (.iaload, 1) := dk_46 (dk_at dksX1_finalValue_1 11 rfl rfl)
theorem dX1_finalValue_36 : decode cX1_finalValue 36 = .ok (.ireturn, 1) := dk_172 (dk_at dksX1_finalValue_1 12 rfl rfl)
abbrev cX1_restValue : ByteArray := prog_1_method_58_code
def yX1_restValue : MethodName := ⟨RX1, "restValue", "(IC)I"⟩
def dkwX1_restValue_1 : List UInt8 := [45, 182, 0, 217, 183, 1, 71, 180, 1, 74, 28, 16, 97, 100, 46, 172]
abbrev dktX1_restValue_1 : List UInt8 := dkwX1_restValue_1 ++ []
def dkwX1_restValue_0 : List UInt8 := [42, 27, 182, 0, 112, 78, 28, 184, 0, 174, 184, 0, 178, 187, 1, 69, 89, 42, 180, 0, 10, 180, 0, 237]
abbrev dktX1_restValue_0 : List UInt8 := dkwX1_restValue_0 ++ dktX1_restValue_1
theorem dksX1_restValue_0 : cX1_restValue.data.toList.drop 0 = dktX1_restValue_0 := by decide +kernel
theorem dksX1_restValue_1 : cX1_restValue.data.toList.drop 24 = dktX1_restValue_1 := dk_seg dksX1_restValue_0 24 rfl rfl
theorem dX1_restValue_0 : decode cX1_restValue 0 = .ok (.aload_n 0, 1) := dk_42 (dk_at dksX1_restValue_0 0 rfl rfl)
theorem dX1_restValue_1 : decode cX1_restValue 1 = .ok (.iload_n 1, 1) := dk_27 (dk_at dksX1_restValue_0 1 rfl rfl)
theorem dX1_restValue_2 : decode cX1_restValue 2 = .ok (.invokevirtual 112, 3) := dk_182 0 112 (dk_at dksX1_restValue_0 2 rfl rfl)
theorem dX1_restValue_5 : decode cX1_restValue 5 = .ok (.astore_n 3, 1) := dk_78 (dk_at dksX1_restValue_0 5 rfl rfl)
theorem dX1_restValue_6 : decode cX1_restValue 6 = .ok (.iload_n 2, 1) := dk_28 (dk_at dksX1_restValue_0 6 rfl rfl)
theorem dX1_restValue_7 : decode cX1_restValue 7 = .ok (.invokestatic 174, 3) := dk_184 0 174 (dk_at dksX1_restValue_0 7 rfl rfl)
theorem dX1_restValue_10 : decode cX1_restValue 10 = .ok (.invokestatic 178, 3) := dk_184 0 178 (dk_at dksX1_restValue_0 10 rfl rfl)
theorem dX1_restValue_13 : decode cX1_restValue 13 = .ok (.new 325, 3) := dk_187 1 69 (dk_at dksX1_restValue_0 13 rfl rfl)
theorem dX1_restValue_16 : decode cX1_restValue 16 = .ok (.dup, 1) := dk_89 (dk_at dksX1_restValue_0 16 rfl rfl)
theorem dX1_restValue_17 : decode cX1_restValue 17 = .ok (.aload_n 0, 1) := dk_42 (dk_at dksX1_restValue_0 17 rfl rfl)
theorem dX1_restValue_18 : decode cX1_restValue 18 = .ok (.getfield 10, 3) := dk_180 0 10 (dk_at dksX1_restValue_0 18 rfl rfl)
theorem dX1_restValue_21 : decode cX1_restValue 21 = .ok (.getfield 237, 3) := dk_180 0 237 (dk_at dksX1_restValue_0 21 rfl rfl)
theorem dX1_restValue_24 : decode cX1_restValue 24 = .ok (.aload_n 3, 1) := dk_45 (dk_at dksX1_restValue_1 0 rfl rfl)
theorem dX1_restValue_25 : decode cX1_restValue 25 = .ok (.invokevirtual 217, 3) := dk_182 0 217 (dk_at dksX1_restValue_1 1 rfl rfl)
theorem dX1_restValue_28 : decode cX1_restValue 28 = .ok (.invokespecial 327, 3) := dk_183 1 71 (dk_at dksX1_restValue_1 4 rfl rfl)
theorem dX1_restValue_31 : decode cX1_restValue 31 = .ok (.getfield 330, 3) := dk_180 1 74 (dk_at dksX1_restValue_1 7 rfl rfl)
theorem dX1_restValue_34 : decode cX1_restValue 34 = .ok (.iload_n 2, 1) := dk_28 (dk_at dksX1_restValue_1 10 rfl rfl)
theorem dX1_restValue_35 : decode cX1_restValue 35 = .ok (.bipush 97, 2) := dk_16 97 (dk_at dksX1_restValue_1 11 rfl rfl)
theorem dX1_restValue_37 : decode cX1_restValue 37 = .ok (.isub, 1) := dk_100 (dk_at dksX1_restValue_1 13 rfl rfl)
theorem dX1_restValue_38 : decode cX1_restValue 38 = .ok (.iaload, 1) := dk_46 (dk_at dksX1_restValue_1 14 rfl rfl)
theorem dX1_restValue_39 : decode cX1_restValue 39 = .ok (.ireturn, 1) := dk_172 (dk_at dksX1_restValue_1 15 rfl rfl)
abbrev cX1_registerOf : ByteArray := prog_1_method_59_code
def yX1_registerOf : MethodName := ⟨RX1, "registerOf", "(II)I"⟩
def dkwX1_registerOf_1 : List UInt8 := [42, 180, 0, 10, 180, 0, 237, 45, 183, 1, 71, 180, 1, 76, 28, 46, 172]
abbrev dktX1_registerOf_1 : List UInt8 := dkwX1_registerOf_1 ++ []
def dkwX1_registerOf_0 : List UInt8 := [42, 27, 28, 182, 0, 254, 78, 45, 28, 186, 1, 75, 0, 0, 182, 1, 6, 184, 0, 248, 187, 1, 69, 89]
abbrev dktX1_registerOf_0 : List UInt8 := dkwX1_registerOf_0 ++ dktX1_registerOf_1
theorem dksX1_registerOf_0 : cX1_registerOf.data.toList.drop 0 = dktX1_registerOf_0 := by decide +kernel
theorem dksX1_registerOf_1 : cX1_registerOf.data.toList.drop 24 = dktX1_registerOf_1 := dk_seg dksX1_registerOf_0 24 rfl rfl
theorem dX1_registerOf_0 : decode cX1_registerOf 0 = .ok (.aload_n 0, 1) := dk_42 (dk_at dksX1_registerOf_0 0 rfl rfl)
theorem dX1_registerOf_1 : decode cX1_registerOf 1 = .ok (.iload_n 1, 1) := dk_27 (dk_at dksX1_registerOf_0 1 rfl rfl)
theorem dX1_registerOf_2 : decode cX1_registerOf 2 = .ok (.iload_n 2, 1) := dk_28 (dk_at dksX1_registerOf_0 2 rfl rfl)
theorem dX1_registerOf_3 : decode cX1_registerOf 3 = .ok (.invokevirtual 254, 3) := dk_182 0 254 (dk_at dksX1_registerOf_0 3 rfl rfl)
theorem dX1_registerOf_6 : decode cX1_registerOf 6 = .ok (.astore_n 3, 1) := dk_78 (dk_at dksX1_registerOf_0 6 rfl rfl)
theorem dX1_registerOf_7 : decode cX1_registerOf 7 = .ok (.aload_n 3, 1) := dk_45 (dk_at dksX1_registerOf_0 7 rfl rfl)
theorem dX1_registerOf_8 : decode cX1_registerOf 8 = .ok (.iload_n 2, 1) := dk_28 (dk_at dksX1_registerOf_0 8 rfl rfl)
theorem dX1_registerOf_9 : decode cX1_registerOf 9 = .ok (.invokedynamic 331, 5) := by decide +kernel
theorem dX1_registerOf_14 : decode cX1_registerOf 14 = .ok (.invokevirtual 262, 3) := dk_182 1 6 (dk_at dksX1_registerOf_0 14 rfl rfl)
theorem dX1_registerOf_17 : decode cX1_registerOf 17 = .ok (.invokestatic 248, 3) := dk_184 0 248 (dk_at dksX1_registerOf_0 17 rfl rfl)
theorem dX1_registerOf_20 : decode cX1_registerOf 20 = .ok (.new 325, 3) := dk_187 1 69 (dk_at dksX1_registerOf_0 20 rfl rfl)
theorem dX1_registerOf_23 : decode cX1_registerOf 23 = .ok (.dup, 1) := dk_89 (dk_at dksX1_registerOf_0 23 rfl rfl)
theorem dX1_registerOf_24 : decode cX1_registerOf 24 = .ok (.aload_n 0, 1) := dk_42 (dk_at dksX1_registerOf_1 0 rfl rfl)
theorem dX1_registerOf_25 : decode cX1_registerOf 25 = .ok (.getfield 10, 3) := dk_180 0 10 (dk_at dksX1_registerOf_1 1 rfl rfl)
theorem dX1_registerOf_28 : decode cX1_registerOf 28 = .ok (.getfield 237, 3) := dk_180 0 237 (dk_at dksX1_registerOf_1 4 rfl rfl)
theorem dX1_registerOf_31 : decode cX1_registerOf 31 = .ok (.aload_n 3, 1) := dk_45 (dk_at dksX1_registerOf_1 7 rfl rfl)
theorem dX1_registerOf_32 : decode cX1_registerOf 32 = .ok (.invokespecial 327, 3) := dk_183 1 71 (dk_at dksX1_registerOf_1 8 rfl rfl)
theorem dX1_registerOf_35 : decode cX1_registerOf 35 = .ok (.getfield 332, 3) := dk_180 1 76 (dk_at dksX1_registerOf_1 11 rfl rfl)
theorem dX1_registerOf_38 : decode cX1_registerOf 38 = .ok (.iload_n 2, 1) := dk_28 (dk_at dksX1_registerOf_1 14 rfl rfl)
theorem dX1_registerOf_39 : decode cX1_registerOf 39 = .ok (.iaload, 1) := dk_46 (dk_at dksX1_registerOf_1 15 rfl rfl)
theorem dX1_registerOf_40 : decode cX1_registerOf 40 = .ok (.ireturn, 1) := dk_172 (dk_at dksX1_registerOf_1 16 rfl rfl)
abbrev cX1_lambda_registerOf_2 : ByteArray := prog_1_method_82_code
def yX1_lambda_registerOf_2 : MethodName := ⟨RX1, "lambda$registerOf$2", "(ILScheduleAnalyzer$Operation;)Z"⟩
def dkwX1_lambda_registerOf_2_0 : List UInt8 := [43, 180, 0, 120, 26, 160, 0, 7, 4, 167, 0, 4, 3, 172]
abbrev dktX1_lambda_registerOf_2_0 : List UInt8 := dkwX1_lambda_registerOf_2_0 ++ []
theorem dksX1_lambda_registerOf_2_0 : cX1_lambda_registerOf_2.data.toList.drop 0 = dktX1_lambda_registerOf_2_0 := by decide +kernel
theorem dX1_lambda_registerOf_2_0 : decode cX1_lambda_registerOf_2 0 = .ok (.aload_n 1, 1) := dk_43 (dk_at dksX1_lambda_registerOf_2_0 0 rfl rfl)
theorem dX1_lambda_registerOf_2_1 : decode cX1_lambda_registerOf_2 1 = .ok (.getfield 120, 3) := dk_180 0 120 (dk_at dksX1_lambda_registerOf_2_0 1 rfl rfl)
theorem dX1_lambda_registerOf_2_4 : decode cX1_lambda_registerOf_2 4 = .ok (.iload_n 0, 1) := dk_26 (dk_at dksX1_lambda_registerOf_2_0 4 rfl rfl)
theorem dX1_lambda_registerOf_2_5 : decode cX1_lambda_registerOf_2 5 = .ok (.if_icmp .ne 7, 3) := dk_160 0 7 (dk_at dksX1_lambda_registerOf_2_0 5 rfl rfl)
theorem dX1_lambda_registerOf_2_8 : decode cX1_lambda_registerOf_2 8 = .ok (.iconst 1, 1) := dk_4 (dk_at dksX1_lambda_registerOf_2_0 8 rfl rfl)
theorem dX1_lambda_registerOf_2_9 : decode cX1_lambda_registerOf_2 9 = .ok (.goto 4, 3) := dk_167 0 4 (dk_at dksX1_lambda_registerOf_2_0 9 rfl rfl)
theorem dX1_lambda_registerOf_2_12 : decode cX1_lambda_registerOf_2 12 = .ok (.iconst 0, 1) := dk_3 (dk_at dksX1_lambda_registerOf_2_0 12 rfl rfl)
theorem dX1_lambda_registerOf_2_13 : decode cX1_lambda_registerOf_2 13 = .ok (.ireturn, 1) := dk_172 (dk_at dksX1_lambda_registerOf_2_0 13 rfl rfl)
abbrev cX1_waitingCount : ByteArray := prog_1_method_60_code
def yX1_waitingCount : MethodName := ⟨RX1, "waitingCount", "(I)I"⟩
def dkwX1_waitingCount_0 : List UInt8 := [187, 0, 229, 89, 42, 27, 182, 0, 112, 183, 0, 231, 180, 1, 79, 172]
abbrev dktX1_waitingCount_0 : List UInt8 := dkwX1_waitingCount_0 ++ []
theorem dksX1_waitingCount_0 : cX1_waitingCount.data.toList.drop 0 = dktX1_waitingCount_0 := by decide +kernel
theorem dX1_waitingCount_0 : decode cX1_waitingCount 0 = .ok (.new 229, 3) := dk_187 0 229 (dk_at dksX1_waitingCount_0 0 rfl rfl)
theorem dX1_waitingCount_3 : decode cX1_waitingCount 3 = .ok (.dup, 1) := dk_89 (dk_at dksX1_waitingCount_0 3 rfl rfl)
theorem dX1_waitingCount_4 : decode cX1_waitingCount 4 = .ok (.aload_n 0, 1) := dk_42 (dk_at dksX1_waitingCount_0 4 rfl rfl)
theorem dX1_waitingCount_5 : decode cX1_waitingCount 5 = .ok (.iload_n 1, 1) := dk_27 (dk_at dksX1_waitingCount_0 5 rfl rfl)
theorem dX1_waitingCount_6 : decode cX1_waitingCount 6 = .ok (.invokevirtual 112, 3) := dk_182 0 112 (dk_at dksX1_waitingCount_0 6 rfl rfl)
theorem dX1_waitingCount_9 : decode cX1_waitingCount 9 = .ok (.invokespecial 231, 3) := dk_183 0 231 (dk_at dksX1_waitingCount_0 9 rfl rfl)
theorem dX1_waitingCount_12 : decode cX1_waitingCount 12 = .ok (.getfield 335, 3) := dk_180 1 79 (dk_at dksX1_waitingCount_0 12 rfl rfl)
theorem dX1_waitingCount_15 : decode cX1_waitingCount 15 = .ok (.ireturn, 1) := dk_172 (dk_at dksX1_waitingCount_0 15 rfl rfl)
abbrev cX1_victimCount : ByteArray := prog_1_method_61_code
def yX1_victimCount : MethodName := ⟨RX1, "victimCount", "(I)I"⟩
def dkwX1_victimCount_2 : List UInt8 := [167, 255, 230, 29, 172]
abbrev dktX1_victimCount_2 : List UInt8 := dkwX1_victimCount_2 ++ []
def dkwX1_victimCount_1 : List UInt8 := [163, 0, 26, 29, 21, 4, 28, 184, 1, 85, 153, 0, 7, 4, 167, 0, 4, 3, 96, 62, 132, 4, 1]
abbrev dktX1_victimCount_1 : List UInt8 := dkwX1_victimCount_1 ++ dktX1_victimCount_2
def dkwX1_victimCount_0 : List UInt8 := [187, 0, 229, 89, 42, 27, 182, 0, 112, 183, 0, 231, 180, 1, 82, 61, 3, 62, 4, 54, 4, 21, 4, 8]
abbrev dktX1_victimCount_0 : List UInt8 := dkwX1_victimCount_0 ++ dktX1_victimCount_1
theorem dksX1_victimCount_0 : cX1_victimCount.data.toList.drop 0 = dktX1_victimCount_0 := by decide +kernel
theorem dksX1_victimCount_1 : cX1_victimCount.data.toList.drop 24 = dktX1_victimCount_1 := dk_seg dksX1_victimCount_0 24 rfl rfl
theorem dksX1_victimCount_2 : cX1_victimCount.data.toList.drop 47 = dktX1_victimCount_2 := dk_seg dksX1_victimCount_1 23 rfl rfl
theorem dX1_victimCount_0 : decode cX1_victimCount 0 = .ok (.new 229, 3) := dk_187 0 229 (dk_at dksX1_victimCount_0 0 rfl rfl)
theorem dX1_victimCount_3 : decode cX1_victimCount 3 = .ok (.dup, 1) := dk_89 (dk_at dksX1_victimCount_0 3 rfl rfl)
theorem dX1_victimCount_4 : decode cX1_victimCount 4 = .ok (.aload_n 0, 1) := dk_42 (dk_at dksX1_victimCount_0 4 rfl rfl)
theorem dX1_victimCount_5 : decode cX1_victimCount 5 = .ok (.iload_n 1, 1) := dk_27 (dk_at dksX1_victimCount_0 5 rfl rfl)
theorem dX1_victimCount_6 : decode cX1_victimCount 6 = .ok (.invokevirtual 112, 3) := dk_182 0 112 (dk_at dksX1_victimCount_0 6 rfl rfl)
theorem dX1_victimCount_9 : decode cX1_victimCount 9 = .ok (.invokespecial 231, 3) := dk_183 0 231 (dk_at dksX1_victimCount_0 9 rfl rfl)
theorem dX1_victimCount_12 : decode cX1_victimCount 12 = .ok (.getfield 338, 3) := dk_180 1 82 (dk_at dksX1_victimCount_0 12 rfl rfl)
theorem dX1_victimCount_15 : decode cX1_victimCount 15 = .ok (.istore_n 2, 1) := dk_61 (dk_at dksX1_victimCount_0 15 rfl rfl)
theorem dX1_victimCount_16 : decode cX1_victimCount 16 = .ok (.iconst 0, 1) := dk_3 (dk_at dksX1_victimCount_0 16 rfl rfl)
theorem dX1_victimCount_17 : decode cX1_victimCount 17 = .ok (.istore_n 3, 1) := dk_62 (dk_at dksX1_victimCount_0 17 rfl rfl)
theorem dX1_victimCount_18 : decode cX1_victimCount 18 = .ok (.iconst 1, 1) := dk_4 (dk_at dksX1_victimCount_0 18 rfl rfl)
theorem dX1_victimCount_19 : decode cX1_victimCount 19 = .ok (.istore 4, 2) := dk_54 4 (dk_at dksX1_victimCount_0 19 rfl rfl)
theorem dX1_victimCount_21 : decode cX1_victimCount 21 = .ok (.iload 4, 2) := dk_21 4 (dk_at dksX1_victimCount_0 21 rfl rfl)
theorem dX1_victimCount_23 : decode cX1_victimCount 23 = .ok (.iconst 5, 1) := dk_8 (dk_at dksX1_victimCount_0 23 rfl rfl)
theorem dX1_victimCount_24 : decode cX1_victimCount 24 = .ok (.if_icmp .gt 26, 3) := dk_163 0 26 (dk_at dksX1_victimCount_1 0 rfl rfl)
theorem dX1_victimCount_27 : decode cX1_victimCount 27 = .ok (.iload_n 3, 1) := dk_29 (dk_at dksX1_victimCount_1 3 rfl rfl)
theorem dX1_victimCount_28 : decode cX1_victimCount 28 = .ok (.iload 4, 2) := dk_21 4 (dk_at dksX1_victimCount_1 4 rfl rfl)
theorem dX1_victimCount_30 : decode cX1_victimCount 30 = .ok (.iload_n 2, 1) := dk_28 (dk_at dksX1_victimCount_1 6 rfl rfl)
theorem dX1_victimCount_31 : decode cX1_victimCount 31 = .ok (.invokestatic 341, 3) := dk_184 1 85 (dk_at dksX1_victimCount_1 7 rfl rfl)
theorem dX1_victimCount_34 : decode cX1_victimCount 34 = .ok (.ifCond .eq 7, 3) := dk_153 0 7 (dk_at dksX1_victimCount_1 10 rfl rfl)
theorem dX1_victimCount_37 : decode cX1_victimCount 37 = .ok (.iconst 1, 1) := dk_4 (dk_at dksX1_victimCount_1 13 rfl rfl)
theorem dX1_victimCount_38 : decode cX1_victimCount 38 = .ok (.goto 4, 3) := dk_167 0 4 (dk_at dksX1_victimCount_1 14 rfl rfl)
theorem dX1_victimCount_41 : decode cX1_victimCount 41 = .ok (.iconst 0, 1) := dk_3 (dk_at dksX1_victimCount_1 17 rfl rfl)
theorem dX1_victimCount_42 : decode cX1_victimCount 42 = .ok (.iadd, 1) := dk_96 (dk_at dksX1_victimCount_1 18 rfl rfl)
theorem dX1_victimCount_43 : decode cX1_victimCount 43 = .ok (.istore_n 3, 1) := dk_62 (dk_at dksX1_victimCount_1 19 rfl rfl)
theorem dX1_victimCount_44 : decode cX1_victimCount 44 = .ok (.iinc 4 1, 3) := dk_132 4 1 (dk_at dksX1_victimCount_1 20 rfl rfl)
theorem dX1_victimCount_47 : decode cX1_victimCount 47 = .ok (.goto (-26), 3) := dk_167 255 230 (dk_at dksX1_victimCount_2 0 rfl rfl)
theorem dX1_victimCount_50 : decode cX1_victimCount 50 = .ok (.iload_n 3, 1) := dk_29 (dk_at dksX1_victimCount_2 3 rfl rfl)
theorem dX1_victimCount_51 : decode cX1_victimCount 51 = .ok (.ireturn, 1) := dk_172 (dk_at dksX1_victimCount_2 4 rfl rfl)
abbrev cX1_isVictim : ByteArray := prog_1_method_62_code
def yX1_isVictim : MethodName := ⟨RX1, "isVictim", "(II)Z"⟩
def dkwX1_isVictim_0 : List UInt8 := [28, 187, 0, 229, 89, 42, 27, 28, 182, 0, 254, 183, 0, 231, 180, 1, 82, 184, 1, 85, 172]
abbrev dktX1_isVictim_0 : List UInt8 := dkwX1_isVictim_0 ++ []
theorem dksX1_isVictim_0 : cX1_isVictim.data.toList.drop 0 = dktX1_isVictim_0 := by decide +kernel
theorem dX1_isVictim_0 : decode cX1_isVictim 0 = .ok (.iload_n 2, 1) := dk_28 (dk_at dksX1_isVictim_0 0 rfl rfl)
theorem dX1_isVictim_1 : decode cX1_isVictim 1 = .ok (.new 229, 3) := dk_187 0 229 (dk_at dksX1_isVictim_0 1 rfl rfl)
theorem dX1_isVictim_4 : decode cX1_isVictim 4 = .ok (.dup, 1) := dk_89 (dk_at dksX1_isVictim_0 4 rfl rfl)
theorem dX1_isVictim_5 : decode cX1_isVictim 5 = .ok (.aload_n 0, 1) := dk_42 (dk_at dksX1_isVictim_0 5 rfl rfl)
theorem dX1_isVictim_6 : decode cX1_isVictim 6 = .ok (.iload_n 1, 1) := dk_27 (dk_at dksX1_isVictim_0 6 rfl rfl)
theorem dX1_isVictim_7 : decode cX1_isVictim 7 = .ok (.iload_n 2, 1) := dk_28 (dk_at dksX1_isVictim_0 7 rfl rfl)
theorem dX1_isVictim_8 : decode cX1_isVictim 8 = .ok (.invokevirtual 254, 3) := dk_182 0 254 (dk_at dksX1_isVictim_0 8 rfl rfl)
theorem dX1_isVictim_11 : decode cX1_isVictim 11 = .ok (.invokespecial 231, 3) := dk_183 0 231 (dk_at dksX1_isVictim_0 11 rfl rfl)
theorem dX1_isVictim_14 : decode cX1_isVictim 14 = .ok (.getfield 338, 3) := dk_180 1 82 (dk_at dksX1_isVictim_0 14 rfl rfl)
theorem dX1_isVictim_17 : decode cX1_isVictim 17 = .ok (.invokestatic 341, 3) := dk_184 1 85 (dk_at dksX1_isVictim_0 17 rfl rfl)
theorem dX1_isVictim_20 : decode cX1_isVictim 20 = .ok (.ireturn, 1) := dk_172 (dk_at dksX1_isVictim_0 20 rfl rfl)
abbrev cX1_slotByLength : ByteArray := prog_1_method_63_code
def yX1_slotByLength : MethodName := ⟨RX1, "slotByLength", "(I)I"⟩
def dkwX1_slotByLength_4 : List UInt8 := [183, 0, 45, 191]
abbrev dktX1_slotByLength_4 : List UInt8 := dkwX1_slotByLength_4 ++ []
def dkwX1_slotByLength_3 : List UInt8 := [132, 4, 1, 167, 255, 195, 29, 27, 160, 0, 5, 28, 172, 132, 2, 1, 167, 255, 172, 187, 0, 43, 89]
abbrev dktX1_slotByLength_3 : List UInt8 := dkwX1_slotByLength_3 ++ dktX1_slotByLength_4
def dkwX1_slotByLength_2 : List UInt8 := [29, 21, 5, 157, 0, 14, 21, 5, 154, 0, 13, 21, 4, 28, 162, 0, 7, 4, 167, 0, 4, 3, 96, 62]
abbrev dktX1_slotByLength_2 : List UInt8 := dkwX1_slotByLength_2 ++ dktX1_slotByLength_3
def dkwX1_slotByLength_1 : List UInt8 := [180, 0, 102, 21, 4, 50, 182, 0, 109, 42, 180, 0, 10, 180, 0, 102, 28, 50, 182, 0, 109, 100, 54, 5]
abbrev dktX1_slotByLength_1 : List UInt8 := dkwX1_slotByLength_1 ++ dktX1_slotByLength_2
def dkwX1_slotByLength_0 : List UInt8 := [3, 61, 28, 7, 162, 0, 85, 3, 62, 3, 54, 4, 21, 4, 7, 162, 0, 61, 42, 180, 0, 10]
abbrev dktX1_slotByLength_0 : List UInt8 := dkwX1_slotByLength_0 ++ dktX1_slotByLength_1
theorem dksX1_slotByLength_0 : cX1_slotByLength.data.toList.drop 0 = dktX1_slotByLength_0 := by decide +kernel
theorem dksX1_slotByLength_1 : cX1_slotByLength.data.toList.drop 22 = dktX1_slotByLength_1 := dk_seg dksX1_slotByLength_0 22 rfl rfl
theorem dksX1_slotByLength_2 : cX1_slotByLength.data.toList.drop 46 = dktX1_slotByLength_2 := dk_seg dksX1_slotByLength_1 24 rfl rfl
theorem dksX1_slotByLength_3 : cX1_slotByLength.data.toList.drop 70 = dktX1_slotByLength_3 := dk_seg dksX1_slotByLength_2 24 rfl rfl
theorem dksX1_slotByLength_4 : cX1_slotByLength.data.toList.drop 93 = dktX1_slotByLength_4 := dk_seg dksX1_slotByLength_3 23 rfl rfl
theorem dX1_slotByLength_0 : decode cX1_slotByLength 0 = .ok (.iconst 0, 1) := dk_3 (dk_at dksX1_slotByLength_0 0 rfl rfl)
theorem dX1_slotByLength_1 : decode cX1_slotByLength 1 = .ok (.istore_n 2, 1) := dk_61 (dk_at dksX1_slotByLength_0 1 rfl rfl)
theorem dX1_slotByLength_2 : decode cX1_slotByLength 2 = .ok (.iload_n 2, 1) := dk_28 (dk_at dksX1_slotByLength_0 2 rfl rfl)
theorem dX1_slotByLength_3 : decode cX1_slotByLength 3 = .ok (.iconst 4, 1) := dk_7 (dk_at dksX1_slotByLength_0 3 rfl rfl)
theorem dX1_slotByLength_4 : decode cX1_slotByLength 4 = .ok (.if_icmp .ge 85, 3) := dk_162 0 85 (dk_at dksX1_slotByLength_0 4 rfl rfl)
theorem dX1_slotByLength_7 : decode cX1_slotByLength 7 = .ok (.iconst 0, 1) := dk_3 (dk_at dksX1_slotByLength_0 7 rfl rfl)
theorem dX1_slotByLength_8 : decode cX1_slotByLength 8 = .ok (.istore_n 3, 1) := dk_62 (dk_at dksX1_slotByLength_0 8 rfl rfl)
theorem dX1_slotByLength_9 : decode cX1_slotByLength 9 = .ok (.iconst 0, 1) := dk_3 (dk_at dksX1_slotByLength_0 9 rfl rfl)
theorem dX1_slotByLength_10 : decode cX1_slotByLength 10 = .ok (.istore 4, 2) := dk_54 4 (dk_at dksX1_slotByLength_0 10 rfl rfl)
theorem dX1_slotByLength_12 : decode cX1_slotByLength 12 = .ok (.iload 4, 2) := dk_21 4 (dk_at dksX1_slotByLength_0 12 rfl rfl)
theorem dX1_slotByLength_14 : decode cX1_slotByLength 14 = .ok (.iconst 4, 1) := dk_7 (dk_at dksX1_slotByLength_0 14 rfl rfl)
theorem dX1_slotByLength_15 : decode cX1_slotByLength 15 = .ok (.if_icmp .ge 61, 3) := dk_162 0 61 (dk_at dksX1_slotByLength_0 15 rfl rfl)
theorem dX1_slotByLength_18 : decode cX1_slotByLength 18 = .ok (.aload_n 0, 1) := dk_42 (dk_at dksX1_slotByLength_0 18 rfl rfl)
theorem dX1_slotByLength_19 : decode cX1_slotByLength 19 = .ok (.getfield 10, 3) := dk_180 0 10 (dk_at dksX1_slotByLength_0 19 rfl rfl)
theorem dX1_slotByLength_22 : decode cX1_slotByLength 22 = .ok (.getfield 102, 3) := dk_180 0 102 (dk_at dksX1_slotByLength_1 0 rfl rfl)
theorem dX1_slotByLength_25 : decode cX1_slotByLength 25 = .ok (.iload 4, 2) := dk_21 4 (dk_at dksX1_slotByLength_1 3 rfl rfl)
theorem dX1_slotByLength_27 : decode cX1_slotByLength 27 = .ok (.aaload, 1) := dk_50 (dk_at dksX1_slotByLength_1 5 rfl rfl)
theorem dX1_slotByLength_28 : decode cX1_slotByLength 28 = .ok (.invokevirtual 109, 3) := dk_182 0 109 (dk_at dksX1_slotByLength_1 6 rfl rfl)
theorem dX1_slotByLength_31 : decode cX1_slotByLength 31 = .ok (.aload_n 0, 1) := dk_42 (dk_at dksX1_slotByLength_1 9 rfl rfl)
theorem dX1_slotByLength_32 : decode cX1_slotByLength 32 = .ok (.getfield 10, 3) := dk_180 0 10 (dk_at dksX1_slotByLength_1 10 rfl rfl)
theorem dX1_slotByLength_35 : decode cX1_slotByLength 35 = .ok (.getfield 102, 3) := dk_180 0 102 (dk_at dksX1_slotByLength_1 13 rfl rfl)
theorem dX1_slotByLength_38 : decode cX1_slotByLength 38 = .ok (.iload_n 2, 1) := dk_28 (dk_at dksX1_slotByLength_1 16 rfl rfl)
theorem dX1_slotByLength_39 : decode cX1_slotByLength 39 = .ok (.aaload, 1) := dk_50 (dk_at dksX1_slotByLength_1 17 rfl rfl)
theorem dX1_slotByLength_40 : decode cX1_slotByLength 40 = .ok (.invokevirtual 109, 3) := dk_182 0 109 (dk_at dksX1_slotByLength_1 18 rfl rfl)
theorem dX1_slotByLength_43 : decode cX1_slotByLength 43 = .ok (.isub, 1) := dk_100 (dk_at dksX1_slotByLength_1 21 rfl rfl)
theorem dX1_slotByLength_44 : decode cX1_slotByLength 44 = .ok (.istore 5, 2) := dk_54 5 (dk_at dksX1_slotByLength_1 22 rfl rfl)
theorem dX1_slotByLength_46 : decode cX1_slotByLength 46 = .ok (.iload_n 3, 1) := dk_29 (dk_at dksX1_slotByLength_2 0 rfl rfl)
theorem dX1_slotByLength_47 : decode cX1_slotByLength 47 = .ok (.iload 5, 2) := dk_21 5 (dk_at dksX1_slotByLength_2 1 rfl rfl)
theorem dX1_slotByLength_49 : decode cX1_slotByLength 49 = .ok (.ifCond .gt 14, 3) := dk_157 0 14 (dk_at dksX1_slotByLength_2 3 rfl rfl)
theorem dX1_slotByLength_52 : decode cX1_slotByLength 52 = .ok (.iload 5, 2) := dk_21 5 (dk_at dksX1_slotByLength_2 6 rfl rfl)
theorem dX1_slotByLength_54 : decode cX1_slotByLength 54 = .ok (.ifCond .ne 13, 3) := dk_154 0 13 (dk_at dksX1_slotByLength_2 8 rfl rfl)
theorem dX1_slotByLength_57 : decode cX1_slotByLength 57 = .ok (.iload 4, 2) := dk_21 4 (dk_at dksX1_slotByLength_2 11 rfl rfl)
theorem dX1_slotByLength_59 : decode cX1_slotByLength 59 = .ok (.iload_n 2, 1) := dk_28 (dk_at dksX1_slotByLength_2 13 rfl rfl)
theorem dX1_slotByLength_60 : decode cX1_slotByLength 60 = .ok (.if_icmp .ge 7, 3) := dk_162 0 7 (dk_at dksX1_slotByLength_2 14 rfl rfl)
theorem dX1_slotByLength_63 : decode cX1_slotByLength 63 = .ok (.iconst 1, 1) := dk_4 (dk_at dksX1_slotByLength_2 17 rfl rfl)
theorem dX1_slotByLength_64 : decode cX1_slotByLength 64 = .ok (.goto 4, 3) := dk_167 0 4 (dk_at dksX1_slotByLength_2 18 rfl rfl)
theorem dX1_slotByLength_67 : decode cX1_slotByLength 67 = .ok (.iconst 0, 1) := dk_3 (dk_at dksX1_slotByLength_2 21 rfl rfl)
theorem dX1_slotByLength_68 : decode cX1_slotByLength 68 = .ok (.iadd, 1) := dk_96 (dk_at dksX1_slotByLength_2 22 rfl rfl)
theorem dX1_slotByLength_69 : decode cX1_slotByLength 69 = .ok (.istore_n 3, 1) := dk_62 (dk_at dksX1_slotByLength_2 23 rfl rfl)
theorem dX1_slotByLength_70 : decode cX1_slotByLength 70 = .ok (.iinc 4 1, 3) := dk_132 4 1 (dk_at dksX1_slotByLength_3 0 rfl rfl)
theorem dX1_slotByLength_73 : decode cX1_slotByLength 73 = .ok (.goto (-61), 3) := dk_167 255 195 (dk_at dksX1_slotByLength_3 3 rfl rfl)
theorem dX1_slotByLength_76 : decode cX1_slotByLength 76 = .ok (.iload_n 3, 1) := dk_29 (dk_at dksX1_slotByLength_3 6 rfl rfl)
theorem dX1_slotByLength_77 : decode cX1_slotByLength 77 = .ok (.iload_n 1, 1) := dk_27 (dk_at dksX1_slotByLength_3 7 rfl rfl)
theorem dX1_slotByLength_78 : decode cX1_slotByLength 78 = .ok (.if_icmp .ne 5, 3) := dk_160 0 5 (dk_at dksX1_slotByLength_3 8 rfl rfl)
theorem dX1_slotByLength_81 : decode cX1_slotByLength 81 = .ok (.iload_n 2, 1) := dk_28 (dk_at dksX1_slotByLength_3 11 rfl rfl)
theorem dX1_slotByLength_82 : decode cX1_slotByLength 82 = .ok (.ireturn, 1) := dk_172 (dk_at dksX1_slotByLength_3 12 rfl rfl)
theorem dX1_slotByLength_83 : decode cX1_slotByLength 83 = .ok (.iinc 2 1, 3) := dk_132 2 1 (dk_at dksX1_slotByLength_3 13 rfl rfl)
theorem dX1_slotByLength_86 : decode cX1_slotByLength 86 = .ok (.goto (-84), 3) := dk_167 255 172 (dk_at dksX1_slotByLength_3 16 rfl rfl)
theorem dX1_slotByLength_89 : decode cX1_slotByLength 89 = .ok (.new 43, 3) := dk_187 0 43 (dk_at dksX1_slotByLength_3 19 rfl rfl)
theorem dX1_slotByLength_92 : decode cX1_slotByLength 92 = .ok (.dup, 1) := dk_89 (dk_at dksX1_slotByLength_3 22 rfl rfl)
theorem dX1_slotByLength_93 : decode cX1_slotByLength 93 = .ok (.invokespecial 45, 3) := dk_183 0 45 (dk_at dksX1_slotByLength_4 0 rfl rfl)
theorem dX1_slotByLength_96 : decode cX1_slotByLength 96 = .ok (.athrow, 1) := dk_191 (dk_at dksX1_slotByLength_4 3 rfl rfl)
abbrev cX1_meanLength : ByteArray := prog_1_method_64_code
def yX1_meanLength : MethodName := ⟨RX1, "meanLength", "(I)D"⟩
def dkwX1_meanLength_1 : List UInt8 := [89, 44, 182, 1, 91, 183, 1, 94, 182, 1, 95, 135, 74, 44, 182, 0, 109, 135, 41, 111, 175]
abbrev dktX1_meanLength_1 : List UInt8 := dkwX1_meanLength_1 ++ []
def dkwX1_meanLength_0 : List UInt8 := [42, 27, 182, 0, 112, 77, 44, 182, 0, 109, 158, 0, 7, 4, 167, 0, 4, 3, 184, 1, 88, 187, 0, 210]
abbrev dktX1_meanLength_0 : List UInt8 := dkwX1_meanLength_0 ++ dktX1_meanLength_1
theorem dksX1_meanLength_0 : cX1_meanLength.data.toList.drop 0 = dktX1_meanLength_0 := by decide +kernel
theorem dksX1_meanLength_1 : cX1_meanLength.data.toList.drop 24 = dktX1_meanLength_1 := dk_seg dksX1_meanLength_0 24 rfl rfl
theorem dX1_meanLength_0 : decode cX1_meanLength 0 = .ok (.aload_n 0, 1) := dk_42 (dk_at dksX1_meanLength_0 0 rfl rfl)
theorem dX1_meanLength_1 : decode cX1_meanLength 1 = .ok (.iload_n 1, 1) := dk_27 (dk_at dksX1_meanLength_0 1 rfl rfl)
theorem dX1_meanLength_2 : decode cX1_meanLength 2 = .ok (.invokevirtual 112, 3) := dk_182 0 112 (dk_at dksX1_meanLength_0 2 rfl rfl)
theorem dX1_meanLength_5 : decode cX1_meanLength 5 = .ok (.astore_n 2, 1) := dk_77 (dk_at dksX1_meanLength_0 5 rfl rfl)
theorem dX1_meanLength_6 : decode cX1_meanLength 6 = .ok (.aload_n 2, 1) := dk_44 (dk_at dksX1_meanLength_0 6 rfl rfl)
theorem dX1_meanLength_7 : decode cX1_meanLength 7 = .ok (.invokevirtual 109, 3) := dk_182 0 109 (dk_at dksX1_meanLength_0 7 rfl rfl)
theorem dX1_meanLength_10 : decode cX1_meanLength 10 = .ok (.ifCond .le 7, 3) := dk_158 0 7 (dk_at dksX1_meanLength_0 10 rfl rfl)
theorem dX1_meanLength_13 : decode cX1_meanLength 13 = .ok (.iconst 1, 1) := dk_4 (dk_at dksX1_meanLength_0 13 rfl rfl)
theorem dX1_meanLength_14 : decode cX1_meanLength 14 = .ok (.goto 4, 3) := dk_167 0 4 (dk_at dksX1_meanLength_0 14 rfl rfl)
theorem dX1_meanLength_17 : decode cX1_meanLength 17 = .ok (.iconst 0, 1) := dk_3 (dk_at dksX1_meanLength_0 17 rfl rfl)
theorem dX1_meanLength_18 : decode cX1_meanLength 18 = .ok (.invokestatic 344, 3) := dk_184 1 88 (dk_at dksX1_meanLength_0 18 rfl rfl)
theorem dX1_meanLength_21 : decode cX1_meanLength 21 = .ok (.new 210, 3) := dk_187 0 210 (dk_at dksX1_meanLength_0 21 rfl rfl)
theorem dX1_meanLength_24 : decode cX1_meanLength 24 = .ok (.dup, 1) := dk_89 (dk_at dksX1_meanLength_1 0 rfl rfl)
theorem dX1_meanLength_25 : decode cX1_meanLength 25 = .ok (.aload_n 2, 1) := dk_44 (dk_at dksX1_meanLength_1 1 rfl rfl)
theorem dX1_meanLength_26 : decode cX1_meanLength 26 = .ok (.invokevirtual 347, 3) := dk_182 1 91 (dk_at dksX1_meanLength_1 2 rfl rfl)
theorem dX1_meanLength_29 : decode cX1_meanLength 29 = .ok (.invokespecial 350, 3) := dk_183 1 94 (dk_at dksX1_meanLength_1 5 rfl rfl)
theorem dX1_meanLength_32 : decode cX1_meanLength 32 = .ok (.invokevirtual 351, 3) := dk_182 1 95 (dk_at dksX1_meanLength_1 8 rfl rfl)
theorem dX1_meanLength_35 : decode cX1_meanLength 35 = .ok (.i2d, 1) := dk_135 (dk_at dksX1_meanLength_1 11 rfl rfl)
theorem dX1_meanLength_36 : decode cX1_meanLength 36 = .ok (.dstore_n 3, 1) := dk_74 (dk_at dksX1_meanLength_1 12 rfl rfl)
theorem dX1_meanLength_37 : decode cX1_meanLength 37 = .ok (.aload_n 2, 1) := dk_44 (dk_at dksX1_meanLength_1 13 rfl rfl)
theorem dX1_meanLength_38 : decode cX1_meanLength 38 = .ok (.invokevirtual 109, 3) := dk_182 0 109 (dk_at dksX1_meanLength_1 14 rfl rfl)
theorem dX1_meanLength_41 : decode cX1_meanLength 41 = .ok (.i2d, 1) := dk_135 (dk_at dksX1_meanLength_1 17 rfl rfl)
theorem dX1_meanLength_42 : decode cX1_meanLength 42 = .ok (.dload_n 3, 1) := dk_41 (dk_at dksX1_meanLength_1 18 rfl rfl)
theorem dX1_meanLength_43 : decode cX1_meanLength 43 = .ok (.ddiv, 1) := dk_111 (dk_at dksX1_meanLength_1 19 rfl rfl)
theorem dX1_meanLength_44 : decode cX1_meanLength 44 = .ok (.dreturn, 1) := dk_175 (dk_at dksX1_meanLength_1 20 rfl rfl)
abbrev cX1_checkDefined : ByteArray := prog_1_method_7_code
def yX1_checkDefined : MethodName := ⟨RX1, "checkDefined", "(Z)V"⟩
def dkwX1_checkDefined_0 : List UInt8 := [26, 154, 0, 11, 187, 0, 52, 89, 183, 0, 54, 191, 177]
abbrev dktX1_checkDefined_0 : List UInt8 := dkwX1_checkDefined_0 ++ []
theorem dksX1_checkDefined_0 : cX1_checkDefined.data.toList.drop 0 = dktX1_checkDefined_0 := by decide +kernel
theorem dX1_checkDefined_0 : decode cX1_checkDefined 0 = .ok (.iload_n 0, 1) := dk_26 (dk_at dksX1_checkDefined_0 0 rfl rfl)
theorem dX1_checkDefined_1 : decode cX1_checkDefined 1 = .ok (.ifCond .ne 11, 3) := dk_154 0 11 (dk_at dksX1_checkDefined_0 1 rfl rfl)
theorem dX1_checkDefined_4 : decode cX1_checkDefined 4 = .ok (.new 52, 3) := dk_187 0 52 (dk_at dksX1_checkDefined_0 4 rfl rfl)
theorem dX1_checkDefined_7 : decode cX1_checkDefined 7 = .ok (.dup, 1) := dk_89 (dk_at dksX1_checkDefined_0 7 rfl rfl)
theorem dX1_checkDefined_8 : decode cX1_checkDefined 8 = .ok (.invokespecial 54, 3) := dk_183 0 54 (dk_at dksX1_checkDefined_0 8 rfl rfl)
theorem dX1_checkDefined_11 : decode cX1_checkDefined 11 = .ok (.athrow, 1) := dk_191 (dk_at dksX1_checkDefined_0 11 rfl rfl)
theorem dX1_checkDefined_12 : decode cX1_checkDefined 12 = .ok (.return_, 1) := dk_177 (dk_at dksX1_checkDefined_0 12 rfl rfl)
abbrev cX1_readShare : ByteArray := prog_1_method_65_code
def yX1_readShare : MethodName := ⟨RX1, "readShare", "(I)F"⟩
def dkwX1_readShare_2 : List UInt8 := [29, 134, 110, 174]
abbrev dktX1_readShare_2 : List UInt8 := dkwX1_readShare_2 ++ []
def dkwX1_readShare_1 : List UInt8 := [167, 0, 4, 3, 184, 1, 88, 44, 180, 0, 116, 186, 1, 103, 0, 0, 184, 1, 99, 134, 56, 4, 23, 4]
abbrev dktX1_readShare_1 : List UInt8 := dkwX1_readShare_1 ++ dktX1_readShare_2
def dkwX1_readShare_0 : List UInt8 := [42, 27, 182, 0, 112, 77, 44, 180, 0, 116, 186, 1, 96, 0, 0, 184, 1, 99, 62, 29, 158, 0, 7, 4]
abbrev dktX1_readShare_0 : List UInt8 := dkwX1_readShare_0 ++ dktX1_readShare_1
theorem dksX1_readShare_0 : cX1_readShare.data.toList.drop 0 = dktX1_readShare_0 := by decide +kernel
theorem dksX1_readShare_1 : cX1_readShare.data.toList.drop 24 = dktX1_readShare_1 := dk_seg dksX1_readShare_0 24 rfl rfl
theorem dksX1_readShare_2 : cX1_readShare.data.toList.drop 48 = dktX1_readShare_2 := dk_seg dksX1_readShare_1 24 rfl rfl
theorem dX1_readShare_0 : decode cX1_readShare 0 = .ok (.aload_n 0, 1) := dk_42 (dk_at dksX1_readShare_0 0 rfl rfl)
theorem dX1_readShare_1 : decode cX1_readShare 1 = .ok (.iload_n 1, 1) := dk_27 (dk_at dksX1_readShare_0 1 rfl rfl)
theorem dX1_readShare_2 : decode cX1_readShare 2 = .ok (.invokevirtual 112, 3) := dk_182 0 112 (dk_at dksX1_readShare_0 2 rfl rfl)
theorem dX1_readShare_5 : decode cX1_readShare 5 = .ok (.astore_n 2, 1) := dk_77 (dk_at dksX1_readShare_0 5 rfl rfl)
theorem dX1_readShare_6 : decode cX1_readShare 6 = .ok (.aload_n 2, 1) := dk_44 (dk_at dksX1_readShare_0 6 rfl rfl)
theorem dX1_readShare_7 : decode cX1_readShare 7 = .ok (.getfield 116, 3) := dk_180 0 116 (dk_at dksX1_readShare_0 7 rfl rfl)
theorem dX1_readShare_10 : decode cX1_readShare 10 = .ok (.invokedynamic 352, 5) := by decide +kernel
theorem dX1_readShare_15 : decode cX1_readShare 15 = .ok (.invokestatic 355, 3) := dk_184 1 99 (dk_at dksX1_readShare_0 15 rfl rfl)
theorem dX1_readShare_18 : decode cX1_readShare 18 = .ok (.istore_n 3, 1) := dk_62 (dk_at dksX1_readShare_0 18 rfl rfl)
theorem dX1_readShare_19 : decode cX1_readShare 19 = .ok (.iload_n 3, 1) := dk_29 (dk_at dksX1_readShare_0 19 rfl rfl)
theorem dX1_readShare_20 : decode cX1_readShare 20 = .ok (.ifCond .le 7, 3) := dk_158 0 7 (dk_at dksX1_readShare_0 20 rfl rfl)
theorem dX1_readShare_23 : decode cX1_readShare 23 = .ok (.iconst 1, 1) := dk_4 (dk_at dksX1_readShare_0 23 rfl rfl)
theorem dX1_readShare_24 : decode cX1_readShare 24 = .ok (.goto 4, 3) := dk_167 0 4 (dk_at dksX1_readShare_1 0 rfl rfl)
theorem dX1_readShare_27 : decode cX1_readShare 27 = .ok (.iconst 0, 1) := dk_3 (dk_at dksX1_readShare_1 3 rfl rfl)
theorem dX1_readShare_28 : decode cX1_readShare 28 = .ok (.invokestatic 344, 3) := dk_184 1 88 (dk_at dksX1_readShare_1 4 rfl rfl)
theorem dX1_readShare_31 : decode cX1_readShare 31 = .ok (.aload_n 2, 1) := dk_44 (dk_at dksX1_readShare_1 7 rfl rfl)
theorem dX1_readShare_32 : decode cX1_readShare 32 = .ok (.getfield 116, 3) := dk_180 0 116 (dk_at dksX1_readShare_1 8 rfl rfl)
theorem dX1_readShare_35 : decode cX1_readShare 35 = .ok (.invokedynamic 359, 5) := by decide +kernel
theorem dX1_readShare_40 : decode cX1_readShare 40 = .ok (.invokestatic 355, 3) := dk_184 1 99 (dk_at dksX1_readShare_1 16 rfl rfl)
theorem dX1_readShare_43 : decode cX1_readShare 43 = .ok (.i2f, 1) := dk_134 (dk_at dksX1_readShare_1 19 rfl rfl)
theorem dX1_readShare_44 : decode cX1_readShare 44 = .ok (.fstore 4, 2) := dk_56 4 (dk_at dksX1_readShare_1 20 rfl rfl)
theorem dX1_readShare_46 : decode cX1_readShare 46 = .ok (.fload 4, 2) := dk_23 4 (dk_at dksX1_readShare_1 22 rfl rfl)
theorem dX1_readShare_48 : decode cX1_readShare 48 = .ok (.iload_n 3, 1) := dk_29 (dk_at dksX1_readShare_2 0 rfl rfl)
theorem dX1_readShare_49 : decode cX1_readShare 49 = .ok (.i2f, 1) := dk_134 (dk_at dksX1_readShare_2 1 rfl rfl)
theorem dX1_readShare_50 : decode cX1_readShare 50 = .ok (.fdiv, 1) := dk_110 (dk_at dksX1_readShare_2 2 rfl rfl)
theorem dX1_readShare_51 : decode cX1_readShare 51 = .ok (.freturn, 1) := dk_174 (dk_at dksX1_readShare_2 3 rfl rfl)
abbrev cX1_lambda_readShare_3 : ByteArray := prog_1_method_81_code
def yX1_lambda_readShare_3 : MethodName := ⟨RX1, "lambda$readShare$3", "(LScheduleAnalyzer$Operation;)Z"⟩
theorem dX1_lambda_readShare_3_0 : decode cX1_lambda_readShare_3 0 = .ok (.aload_n 0, 1) := by decide +kernel
theorem dX1_lambda_readShare_3_1 : decode cX1_lambda_readShare_3 1 = .ok (.invokevirtual 245, 3) := by decide +kernel
theorem dX1_lambda_readShare_3_4 : decode cX1_lambda_readShare_3 4 = .ok (.ireturn, 1) := by decide +kernel
abbrev cX1_lambda_readShare_4 : ByteArray := prog_1_method_80_code
def yX1_lambda_readShare_4 : MethodName := ⟨RX1, "lambda$readShare$4", "(LScheduleAnalyzer$Operation;)Z"⟩
def dkwX1_lambda_readShare_4_0 : List UInt8 := [42, 180, 0, 241, 16, 114, 160, 0, 7, 4, 167, 0, 4, 3, 172]
abbrev dktX1_lambda_readShare_4_0 : List UInt8 := dkwX1_lambda_readShare_4_0 ++ []
theorem dksX1_lambda_readShare_4_0 : cX1_lambda_readShare_4.data.toList.drop 0 = dktX1_lambda_readShare_4_0 := by decide +kernel
theorem dX1_lambda_readShare_4_0 : decode cX1_lambda_readShare_4 0 = .ok (.aload_n 0, 1) := dk_42 (dk_at dksX1_lambda_readShare_4_0 0 rfl rfl)
theorem dX1_lambda_readShare_4_1 : decode cX1_lambda_readShare_4 1 = .ok (.getfield 241, 3) := dk_180 0 241 (dk_at dksX1_lambda_readShare_4_0 1 rfl rfl)
theorem dX1_lambda_readShare_4_4 : decode cX1_lambda_readShare_4 4 = .ok (.bipush 114, 2) := dk_16 114 (dk_at dksX1_lambda_readShare_4_0 4 rfl rfl)
theorem dX1_lambda_readShare_4_6 : decode cX1_lambda_readShare_4 6 = .ok (.if_icmp .ne 7, 3) := dk_160 0 7 (dk_at dksX1_lambda_readShare_4_0 6 rfl rfl)
theorem dX1_lambda_readShare_4_9 : decode cX1_lambda_readShare_4 9 = .ok (.iconst 1, 1) := dk_4 (dk_at dksX1_lambda_readShare_4_0 9 rfl rfl)
theorem dX1_lambda_readShare_4_10 : decode cX1_lambda_readShare_4 10 = .ok (.goto 4, 3) := dk_167 0 4 (dk_at dksX1_lambda_readShare_4_0 10 rfl rfl)
theorem dX1_lambda_readShare_4_13 : decode cX1_lambda_readShare_4 13 = .ok (.iconst 0, 1) := dk_3 (dk_at dksX1_lambda_readShare_4_0 13 rfl rfl)
theorem dX1_lambda_readShare_4_14 : decode cX1_lambda_readShare_4 14 = .ok (.ireturn, 1) := dk_172 (dk_at dksX1_lambda_readShare_4_0 14 rfl rfl)
abbrev cX1_format : ByteArray := prog_1_method_70_code
def yX1_format : MethodName := ⟨RX1, "format", "(I)I"⟩
def dkwX1_format_0 : List UInt8 := [42, 42, 27, 182, 0, 112, 182, 1, 117, 182, 1, 118, 172]
abbrev dktX1_format_0 : List UInt8 := dkwX1_format_0 ++ []
theorem dksX1_format_0 : cX1_format.data.toList.drop 0 = dktX1_format_0 := by decide +kernel
theorem dX1_format_0 : decode cX1_format 0 = .ok (.aload_n 0, 1) := dk_42 (dk_at dksX1_format_0 0 rfl rfl)
theorem dX1_format_1 : decode cX1_format 1 = .ok (.aload_n 0, 1) := dk_42 (dk_at dksX1_format_0 1 rfl rfl)
theorem dX1_format_2 : decode cX1_format 2 = .ok (.iload_n 1, 1) := dk_27 (dk_at dksX1_format_0 2 rfl rfl)
theorem dX1_format_3 : decode cX1_format 3 = .ok (.invokevirtual 112, 3) := dk_182 0 112 (dk_at dksX1_format_0 3 rfl rfl)
theorem dX1_format_6 : decode cX1_format 6 = .ok (.invokevirtual 373, 3) := dk_182 1 117 (dk_at dksX1_format_0 6 rfl rfl)
theorem dX1_format_9 : decode cX1_format 9 = .ok (.invokevirtual 374, 3) := dk_182 1 118 (dk_at dksX1_format_0 9 rfl rfl)
theorem dX1_format_12 : decode cX1_format 12 = .ok (.ireturn, 1) := dk_172 (dk_at dksX1_format_0 12 rfl rfl)
abbrev cX1_show : ByteArray := prog_1_method_69_code
def yX1_show : MethodName := ⟨RX1, "show", "(Ljava/lang/String;)I"⟩
def dkwX1_show_1 : List UInt8 := [172]
abbrev dktX1_show_1 : List UInt8 := dkwX1_show_1 ++ []
def dkwX1_show_0 : List UInt8 := [42, 180, 0, 30, 3, 182, 0, 138, 42, 180, 0, 30, 43, 182, 1, 110, 87, 42, 180, 0, 30, 182, 1, 114]
abbrev dktX1_show_0 : List UInt8 := dkwX1_show_0 ++ dktX1_show_1
theorem dksX1_show_0 : cX1_show.data.toList.drop 0 = dktX1_show_0 := by decide +kernel
theorem dksX1_show_1 : cX1_show.data.toList.drop 24 = dktX1_show_1 := dk_seg dksX1_show_0 24 rfl rfl
theorem dX1_show_0 : decode cX1_show 0 = .ok (.aload_n 0, 1) := dk_42 (dk_at dksX1_show_0 0 rfl rfl)
theorem dX1_show_1 : decode cX1_show 1 = .ok (.getfield 30, 3) := dk_180 0 30 (dk_at dksX1_show_0 1 rfl rfl)
theorem dX1_show_4 : decode cX1_show 4 = .ok (.iconst 0, 1) := dk_3 (dk_at dksX1_show_0 4 rfl rfl)
theorem dX1_show_5 : decode cX1_show 5 = .ok (.invokevirtual 138, 3) := dk_182 0 138 (dk_at dksX1_show_0 5 rfl rfl)
theorem dX1_show_8 : decode cX1_show 8 = .ok (.aload_n 0, 1) := dk_42 (dk_at dksX1_show_0 8 rfl rfl)
theorem dX1_show_9 : decode cX1_show 9 = .ok (.getfield 30, 3) := dk_180 0 30 (dk_at dksX1_show_0 9 rfl rfl)
theorem dX1_show_12 : decode cX1_show 12 = .ok (.aload_n 1, 1) := dk_43 (dk_at dksX1_show_0 12 rfl rfl)
theorem dX1_show_13 : decode cX1_show 13 = .ok (.invokevirtual 366, 3) := dk_182 1 110 (dk_at dksX1_show_0 13 rfl rfl)
theorem dX1_show_16 : decode cX1_show 16 = .ok (.pop, 1) := dk_87 (dk_at dksX1_show_0 16 rfl rfl)
theorem dX1_show_17 : decode cX1_show 17 = .ok (.aload_n 0, 1) := dk_42 (dk_at dksX1_show_0 17 rfl rfl)
theorem dX1_show_18 : decode cX1_show 18 = .ok (.getfield 30, 3) := dk_180 0 30 (dk_at dksX1_show_0 18 rfl rfl)
theorem dX1_show_21 : decode cX1_show 21 = .ok (.invokevirtual 370, 3) := dk_182 1 114 (dk_at dksX1_show_0 21 rfl rfl)
theorem dX1_show_24 : decode cX1_show 24 = .ok (.ireturn, 1) := dk_172 (dk_at dksX1_show_1 0 rfl rfl)
abbrev cX1_formatOrder : ByteArray := prog_1_method_71_code
def yX1_formatOrder : MethodName := ⟨RX1, "formatOrder", "(I)I"⟩
def dkwX1_formatOrder_3 : List UInt8 := [182, 1, 143, 182, 0, 131, 77, 167, 255, 194, 42, 44, 182, 1, 118, 172]
abbrev dktX1_formatOrder_3 : List UInt8 := dkwX1_formatOrder_3 ++ []
def dkwX1_formatOrder_2 : List UInt8 := [182, 1, 110, 44, 182, 1, 136, 153, 0, 9, 19, 1, 122, 167, 0, 6, 19, 1, 141, 182, 1, 110, 21, 4]
abbrev dktX1_formatOrder_2 : List UInt8 := dkwX1_formatOrder_2 ++ dktX1_formatOrder_3
def dkwX1_formatOrder_1 : List UInt8 := [45, 185, 1, 133, 1, 0, 192, 1, 17, 182, 1, 40, 54, 4, 187, 0, 23, 89, 183, 0, 25, 44]
abbrev dktX1_formatOrder_1 : List UInt8 := dkwX1_formatOrder_1 ++ dktX1_formatOrder_2
def dkwX1_formatOrder_0 : List UInt8 := [19, 1, 122, 77, 42, 27, 182, 1, 36, 185, 1, 124, 1, 0, 78, 45, 185, 1, 128, 1, 0, 153, 0, 59]
abbrev dktX1_formatOrder_0 : List UInt8 := dkwX1_formatOrder_0 ++ dktX1_formatOrder_1
theorem dksX1_formatOrder_0 : cX1_formatOrder.data.toList.drop 0 = dktX1_formatOrder_0 := by decide +kernel
theorem dksX1_formatOrder_1 : cX1_formatOrder.data.toList.drop 24 = dktX1_formatOrder_1 := dk_seg dksX1_formatOrder_0 24 rfl rfl
theorem dksX1_formatOrder_2 : cX1_formatOrder.data.toList.drop 46 = dktX1_formatOrder_2 := dk_seg dksX1_formatOrder_1 22 rfl rfl
theorem dksX1_formatOrder_3 : cX1_formatOrder.data.toList.drop 70 = dktX1_formatOrder_3 := dk_seg dksX1_formatOrder_2 24 rfl rfl
theorem dX1_formatOrder_0 : decode cX1_formatOrder 0 = .ok (.ldc_w 378, 3) := dk_19 1 122 (dk_at dksX1_formatOrder_0 0 rfl rfl)
theorem dX1_formatOrder_3 : decode cX1_formatOrder 3 = .ok (.astore_n 2, 1) := dk_77 (dk_at dksX1_formatOrder_0 3 rfl rfl)
theorem dX1_formatOrder_4 : decode cX1_formatOrder 4 = .ok (.aload_n 0, 1) := dk_42 (dk_at dksX1_formatOrder_0 4 rfl rfl)
theorem dX1_formatOrder_5 : decode cX1_formatOrder 5 = .ok (.iload_n 1, 1) := dk_27 (dk_at dksX1_formatOrder_0 5 rfl rfl)
theorem dX1_formatOrder_6 : decode cX1_formatOrder 6 = .ok (.invokevirtual 292, 3) := dk_182 1 36 (dk_at dksX1_formatOrder_0 6 rfl rfl)
theorem dX1_formatOrder_9 : decode cX1_formatOrder 9 = .ok (.invokeinterface 380 1, 5) := by decide +kernel
theorem dX1_formatOrder_14 : decode cX1_formatOrder 14 = .ok (.astore_n 3, 1) := dk_78 (dk_at dksX1_formatOrder_0 14 rfl rfl)
theorem dX1_formatOrder_15 : decode cX1_formatOrder 15 = .ok (.aload_n 3, 1) := dk_45 (dk_at dksX1_formatOrder_0 15 rfl rfl)
theorem dX1_formatOrder_16 : decode cX1_formatOrder 16 = .ok (.invokeinterface 384 1, 5) := by decide +kernel
theorem dX1_formatOrder_21 : decode cX1_formatOrder 21 = .ok (.ifCond .eq 59, 3) := dk_153 0 59 (dk_at dksX1_formatOrder_0 21 rfl rfl)
theorem dX1_formatOrder_24 : decode cX1_formatOrder 24 = .ok (.aload_n 3, 1) := dk_45 (dk_at dksX1_formatOrder_1 0 rfl rfl)
theorem dX1_formatOrder_25 : decode cX1_formatOrder 25 = .ok (.invokeinterface 389 1, 5) := by decide +kernel
theorem dX1_formatOrder_30 : decode cX1_formatOrder 30 = .ok (.checkcast 273, 3) := dk_192 1 17 (dk_at dksX1_formatOrder_1 6 rfl rfl)
theorem dX1_formatOrder_33 : decode cX1_formatOrder 33 = .ok (.invokevirtual 296, 3) := dk_182 1 40 (dk_at dksX1_formatOrder_1 9 rfl rfl)
theorem dX1_formatOrder_36 : decode cX1_formatOrder 36 = .ok (.istore 4, 2) := dk_54 4 (dk_at dksX1_formatOrder_1 12 rfl rfl)
theorem dX1_formatOrder_38 : decode cX1_formatOrder 38 = .ok (.new 23, 3) := dk_187 0 23 (dk_at dksX1_formatOrder_1 14 rfl rfl)
theorem dX1_formatOrder_41 : decode cX1_formatOrder 41 = .ok (.dup, 1) := dk_89 (dk_at dksX1_formatOrder_1 17 rfl rfl)
theorem dX1_formatOrder_42 : decode cX1_formatOrder 42 = .ok (.invokespecial 25, 3) := dk_183 0 25 (dk_at dksX1_formatOrder_1 18 rfl rfl)
theorem dX1_formatOrder_45 : decode cX1_formatOrder 45 = .ok (.aload_n 2, 1) := dk_44 (dk_at dksX1_formatOrder_1 21 rfl rfl)
theorem dX1_formatOrder_46 : decode cX1_formatOrder 46 = .ok (.invokevirtual 366, 3) := dk_182 1 110 (dk_at dksX1_formatOrder_2 0 rfl rfl)
theorem dX1_formatOrder_49 : decode cX1_formatOrder 49 = .ok (.aload_n 2, 1) := dk_44 (dk_at dksX1_formatOrder_2 3 rfl rfl)
theorem dX1_formatOrder_50 : decode cX1_formatOrder 50 = .ok (.invokevirtual 392, 3) := dk_182 1 136 (dk_at dksX1_formatOrder_2 4 rfl rfl)
theorem dX1_formatOrder_53 : decode cX1_formatOrder 53 = .ok (.ifCond .eq 9, 3) := dk_153 0 9 (dk_at dksX1_formatOrder_2 7 rfl rfl)
theorem dX1_formatOrder_56 : decode cX1_formatOrder 56 = .ok (.ldc_w 378, 3) := dk_19 1 122 (dk_at dksX1_formatOrder_2 10 rfl rfl)
theorem dX1_formatOrder_59 : decode cX1_formatOrder 59 = .ok (.goto 6, 3) := dk_167 0 6 (dk_at dksX1_formatOrder_2 13 rfl rfl)
theorem dX1_formatOrder_62 : decode cX1_formatOrder 62 = .ok (.ldc_w 397, 3) := dk_19 1 141 (dk_at dksX1_formatOrder_2 16 rfl rfl)
theorem dX1_formatOrder_65 : decode cX1_formatOrder 65 = .ok (.invokevirtual 366, 3) := dk_182 1 110 (dk_at dksX1_formatOrder_2 19 rfl rfl)
theorem dX1_formatOrder_68 : decode cX1_formatOrder 68 = .ok (.iload 4, 2) := dk_21 4 (dk_at dksX1_formatOrder_2 22 rfl rfl)
theorem dX1_formatOrder_70 : decode cX1_formatOrder 70 = .ok (.invokevirtual 399, 3) := dk_182 1 143 (dk_at dksX1_formatOrder_3 0 rfl rfl)
theorem dX1_formatOrder_73 : decode cX1_formatOrder 73 = .ok (.invokevirtual 131, 3) := dk_182 0 131 (dk_at dksX1_formatOrder_3 3 rfl rfl)
theorem dX1_formatOrder_76 : decode cX1_formatOrder 76 = .ok (.astore_n 2, 1) := dk_77 (dk_at dksX1_formatOrder_3 6 rfl rfl)
theorem dX1_formatOrder_77 : decode cX1_formatOrder 77 = .ok (.goto (-62), 3) := dk_167 255 194 (dk_at dksX1_formatOrder_3 7 rfl rfl)
theorem dX1_formatOrder_80 : decode cX1_formatOrder 80 = .ok (.aload_n 0, 1) := dk_42 (dk_at dksX1_formatOrder_3 10 rfl rfl)
theorem dX1_formatOrder_81 : decode cX1_formatOrder 81 = .ok (.aload_n 2, 1) := dk_44 (dk_at dksX1_formatOrder_3 11 rfl rfl)
theorem dX1_formatOrder_82 : decode cX1_formatOrder 82 = .ok (.invokevirtual 374, 3) := dk_182 1 118 (dk_at dksX1_formatOrder_3 12 rfl rfl)
theorem dX1_formatOrder_85 : decode cX1_formatOrder 85 = .ok (.ireturn, 1) := dk_172 (dk_at dksX1_formatOrder_3 15 rfl rfl)
abbrev cX1_lineChar : ByteArray := prog_1_method_72_code
def yX1_lineChar : MethodName := ⟨RX1, "lineChar", "(I)C"⟩
def dkwX1_lineChar_1 : List UInt8 := [182, 1, 146, 172]
abbrev dktX1_lineChar_1 : List UInt8 := dkwX1_lineChar_1 ++ []
def dkwX1_lineChar_0 : List UInt8 := [27, 3, 42, 180, 0, 30, 182, 1, 114, 4, 100, 184, 0, 55, 184, 0, 98, 42, 180, 0, 30, 27]
abbrev dktX1_lineChar_0 : List UInt8 := dkwX1_lineChar_0 ++ dktX1_lineChar_1
theorem dksX1_lineChar_0 : cX1_lineChar.data.toList.drop 0 = dktX1_lineChar_0 := by decide +kernel
theorem dksX1_lineChar_1 : cX1_lineChar.data.toList.drop 22 = dktX1_lineChar_1 := dk_seg dksX1_lineChar_0 22 rfl rfl
theorem dX1_lineChar_0 : decode cX1_lineChar 0 = .ok (.iload_n 1, 1) := dk_27 (dk_at dksX1_lineChar_0 0 rfl rfl)
theorem dX1_lineChar_1 : decode cX1_lineChar 1 = .ok (.iconst 0, 1) := dk_3 (dk_at dksX1_lineChar_0 1 rfl rfl)
theorem dX1_lineChar_2 : decode cX1_lineChar 2 = .ok (.aload_n 0, 1) := dk_42 (dk_at dksX1_lineChar_0 2 rfl rfl)
theorem dX1_lineChar_3 : decode cX1_lineChar 3 = .ok (.getfield 30, 3) := dk_180 0 30 (dk_at dksX1_lineChar_0 3 rfl rfl)
theorem dX1_lineChar_6 : decode cX1_lineChar 6 = .ok (.invokevirtual 370, 3) := dk_182 1 114 (dk_at dksX1_lineChar_0 6 rfl rfl)
theorem dX1_lineChar_9 : decode cX1_lineChar 9 = .ok (.iconst 1, 1) := dk_4 (dk_at dksX1_lineChar_0 9 rfl rfl)
theorem dX1_lineChar_10 : decode cX1_lineChar 10 = .ok (.isub, 1) := dk_100 (dk_at dksX1_lineChar_0 10 rfl rfl)
theorem dX1_lineChar_11 : decode cX1_lineChar 11 = .ok (.invokestatic 55, 3) := dk_184 0 55 (dk_at dksX1_lineChar_0 11 rfl rfl)
theorem dX1_lineChar_14 : decode cX1_lineChar 14 = .ok (.invokestatic 98, 3) := dk_184 0 98 (dk_at dksX1_lineChar_0 14 rfl rfl)
theorem dX1_lineChar_17 : decode cX1_lineChar 17 = .ok (.aload_n 0, 1) := dk_42 (dk_at dksX1_lineChar_0 17 rfl rfl)
theorem dX1_lineChar_18 : decode cX1_lineChar 18 = .ok (.getfield 30, 3) := dk_180 0 30 (dk_at dksX1_lineChar_0 18 rfl rfl)
theorem dX1_lineChar_21 : decode cX1_lineChar 21 = .ok (.iload_n 1, 1) := dk_27 (dk_at dksX1_lineChar_0 21 rfl rfl)
theorem dX1_lineChar_22 : decode cX1_lineChar 22 = .ok (.invokevirtual 402, 3) := dk_182 1 146 (dk_at dksX1_lineChar_1 0 rfl rfl)
theorem dX1_lineChar_25 : decode cX1_lineChar 25 = .ok (.ireturn, 1) := dk_172 (dk_at dksX1_lineChar_1 3 rfl rfl)
abbrev cX1_append : ByteArray := prog_1_method_73_code
def yX1_append : MethodName := ⟨RX1, "append", "(C)I"⟩
def dkwX1_append_1 : List UInt8 := [167, 0, 4, 3, 184, 0, 157, 42, 180, 0, 26, 27, 182, 1, 150, 87, 42, 180, 0, 26, 182, 1, 114, 172]
abbrev dktX1_append_1 : List UInt8 := dkwX1_append_1 ++ []
def dkwX1_append_0 : List UInt8 := [27, 16, 32, 16, 126, 184, 0, 55, 184, 0, 178, 42, 180, 0, 26, 182, 1, 114, 16, 60, 162, 0, 7, 4]
abbrev dktX1_append_0 : List UInt8 := dkwX1_append_0 ++ dktX1_append_1
theorem dksX1_append_0 : cX1_append.data.toList.drop 0 = dktX1_append_0 := by decide +kernel
theorem dksX1_append_1 : cX1_append.data.toList.drop 24 = dktX1_append_1 := dk_seg dksX1_append_0 24 rfl rfl
theorem dX1_append_0 : decode cX1_append 0 = .ok (.iload_n 1, 1) := dk_27 (dk_at dksX1_append_0 0 rfl rfl)
theorem dX1_append_1 : decode cX1_append 1 = .ok (.bipush 32, 2) := dk_16 32 (dk_at dksX1_append_0 1 rfl rfl)
theorem dX1_append_3 : decode cX1_append 3 = .ok (.bipush 126, 2) := dk_16 126 (dk_at dksX1_append_0 3 rfl rfl)
theorem dX1_append_5 : decode cX1_append 5 = .ok (.invokestatic 55, 3) := dk_184 0 55 (dk_at dksX1_append_0 5 rfl rfl)
theorem dX1_append_8 : decode cX1_append 8 = .ok (.invokestatic 178, 3) := dk_184 0 178 (dk_at dksX1_append_0 8 rfl rfl)
theorem dX1_append_11 : decode cX1_append 11 = .ok (.aload_n 0, 1) := dk_42 (dk_at dksX1_append_0 11 rfl rfl)
theorem dX1_append_12 : decode cX1_append 12 = .ok (.getfield 26, 3) := dk_180 0 26 (dk_at dksX1_append_0 12 rfl rfl)
theorem dX1_append_15 : decode cX1_append 15 = .ok (.invokevirtual 370, 3) := dk_182 1 114 (dk_at dksX1_append_0 15 rfl rfl)
theorem dX1_append_18 : decode cX1_append 18 = .ok (.bipush 60, 2) := dk_16 60 (dk_at dksX1_append_0 18 rfl rfl)
theorem dX1_append_20 : decode cX1_append 20 = .ok (.if_icmp .ge 7, 3) := dk_162 0 7 (dk_at dksX1_append_0 20 rfl rfl)
theorem dX1_append_23 : decode cX1_append 23 = .ok (.iconst 1, 1) := dk_4 (dk_at dksX1_append_0 23 rfl rfl)
theorem dX1_append_24 : decode cX1_append 24 = .ok (.goto 4, 3) := dk_167 0 4 (dk_at dksX1_append_1 0 rfl rfl)
theorem dX1_append_27 : decode cX1_append 27 = .ok (.iconst 0, 1) := dk_3 (dk_at dksX1_append_1 3 rfl rfl)
theorem dX1_append_28 : decode cX1_append 28 = .ok (.invokestatic 157, 3) := dk_184 0 157 (dk_at dksX1_append_1 4 rfl rfl)
theorem dX1_append_31 : decode cX1_append 31 = .ok (.aload_n 0, 1) := dk_42 (dk_at dksX1_append_1 7 rfl rfl)
theorem dX1_append_32 : decode cX1_append 32 = .ok (.getfield 26, 3) := dk_180 0 26 (dk_at dksX1_append_1 8 rfl rfl)
theorem dX1_append_35 : decode cX1_append 35 = .ok (.iload_n 1, 1) := dk_27 (dk_at dksX1_append_1 11 rfl rfl)
theorem dX1_append_36 : decode cX1_append 36 = .ok (.invokevirtual 406, 3) := dk_182 1 150 (dk_at dksX1_append_1 12 rfl rfl)
theorem dX1_append_39 : decode cX1_append 39 = .ok (.pop, 1) := dk_87 (dk_at dksX1_append_1 15 rfl rfl)
theorem dX1_append_40 : decode cX1_append 40 = .ok (.aload_n 0, 1) := dk_42 (dk_at dksX1_append_1 16 rfl rfl)
theorem dX1_append_41 : decode cX1_append 41 = .ok (.getfield 26, 3) := dk_180 0 26 (dk_at dksX1_append_1 17 rfl rfl)
theorem dX1_append_44 : decode cX1_append 44 = .ok (.invokevirtual 370, 3) := dk_182 1 114 (dk_at dksX1_append_1 20 rfl rfl)
theorem dX1_append_47 : decode cX1_append 47 = .ok (.ireturn, 1) := dk_172 (dk_at dksX1_append_1 23 rfl rfl)
abbrev cX1_errorPosition : ByteArray := prog_1_method_75_code
def yX1_errorPosition : MethodName := ⟨RX1, "errorPosition", "()I"⟩
def dkwX1_errorPosition_0 : List UInt8 := [42, 180, 0, 33, 2, 159, 0, 7, 4, 167, 0, 4, 3, 184, 0, 248, 42, 180, 0, 33, 172]
abbrev dktX1_errorPosition_0 : List UInt8 := dkwX1_errorPosition_0 ++ []
theorem dksX1_errorPosition_0 : cX1_errorPosition.data.toList.drop 0 = dktX1_errorPosition_0 := by decide +kernel
theorem dX1_errorPosition_0 : decode cX1_errorPosition 0 = .ok (.aload_n 0, 1) := dk_42 (dk_at dksX1_errorPosition_0 0 rfl rfl)
theorem dX1_errorPosition_1 : decode cX1_errorPosition 1 = .ok (.getfield 33, 3) := dk_180 0 33 (dk_at dksX1_errorPosition_0 1 rfl rfl)
theorem dX1_errorPosition_4 : decode cX1_errorPosition 4 = .ok (.iconst (-1), 1) := dk_2 (dk_at dksX1_errorPosition_0 4 rfl rfl)
theorem dX1_errorPosition_5 : decode cX1_errorPosition 5 = .ok (.if_icmp .eq 7, 3) := dk_159 0 7 (dk_at dksX1_errorPosition_0 5 rfl rfl)
theorem dX1_errorPosition_8 : decode cX1_errorPosition 8 = .ok (.iconst 1, 1) := dk_4 (dk_at dksX1_errorPosition_0 8 rfl rfl)
theorem dX1_errorPosition_9 : decode cX1_errorPosition 9 = .ok (.goto 4, 3) := dk_167 0 4 (dk_at dksX1_errorPosition_0 9 rfl rfl)
theorem dX1_errorPosition_12 : decode cX1_errorPosition 12 = .ok (.iconst 0, 1) := dk_3 (dk_at dksX1_errorPosition_0 12 rfl rfl)
theorem dX1_errorPosition_13 : decode cX1_errorPosition 13 = .ok (.invokestatic 248, 3) := dk_184 0 248 (dk_at dksX1_errorPosition_0 13 rfl rfl)
theorem dX1_errorPosition_16 : decode cX1_errorPosition 16 = .ok (.aload_n 0, 1) := dk_42 (dk_at dksX1_errorPosition_0 16 rfl rfl)
theorem dX1_errorPosition_17 : decode cX1_errorPosition 17 = .ok (.getfield 33, 3) := dk_180 0 33 (dk_at dksX1_errorPosition_0 17 rfl rfl)
theorem dX1_errorPosition_20 : decode cX1_errorPosition 20 = .ok (.ireturn, 1) := dk_172 (dk_at dksX1_errorPosition_0 20 rfl rfl)
abbrev cX1_undo : ByteArray := prog_1_method_77_code
def yX1_undo : MethodName := ⟨RX1, "undo", "()I"⟩
def dkwX1_undo_1 : List UInt8 := [182, 1, 154, 192, 0, 7, 181, 0, 10, 42, 180, 0, 19, 182, 0, 89, 172]
abbrev dktX1_undo_1 : List UInt8 := dkwX1_undo_1 ++ []
def dkwX1_undo_0 : List UInt8 := [42, 180, 0, 19, 182, 1, 153, 154, 0, 7, 4, 167, 0, 4, 3, 184, 0, 157, 42, 42, 180, 0, 19]
abbrev dktX1_undo_0 : List UInt8 := dkwX1_undo_0 ++ dktX1_undo_1
theorem dksX1_undo_0 : cX1_undo.data.toList.drop 0 = dktX1_undo_0 := by decide +kernel
theorem dksX1_undo_1 : cX1_undo.data.toList.drop 23 = dktX1_undo_1 := dk_seg dksX1_undo_0 23 rfl rfl
theorem dX1_undo_0 : decode cX1_undo 0 = .ok (.aload_n 0, 1) := dk_42 (dk_at dksX1_undo_0 0 rfl rfl)
theorem dX1_undo_1 : decode cX1_undo 1 = .ok (.getfield 19, 3) := dk_180 0 19 (dk_at dksX1_undo_0 1 rfl rfl)
theorem dX1_undo_4 : decode cX1_undo 4 = .ok (.invokevirtual 409, 3) := dk_182 1 153 (dk_at dksX1_undo_0 4 rfl rfl)
theorem dX1_undo_7 : decode cX1_undo 7 = .ok (.ifCond .ne 7, 3) := dk_154 0 7 (dk_at dksX1_undo_0 7 rfl rfl)
theorem dX1_undo_10 : decode cX1_undo 10 = .ok (.iconst 1, 1) := dk_4 (dk_at dksX1_undo_0 10 rfl rfl)
theorem dX1_undo_11 : decode cX1_undo 11 = .ok (.goto 4, 3) := dk_167 0 4 (dk_at dksX1_undo_0 11 rfl rfl)
theorem dX1_undo_14 : decode cX1_undo 14 = .ok (.iconst 0, 1) := dk_3 (dk_at dksX1_undo_0 14 rfl rfl)
theorem dX1_undo_15 : decode cX1_undo 15 = .ok (.invokestatic 157, 3) := dk_184 0 157 (dk_at dksX1_undo_0 15 rfl rfl)
theorem dX1_undo_18 : decode cX1_undo 18 = .ok (.aload_n 0, 1) := dk_42 (dk_at dksX1_undo_0 18 rfl rfl)
theorem dX1_undo_19 : decode cX1_undo 19 = .ok (.aload_n 0, 1) := dk_42 (dk_at dksX1_undo_0 19 rfl rfl)
theorem dX1_undo_20 : decode cX1_undo 20 = .ok (.getfield 19, 3) := dk_180 0 19 (dk_at dksX1_undo_0 20 rfl rfl)
theorem dX1_undo_23 : decode cX1_undo 23 = .ok (.invokevirtual 410, 3) := dk_182 1 154 (dk_at dksX1_undo_1 0 rfl rfl)
theorem dX1_undo_26 : decode cX1_undo 26 = .ok (.checkcast 7, 3) := dk_192 0 7 (dk_at dksX1_undo_1 3 rfl rfl)
theorem dX1_undo_29 : decode cX1_undo 29 = .ok (.putfield 10, 3) := dk_181 0 10 (dk_at dksX1_undo_1 6 rfl rfl)
theorem dX1_undo_32 : decode cX1_undo 32 = .ok (.aload_n 0, 1) := dk_42 (dk_at dksX1_undo_1 9 rfl rfl)
theorem dX1_undo_33 : decode cX1_undo 33 = .ok (.getfield 19, 3) := dk_180 0 19 (dk_at dksX1_undo_1 10 rfl rfl)
theorem dX1_undo_36 : decode cX1_undo 36 = .ok (.invokevirtual 89, 3) := dk_182 0 89 (dk_at dksX1_undo_1 13 rfl rfl)
theorem dX1_undo_39 : decode cX1_undo 39 = .ok (.ireturn, 1) := dk_172 (dk_at dksX1_undo_1 16 rfl rfl)
abbrev cX1_restore : ByteArray := prog_1_method_79_code
def yX1_restore : MethodName := ⟨RX1, "restore", "()I"⟩
def dkwX1_restore_1 : List UInt8 := [181, 0, 10, 42, 180, 0, 19, 182, 1, 163, 42, 180, 0, 10, 182, 1, 160, 172]
abbrev dktX1_restore_1 : List UInt8 := dkwX1_restore_1 ++ []
def dkwX1_restore_0 : List UInt8 := [42, 180, 1, 157, 198, 0, 7, 4, 167, 0, 4, 3, 184, 0, 157, 42, 42, 180, 1, 157, 182, 0, 81]
abbrev dktX1_restore_0 : List UInt8 := dkwX1_restore_0 ++ dktX1_restore_1
theorem dksX1_restore_0 : cX1_restore.data.toList.drop 0 = dktX1_restore_0 := by decide +kernel
theorem dksX1_restore_1 : cX1_restore.data.toList.drop 23 = dktX1_restore_1 := dk_seg dksX1_restore_0 23 rfl rfl
theorem dX1_restore_0 : decode cX1_restore 0 = .ok (.aload_n 0, 1) := dk_42 (dk_at dksX1_restore_0 0 rfl rfl)
theorem dX1_restore_1 : decode cX1_restore 1 = .ok (.getfield 413, 3) := dk_180 1 157 (dk_at dksX1_restore_0 1 rfl rfl)
theorem dX1_restore_4 : decode cX1_restore 4 = .ok (.ifnull 7, 3) := dk_198 0 7 (dk_at dksX1_restore_0 4 rfl rfl)
theorem dX1_restore_7 : decode cX1_restore 7 = .ok (.iconst 1, 1) := dk_4 (dk_at dksX1_restore_0 7 rfl rfl)
theorem dX1_restore_8 : decode cX1_restore 8 = .ok (.goto 4, 3) := dk_167 0 4 (dk_at dksX1_restore_0 8 rfl rfl)
theorem dX1_restore_11 : decode cX1_restore 11 = .ok (.iconst 0, 1) := dk_3 (dk_at dksX1_restore_0 11 rfl rfl)
theorem dX1_restore_12 : decode cX1_restore 12 = .ok (.invokestatic 157, 3) := dk_184 0 157 (dk_at dksX1_restore_0 12 rfl rfl)
theorem dX1_restore_15 : decode cX1_restore 15 = .ok (.aload_n 0, 1) := dk_42 (dk_at dksX1_restore_0 15 rfl rfl)
theorem dX1_restore_16 : decode cX1_restore 16 = .ok (.aload_n 0, 1) := dk_42 (dk_at dksX1_restore_0 16 rfl rfl)
theorem dX1_restore_17 : decode cX1_restore 17 = .ok (.getfield 413, 3) := dk_180 1 157 (dk_at dksX1_restore_0 17 rfl rfl)
theorem dX1_restore_20 : decode cX1_restore 20 = .ok (.invokevirtual 81, 3) := dk_182 0 81 (dk_at dksX1_restore_0 20 rfl rfl)
theorem dX1_restore_23 : decode cX1_restore 23 = .ok (.putfield 10, 3) := dk_181 0 10 (dk_at dksX1_restore_1 0 rfl rfl)
theorem dX1_restore_26 : decode cX1_restore 26 = .ok (.aload_n 0, 1) := dk_42 (dk_at dksX1_restore_1 3 rfl rfl)
theorem dX1_restore_27 : decode cX1_restore 27 = .ok (.getfield 19, 3) := dk_180 0 19 (dk_at dksX1_restore_1 4 rfl rfl)
theorem dX1_restore_30 : decode cX1_restore 30 = .ok (.invokevirtual 419, 3) := dk_182 1 163 (dk_at dksX1_restore_1 7 rfl rfl)
theorem dX1_restore_33 : decode cX1_restore 33 = .ok (.aload_n 0, 1) := dk_42 (dk_at dksX1_restore_1 10 rfl rfl)
theorem dX1_restore_34 : decode cX1_restore 34 = .ok (.getfield 10, 3) := dk_180 0 10 (dk_at dksX1_restore_1 11 rfl rfl)
theorem dX1_restore_37 : decode cX1_restore 37 = .ok (.invokevirtual 416, 3) := dk_182 1 160 (dk_at dksX1_restore_1 14 rfl rfl)
theorem dX1_restore_40 : decode cX1_restore 40 = .ok (.ireturn, 1) := dk_172 (dk_at dksX1_restore_1 17 rfl rfl)
theorem q115 : (Jvm.Cond.initialized "ScheduleAnalyzer") ∈ lw_all := lw_g (lw_at lw_m1 1 rfl) rfl
theorem q166 : (Jvm.Cond.instantiable "ScheduleAnalyzer" (6 : Nat)) ∈ lw_all := lw_g (lw_at lw_m1 52 rfl) rfl
theorem q168 : (Jvm.Cond.instanceMethod ({ cls := "ScheduleAnalyzer", name := "<init>", desc := "()V" } : Jvm.MethodName)) ∈ lw_all := lw_g (lw_at lw_m1 54 rfl) rfl
theorem q169 : (Jvm.Cond.code ({ cls := "ScheduleAnalyzer", name := "<init>", desc := "()V" } : Jvm.MethodName) prog_1_method_1_code (1 : Nat) (Option.none : Option Jvm.ClassFile.FieldType)) ∈ lw_all := lw_g (lw_at lw_m1 55 rfl) rfl
theorem q170 : (Jvm.Cond.methodLink "ScheduleAnalyzer" (1 : Nat) ({ cls := "java/lang/Object", name := "<init>", desc := "()V" } : Jvm.MethodName)) ∈ lw_all := lw_g (lw_at lw_m1 56 rfl) rfl
theorem q173 : (Jvm.Cond.classLink "ScheduleAnalyzer" (7 : Nat) "ScheduleAnalyzer$State") ∈ lw_all := lw_g (lw_at lw_m1 59 rfl) rfl
theorem q175 : (Jvm.Cond.methodLink "ScheduleAnalyzer" (9 : Nat) ({ cls := "ScheduleAnalyzer$State", name := "<init>", desc := "()V" } : Jvm.MethodName)) ∈ lw_all := lw_g (lw_at lw_m1 61 rfl) rfl
theorem q741 : (Jvm.Cond.selects "ScheduleAnalyzer" ({ cls := "java/lang/Object", name := "getClass", desc := "()Ljava/lang/Class;" } : Jvm.MethodName) ({ cls := "java/lang/Object", name := "getClass", desc := "()Ljava/lang/Class;" } : Jvm.MethodName)) ∈ lw_all := lw_g (lw_at lw_m3 147 rfl) rfl
theorem q807 : (Jvm.Cond.fieldLinkNest "ScheduleAnalyzer" (116 : Nat) "ScheduleAnalyzer$Schedule" "operations" "Ljava/util/List;" "ScheduleAnalyzer") ∈ lw_tbl := lw_at lw_m3 213 rfl
theorem q812 : (Jvm.Cond.fieldLinkNest "ScheduleAnalyzer" (102 : Nat) "ScheduleAnalyzer$State" "slots" "[LScheduleAnalyzer$Schedule;" "ScheduleAnalyzer") ∈ lw_tbl := lw_at lw_m3 218 rfl
theorem q814 : (Jvm.Cond.fieldLinkNest "ScheduleAnalyzer" (237 : Nat) "ScheduleAnalyzer$State" "values" "[I" "ScheduleAnalyzer") ∈ lw_tbl := lw_at lw_m3 220 rfl
theorem q820 : (Jvm.Cond.classLink "ScheduleAnalyzer" (16 : Nat) "java/util/ArrayDeque") ∈ lw_all := lw_g (lw_at lw_m3 226 rfl) rfl
theorem q822 : (Jvm.Cond.methodLink "ScheduleAnalyzer" (18 : Nat) ({ cls := "java/util/ArrayDeque", name := "<init>", desc := "()V" } : Jvm.MethodName)) ∈ lw_all := lw_g (lw_at lw_m3 228 rfl) rfl
theorem q837 : (Jvm.Cond.classLink "ScheduleAnalyzer" (23 : Nat) "java/lang/StringBuilder") ∈ lw_all := lw_g (lw_at lw_m4 3 rfl) rfl
theorem q838 : (Jvm.Cond.methodLink "ScheduleAnalyzer" (25 : Nat) ({ cls := "java/lang/StringBuilder", name := "<init>", desc := "()V" } : Jvm.MethodName)) ∈ lw_all := lw_g (lw_at lw_m4 4 rfl) rfl
theorem q839 : (Jvm.Cond.fieldLink "ScheduleAnalyzer" (10 : Nat) "ScheduleAnalyzer" "state" "LScheduleAnalyzer$State;") ∈ lw_all := lw_g (lw_at lw_m4 5 rfl) rfl
theorem q840 : (Jvm.Cond.fieldLink "ScheduleAnalyzer" (413 : Nat) "ScheduleAnalyzer" "saved" "LScheduleAnalyzer$State;") ∈ lw_all := lw_g (lw_at lw_m4 6 rfl) rfl
theorem q841 : (Jvm.Cond.fieldLink "ScheduleAnalyzer" (19 : Nat) "ScheduleAnalyzer" "history" "Ljava/util/ArrayDeque;") ∈ lw_all := lw_g (lw_at lw_m4 7 rfl) rfl
theorem q842 : (Jvm.Cond.fieldLink "ScheduleAnalyzer" (26 : Nat) "ScheduleAnalyzer" "input" "Ljava/lang/StringBuilder;") ∈ lw_all := lw_g (lw_at lw_m4 8 rfl) rfl
theorem q843 : (Jvm.Cond.fieldLink "ScheduleAnalyzer" (30 : Nat) "ScheduleAnalyzer" "line" "Ljava/lang/StringBuilder;") ∈ lw_all := lw_g (lw_at lw_m4 9 rfl) rfl
theorem q844 : (Jvm.Cond.fieldLink "ScheduleAnalyzer" (33 : Nat) "ScheduleAnalyzer" "errorPosition" "I") ∈ lw_all := lw_g (lw_at lw_m4 10 rfl) rfl
theorem q845 : (Jvm.Cond.lays "ScheduleAnalyzer" "ScheduleAnalyzer" "state" "LScheduleAnalyzer$State;") ∈ lw_all := lw_g (lw_at lw_m4 11 rfl) rfl
theorem q846 : (Jvm.Cond.soleField "ScheduleAnalyzer" "state") ∈ lw_all := lw_g (lw_at lw_m4 12 rfl) rfl
theorem q847 : (Jvm.Cond.lays "ScheduleAnalyzer" "ScheduleAnalyzer" "saved" "LScheduleAnalyzer$State;") ∈ lw_all := lw_g (lw_at lw_m4 13 rfl) rfl
theorem q848 : (Jvm.Cond.soleField "ScheduleAnalyzer" "saved") ∈ lw_all := lw_g (lw_at lw_m4 14 rfl) rfl
theorem q849 : (Jvm.Cond.laysFinal "ScheduleAnalyzer" "ScheduleAnalyzer" "history" "Ljava/util/ArrayDeque;") ∈ lw_all := lw_g (lw_at lw_m4 15 rfl) rfl
theorem q850 : (Jvm.Cond.soleField "ScheduleAnalyzer" "history") ∈ lw_all := lw_g (lw_at lw_m4 16 rfl) rfl
theorem q851 : (Jvm.Cond.laysFinal "ScheduleAnalyzer" "ScheduleAnalyzer" "input" "Ljava/lang/StringBuilder;") ∈ lw_all := lw_g (lw_at lw_m4 17 rfl) rfl
theorem q852 : (Jvm.Cond.soleField "ScheduleAnalyzer" "input") ∈ lw_all := lw_g (lw_at lw_m4 18 rfl) rfl
theorem q853 : (Jvm.Cond.laysFinal "ScheduleAnalyzer" "ScheduleAnalyzer" "line" "Ljava/lang/StringBuilder;") ∈ lw_all := lw_g (lw_at lw_m4 19 rfl) rfl
theorem q854 : (Jvm.Cond.soleField "ScheduleAnalyzer" "line") ∈ lw_all := lw_g (lw_at lw_m4 20 rfl) rfl
theorem q855 : (Jvm.Cond.lays "ScheduleAnalyzer" "ScheduleAnalyzer" "errorPosition" "I") ∈ lw_all := lw_g (lw_at lw_m4 21 rfl) rfl
theorem q856 : (Jvm.Cond.soleField "ScheduleAnalyzer" "errorPosition") ∈ lw_all := lw_g (lw_at lw_m4 22 rfl) rfl
theorem q857 : (Jvm.Cond.superclass "ScheduleAnalyzer" "java/lang/Object") ∈ lw_all := lw_g (lw_at lw_m4 23 rfl) rfl
theorem q859 : (Jvm.Cond.instanceMethod ({ cls := "ScheduleAnalyzer", name := "isConsistent", desc := "()Z" } : Jvm.MethodName)) ∈ lw_all := lw_g (lw_at lw_m4 25 rfl) rfl
theorem q860 : (Jvm.Cond.selects "ScheduleAnalyzer" ({ cls := "ScheduleAnalyzer", name := "isConsistent", desc := "()Z" } : Jvm.MethodName) ({ cls := "ScheduleAnalyzer", name := "isConsistent", desc := "()Z" } : Jvm.MethodName)) ∈ lw_all := lw_g (lw_at lw_m4 26 rfl) rfl
theorem q861 : (Jvm.Cond.code ({ cls := "ScheduleAnalyzer", name := "isConsistent", desc := "()Z" } : Jvm.MethodName) prog_1_method_68_code (6 : Nat) (Option.some Jvm.ClassFile.FieldType.boolean)) ∈ lw_all := lw_g (lw_at lw_m4 27 rfl) rfl
theorem q862 : (Jvm.Cond.methodLink "ScheduleAnalyzer" (363 : Nat) ({ cls := "ScheduleAnalyzer", name := "isConfirmed", desc := "(LScheduleAnalyzer$Schedule;)Z" } : Jvm.MethodName)) ∈ lw_all := lw_g (lw_at lw_m4 28 rfl) rfl
theorem q863 : (Jvm.Cond.privateMethod ({ cls := "ScheduleAnalyzer", name := "isConfirmed", desc := "(LScheduleAnalyzer$Schedule;)Z" } : Jvm.MethodName)) ∈ lw_tbl := lw_at lw_m4 29 rfl
theorem q864 : (Jvm.Cond.instanceMethod ({ cls := "ScheduleAnalyzer", name := "isConfirmed", desc := "(LScheduleAnalyzer$Schedule;)Z" } : Jvm.MethodName)) ∈ lw_all := lw_g (lw_at lw_m4 30 rfl) rfl
theorem q865 : (Jvm.Cond.code ({ cls := "ScheduleAnalyzer", name := "isConfirmed", desc := "(LScheduleAnalyzer$Schedule;)Z" } : Jvm.MethodName) prog_1_method_67_code (8 : Nat) (Option.some Jvm.ClassFile.FieldType.boolean)) ∈ lw_all := lw_g (lw_at lw_m4 31 rfl) rfl
theorem q866 : (Jvm.Cond.methodLink "ScheduleAnalyzer" (205 : Nat) ({ cls := "ScheduleAnalyzer$Schedule", name := "graph", desc := "()LScheduleAnalyzer$Graph;" } : Jvm.MethodName)) ∈ lw_all := lw_g (lw_at lw_m4 32 rfl) rfl
theorem q908 : (Jvm.Cond.static ({ cls := "ScheduleAnalyzer", name := "findBefore", desc := "(Ljava/util/List;ILScheduleAnalyzer$OperationTest;)I" } : Jvm.MethodName)) ∈ lw_all := lw_g (lw_at lw_m4 74 rfl) rfl
theorem q909 : (Jvm.Cond.code ({ cls := "ScheduleAnalyzer", name := "findBefore", desc := "(Ljava/util/List;ILScheduleAnalyzer$OperationTest;)I" } : Jvm.MethodName) prog_1_method_14_code (4 : Nat) (Option.some Jvm.ClassFile.FieldType.int)) ∈ lw_all := lw_g (lw_at lw_m4 75 rfl) rfl
theorem q910 : (Jvm.Cond.interfaceEntry "ScheduleAnalyzer" (69 : Nat)) ∈ lw_tbl := lw_at lw_m4 76 rfl
theorem q911 : (Jvm.Cond.methodLink "ScheduleAnalyzer" (69 : Nat) ({ cls := "java/util/List", name := "get", desc := "(I)Ljava/lang/Object;" } : Jvm.MethodName)) ∈ lw_all := lw_g (lw_at lw_m4 77 rfl) rfl
theorem q912 : (Jvm.Cond.classLink "ScheduleAnalyzer" (73 : Nat) "ScheduleAnalyzer$Operation") ∈ lw_all := lw_g (lw_at lw_m4 78 rfl) rfl
theorem q913 : (Jvm.Cond.interfaceEntry "ScheduleAnalyzer" (75 : Nat)) ∈ lw_tbl := lw_at lw_m4 79 rfl
theorem q914 : (Jvm.Cond.methodLink "ScheduleAnalyzer" (75 : Nat) ({ cls := "ScheduleAnalyzer$OperationTest", name := "holdsFor", desc := "(LScheduleAnalyzer$Operation;)Z" } : Jvm.MethodName)) ∈ lw_all := lw_g (lw_at lw_m4 80 rfl) rfl
theorem q1222 : (Jvm.Cond.methodLink "ScheduleAnalyzer" (316 : Nat) ({ cls := "ScheduleAnalyzer$Schedule", name := "countDirtyReads", desc := "()I" } : Jvm.MethodName)) ∈ lw_all := lw_g (lw_at lw_m5 148 rfl) rfl
theorem q1257 : (Jvm.Cond.methodLink "ScheduleAnalyzer" (266 : Nat) ({ cls := "ScheduleAnalyzer$Schedule", name := "countConflicts", desc := "()I" } : Jvm.MethodName)) ∈ lw_all := lw_g (lw_at lw_m5 183 rfl) rfl
theorem q1264 : (Jvm.Cond.static ({ cls := "ScheduleAnalyzer", name := "countBefore", desc := "(Ljava/util/List;ILScheduleAnalyzer$OperationTest;)I" } : Jvm.MethodName)) ∈ lw_all := lw_g (lw_at lw_m5 190 rfl) rfl
theorem q1265 : (Jvm.Cond.code ({ cls := "ScheduleAnalyzer", name := "countBefore", desc := "(Ljava/util/List;ILScheduleAnalyzer$OperationTest;)I" } : Jvm.MethodName) prog_1_method_13_code (5 : Nat) (Option.some Jvm.ClassFile.FieldType.int)) ∈ lw_all := lw_g (lw_at lw_m5 191 rfl) rfl
theorem q1266 : (Jvm.Cond.methodLink "ScheduleAnalyzer" (269 : Nat) ({ cls := "ScheduleAnalyzer$Schedule", name := "countConflictsByItems", desc := "()I" } : Jvm.MethodName)) ∈ lw_all := lw_g (lw_at lw_m5 192 rfl) rfl
theorem q1276 : (Jvm.Cond.static ({ cls := "ScheduleAnalyzer", name := "count", desc := "(Ljava/util/List;LScheduleAnalyzer$OperationTest;)I" } : Jvm.MethodName)) ∈ lw_all := lw_g (lw_at lw_m5 202 rfl) rfl
theorem q1277 : (Jvm.Cond.code ({ cls := "ScheduleAnalyzer", name := "count", desc := "(Ljava/util/List;LScheduleAnalyzer$OperationTest;)I" } : Jvm.MethodName) prog_1_method_12_code (2 : Nat) (Option.some Jvm.ClassFile.FieldType.int)) ∈ lw_all := lw_g (lw_at lw_m5 203 rfl) rfl
theorem q1278 : (Jvm.Cond.interfaceEntry "ScheduleAnalyzer" (59 : Nat)) ∈ lw_tbl := lw_at lw_m5 204 rfl
theorem q1279 : (Jvm.Cond.methodLink "ScheduleAnalyzer" (59 : Nat) ({ cls := "java/util/List", name := "size", desc := "()I" } : Jvm.MethodName)) ∈ lw_all := lw_g (lw_at lw_m5 205 rfl) rfl
theorem q1280 : (Jvm.Cond.methodLink "ScheduleAnalyzer" (65 : Nat) ({ cls := "ScheduleAnalyzer", name := "countBefore", desc := "(Ljava/util/List;ILScheduleAnalyzer$OperationTest;)I" } : Jvm.MethodName)) ∈ lw_all := lw_g (lw_at lw_m5 206 rfl) rfl
theorem q1281 : (Jvm.Cond.methodLink "ScheduleAnalyzer" (209 : Nat) ({ cls := "ScheduleAnalyzer$Graph", name := "isAcyclic", desc := "()Z" } : Jvm.MethodName)) ∈ lw_all := lw_g (lw_at lw_m5 207 rfl) rfl
theorem q1290 : (Jvm.Cond.static ({ cls := "ScheduleAnalyzer", name := "isIn", desc := "(II)Z" } : Jvm.MethodName)) ∈ lw_all := lw_g (lw_at lw_m5 216 rfl) rfl
theorem q1291 : (Jvm.Cond.code ({ cls := "ScheduleAnalyzer", name := "isIn", desc := "(II)Z" } : Jvm.MethodName) prog_1_method_9_code (2 : Nat) (Option.some Jvm.ClassFile.FieldType.boolean)) ∈ lw_all := lw_g (lw_at lw_m5 217 rfl) rfl
theorem q1292 : (Jvm.Cond.methodLink "ScheduleAnalyzer" (282 : Nat) ({ cls := "ScheduleAnalyzer$Graph", name := "isAcyclicByWalks", desc := "()Z" } : Jvm.MethodName)) ∈ lw_all := lw_g (lw_at lw_m5 218 rfl) rfl
theorem q1304 : (Jvm.Cond.methodLink "ScheduleAnalyzer" (285 : Nat) ({ cls := "ScheduleAnalyzer$Graph", name := "countOrders", desc := "()I" } : Jvm.MethodName)) ∈ lw_all := lw_g (lw_at lw_m5 230 rfl) rfl
theorem q1308 : (Jvm.Cond.methodLink "ScheduleAnalyzer" (288 : Nat) ({ cls := "ScheduleAnalyzer$Graph", name := "countOrdersFrom", desc := "(I)I" } : Jvm.MethodName)) ∈ lw_all := lw_g (lw_at lw_m5 234 rfl) rfl
theorem q1317 : (Jvm.Cond.methodLink "ScheduleAnalyzer" (305 : Nat) ({ cls := "ScheduleAnalyzer", name := "viewsOf", desc := "(LScheduleAnalyzer$Schedule;)LScheduleAnalyzer$ViewSearch;" } : Jvm.MethodName)) ∈ lw_all := lw_g (lw_at lw_m6 3 rfl) rfl
theorem q1318 : (Jvm.Cond.static ({ cls := "ScheduleAnalyzer", name := "viewsOf", desc := "(LScheduleAnalyzer$Schedule;)LScheduleAnalyzer$ViewSearch;" } : Jvm.MethodName)) ∈ lw_all := lw_g (lw_at lw_m6 4 rfl) rfl
theorem q1319 : (Jvm.Cond.code ({ cls := "ScheduleAnalyzer", name := "viewsOf", desc := "(LScheduleAnalyzer$Schedule;)LScheduleAnalyzer$ViewSearch;" } : Jvm.MethodName) prog_1_method_49_code (1 : Nat) (Option.some (Jvm.ClassFile.FieldType.object "ScheduleAnalyzer$ViewSearch"))) ∈ lw_all := lw_g (lw_at lw_m6 5 rfl) rfl
theorem q1320 : (Jvm.Cond.classLink "ScheduleAnalyzer" (302 : Nat) "ScheduleAnalyzer$ViewSearch") ∈ lw_all := lw_g (lw_at lw_m6 6 rfl) rfl
theorem q1322 : (Jvm.Cond.methodLink "ScheduleAnalyzer" (217 : Nat) ({ cls := "ScheduleAnalyzer$Schedule", name := "rest", desc := "()LScheduleAnalyzer$Schedule;" } : Jvm.MethodName)) ∈ lw_all := lw_g (lw_at lw_m6 8 rfl) rfl
theorem q1323 : (Jvm.Cond.methodLink "ScheduleAnalyzer" (304 : Nat) ({ cls := "ScheduleAnalyzer$ViewSearch", name := "<init>", desc := "(LScheduleAnalyzer$Schedule;)V" } : Jvm.MethodName)) ∈ lw_all := lw_g (lw_at lw_m6 9 rfl) rfl
theorem q1361 : (Jvm.Cond.methodLink "ScheduleAnalyzer" (309 : Nat) ({ cls := "ScheduleAnalyzer$ViewSearch", name := "search", desc := "(II)Z" } : Jvm.MethodName)) ∈ lw_all := lw_g (lw_at lw_m6 47 rfl) rfl
theorem q1375 : (Jvm.Cond.methodLink "ScheduleAnalyzer" (322 : Nat) ({ cls := "ScheduleAnalyzer$Schedule", name := "isStrict", desc := "()Z" } : Jvm.MethodName)) ∈ lw_all := lw_g (lw_at lw_m6 61 rfl) rfl
theorem q1394 : (Jvm.Cond.methodLink "ScheduleAnalyzer" (360 : Nat) ({ cls := "ScheduleAnalyzer", name := "haveSameValues", desc := "(LScheduleAnalyzer$Schedule;)Z" } : Jvm.MethodName)) ∈ lw_all := lw_g (lw_at lw_m6 80 rfl) rfl
theorem q1395 : (Jvm.Cond.privateMethod ({ cls := "ScheduleAnalyzer", name := "haveSameValues", desc := "(LScheduleAnalyzer$Schedule;)Z" } : Jvm.MethodName)) ∈ lw_tbl := lw_at lw_m6 81 rfl
theorem q1396 : (Jvm.Cond.instanceMethod ({ cls := "ScheduleAnalyzer", name := "haveSameValues", desc := "(LScheduleAnalyzer$Schedule;)Z" } : Jvm.MethodName)) ∈ lw_all := lw_g (lw_at lw_m6 82 rfl) rfl
theorem q1397 : (Jvm.Cond.code ({ cls := "ScheduleAnalyzer", name := "haveSameValues", desc := "(LScheduleAnalyzer$Schedule;)Z" } : Jvm.MethodName) prog_1_method_66_code (6 : Nat) (Option.some Jvm.ClassFile.FieldType.boolean)) ∈ lw_all := lw_g (lw_at lw_m6 83 rfl) rfl
theorem q1398 : (Jvm.Cond.classLink "ScheduleAnalyzer" (325 : Nat) "ScheduleAnalyzer$Execution") ∈ lw_all := lw_g (lw_at lw_m6 84 rfl) rfl
theorem q1400 : (Jvm.Cond.methodLink "ScheduleAnalyzer" (327 : Nat) ({ cls := "ScheduleAnalyzer$Execution", name := "<init>", desc := "([ILScheduleAnalyzer$Schedule;)V" } : Jvm.MethodName)) ∈ lw_all := lw_g (lw_at lw_m6 86 rfl) rfl
theorem q1436 : (Jvm.Cond.fieldLinkNest "ScheduleAnalyzer" (330 : Nat) "ScheduleAnalyzer$Execution" "values" "[I" "ScheduleAnalyzer") ∈ lw_tbl := lw_at lw_m6 122 rfl
theorem q1438 : (Jvm.Cond.fieldLinkNest "ScheduleAnalyzer" (332 : Nat) "ScheduleAnalyzer$Execution" "registers" "[I" "ScheduleAnalyzer") ∈ lw_tbl := lw_at lw_m6 124 rfl
theorem q1450 : (Jvm.Cond.methodLink "ScheduleAnalyzer" (319 : Nat) ({ cls := "ScheduleAnalyzer$Schedule", name := "isRecoverable", desc := "()Z" } : Jvm.MethodName)) ∈ lw_all := lw_g (lw_at lw_m6 136 rfl) rfl
theorem q1461 : (Jvm.Cond.instanceMethod ({ cls := "ScheduleAnalyzer", name := "clearBuffer", desc := "()I" } : Jvm.MethodName)) ∈ lw_all := lw_g (lw_at lw_m6 147 rfl) rfl
theorem q1462 : (Jvm.Cond.selects "ScheduleAnalyzer" ({ cls := "ScheduleAnalyzer", name := "clearBuffer", desc := "()I" } : Jvm.MethodName) ({ cls := "ScheduleAnalyzer", name := "clearBuffer", desc := "()I" } : Jvm.MethodName)) ∈ lw_all := lw_g (lw_at lw_m6 148 rfl) rfl
theorem q1463 : (Jvm.Cond.code ({ cls := "ScheduleAnalyzer", name := "clearBuffer", desc := "()I" } : Jvm.MethodName) prog_1_method_74_code (2 : Nat) (Option.some Jvm.ClassFile.FieldType.int)) ∈ lw_all := lw_g (lw_at lw_m6 149 rfl) rfl
theorem q1464 : (Jvm.Cond.methodLink "ScheduleAnalyzer" (370 : Nat) ({ cls := "java/lang/StringBuilder", name := "length", desc := "()I" } : Jvm.MethodName)) ∈ lw_all := lw_g (lw_at lw_m6 150 rfl) rfl
theorem q1465 : (Jvm.Cond.methodLink "ScheduleAnalyzer" (138 : Nat) ({ cls := "java/lang/StringBuilder", name := "setLength", desc := "(I)V" } : Jvm.MethodName)) ∈ lw_all := lw_g (lw_at lw_m6 151 rfl) rfl
theorem q1531 : (Jvm.Cond.instanceMethod ({ cls := "ScheduleAnalyzer", name := "undoableCount", desc := "()I" } : Jvm.MethodName)) ∈ lw_all := lw_g (lw_at lw_m6 217 rfl) rfl
theorem q1532 : (Jvm.Cond.selects "ScheduleAnalyzer" ({ cls := "ScheduleAnalyzer", name := "undoableCount", desc := "()I" } : Jvm.MethodName) ({ cls := "ScheduleAnalyzer", name := "undoableCount", desc := "()I" } : Jvm.MethodName)) ∈ lw_all := lw_g (lw_at lw_m6 218 rfl) rfl
theorem q1533 : (Jvm.Cond.code ({ cls := "ScheduleAnalyzer", name := "undoableCount", desc := "()I" } : Jvm.MethodName) prog_1_method_76_code (1 : Nat) (Option.some Jvm.ClassFile.FieldType.int)) ∈ lw_all := lw_g (lw_at lw_m6 219 rfl) rfl
theorem q1534 : (Jvm.Cond.methodLink "ScheduleAnalyzer" (89 : Nat) ({ cls := "java/util/ArrayDeque", name := "size", desc := "()I" } : Jvm.MethodName)) ∈ lw_all := lw_g (lw_at lw_m6 220 rfl) rfl
theorem q1542 : (Jvm.Cond.instanceMethod ({ cls := "ScheduleAnalyzer", name := "save", desc := "()I" } : Jvm.MethodName)) ∈ lw_all := lw_g (lw_at lw_m6 228 rfl) rfl
theorem q1543 : (Jvm.Cond.selects "ScheduleAnalyzer" ({ cls := "ScheduleAnalyzer", name := "save", desc := "()I" } : Jvm.MethodName) ({ cls := "ScheduleAnalyzer", name := "save", desc := "()I" } : Jvm.MethodName)) ∈ lw_all := lw_g (lw_at lw_m6 229 rfl) rfl
theorem q1544 : (Jvm.Cond.code ({ cls := "ScheduleAnalyzer", name := "save", desc := "()I" } : Jvm.MethodName) prog_1_method_78_code (1 : Nat) (Option.some Jvm.ClassFile.FieldType.int)) ∈ lw_all := lw_g (lw_at lw_m6 230 rfl) rfl
theorem q1545 : (Jvm.Cond.methodLink "ScheduleAnalyzer" (81 : Nat) ({ cls := "ScheduleAnalyzer$State", name := "copy", desc := "()LScheduleAnalyzer$State;" } : Jvm.MethodName)) ∈ lw_all := lw_g (lw_at lw_m6 231 rfl) rfl
theorem q1553 : (Jvm.Cond.methodLink "ScheduleAnalyzer" (416 : Nat) ({ cls := "ScheduleAnalyzer$State", name := "countOperations", desc := "()I" } : Jvm.MethodName)) ∈ lw_all := lw_g (lw_at lw_m6 239 rfl) rfl
theorem q1567 : (Jvm.Cond.instanceMethod ({ cls := "ScheduleAnalyzer", name := "write", desc := "(I)I" } : Jvm.MethodName)) ∈ lw_all := lw_g (lw_at lw_m7 13 rfl) rfl
theorem q1568 : (Jvm.Cond.selects "ScheduleAnalyzer" ({ cls := "ScheduleAnalyzer", name := "write", desc := "(I)I" } : Jvm.MethodName) ({ cls := "ScheduleAnalyzer", name := "write", desc := "(I)I" } : Jvm.MethodName)) ∈ lw_all := lw_g (lw_at lw_m7 14 rfl) rfl
theorem q1569 : (Jvm.Cond.code ({ cls := "ScheduleAnalyzer", name := "write", desc := "(I)I" } : Jvm.MethodName) prog_1_method_21_code (4 : Nat) (Option.some Jvm.ClassFile.FieldType.int)) ∈ lw_all := lw_g (lw_at lw_m7 15 rfl) rfl
theorem q1570 : (Jvm.Cond.methodLink "ScheduleAnalyzer" (94 : Nat) ({ cls := "ScheduleAnalyzer", name := "isSlot", desc := "(I)Z" } : Jvm.MethodName)) ∈ lw_all := lw_g (lw_at lw_m7 16 rfl) rfl
theorem q1571 : (Jvm.Cond.static ({ cls := "ScheduleAnalyzer", name := "isSlot", desc := "(I)Z" } : Jvm.MethodName)) ∈ lw_all := lw_g (lw_at lw_m7 17 rfl) rfl
theorem q1572 : (Jvm.Cond.code ({ cls := "ScheduleAnalyzer", name := "isSlot", desc := "(I)Z" } : Jvm.MethodName) prog_1_method_16_code (1 : Nat) (Option.some Jvm.ClassFile.FieldType.boolean)) ∈ lw_all := lw_g (lw_at lw_m7 18 rfl) rfl
theorem q1573 : (Jvm.Cond.methodLink "ScheduleAnalyzer" (55 : Nat) ({ cls := "ScheduleAnalyzer", name := "isBetween", desc := "(III)Z" } : Jvm.MethodName)) ∈ lw_all := lw_g (lw_at lw_m7 19 rfl) rfl
theorem q1574 : (Jvm.Cond.static ({ cls := "ScheduleAnalyzer", name := "isBetween", desc := "(III)Z" } : Jvm.MethodName)) ∈ lw_all := lw_g (lw_at lw_m7 20 rfl) rfl
theorem q1575 : (Jvm.Cond.code ({ cls := "ScheduleAnalyzer", name := "isBetween", desc := "(III)Z" } : Jvm.MethodName) prog_1_method_8_code (3 : Nat) (Option.some Jvm.ClassFile.FieldType.boolean)) ∈ lw_all := lw_g (lw_at lw_m7 21 rfl) rfl
theorem q1576 : (Jvm.Cond.methodLink "ScheduleAnalyzer" (98 : Nat) ({ cls := "ScheduleAnalyzer", name := "checkIndex", desc := "(Z)V" } : Jvm.MethodName)) ∈ lw_all := lw_g (lw_at lw_m7 22 rfl) rfl
theorem q1577 : (Jvm.Cond.static ({ cls := "ScheduleAnalyzer", name := "checkIndex", desc := "(Z)V" } : Jvm.MethodName)) ∈ lw_all := lw_g (lw_at lw_m7 23 rfl) rfl
theorem q1578 : (Jvm.Cond.code ({ cls := "ScheduleAnalyzer", name := "checkIndex", desc := "(Z)V" } : Jvm.MethodName) prog_1_method_5_code (1 : Nat) (Option.none : Option Jvm.ClassFile.FieldType)) ∈ lw_all := lw_g (lw_at lw_m7 24 rfl) rfl
theorem q1579 : (Jvm.Cond.classLink "ScheduleAnalyzer" (46 : Nat) "java/lang/IndexOutOfBoundsException") ∈ lw_all := lw_g (lw_at lw_m7 25 rfl) rfl
theorem q1580 : (Jvm.Cond.methodLink "ScheduleAnalyzer" (48 : Nat) ({ cls := "java/lang/IndexOutOfBoundsException", name := "<init>", desc := "()V" } : Jvm.MethodName)) ∈ lw_all := lw_g (lw_at lw_m7 26 rfl) rfl
theorem q1584 : (Jvm.Cond.classLink "ScheduleAnalyzer" (129 : Nat) "ScheduleAnalyzer$Parser") ∈ lw_all := lw_g (lw_at lw_m7 30 rfl) rfl
theorem q1586 : (Jvm.Cond.methodLink "ScheduleAnalyzer" (131 : Nat) ({ cls := "java/lang/StringBuilder", name := "toString", desc := "()Ljava/lang/String;" } : Jvm.MethodName)) ∈ lw_all := lw_g (lw_at lw_m7 32 rfl) rfl
theorem q1587 : (Jvm.Cond.methodLink "ScheduleAnalyzer" (135 : Nat) ({ cls := "ScheduleAnalyzer$Parser", name := "<init>", desc := "(Ljava/lang/String;)V" } : Jvm.MethodName)) ∈ lw_all := lw_g (lw_at lw_m7 33 rfl) rfl
theorem q1595 : (Jvm.Cond.fieldLinkNest "ScheduleAnalyzer" (149 : Nat) "ScheduleAnalyzer$Parser" "operations" "Ljava/util/List;" "ScheduleAnalyzer") ∈ lw_tbl := lw_at lw_m7 41 rfl
theorem q1597 : (Jvm.Cond.fieldLinkNest "ScheduleAnalyzer" (146 : Nat) "ScheduleAnalyzer$Parser" "position" "I" "ScheduleAnalyzer") ∈ lw_tbl := lw_at lw_m7 43 rfl
theorem q1608 : (Jvm.Cond.methodLink "ScheduleAnalyzer" (142 : Nat) ({ cls := "ScheduleAnalyzer$Parser", name := "parse", desc := "()Z" } : Jvm.MethodName)) ∈ lw_all := lw_g (lw_at lw_m7 54 rfl) rfl
theorem q1662 : (Jvm.Cond.fieldLinkNest "ScheduleAnalyzer" (241 : Nat) "ScheduleAnalyzer$Operation" "kind" "C" "ScheduleAnalyzer") ∈ lw_tbl := lw_at lw_m7 108 rfl
theorem q1668 : (Jvm.Cond.fieldLinkNest "ScheduleAnalyzer" (120 : Nat) "ScheduleAnalyzer$Operation" "transaction" "I" "ScheduleAnalyzer") ∈ lw_tbl := lw_at lw_m7 114 rfl
theorem q1673 : (Jvm.Cond.fieldLinkNest "ScheduleAnalyzer" (251 : Nat) "ScheduleAnalyzer$Operation" "item" "C" "ScheduleAnalyzer") ∈ lw_tbl := lw_at lw_m7 119 rfl
theorem q1683 : (Jvm.Cond.classLink "ScheduleAnalyzer" (37 : Nat) "java/lang/IllegalArgumentException") ∈ lw_all := lw_g (lw_at lw_m7 129 rfl) rfl
theorem q1684 : (Jvm.Cond.methodLink "ScheduleAnalyzer" (39 : Nat) ({ cls := "java/lang/IllegalArgumentException", name := "<init>", desc := "()V" } : Jvm.MethodName)) ∈ lw_all := lw_g (lw_at lw_m7 130 rfl) rfl
theorem q1688 : (Jvm.Cond.classLink "ScheduleAnalyzer" (110 : Nat) "ScheduleAnalyzer$Schedule") ∈ lw_all := lw_g (lw_at lw_m7 134 rfl) rfl
theorem q1689 : (Jvm.Cond.methodLink "ScheduleAnalyzer" (150 : Nat) ({ cls := "ScheduleAnalyzer$Schedule", name := "<init>", desc := "(Ljava/util/List;)V" } : Jvm.MethodName)) ∈ lw_all := lw_g (lw_at lw_m7 135 rfl) rfl
theorem q1690 : (Jvm.Cond.methodLink "ScheduleAnalyzer" (153 : Nat) ({ cls := "ScheduleAnalyzer", name := "isAllowed", desc := "(LScheduleAnalyzer$Schedule;)Z" } : Jvm.MethodName)) ∈ lw_all := lw_g (lw_at lw_m7 136 rfl) rfl
theorem q1691 : (Jvm.Cond.static ({ cls := "ScheduleAnalyzer", name := "isAllowed", desc := "(LScheduleAnalyzer$Schedule;)Z" } : Jvm.MethodName)) ∈ lw_all := lw_g (lw_at lw_m7 137 rfl) rfl
theorem q1692 : (Jvm.Cond.code ({ cls := "ScheduleAnalyzer", name := "isAllowed", desc := "(LScheduleAnalyzer$Schedule;)Z" } : Jvm.MethodName) prog_1_method_20_code (4 : Nat) (Option.some Jvm.ClassFile.FieldType.boolean)) ∈ lw_all := lw_g (lw_at lw_m7 138 rfl) rfl
theorem q1693 : (Jvm.Cond.methodLink "ScheduleAnalyzer" (109 : Nat) ({ cls := "ScheduleAnalyzer$Schedule", name := "size", desc := "()I" } : Jvm.MethodName)) ∈ lw_all := lw_g (lw_at lw_m7 139 rfl) rfl
theorem q1694 : (Jvm.Cond.static ({ cls := "ScheduleAnalyzer", name := "lambda$isAllowed$0", desc := "(ILScheduleAnalyzer$Operation;)Z" } : Jvm.MethodName)) ∈ lw_all := lw_g (lw_at lw_m7 140 rfl) rfl
theorem q1695 : (Jvm.Cond.code ({ cls := "ScheduleAnalyzer", name := "lambda$isAllowed$0", desc := "(ILScheduleAnalyzer$Operation;)Z" } : Jvm.MethodName) prog_1_method_84_code (2 : Nat) (Option.some Jvm.ClassFile.FieldType.boolean)) ∈ lw_all := lw_g (lw_at lw_m7 141 rfl) rfl
theorem q1696 : (Jvm.Cond.methodLink "ScheduleAnalyzer" (422 : Nat) ({ cls := "ScheduleAnalyzer$Operation", name := "isEndOf", desc := "(I)Z" } : Jvm.MethodName)) ∈ lw_all := lw_g (lw_at lw_m7 142 rfl) rfl
theorem q1697 : (Jvm.Cond.methodLink "ScheduleAnalyzer" (126 : Nat) ({ cls := "ScheduleAnalyzer", name := "findBefore", desc := "(Ljava/util/List;ILScheduleAnalyzer$OperationTest;)I" } : Jvm.MethodName)) ∈ lw_all := lw_g (lw_at lw_m7 143 rfl) rfl
theorem q1698 : (Jvm.Cond.methodLink "ScheduleAnalyzer" (157 : Nat) ({ cls := "ScheduleAnalyzer", name := "checkState", desc := "(Z)V" } : Jvm.MethodName)) ∈ lw_all := lw_g (lw_at lw_m7 144 rfl) rfl
theorem q1699 : (Jvm.Cond.static ({ cls := "ScheduleAnalyzer", name := "checkState", desc := "(Z)V" } : Jvm.MethodName)) ∈ lw_all := lw_g (lw_at lw_m7 145 rfl) rfl
theorem q1700 : (Jvm.Cond.code ({ cls := "ScheduleAnalyzer", name := "checkState", desc := "(Z)V" } : Jvm.MethodName) prog_1_method_3_code (1 : Nat) (Option.none : Option Jvm.ClassFile.FieldType)) ∈ lw_all := lw_g (lw_at lw_m7 146 rfl) rfl
theorem q1701 : (Jvm.Cond.classLink "ScheduleAnalyzer" (40 : Nat) "java/lang/IllegalStateException") ∈ lw_all := lw_g (lw_at lw_m7 147 rfl) rfl
theorem q1710 : (Jvm.Cond.methodLink "ScheduleAnalyzer" (42 : Nat) ({ cls := "java/lang/IllegalStateException", name := "<init>", desc := "()V" } : Jvm.MethodName)) ∈ lw_all := lw_g (lw_at lw_m7 156 rfl) rfl
theorem q1716 : (Jvm.Cond.methodLink "ScheduleAnalyzer" (160 : Nat) ({ cls := "ScheduleAnalyzer", name := "put", desc := "(ILScheduleAnalyzer$Schedule;)I" } : Jvm.MethodName)) ∈ lw_all := lw_g (lw_at lw_m7 162 rfl) rfl
theorem q1717 : (Jvm.Cond.privateMethod ({ cls := "ScheduleAnalyzer", name := "put", desc := "(ILScheduleAnalyzer$Schedule;)I" } : Jvm.MethodName)) ∈ lw_tbl := lw_at lw_m7 163 rfl
theorem q1718 : (Jvm.Cond.instanceMethod ({ cls := "ScheduleAnalyzer", name := "put", desc := "(ILScheduleAnalyzer$Schedule;)I" } : Jvm.MethodName)) ∈ lw_all := lw_g (lw_at lw_m7 164 rfl) rfl
theorem q1719 : (Jvm.Cond.code ({ cls := "ScheduleAnalyzer", name := "put", desc := "(ILScheduleAnalyzer$Schedule;)I" } : Jvm.MethodName) prog_1_method_18_code (3 : Nat) (Option.some Jvm.ClassFile.FieldType.int)) ∈ lw_all := lw_g (lw_at lw_m7 165 rfl) rfl
theorem q1720 : (Jvm.Cond.methodLink "ScheduleAnalyzer" (106 : Nat) ({ cls := "ScheduleAnalyzer", name := "beginChange", desc := "()V" } : Jvm.MethodName)) ∈ lw_all := lw_g (lw_at lw_m7 166 rfl) rfl
theorem q1721 : (Jvm.Cond.privateMethod ({ cls := "ScheduleAnalyzer", name := "beginChange", desc := "()V" } : Jvm.MethodName)) ∈ lw_tbl := lw_at lw_m7 167 rfl
theorem q1722 : (Jvm.Cond.instanceMethod ({ cls := "ScheduleAnalyzer", name := "beginChange", desc := "()V" } : Jvm.MethodName)) ∈ lw_all := lw_g (lw_at lw_m7 168 rfl) rfl
theorem q1723 : (Jvm.Cond.code ({ cls := "ScheduleAnalyzer", name := "beginChange", desc := "()V" } : Jvm.MethodName) prog_1_method_15_code (1 : Nat) (Option.none : Option Jvm.ClassFile.FieldType)) ∈ lw_all := lw_g (lw_at lw_m7 169 rfl) rfl
theorem q1724 : (Jvm.Cond.methodLink "ScheduleAnalyzer" (85 : Nat) ({ cls := "java/util/ArrayDeque", name := "addLast", desc := "(Ljava/lang/Object;)V" } : Jvm.MethodName)) ∈ lw_all := lw_g (lw_at lw_m7 170 rfl) rfl
theorem q1749 : (Jvm.Cond.methodLink "ScheduleAnalyzer" (90 : Nat) ({ cls := "java/util/ArrayDeque", name := "removeFirst", desc := "()Ljava/lang/Object;" } : Jvm.MethodName)) ∈ lw_all := lw_g (lw_at lw_m7 195 rfl) rfl
theorem q1766 : (Jvm.Cond.instanceMethod ({ cls := "ScheduleAnalyzer", name := "addAccess", desc := "(ICIC)I" } : Jvm.MethodName)) ∈ lw_all := lw_g (lw_at lw_m7 212 rfl) rfl
theorem q1767 : (Jvm.Cond.selects "ScheduleAnalyzer" ({ cls := "ScheduleAnalyzer", name := "addAccess", desc := "(ICIC)I" } : Jvm.MethodName) ({ cls := "ScheduleAnalyzer", name := "addAccess", desc := "(ICIC)I" } : Jvm.MethodName)) ∈ lw_all := lw_g (lw_at lw_m7 213 rfl) rfl
theorem q1768 : (Jvm.Cond.code ({ cls := "ScheduleAnalyzer", name := "addAccess", desc := "(ICIC)I" } : Jvm.MethodName) prog_1_method_23_code (5 : Nat) (Option.some Jvm.ClassFile.FieldType.int)) ∈ lw_all := lw_g (lw_at lw_m7 214 rfl) rfl
theorem q1769 : (Jvm.Cond.methodLink "ScheduleAnalyzer" (171 : Nat) ({ cls := "ScheduleAnalyzer", name := "isTransaction", desc := "(I)Z" } : Jvm.MethodName)) ∈ lw_all := lw_g (lw_at lw_m7 215 rfl) rfl
theorem q1770 : (Jvm.Cond.static ({ cls := "ScheduleAnalyzer", name := "isTransaction", desc := "(I)Z" } : Jvm.MethodName)) ∈ lw_all := lw_g (lw_at lw_m7 216 rfl) rfl
theorem q1771 : (Jvm.Cond.code ({ cls := "ScheduleAnalyzer", name := "isTransaction", desc := "(I)Z" } : Jvm.MethodName) prog_1_method_10_code (1 : Nat) (Option.some Jvm.ClassFile.FieldType.boolean)) ∈ lw_all := lw_g (lw_at lw_m7 217 rfl) rfl
theorem q1772 : (Jvm.Cond.methodLink "ScheduleAnalyzer" (174 : Nat) ({ cls := "ScheduleAnalyzer", name := "isItem", desc := "(C)Z" } : Jvm.MethodName)) ∈ lw_all := lw_g (lw_at lw_m7 218 rfl) rfl
theorem q1773 : (Jvm.Cond.static ({ cls := "ScheduleAnalyzer", name := "isItem", desc := "(C)Z" } : Jvm.MethodName)) ∈ lw_all := lw_g (lw_at lw_m7 219 rfl) rfl
theorem q1774 : (Jvm.Cond.code ({ cls := "ScheduleAnalyzer", name := "isItem", desc := "(C)Z" } : Jvm.MethodName) prog_1_method_11_code (1 : Nat) (Option.some Jvm.ClassFile.FieldType.boolean)) ∈ lw_all := lw_g (lw_at lw_m7 220 rfl) rfl
theorem q1775 : (Jvm.Cond.methodLink "ScheduleAnalyzer" (178 : Nat) ({ cls := "ScheduleAnalyzer", name := "checkArgument", desc := "(Z)V" } : Jvm.MethodName)) ∈ lw_all := lw_g (lw_at lw_m7 221 rfl) rfl
theorem q1776 : (Jvm.Cond.static ({ cls := "ScheduleAnalyzer", name := "checkArgument", desc := "(Z)V" } : Jvm.MethodName)) ∈ lw_all := lw_g (lw_at lw_m7 222 rfl) rfl
theorem q1777 : (Jvm.Cond.code ({ cls := "ScheduleAnalyzer", name := "checkArgument", desc := "(Z)V" } : Jvm.MethodName) prog_1_method_2_code (1 : Nat) (Option.none : Option Jvm.ClassFile.FieldType)) ∈ lw_all := lw_g (lw_at lw_m7 223 rfl) rfl
theorem q1778 : (Jvm.Cond.methodLink "ScheduleAnalyzer" (181 : Nat) ({ cls := "ScheduleAnalyzer$Operation", name := "<init>", desc := "(CIC)V" } : Jvm.MethodName)) ∈ lw_all := lw_g (lw_at lw_m7 224 rfl) rfl
theorem q1779 : (Jvm.Cond.methodLink "ScheduleAnalyzer" (184 : Nat) ({ cls := "ScheduleAnalyzer", name := "add", desc := "(ILScheduleAnalyzer$Operation;)I" } : Jvm.MethodName)) ∈ lw_all := lw_g (lw_at lw_m7 225 rfl) rfl
theorem q1780 : (Jvm.Cond.privateMethod ({ cls := "ScheduleAnalyzer", name := "add", desc := "(ILScheduleAnalyzer$Operation;)I" } : Jvm.MethodName)) ∈ lw_tbl := lw_at lw_m7 226 rfl
theorem q1781 : (Jvm.Cond.instanceMethod ({ cls := "ScheduleAnalyzer", name := "add", desc := "(ILScheduleAnalyzer$Operation;)I" } : Jvm.MethodName)) ∈ lw_all := lw_g (lw_at lw_m7 227 rfl) rfl
theorem q1782 : (Jvm.Cond.code ({ cls := "ScheduleAnalyzer", name := "add", desc := "(ILScheduleAnalyzer$Operation;)I" } : Jvm.MethodName) prog_1_method_22_code (4 : Nat) (Option.some Jvm.ClassFile.FieldType.int)) ∈ lw_all := lw_g (lw_at lw_m7 228 rfl) rfl
theorem q1783 : (Jvm.Cond.methodLink "ScheduleAnalyzer" (164 : Nat) ({ cls := "ScheduleAnalyzer$Schedule", name := "hasEnded", desc := "(I)Z" } : Jvm.MethodName)) ∈ lw_all := lw_g (lw_at lw_m7 229 rfl) rfl
theorem q1789 : (Jvm.Cond.methodLink "ScheduleAnalyzer" (167 : Nat) ({ cls := "ScheduleAnalyzer$Schedule", name := "with", desc := "(LScheduleAnalyzer$Operation;)LScheduleAnalyzer$Schedule;" } : Jvm.MethodName)) ∈ lw_all := lw_g (lw_at lw_m7 235 rfl) rfl
theorem q1797 : (Jvm.Cond.instanceMethod ({ cls := "ScheduleAnalyzer", name := "addEnd", desc := "(IIZ)I" } : Jvm.MethodName)) ∈ lw_all := lw_g (lw_at lw_m8 3 rfl) rfl
theorem q1798 : (Jvm.Cond.selects "ScheduleAnalyzer" ({ cls := "ScheduleAnalyzer", name := "addEnd", desc := "(IIZ)I" } : Jvm.MethodName) ({ cls := "ScheduleAnalyzer", name := "addEnd", desc := "(IIZ)I" } : Jvm.MethodName)) ∈ lw_all := lw_g (lw_at lw_m8 4 rfl) rfl
theorem q1799 : (Jvm.Cond.code ({ cls := "ScheduleAnalyzer", name := "addEnd", desc := "(IIZ)I" } : Jvm.MethodName) prog_1_method_24_code (4 : Nat) (Option.some Jvm.ClassFile.FieldType.int)) ∈ lw_all := lw_g (lw_at lw_m8 5 rfl) rfl
theorem q1804 : (Jvm.Cond.instanceMethod ({ cls := "ScheduleAnalyzer", name := "removeAt", desc := "(II)I" } : Jvm.MethodName)) ∈ lw_all := lw_g (lw_at lw_m8 10 rfl) rfl
theorem q1805 : (Jvm.Cond.selects "ScheduleAnalyzer" ({ cls := "ScheduleAnalyzer", name := "removeAt", desc := "(II)I" } : Jvm.MethodName) ({ cls := "ScheduleAnalyzer", name := "removeAt", desc := "(II)I" } : Jvm.MethodName)) ∈ lw_all := lw_g (lw_at lw_m8 11 rfl) rfl
theorem q1806 : (Jvm.Cond.code ({ cls := "ScheduleAnalyzer", name := "removeAt", desc := "(II)I" } : Jvm.MethodName) prog_1_method_25_code (3 : Nat) (Option.some Jvm.ClassFile.FieldType.int)) ∈ lw_all := lw_g (lw_at lw_m8 12 rfl) rfl
theorem q1807 : (Jvm.Cond.methodLink "ScheduleAnalyzer" (188 : Nat) ({ cls := "ScheduleAnalyzer", name := "operation", desc := "(II)LScheduleAnalyzer$Operation;" } : Jvm.MethodName)) ∈ lw_all := lw_g (lw_at lw_m8 13 rfl) rfl
theorem q1808 : (Jvm.Cond.privateMethod ({ cls := "ScheduleAnalyzer", name := "operation", desc := "(II)LScheduleAnalyzer$Operation;" } : Jvm.MethodName)) ∈ lw_tbl := lw_at lw_m8 14 rfl
theorem q1809 : (Jvm.Cond.instanceMethod ({ cls := "ScheduleAnalyzer", name := "operation", desc := "(II)LScheduleAnalyzer$Operation;" } : Jvm.MethodName)) ∈ lw_all := lw_g (lw_at lw_m8 15 rfl) rfl
theorem q1810 : (Jvm.Cond.code ({ cls := "ScheduleAnalyzer", name := "operation", desc := "(II)LScheduleAnalyzer$Operation;" } : Jvm.MethodName) prog_1_method_19_code (4 : Nat) (Option.some (Jvm.ClassFile.FieldType.object "ScheduleAnalyzer$Operation"))) ∈ lw_all := lw_g (lw_at lw_m8 16 rfl) rfl
theorem q1811 : (Jvm.Cond.methodLink "ScheduleAnalyzer" (112 : Nat) ({ cls := "ScheduleAnalyzer", name := "schedule", desc := "(I)LScheduleAnalyzer$Schedule;" } : Jvm.MethodName)) ∈ lw_all := lw_g (lw_at lw_m8 17 rfl) rfl
theorem q1812 : (Jvm.Cond.privateMethod ({ cls := "ScheduleAnalyzer", name := "schedule", desc := "(I)LScheduleAnalyzer$Schedule;" } : Jvm.MethodName)) ∈ lw_tbl := lw_at lw_m8 18 rfl
theorem q1813 : (Jvm.Cond.instanceMethod ({ cls := "ScheduleAnalyzer", name := "schedule", desc := "(I)LScheduleAnalyzer$Schedule;" } : Jvm.MethodName)) ∈ lw_all := lw_g (lw_at lw_m8 19 rfl) rfl
theorem q1814 : (Jvm.Cond.code ({ cls := "ScheduleAnalyzer", name := "schedule", desc := "(I)LScheduleAnalyzer$Schedule;" } : Jvm.MethodName) prog_1_method_17_code (2 : Nat) (Option.some (Jvm.ClassFile.FieldType.object "ScheduleAnalyzer$Schedule"))) ∈ lw_all := lw_g (lw_at lw_m8 20 rfl) rfl
theorem q1815 : (Jvm.Cond.methodLink "ScheduleAnalyzer" (192 : Nat) ({ cls := "ScheduleAnalyzer$Schedule", name := "without", desc := "(I)LScheduleAnalyzer$Schedule;" } : Jvm.MethodName)) ∈ lw_all := lw_g (lw_at lw_m8 21 rfl) rfl
theorem q1832 : (Jvm.Cond.selects "ScheduleAnalyzer" ({ cls := "java/lang/Object", name := "equals", desc := "(Ljava/lang/Object;)Z" } : Jvm.MethodName) ({ cls := "java/lang/Object", name := "equals", desc := "(Ljava/lang/Object;)Z" } : Jvm.MethodName)) ∈ lw_all := lw_g (lw_at lw_m8 38 rfl) rfl
theorem q1877 : (Jvm.Cond.instanceMethod ({ cls := "ScheduleAnalyzer", name := "exchange", desc := "(II)I" } : Jvm.MethodName)) ∈ lw_all := lw_g (lw_at lw_m8 83 rfl) rfl
theorem q1878 : (Jvm.Cond.selects "ScheduleAnalyzer" ({ cls := "ScheduleAnalyzer", name := "exchange", desc := "(II)I" } : Jvm.MethodName) ({ cls := "ScheduleAnalyzer", name := "exchange", desc := "(II)I" } : Jvm.MethodName)) ∈ lw_all := lw_g (lw_at lw_m8 84 rfl) rfl
theorem q1879 : (Jvm.Cond.code ({ cls := "ScheduleAnalyzer", name := "exchange", desc := "(II)I" } : Jvm.MethodName) prog_1_method_26_code (5 : Nat) (Option.some Jvm.ClassFile.FieldType.int)) ∈ lw_all := lw_g (lw_at lw_m8 85 rfl) rfl
theorem q1880 : (Jvm.Cond.methodLink "ScheduleAnalyzer" (195 : Nat) ({ cls := "ScheduleAnalyzer$Schedule", name := "exchanged", desc := "(I)LScheduleAnalyzer$Schedule;" } : Jvm.MethodName)) ∈ lw_all := lw_g (lw_at lw_m8 86 rfl) rfl
theorem q1904 : (Jvm.Cond.instanceMethod ({ cls := "ScheduleAnalyzer", name := "copy", desc := "(II)I" } : Jvm.MethodName)) ∈ lw_all := lw_g (lw_at lw_m8 110 rfl) rfl
theorem q1905 : (Jvm.Cond.selects "ScheduleAnalyzer" ({ cls := "ScheduleAnalyzer", name := "copy", desc := "(II)I" } : Jvm.MethodName) ({ cls := "ScheduleAnalyzer", name := "copy", desc := "(II)I" } : Jvm.MethodName)) ∈ lw_all := lw_g (lw_at lw_m8 111 rfl) rfl
theorem q1906 : (Jvm.Cond.code ({ cls := "ScheduleAnalyzer", name := "copy", desc := "(II)I" } : Jvm.MethodName) prog_1_method_28_code (3 : Nat) (Option.some Jvm.ClassFile.FieldType.int)) ∈ lw_all := lw_g (lw_at lw_m8 112 rfl) rfl
theorem q1907 : (Jvm.Cond.methodLink "ScheduleAnalyzer" (198 : Nat) ({ cls := "ScheduleAnalyzer", name := "checkSlots", desc := "(II)V" } : Jvm.MethodName)) ∈ lw_all := lw_g (lw_at lw_m8 113 rfl) rfl
theorem q1908 : (Jvm.Cond.privateMethod ({ cls := "ScheduleAnalyzer", name := "checkSlots", desc := "(II)V" } : Jvm.MethodName)) ∈ lw_tbl := lw_at lw_m8 114 rfl
theorem q1909 : (Jvm.Cond.instanceMethod ({ cls := "ScheduleAnalyzer", name := "checkSlots", desc := "(II)V" } : Jvm.MethodName)) ∈ lw_all := lw_g (lw_at lw_m8 115 rfl) rfl
theorem q1910 : (Jvm.Cond.code ({ cls := "ScheduleAnalyzer", name := "checkSlots", desc := "(II)V" } : Jvm.MethodName) prog_1_method_27_code (3 : Nat) (Option.none : Option Jvm.ClassFile.FieldType)) ∈ lw_all := lw_g (lw_at lw_m8 116 rfl) rfl
theorem q1915 : (Jvm.Cond.instanceMethod ({ cls := "ScheduleAnalyzer", name := "clear", desc := "(I)I" } : Jvm.MethodName)) ∈ lw_all := lw_g (lw_at lw_m8 121 rfl) rfl
theorem q1916 : (Jvm.Cond.selects "ScheduleAnalyzer" ({ cls := "ScheduleAnalyzer", name := "clear", desc := "(I)I" } : Jvm.MethodName) ({ cls := "ScheduleAnalyzer", name := "clear", desc := "(I)I" } : Jvm.MethodName)) ∈ lw_all := lw_g (lw_at lw_m8 122 rfl) rfl
theorem q1917 : (Jvm.Cond.code ({ cls := "ScheduleAnalyzer", name := "clear", desc := "(I)I" } : Jvm.MethodName) prog_1_method_29_code (3 : Nat) (Option.some Jvm.ClassFile.FieldType.int)) ∈ lw_all := lw_g (lw_at lw_m8 123 rfl) rfl
theorem q1918 : (Jvm.Cond.classLink "ScheduleAnalyzer" (202 : Nat) "java/util/ArrayList") ∈ lw_all := lw_g (lw_at lw_m8 124 rfl) rfl
theorem q1919 : (Jvm.Cond.methodLink "ScheduleAnalyzer" (204 : Nat) ({ cls := "java/util/ArrayList", name := "<init>", desc := "()V" } : Jvm.MethodName)) ∈ lw_all := lw_g (lw_at lw_m8 125 rfl) rfl
theorem q1925 : (Jvm.Cond.instanceMethod ({ cls := "ScheduleAnalyzer", name := "serialize", desc := "(II)I" } : Jvm.MethodName)) ∈ lw_all := lw_g (lw_at lw_m8 131 rfl) rfl
theorem q1926 : (Jvm.Cond.selects "ScheduleAnalyzer" ({ cls := "ScheduleAnalyzer", name := "serialize", desc := "(II)I" } : Jvm.MethodName) ({ cls := "ScheduleAnalyzer", name := "serialize", desc := "(II)I" } : Jvm.MethodName)) ∈ lw_all := lw_g (lw_at lw_m8 132 rfl) rfl
theorem q1927 : (Jvm.Cond.code ({ cls := "ScheduleAnalyzer", name := "serialize", desc := "(II)I" } : Jvm.MethodName) prog_1_method_30_code (4 : Nat) (Option.some Jvm.ClassFile.FieldType.int)) ∈ lw_all := lw_g (lw_at lw_m8 133 rfl) rfl
theorem q1928 : (Jvm.Cond.methodLink "ScheduleAnalyzer" (214 : Nat) ({ cls := "ScheduleAnalyzer", name := "checkSupported", desc := "(Z)V" } : Jvm.MethodName)) ∈ lw_all := lw_g (lw_at lw_m8 134 rfl) rfl
theorem q1929 : (Jvm.Cond.static ({ cls := "ScheduleAnalyzer", name := "checkSupported", desc := "(Z)V" } : Jvm.MethodName)) ∈ lw_all := lw_g (lw_at lw_m8 135 rfl) rfl
theorem q1930 : (Jvm.Cond.code ({ cls := "ScheduleAnalyzer", name := "checkSupported", desc := "(Z)V" } : Jvm.MethodName) prog_1_method_6_code (1 : Nat) (Option.none : Option Jvm.ClassFile.FieldType)) ∈ lw_all := lw_g (lw_at lw_m8 136 rfl) rfl
theorem q1931 : (Jvm.Cond.classLink "ScheduleAnalyzer" (49 : Nat) "java/lang/UnsupportedOperationException") ∈ lw_all := lw_g (lw_at lw_m8 137 rfl) rfl
theorem q1932 : (Jvm.Cond.methodLink "ScheduleAnalyzer" (51 : Nat) ({ cls := "java/lang/UnsupportedOperationException", name := "<init>", desc := "()V" } : Jvm.MethodName)) ∈ lw_all := lw_g (lw_at lw_m8 138 rfl) rfl
theorem q1933 : (Jvm.Cond.methodLink "ScheduleAnalyzer" (221 : Nat) ({ cls := "ScheduleAnalyzer$Graph", name := "firstOrder", desc := "()Ljava/util/List;" } : Jvm.MethodName)) ∈ lw_all := lw_g (lw_at lw_m8 139 rfl) rfl
theorem q1939 : (Jvm.Cond.methodLink "ScheduleAnalyzer" (225 : Nat) ({ cls := "ScheduleAnalyzer$Schedule", name := "arranged", desc := "(Ljava/util/List;)LScheduleAnalyzer$Schedule;" } : Jvm.MethodName)) ∈ lw_all := lw_g (lw_at lw_m8 145 rfl) rfl
theorem q1949 : (Jvm.Cond.instanceMethod ({ cls := "ScheduleAnalyzer", name := "lock", desc := "(II)I" } : Jvm.MethodName)) ∈ lw_all := lw_g (lw_at lw_m8 155 rfl) rfl
theorem q1950 : (Jvm.Cond.selects "ScheduleAnalyzer" ({ cls := "ScheduleAnalyzer", name := "lock", desc := "(II)I" } : Jvm.MethodName) ({ cls := "ScheduleAnalyzer", name := "lock", desc := "(II)I" } : Jvm.MethodName)) ∈ lw_all := lw_g (lw_at lw_m8 156 rfl) rfl
theorem q1951 : (Jvm.Cond.code ({ cls := "ScheduleAnalyzer", name := "lock", desc := "(II)I" } : Jvm.MethodName) prog_1_method_31_code (3 : Nat) (Option.some Jvm.ClassFile.FieldType.int)) ∈ lw_all := lw_g (lw_at lw_m8 157 rfl) rfl
theorem q1952 : (Jvm.Cond.classLink "ScheduleAnalyzer" (229 : Nat) "ScheduleAnalyzer$Locking") ∈ lw_all := lw_g (lw_at lw_m8 158 rfl) rfl
theorem q1954 : (Jvm.Cond.methodLink "ScheduleAnalyzer" (231 : Nat) ({ cls := "ScheduleAnalyzer$Locking", name := "<init>", desc := "(LScheduleAnalyzer$Schedule;)V" } : Jvm.MethodName)) ∈ lw_all := lw_g (lw_at lw_m8 160 rfl) rfl
theorem q2083 : (Jvm.Cond.fieldLinkNest "ScheduleAnalyzer" (234 : Nat) "ScheduleAnalyzer$Locking" "executed" "Ljava/util/List;" "ScheduleAnalyzer") ∈ lw_tbl := lw_at lw_m9 49 rfl
theorem q2086 : (Jvm.Cond.fieldLinkNest "ScheduleAnalyzer" (338 : Nat) "ScheduleAnalyzer$Locking" "victims" "I" "ScheduleAnalyzer") ∈ lw_tbl := lw_at lw_m9 52 rfl
theorem q2088 : (Jvm.Cond.fieldLinkNest "ScheduleAnalyzer" (335 : Nat) "ScheduleAnalyzer$Locking" "waited" "I" "ScheduleAnalyzer") ∈ lw_tbl := lw_at lw_m9 54 rfl
theorem q2102 : (Jvm.Cond.instanceMethod ({ cls := "ScheduleAnalyzer", name := "setValue", desc := "(CI)I" } : Jvm.MethodName)) ∈ lw_all := lw_g (lw_at lw_m9 68 rfl) rfl
theorem q2103 : (Jvm.Cond.selects "ScheduleAnalyzer" ({ cls := "ScheduleAnalyzer", name := "setValue", desc := "(CI)I" } : Jvm.MethodName) ({ cls := "ScheduleAnalyzer", name := "setValue", desc := "(CI)I" } : Jvm.MethodName)) ∈ lw_all := lw_g (lw_at lw_m9 69 rfl) rfl
theorem q2104 : (Jvm.Cond.code ({ cls := "ScheduleAnalyzer", name := "setValue", desc := "(CI)I" } : Jvm.MethodName) prog_1_method_32_code (4 : Nat) (Option.some Jvm.ClassFile.FieldType.int)) ∈ lw_all := lw_g (lw_at lw_m9 70 rfl) rfl
theorem q2109 : (Jvm.Cond.instanceMethod ({ cls := "ScheduleAnalyzer", name := "operationCount", desc := "(I)I" } : Jvm.MethodName)) ∈ lw_all := lw_g (lw_at lw_m9 75 rfl) rfl
theorem q2110 : (Jvm.Cond.selects "ScheduleAnalyzer" ({ cls := "ScheduleAnalyzer", name := "operationCount", desc := "(I)I" } : Jvm.MethodName) ({ cls := "ScheduleAnalyzer", name := "operationCount", desc := "(I)I" } : Jvm.MethodName)) ∈ lw_all := lw_g (lw_at lw_m9 76 rfl) rfl
theorem q2111 : (Jvm.Cond.code ({ cls := "ScheduleAnalyzer", name := "operationCount", desc := "(I)I" } : Jvm.MethodName) prog_1_method_33_code (2 : Nat) (Option.some Jvm.ClassFile.FieldType.int)) ∈ lw_all := lw_g (lw_at lw_m9 77 rfl) rfl
theorem q2116 : (Jvm.Cond.instanceMethod ({ cls := "ScheduleAnalyzer", name := "kindAt", desc := "(II)C" } : Jvm.MethodName)) ∈ lw_all := lw_g (lw_at lw_m9 82 rfl) rfl
theorem q2117 : (Jvm.Cond.selects "ScheduleAnalyzer" ({ cls := "ScheduleAnalyzer", name := "kindAt", desc := "(II)C" } : Jvm.MethodName) ({ cls := "ScheduleAnalyzer", name := "kindAt", desc := "(II)C" } : Jvm.MethodName)) ∈ lw_all := lw_g (lw_at lw_m9 83 rfl) rfl
theorem q2118 : (Jvm.Cond.code ({ cls := "ScheduleAnalyzer", name := "kindAt", desc := "(II)C" } : Jvm.MethodName) prog_1_method_34_code (3 : Nat) (Option.some Jvm.ClassFile.FieldType.char)) ∈ lw_all := lw_g (lw_at lw_m9 84 rfl) rfl
theorem q2123 : (Jvm.Cond.instanceMethod ({ cls := "ScheduleAnalyzer", name := "transactionAt", desc := "(II)I" } : Jvm.MethodName)) ∈ lw_all := lw_g (lw_at lw_m9 89 rfl) rfl
theorem q2124 : (Jvm.Cond.selects "ScheduleAnalyzer" ({ cls := "ScheduleAnalyzer", name := "transactionAt", desc := "(II)I" } : Jvm.MethodName) ({ cls := "ScheduleAnalyzer", name := "transactionAt", desc := "(II)I" } : Jvm.MethodName)) ∈ lw_all := lw_g (lw_at lw_m9 90 rfl) rfl
theorem q2125 : (Jvm.Cond.code ({ cls := "ScheduleAnalyzer", name := "transactionAt", desc := "(II)I" } : Jvm.MethodName) prog_1_method_35_code (3 : Nat) (Option.some Jvm.ClassFile.FieldType.int)) ∈ lw_all := lw_g (lw_at lw_m9 91 rfl) rfl
theorem q2131 : (Jvm.Cond.instanceMethod ({ cls := "ScheduleAnalyzer", name := "itemAt", desc := "(II)C" } : Jvm.MethodName)) ∈ lw_all := lw_g (lw_at lw_m9 97 rfl) rfl
theorem q2132 : (Jvm.Cond.selects "ScheduleAnalyzer" ({ cls := "ScheduleAnalyzer", name := "itemAt", desc := "(II)C" } : Jvm.MethodName) ({ cls := "ScheduleAnalyzer", name := "itemAt", desc := "(II)C" } : Jvm.MethodName)) ∈ lw_all := lw_g (lw_at lw_m9 98 rfl) rfl
theorem q2133 : (Jvm.Cond.code ({ cls := "ScheduleAnalyzer", name := "itemAt", desc := "(II)C" } : Jvm.MethodName) prog_1_method_36_code (4 : Nat) (Option.some Jvm.ClassFile.FieldType.char)) ∈ lw_all := lw_g (lw_at lw_m9 99 rfl) rfl
theorem q2134 : (Jvm.Cond.methodLink "ScheduleAnalyzer" (245 : Nat) ({ cls := "ScheduleAnalyzer$Operation", name := "isAccess", desc := "()Z" } : Jvm.MethodName)) ∈ lw_all := lw_g (lw_at lw_m9 100 rfl) rfl
theorem q2135 : (Jvm.Cond.methodLink "ScheduleAnalyzer" (248 : Nat) ({ cls := "ScheduleAnalyzer", name := "checkElement", desc := "(Z)V" } : Jvm.MethodName)) ∈ lw_all := lw_g (lw_at lw_m9 101 rfl) rfl
theorem q2136 : (Jvm.Cond.static ({ cls := "ScheduleAnalyzer", name := "checkElement", desc := "(Z)V" } : Jvm.MethodName)) ∈ lw_all := lw_g (lw_at lw_m9 102 rfl) rfl
theorem q2137 : (Jvm.Cond.code ({ cls := "ScheduleAnalyzer", name := "checkElement", desc := "(Z)V" } : Jvm.MethodName) prog_1_method_4_code (1 : Nat) (Option.none : Option Jvm.ClassFile.FieldType)) ∈ lw_all := lw_g (lw_at lw_m9 103 rfl) rfl
theorem q2138 : (Jvm.Cond.classLink "ScheduleAnalyzer" (43 : Nat) "java/util/NoSuchElementException") ∈ lw_all := lw_g (lw_at lw_m9 104 rfl) rfl
theorem q2139 : (Jvm.Cond.methodLink "ScheduleAnalyzer" (45 : Nat) ({ cls := "java/util/NoSuchElementException", name := "<init>", desc := "()V" } : Jvm.MethodName)) ∈ lw_all := lw_g (lw_at lw_m9 105 rfl) rfl
theorem q2144 : (Jvm.Cond.instanceMethod ({ cls := "ScheduleAnalyzer", name := "stateOf", desc := "(II)C" } : Jvm.MethodName)) ∈ lw_all := lw_g (lw_at lw_m9 110 rfl) rfl
theorem q2145 : (Jvm.Cond.selects "ScheduleAnalyzer" ({ cls := "ScheduleAnalyzer", name := "stateOf", desc := "(II)C" } : Jvm.MethodName) ({ cls := "ScheduleAnalyzer", name := "stateOf", desc := "(II)C" } : Jvm.MethodName)) ∈ lw_all := lw_g (lw_at lw_m9 111 rfl) rfl
theorem q2146 : (Jvm.Cond.code ({ cls := "ScheduleAnalyzer", name := "stateOf", desc := "(II)C" } : Jvm.MethodName) prog_1_method_38_code (4 : Nat) (Option.some Jvm.ClassFile.FieldType.char)) ∈ lw_all := lw_g (lw_at lw_m9 112 rfl) rfl
theorem q2147 : (Jvm.Cond.methodLink "ScheduleAnalyzer" (254 : Nat) ({ cls := "ScheduleAnalyzer", name := "scheduleFor", desc := "(II)LScheduleAnalyzer$Schedule;" } : Jvm.MethodName)) ∈ lw_all := lw_g (lw_at lw_m9 113 rfl) rfl
theorem q2148 : (Jvm.Cond.privateMethod ({ cls := "ScheduleAnalyzer", name := "scheduleFor", desc := "(II)LScheduleAnalyzer$Schedule;" } : Jvm.MethodName)) ∈ lw_tbl := lw_at lw_m9 114 rfl
theorem q2149 : (Jvm.Cond.instanceMethod ({ cls := "ScheduleAnalyzer", name := "scheduleFor", desc := "(II)LScheduleAnalyzer$Schedule;" } : Jvm.MethodName)) ∈ lw_all := lw_g (lw_at lw_m9 115 rfl) rfl
theorem q2150 : (Jvm.Cond.code ({ cls := "ScheduleAnalyzer", name := "scheduleFor", desc := "(II)LScheduleAnalyzer$Schedule;" } : Jvm.MethodName) prog_1_method_37_code (4 : Nat) (Option.some (Jvm.ClassFile.FieldType.object "ScheduleAnalyzer$Schedule"))) ∈ lw_all := lw_g (lw_at lw_m9 116 rfl) rfl
theorem q2151 : (Jvm.Cond.methodLink "ScheduleAnalyzer" (258 : Nat) ({ cls := "ScheduleAnalyzer$Schedule", name := "isAborted", desc := "(I)Z" } : Jvm.MethodName)) ∈ lw_all := lw_g (lw_at lw_m9 117 rfl) rfl
theorem q2152 : (Jvm.Cond.static ({ cls := "ScheduleAnalyzer", name := "lambda$stateOf$1", desc := "(ILScheduleAnalyzer$Operation;)Z" } : Jvm.MethodName)) ∈ lw_all := lw_g (lw_at lw_m9 118 rfl) rfl
theorem q2153 : (Jvm.Cond.code ({ cls := "ScheduleAnalyzer", name := "lambda$stateOf$1", desc := "(ILScheduleAnalyzer$Operation;)Z" } : Jvm.MethodName) prog_1_method_83_code (2 : Nat) (Option.some Jvm.ClassFile.FieldType.boolean)) ∈ lw_all := lw_g (lw_at lw_m9 119 rfl) rfl
theorem q2154 : (Jvm.Cond.methodLink "ScheduleAnalyzer" (262 : Nat) ({ cls := "ScheduleAnalyzer$Schedule", name := "has", desc := "(LScheduleAnalyzer$OperationTest;)Z" } : Jvm.MethodName)) ∈ lw_all := lw_g (lw_at lw_m9 120 rfl) rfl
theorem q2159 : (Jvm.Cond.instanceMethod ({ cls := "ScheduleAnalyzer", name := "conflictCount", desc := "(I)I" } : Jvm.MethodName)) ∈ lw_all := lw_g (lw_at lw_m9 125 rfl) rfl
theorem q2160 : (Jvm.Cond.selects "ScheduleAnalyzer" ({ cls := "ScheduleAnalyzer", name := "conflictCount", desc := "(I)I" } : Jvm.MethodName) ({ cls := "ScheduleAnalyzer", name := "conflictCount", desc := "(I)I" } : Jvm.MethodName)) ∈ lw_all := lw_g (lw_at lw_m9 126 rfl) rfl
theorem q2161 : (Jvm.Cond.code ({ cls := "ScheduleAnalyzer", name := "conflictCount", desc := "(I)I" } : Jvm.MethodName) prog_1_method_39_code (2 : Nat) (Option.some Jvm.ClassFile.FieldType.int)) ∈ lw_all := lw_g (lw_at lw_m9 127 rfl) rfl
theorem q2166 : (Jvm.Cond.instanceMethod ({ cls := "ScheduleAnalyzer", name := "conflictCountByItems", desc := "(I)I" } : Jvm.MethodName)) ∈ lw_all := lw_g (lw_at lw_m9 132 rfl) rfl
theorem q2167 : (Jvm.Cond.selects "ScheduleAnalyzer" ({ cls := "ScheduleAnalyzer", name := "conflictCountByItems", desc := "(I)I" } : Jvm.MethodName) ({ cls := "ScheduleAnalyzer", name := "conflictCountByItems", desc := "(I)I" } : Jvm.MethodName)) ∈ lw_all := lw_g (lw_at lw_m9 133 rfl) rfl
theorem q2168 : (Jvm.Cond.code ({ cls := "ScheduleAnalyzer", name := "conflictCountByItems", desc := "(I)I" } : Jvm.MethodName) prog_1_method_40_code (2 : Nat) (Option.some Jvm.ClassFile.FieldType.int)) ∈ lw_all := lw_g (lw_at lw_m9 134 rfl) rfl
theorem q2173 : (Jvm.Cond.instanceMethod ({ cls := "ScheduleAnalyzer", name := "comesBefore", desc := "(III)Z" } : Jvm.MethodName)) ∈ lw_all := lw_g (lw_at lw_m9 139 rfl) rfl
theorem q2174 : (Jvm.Cond.selects "ScheduleAnalyzer" ({ cls := "ScheduleAnalyzer", name := "comesBefore", desc := "(III)Z" } : Jvm.MethodName) ({ cls := "ScheduleAnalyzer", name := "comesBefore", desc := "(III)Z" } : Jvm.MethodName)) ∈ lw_all := lw_g (lw_at lw_m9 140 rfl) rfl
theorem q2175 : (Jvm.Cond.code ({ cls := "ScheduleAnalyzer", name := "comesBefore", desc := "(III)Z" } : Jvm.MethodName) prog_1_method_41_code (5 : Nat) (Option.some Jvm.ClassFile.FieldType.boolean)) ∈ lw_all := lw_g (lw_at lw_m9 141 rfl) rfl
theorem q2176 : (Jvm.Cond.methodLink "ScheduleAnalyzer" (272 : Nat) ({ cls := "java/lang/Integer", name := "valueOf", desc := "(I)Ljava/lang/Integer;" } : Jvm.MethodName)) ∈ lw_all := lw_g (lw_at lw_m9 142 rfl) rfl
theorem q2177 : (Jvm.Cond.methodLink "ScheduleAnalyzer" (278 : Nat) ({ cls := "ScheduleAnalyzer$Graph", name := "isConnected", desc := "(Ljava/lang/Comparable;Ljava/lang/Comparable;)Z" } : Jvm.MethodName)) ∈ lw_all := lw_g (lw_at lw_m9 143 rfl) rfl
theorem q2185 : (Jvm.Cond.instanceMethod ({ cls := "ScheduleAnalyzer", name := "isSerializable", desc := "(I)Z" } : Jvm.MethodName)) ∈ lw_all := lw_g (lw_at lw_m9 151 rfl) rfl
theorem q2186 : (Jvm.Cond.selects "ScheduleAnalyzer" ({ cls := "ScheduleAnalyzer", name := "isSerializable", desc := "(I)Z" } : Jvm.MethodName) ({ cls := "ScheduleAnalyzer", name := "isSerializable", desc := "(I)Z" } : Jvm.MethodName)) ∈ lw_all := lw_g (lw_at lw_m9 152 rfl) rfl
theorem q2187 : (Jvm.Cond.code ({ cls := "ScheduleAnalyzer", name := "isSerializable", desc := "(I)Z" } : Jvm.MethodName) prog_1_method_42_code (2 : Nat) (Option.some Jvm.ClassFile.FieldType.boolean)) ∈ lw_all := lw_g (lw_at lw_m9 153 rfl) rfl
theorem q2192 : (Jvm.Cond.instanceMethod ({ cls := "ScheduleAnalyzer", name := "isSerializableByWalks", desc := "(I)Z" } : Jvm.MethodName)) ∈ lw_all := lw_g (lw_at lw_m9 158 rfl) rfl
theorem q2193 : (Jvm.Cond.selects "ScheduleAnalyzer" ({ cls := "ScheduleAnalyzer", name := "isSerializableByWalks", desc := "(I)Z" } : Jvm.MethodName) ({ cls := "ScheduleAnalyzer", name := "isSerializableByWalks", desc := "(I)Z" } : Jvm.MethodName)) ∈ lw_all := lw_g (lw_at lw_m9 159 rfl) rfl
theorem q2194 : (Jvm.Cond.code ({ cls := "ScheduleAnalyzer", name := "isSerializableByWalks", desc := "(I)Z" } : Jvm.MethodName) prog_1_method_43_code (2 : Nat) (Option.some Jvm.ClassFile.FieldType.boolean)) ∈ lw_all := lw_g (lw_at lw_m9 160 rfl) rfl
theorem q2199 : (Jvm.Cond.instanceMethod ({ cls := "ScheduleAnalyzer", name := "serialOrders", desc := "(I)I" } : Jvm.MethodName)) ∈ lw_all := lw_g (lw_at lw_m9 165 rfl) rfl
theorem q2200 : (Jvm.Cond.selects "ScheduleAnalyzer" ({ cls := "ScheduleAnalyzer", name := "serialOrders", desc := "(I)I" } : Jvm.MethodName) ({ cls := "ScheduleAnalyzer", name := "serialOrders", desc := "(I)I" } : Jvm.MethodName)) ∈ lw_all := lw_g (lw_at lw_m9 166 rfl) rfl
theorem q2201 : (Jvm.Cond.code ({ cls := "ScheduleAnalyzer", name := "serialOrders", desc := "(I)I" } : Jvm.MethodName) prog_1_method_44_code (2 : Nat) (Option.some Jvm.ClassFile.FieldType.int)) ∈ lw_all := lw_g (lw_at lw_m9 167 rfl) rfl
theorem q2206 : (Jvm.Cond.instanceMethod ({ cls := "ScheduleAnalyzer", name := "serialOrdersByTrying", desc := "(I)I" } : Jvm.MethodName)) ∈ lw_all := lw_g (lw_at lw_m9 172 rfl) rfl
theorem q2207 : (Jvm.Cond.selects "ScheduleAnalyzer" ({ cls := "ScheduleAnalyzer", name := "serialOrdersByTrying", desc := "(I)I" } : Jvm.MethodName) ({ cls := "ScheduleAnalyzer", name := "serialOrdersByTrying", desc := "(I)I" } : Jvm.MethodName)) ∈ lw_all := lw_g (lw_at lw_m9 173 rfl) rfl
theorem q2208 : (Jvm.Cond.code ({ cls := "ScheduleAnalyzer", name := "serialOrdersByTrying", desc := "(I)I" } : Jvm.MethodName) prog_1_method_45_code (2 : Nat) (Option.some Jvm.ClassFile.FieldType.int)) ∈ lw_all := lw_g (lw_at lw_m9 174 rfl) rfl
theorem q2213 : (Jvm.Cond.instanceMethod ({ cls := "ScheduleAnalyzer", name := "serialAt", desc := "(II)I" } : Jvm.MethodName)) ∈ lw_all := lw_g (lw_at lw_m9 179 rfl) rfl
theorem q2214 : (Jvm.Cond.selects "ScheduleAnalyzer" ({ cls := "ScheduleAnalyzer", name := "serialAt", desc := "(II)I" } : Jvm.MethodName) ({ cls := "ScheduleAnalyzer", name := "serialAt", desc := "(II)I" } : Jvm.MethodName)) ∈ lw_all := lw_g (lw_at lw_m9 180 rfl) rfl
theorem q2215 : (Jvm.Cond.code ({ cls := "ScheduleAnalyzer", name := "serialAt", desc := "(II)I" } : Jvm.MethodName) prog_1_method_47_code (4 : Nat) (Option.some Jvm.ClassFile.FieldType.int)) ∈ lw_all := lw_g (lw_at lw_m9 181 rfl) rfl
theorem q2216 : (Jvm.Cond.methodLink "ScheduleAnalyzer" (292 : Nat) ({ cls := "ScheduleAnalyzer", name := "serialOrder", desc := "(I)Ljava/util/List;" } : Jvm.MethodName)) ∈ lw_all := lw_g (lw_at lw_m9 182 rfl) rfl
theorem q2217 : (Jvm.Cond.privateMethod ({ cls := "ScheduleAnalyzer", name := "serialOrder", desc := "(I)Ljava/util/List;" } : Jvm.MethodName)) ∈ lw_tbl := lw_at lw_m9 183 rfl
theorem q2218 : (Jvm.Cond.instanceMethod ({ cls := "ScheduleAnalyzer", name := "serialOrder", desc := "(I)Ljava/util/List;" } : Jvm.MethodName)) ∈ lw_all := lw_g (lw_at lw_m9 184 rfl) rfl
theorem q2219 : (Jvm.Cond.code ({ cls := "ScheduleAnalyzer", name := "serialOrder", desc := "(I)Ljava/util/List;" } : Jvm.MethodName) prog_1_method_46_code (3 : Nat) (Option.some (Jvm.ClassFile.FieldType.object "java/util/List"))) ∈ lw_all := lw_g (lw_at lw_m9 185 rfl) rfl
theorem q2220 : (Jvm.Cond.classLink "ScheduleAnalyzer" (273 : Nat) "java/lang/Integer") ∈ lw_all := lw_g (lw_at lw_m9 186 rfl) rfl
theorem q2221 : (Jvm.Cond.methodLink "ScheduleAnalyzer" (296 : Nat) ({ cls := "java/lang/Integer", name := "intValue", desc := "()I" } : Jvm.MethodName)) ∈ lw_all := lw_g (lw_at lw_m9 187 rfl) rfl
theorem q2226 : (Jvm.Cond.instanceMethod ({ cls := "ScheduleAnalyzer", name := "areEquivalent", desc := "(II)Z" } : Jvm.MethodName)) ∈ lw_all := lw_g (lw_at lw_m9 192 rfl) rfl
theorem q2227 : (Jvm.Cond.selects "ScheduleAnalyzer" ({ cls := "ScheduleAnalyzer", name := "areEquivalent", desc := "(II)Z" } : Jvm.MethodName) ({ cls := "ScheduleAnalyzer", name := "areEquivalent", desc := "(II)Z" } : Jvm.MethodName)) ∈ lw_all := lw_g (lw_at lw_m9 193 rfl) rfl
theorem q2228 : (Jvm.Cond.code ({ cls := "ScheduleAnalyzer", name := "areEquivalent", desc := "(II)Z" } : Jvm.MethodName) prog_1_method_48_code (3 : Nat) (Option.some Jvm.ClassFile.FieldType.boolean)) ∈ lw_all := lw_g (lw_at lw_m9 194 rfl) rfl
theorem q2229 : (Jvm.Cond.methodLink "ScheduleAnalyzer" (299 : Nat) ({ cls := "ScheduleAnalyzer$Schedule", name := "isEquivalentTo", desc := "(LScheduleAnalyzer$Schedule;)Z" } : Jvm.MethodName)) ∈ lw_all := lw_g (lw_at lw_m9 195 rfl) rfl
theorem q2252 : (Jvm.Cond.instanceMethod ({ cls := "ScheduleAnalyzer", name := "isViewSerializable", desc := "(I)Z" } : Jvm.MethodName)) ∈ lw_all := lw_g (lw_at lw_m9 218 rfl) rfl
theorem q2253 : (Jvm.Cond.selects "ScheduleAnalyzer" ({ cls := "ScheduleAnalyzer", name := "isViewSerializable", desc := "(I)Z" } : Jvm.MethodName) ({ cls := "ScheduleAnalyzer", name := "isViewSerializable", desc := "(I)Z" } : Jvm.MethodName)) ∈ lw_all := lw_g (lw_at lw_m9 219 rfl) rfl
theorem q2254 : (Jvm.Cond.code ({ cls := "ScheduleAnalyzer", name := "isViewSerializable", desc := "(I)Z" } : Jvm.MethodName) prog_1_method_50_code (2 : Nat) (Option.some Jvm.ClassFile.FieldType.boolean)) ∈ lw_all := lw_g (lw_at lw_m9 220 rfl) rfl
theorem q2259 : (Jvm.Cond.instanceMethod ({ cls := "ScheduleAnalyzer", name := "sourceOf", desc := "(II)I" } : Jvm.MethodName)) ∈ lw_all := lw_g (lw_at lw_m9 225 rfl) rfl
theorem q2260 : (Jvm.Cond.selects "ScheduleAnalyzer" ({ cls := "ScheduleAnalyzer", name := "sourceOf", desc := "(II)I" } : Jvm.MethodName) ({ cls := "ScheduleAnalyzer", name := "sourceOf", desc := "(II)I" } : Jvm.MethodName)) ∈ lw_all := lw_g (lw_at lw_m9 226 rfl) rfl
theorem q2261 : (Jvm.Cond.code ({ cls := "ScheduleAnalyzer", name := "sourceOf", desc := "(II)I" } : Jvm.MethodName) prog_1_method_51_code (4 : Nat) (Option.some Jvm.ClassFile.FieldType.int)) ∈ lw_all := lw_g (lw_at lw_m9 227 rfl) rfl
theorem q2262 : (Jvm.Cond.methodLink "ScheduleAnalyzer" (313 : Nat) ({ cls := "ScheduleAnalyzer$Schedule", name := "sourceOf", desc := "(I)I" } : Jvm.MethodName)) ∈ lw_all := lw_g (lw_at lw_m9 228 rfl) rfl
theorem q2267 : (Jvm.Cond.instanceMethod ({ cls := "ScheduleAnalyzer", name := "dirtyReads", desc := "(I)I" } : Jvm.MethodName)) ∈ lw_all := lw_g (lw_at lw_m9 233 rfl) rfl
theorem q2268 : (Jvm.Cond.selects "ScheduleAnalyzer" ({ cls := "ScheduleAnalyzer", name := "dirtyReads", desc := "(I)I" } : Jvm.MethodName) ({ cls := "ScheduleAnalyzer", name := "dirtyReads", desc := "(I)I" } : Jvm.MethodName)) ∈ lw_all := lw_g (lw_at lw_m9 234 rfl) rfl
theorem q2269 : (Jvm.Cond.code ({ cls := "ScheduleAnalyzer", name := "dirtyReads", desc := "(I)I" } : Jvm.MethodName) prog_1_method_52_code (2 : Nat) (Option.some Jvm.ClassFile.FieldType.int)) ∈ lw_all := lw_g (lw_at lw_m9 235 rfl) rfl
theorem q2274 : (Jvm.Cond.instanceMethod ({ cls := "ScheduleAnalyzer", name := "isRecoverable", desc := "(I)Z" } : Jvm.MethodName)) ∈ lw_all := lw_g (lw_at lw_m10 0 rfl) rfl
theorem q2275 : (Jvm.Cond.selects "ScheduleAnalyzer" ({ cls := "ScheduleAnalyzer", name := "isRecoverable", desc := "(I)Z" } : Jvm.MethodName) ({ cls := "ScheduleAnalyzer", name := "isRecoverable", desc := "(I)Z" } : Jvm.MethodName)) ∈ lw_all := lw_g (lw_at lw_m10 1 rfl) rfl
theorem q2276 : (Jvm.Cond.code ({ cls := "ScheduleAnalyzer", name := "isRecoverable", desc := "(I)Z" } : Jvm.MethodName) prog_1_method_53_code (2 : Nat) (Option.some Jvm.ClassFile.FieldType.boolean)) ∈ lw_all := lw_g (lw_at lw_m10 2 rfl) rfl
theorem q2281 : (Jvm.Cond.instanceMethod ({ cls := "ScheduleAnalyzer", name := "avoidsCascades", desc := "(I)Z" } : Jvm.MethodName)) ∈ lw_all := lw_g (lw_at lw_m10 7 rfl) rfl
theorem q2282 : (Jvm.Cond.selects "ScheduleAnalyzer" ({ cls := "ScheduleAnalyzer", name := "avoidsCascades", desc := "(I)Z" } : Jvm.MethodName) ({ cls := "ScheduleAnalyzer", name := "avoidsCascades", desc := "(I)Z" } : Jvm.MethodName)) ∈ lw_all := lw_g (lw_at lw_m10 8 rfl) rfl
theorem q2283 : (Jvm.Cond.code ({ cls := "ScheduleAnalyzer", name := "avoidsCascades", desc := "(I)Z" } : Jvm.MethodName) prog_1_method_54_code (2 : Nat) (Option.some Jvm.ClassFile.FieldType.boolean)) ∈ lw_all := lw_g (lw_at lw_m10 9 rfl) rfl
theorem q2288 : (Jvm.Cond.instanceMethod ({ cls := "ScheduleAnalyzer", name := "isStrict", desc := "(I)Z" } : Jvm.MethodName)) ∈ lw_all := lw_g (lw_at lw_m10 14 rfl) rfl
theorem q2289 : (Jvm.Cond.selects "ScheduleAnalyzer" ({ cls := "ScheduleAnalyzer", name := "isStrict", desc := "(I)Z" } : Jvm.MethodName) ({ cls := "ScheduleAnalyzer", name := "isStrict", desc := "(I)Z" } : Jvm.MethodName)) ∈ lw_all := lw_g (lw_at lw_m10 15 rfl) rfl
theorem q2290 : (Jvm.Cond.code ({ cls := "ScheduleAnalyzer", name := "isStrict", desc := "(I)Z" } : Jvm.MethodName) prog_1_method_55_code (2 : Nat) (Option.some Jvm.ClassFile.FieldType.boolean)) ∈ lw_all := lw_g (lw_at lw_m10 16 rfl) rfl
theorem q2295 : (Jvm.Cond.instanceMethod ({ cls := "ScheduleAnalyzer", name := "valueOf", desc := "(C)I" } : Jvm.MethodName)) ∈ lw_all := lw_g (lw_at lw_m10 21 rfl) rfl
theorem q2296 : (Jvm.Cond.selects "ScheduleAnalyzer" ({ cls := "ScheduleAnalyzer", name := "valueOf", desc := "(C)I" } : Jvm.MethodName) ({ cls := "ScheduleAnalyzer", name := "valueOf", desc := "(C)I" } : Jvm.MethodName)) ∈ lw_all := lw_g (lw_at lw_m10 22 rfl) rfl
theorem q2297 : (Jvm.Cond.code ({ cls := "ScheduleAnalyzer", name := "valueOf", desc := "(C)I" } : Jvm.MethodName) prog_1_method_56_code (2 : Nat) (Option.some Jvm.ClassFile.FieldType.int)) ∈ lw_all := lw_g (lw_at lw_m10 23 rfl) rfl
theorem q2302 : (Jvm.Cond.instanceMethod ({ cls := "ScheduleAnalyzer", name := "finalValue", desc := "(IC)I" } : Jvm.MethodName)) ∈ lw_all := lw_g (lw_at lw_m10 28 rfl) rfl
theorem q2303 : (Jvm.Cond.selects "ScheduleAnalyzer" ({ cls := "ScheduleAnalyzer", name := "finalValue", desc := "(IC)I" } : Jvm.MethodName) ({ cls := "ScheduleAnalyzer", name := "finalValue", desc := "(IC)I" } : Jvm.MethodName)) ∈ lw_all := lw_g (lw_at lw_m10 29 rfl) rfl
theorem q2304 : (Jvm.Cond.code ({ cls := "ScheduleAnalyzer", name := "finalValue", desc := "(IC)I" } : Jvm.MethodName) prog_1_method_57_code (4 : Nat) (Option.some Jvm.ClassFile.FieldType.int)) ∈ lw_all := lw_g (lw_at lw_m10 30 rfl) rfl
theorem q2309 : (Jvm.Cond.instanceMethod ({ cls := "ScheduleAnalyzer", name := "restValue", desc := "(IC)I" } : Jvm.MethodName)) ∈ lw_all := lw_g (lw_at lw_m10 35 rfl) rfl
theorem q2310 : (Jvm.Cond.selects "ScheduleAnalyzer" ({ cls := "ScheduleAnalyzer", name := "restValue", desc := "(IC)I" } : Jvm.MethodName) ({ cls := "ScheduleAnalyzer", name := "restValue", desc := "(IC)I" } : Jvm.MethodName)) ∈ lw_all := lw_g (lw_at lw_m10 36 rfl) rfl
theorem q2311 : (Jvm.Cond.code ({ cls := "ScheduleAnalyzer", name := "restValue", desc := "(IC)I" } : Jvm.MethodName) prog_1_method_58_code (4 : Nat) (Option.some Jvm.ClassFile.FieldType.int)) ∈ lw_all := lw_g (lw_at lw_m10 37 rfl) rfl
theorem q2316 : (Jvm.Cond.instanceMethod ({ cls := "ScheduleAnalyzer", name := "registerOf", desc := "(II)I" } : Jvm.MethodName)) ∈ lw_all := lw_g (lw_at lw_m10 42 rfl) rfl
theorem q2317 : (Jvm.Cond.selects "ScheduleAnalyzer" ({ cls := "ScheduleAnalyzer", name := "registerOf", desc := "(II)I" } : Jvm.MethodName) ({ cls := "ScheduleAnalyzer", name := "registerOf", desc := "(II)I" } : Jvm.MethodName)) ∈ lw_all := lw_g (lw_at lw_m10 43 rfl) rfl
theorem q2318 : (Jvm.Cond.code ({ cls := "ScheduleAnalyzer", name := "registerOf", desc := "(II)I" } : Jvm.MethodName) prog_1_method_59_code (4 : Nat) (Option.some Jvm.ClassFile.FieldType.int)) ∈ lw_all := lw_g (lw_at lw_m10 44 rfl) rfl
theorem q2319 : (Jvm.Cond.static ({ cls := "ScheduleAnalyzer", name := "lambda$registerOf$2", desc := "(ILScheduleAnalyzer$Operation;)Z" } : Jvm.MethodName)) ∈ lw_all := lw_g (lw_at lw_m10 45 rfl) rfl
theorem q2320 : (Jvm.Cond.code ({ cls := "ScheduleAnalyzer", name := "lambda$registerOf$2", desc := "(ILScheduleAnalyzer$Operation;)Z" } : Jvm.MethodName) prog_1_method_82_code (2 : Nat) (Option.some Jvm.ClassFile.FieldType.boolean)) ∈ lw_all := lw_g (lw_at lw_m10 46 rfl) rfl
theorem q2325 : (Jvm.Cond.instanceMethod ({ cls := "ScheduleAnalyzer", name := "waitingCount", desc := "(I)I" } : Jvm.MethodName)) ∈ lw_all := lw_g (lw_at lw_m10 51 rfl) rfl
theorem q2326 : (Jvm.Cond.selects "ScheduleAnalyzer" ({ cls := "ScheduleAnalyzer", name := "waitingCount", desc := "(I)I" } : Jvm.MethodName) ({ cls := "ScheduleAnalyzer", name := "waitingCount", desc := "(I)I" } : Jvm.MethodName)) ∈ lw_all := lw_g (lw_at lw_m10 52 rfl) rfl
theorem q2327 : (Jvm.Cond.code ({ cls := "ScheduleAnalyzer", name := "waitingCount", desc := "(I)I" } : Jvm.MethodName) prog_1_method_60_code (2 : Nat) (Option.some Jvm.ClassFile.FieldType.int)) ∈ lw_all := lw_g (lw_at lw_m10 53 rfl) rfl
theorem q2332 : (Jvm.Cond.instanceMethod ({ cls := "ScheduleAnalyzer", name := "victimCount", desc := "(I)I" } : Jvm.MethodName)) ∈ lw_all := lw_g (lw_at lw_m10 58 rfl) rfl
theorem q2333 : (Jvm.Cond.selects "ScheduleAnalyzer" ({ cls := "ScheduleAnalyzer", name := "victimCount", desc := "(I)I" } : Jvm.MethodName) ({ cls := "ScheduleAnalyzer", name := "victimCount", desc := "(I)I" } : Jvm.MethodName)) ∈ lw_all := lw_g (lw_at lw_m10 59 rfl) rfl
theorem q2334 : (Jvm.Cond.code ({ cls := "ScheduleAnalyzer", name := "victimCount", desc := "(I)I" } : Jvm.MethodName) prog_1_method_61_code (5 : Nat) (Option.some Jvm.ClassFile.FieldType.int)) ∈ lw_all := lw_g (lw_at lw_m10 60 rfl) rfl
theorem q2335 : (Jvm.Cond.methodLink "ScheduleAnalyzer" (341 : Nat) ({ cls := "ScheduleAnalyzer", name := "isIn", desc := "(II)Z" } : Jvm.MethodName)) ∈ lw_all := lw_g (lw_at lw_m10 61 rfl) rfl
theorem q2340 : (Jvm.Cond.instanceMethod ({ cls := "ScheduleAnalyzer", name := "isVictim", desc := "(II)Z" } : Jvm.MethodName)) ∈ lw_all := lw_g (lw_at lw_m10 66 rfl) rfl
theorem q2341 : (Jvm.Cond.selects "ScheduleAnalyzer" ({ cls := "ScheduleAnalyzer", name := "isVictim", desc := "(II)Z" } : Jvm.MethodName) ({ cls := "ScheduleAnalyzer", name := "isVictim", desc := "(II)Z" } : Jvm.MethodName)) ∈ lw_all := lw_g (lw_at lw_m10 67 rfl) rfl
theorem q2342 : (Jvm.Cond.code ({ cls := "ScheduleAnalyzer", name := "isVictim", desc := "(II)Z" } : Jvm.MethodName) prog_1_method_62_code (3 : Nat) (Option.some Jvm.ClassFile.FieldType.boolean)) ∈ lw_all := lw_g (lw_at lw_m10 68 rfl) rfl
theorem q2347 : (Jvm.Cond.instanceMethod ({ cls := "ScheduleAnalyzer", name := "slotByLength", desc := "(I)I" } : Jvm.MethodName)) ∈ lw_all := lw_g (lw_at lw_m10 73 rfl) rfl
theorem q2348 : (Jvm.Cond.selects "ScheduleAnalyzer" ({ cls := "ScheduleAnalyzer", name := "slotByLength", desc := "(I)I" } : Jvm.MethodName) ({ cls := "ScheduleAnalyzer", name := "slotByLength", desc := "(I)I" } : Jvm.MethodName)) ∈ lw_all := lw_g (lw_at lw_m10 74 rfl) rfl
theorem q2349 : (Jvm.Cond.code ({ cls := "ScheduleAnalyzer", name := "slotByLength", desc := "(I)I" } : Jvm.MethodName) prog_1_method_63_code (6 : Nat) (Option.some Jvm.ClassFile.FieldType.int)) ∈ lw_all := lw_g (lw_at lw_m10 75 rfl) rfl
theorem q2368 : (Jvm.Cond.instanceMethod ({ cls := "ScheduleAnalyzer", name := "meanLength", desc := "(I)D" } : Jvm.MethodName)) ∈ lw_all := lw_g (lw_at lw_m10 94 rfl) rfl
theorem q2369 : (Jvm.Cond.selects "ScheduleAnalyzer" ({ cls := "ScheduleAnalyzer", name := "meanLength", desc := "(I)D" } : Jvm.MethodName) ({ cls := "ScheduleAnalyzer", name := "meanLength", desc := "(I)D" } : Jvm.MethodName)) ∈ lw_all := lw_g (lw_at lw_m10 95 rfl) rfl
theorem q2370 : (Jvm.Cond.code ({ cls := "ScheduleAnalyzer", name := "meanLength", desc := "(I)D" } : Jvm.MethodName) prog_1_method_64_code (5 : Nat) (Option.some Jvm.ClassFile.FieldType.double)) ∈ lw_all := lw_g (lw_at lw_m10 96 rfl) rfl
theorem q2371 : (Jvm.Cond.methodLink "ScheduleAnalyzer" (344 : Nat) ({ cls := "ScheduleAnalyzer", name := "checkDefined", desc := "(Z)V" } : Jvm.MethodName)) ∈ lw_all := lw_g (lw_at lw_m10 97 rfl) rfl
theorem q2372 : (Jvm.Cond.static ({ cls := "ScheduleAnalyzer", name := "checkDefined", desc := "(Z)V" } : Jvm.MethodName)) ∈ lw_all := lw_g (lw_at lw_m10 98 rfl) rfl
theorem q2373 : (Jvm.Cond.code ({ cls := "ScheduleAnalyzer", name := "checkDefined", desc := "(Z)V" } : Jvm.MethodName) prog_1_method_7_code (1 : Nat) (Option.none : Option Jvm.ClassFile.FieldType)) ∈ lw_all := lw_g (lw_at lw_m10 99 rfl) rfl
theorem q2374 : (Jvm.Cond.classLink "ScheduleAnalyzer" (52 : Nat) "java/lang/ArithmeticException") ∈ lw_all := lw_g (lw_at lw_m10 100 rfl) rfl
theorem q2375 : (Jvm.Cond.methodLink "ScheduleAnalyzer" (54 : Nat) ({ cls := "java/lang/ArithmeticException", name := "<init>", desc := "()V" } : Jvm.MethodName)) ∈ lw_all := lw_g (lw_at lw_m10 101 rfl) rfl
theorem q2379 : (Jvm.Cond.classLink "ScheduleAnalyzer" (210 : Nat) "ScheduleAnalyzer$Graph") ∈ lw_all := lw_g (lw_at lw_m10 105 rfl) rfl
theorem q2380 : (Jvm.Cond.methodLink "ScheduleAnalyzer" (347 : Nat) ({ cls := "ScheduleAnalyzer$Schedule", name := "transactions", desc := "()Ljava/util/List;" } : Jvm.MethodName)) ∈ lw_all := lw_g (lw_at lw_m10 106 rfl) rfl
theorem q2381 : (Jvm.Cond.methodLink "ScheduleAnalyzer" (350 : Nat) ({ cls := "ScheduleAnalyzer$Graph", name := "<init>", desc := "(Ljava/util/List;)V" } : Jvm.MethodName)) ∈ lw_all := lw_g (lw_at lw_m10 107 rfl) rfl
theorem q2382 : (Jvm.Cond.methodLink "ScheduleAnalyzer" (351 : Nat) ({ cls := "ScheduleAnalyzer$Graph", name := "size", desc := "()I" } : Jvm.MethodName)) ∈ lw_all := lw_g (lw_at lw_m10 108 rfl) rfl
theorem q2387 : (Jvm.Cond.instanceMethod ({ cls := "ScheduleAnalyzer", name := "readShare", desc := "(I)F" } : Jvm.MethodName)) ∈ lw_all := lw_g (lw_at lw_m10 113 rfl) rfl
theorem q2388 : (Jvm.Cond.selects "ScheduleAnalyzer" ({ cls := "ScheduleAnalyzer", name := "readShare", desc := "(I)F" } : Jvm.MethodName) ({ cls := "ScheduleAnalyzer", name := "readShare", desc := "(I)F" } : Jvm.MethodName)) ∈ lw_all := lw_g (lw_at lw_m10 114 rfl) rfl
theorem q2389 : (Jvm.Cond.code ({ cls := "ScheduleAnalyzer", name := "readShare", desc := "(I)F" } : Jvm.MethodName) prog_1_method_65_code (5 : Nat) (Option.some Jvm.ClassFile.FieldType.float)) ∈ lw_all := lw_g (lw_at lw_m10 115 rfl) rfl
theorem q2390 : (Jvm.Cond.static ({ cls := "ScheduleAnalyzer", name := "lambda$readShare$3", desc := "(LScheduleAnalyzer$Operation;)Z" } : Jvm.MethodName)) ∈ lw_all := lw_g (lw_at lw_m10 116 rfl) rfl
theorem q2391 : (Jvm.Cond.code ({ cls := "ScheduleAnalyzer", name := "lambda$readShare$3", desc := "(LScheduleAnalyzer$Operation;)Z" } : Jvm.MethodName) prog_1_method_81_code (1 : Nat) (Option.some Jvm.ClassFile.FieldType.boolean)) ∈ lw_all := lw_g (lw_at lw_m10 117 rfl) rfl
theorem q2392 : (Jvm.Cond.methodLink "ScheduleAnalyzer" (355 : Nat) ({ cls := "ScheduleAnalyzer", name := "count", desc := "(Ljava/util/List;LScheduleAnalyzer$OperationTest;)I" } : Jvm.MethodName)) ∈ lw_all := lw_g (lw_at lw_m10 118 rfl) rfl
theorem q2393 : (Jvm.Cond.static ({ cls := "ScheduleAnalyzer", name := "lambda$readShare$4", desc := "(LScheduleAnalyzer$Operation;)Z" } : Jvm.MethodName)) ∈ lw_all := lw_g (lw_at lw_m10 119 rfl) rfl
theorem q2394 : (Jvm.Cond.code ({ cls := "ScheduleAnalyzer", name := "lambda$readShare$4", desc := "(LScheduleAnalyzer$Operation;)Z" } : Jvm.MethodName) prog_1_method_80_code (1 : Nat) (Option.some Jvm.ClassFile.FieldType.boolean)) ∈ lw_all := lw_g (lw_at lw_m10 120 rfl) rfl
theorem q2399 : (Jvm.Cond.instanceMethod ({ cls := "ScheduleAnalyzer", name := "format", desc := "(I)I" } : Jvm.MethodName)) ∈ lw_all := lw_g (lw_at lw_m10 125 rfl) rfl
theorem q2400 : (Jvm.Cond.selects "ScheduleAnalyzer" ({ cls := "ScheduleAnalyzer", name := "format", desc := "(I)I" } : Jvm.MethodName) ({ cls := "ScheduleAnalyzer", name := "format", desc := "(I)I" } : Jvm.MethodName)) ∈ lw_all := lw_g (lw_at lw_m10 126 rfl) rfl
theorem q2401 : (Jvm.Cond.code ({ cls := "ScheduleAnalyzer", name := "format", desc := "(I)I" } : Jvm.MethodName) prog_1_method_70_code (2 : Nat) (Option.some Jvm.ClassFile.FieldType.int)) ∈ lw_all := lw_g (lw_at lw_m10 127 rfl) rfl
theorem q2402 : (Jvm.Cond.methodLink "ScheduleAnalyzer" (373 : Nat) ({ cls := "ScheduleAnalyzer$Schedule", name := "toString", desc := "()Ljava/lang/String;" } : Jvm.MethodName)) ∈ lw_all := lw_g (lw_at lw_m10 128 rfl) rfl
theorem q2427 : (Jvm.Cond.selects "ScheduleAnalyzer" ({ cls := "java/lang/Object", name := "toString", desc := "()Ljava/lang/String;" } : Jvm.MethodName) ({ cls := "java/lang/Object", name := "toString", desc := "()Ljava/lang/String;" } : Jvm.MethodName)) ∈ lw_all := lw_g (lw_at lw_m10 153 rfl) rfl
theorem q2518 : (Jvm.Cond.methodLink "ScheduleAnalyzer" (374 : Nat) ({ cls := "ScheduleAnalyzer", name := "show", desc := "(Ljava/lang/String;)I" } : Jvm.MethodName)) ∈ lw_all := lw_g (lw_at lw_m11 4 rfl) rfl
theorem q2519 : (Jvm.Cond.privateMethod ({ cls := "ScheduleAnalyzer", name := "show", desc := "(Ljava/lang/String;)I" } : Jvm.MethodName)) ∈ lw_tbl := lw_at lw_m11 5 rfl
theorem q2520 : (Jvm.Cond.instanceMethod ({ cls := "ScheduleAnalyzer", name := "show", desc := "(Ljava/lang/String;)I" } : Jvm.MethodName)) ∈ lw_all := lw_g (lw_at lw_m11 6 rfl) rfl
theorem q2521 : (Jvm.Cond.code ({ cls := "ScheduleAnalyzer", name := "show", desc := "(Ljava/lang/String;)I" } : Jvm.MethodName) prog_1_method_69_code (2 : Nat) (Option.some Jvm.ClassFile.FieldType.int)) ∈ lw_all := lw_g (lw_at lw_m11 7 rfl) rfl
theorem q2522 : (Jvm.Cond.methodLink "ScheduleAnalyzer" (366 : Nat) ({ cls := "java/lang/StringBuilder", name := "append", desc := "(Ljava/lang/String;)Ljava/lang/StringBuilder;" } : Jvm.MethodName)) ∈ lw_all := lw_g (lw_at lw_m11 8 rfl) rfl
theorem q2527 : (Jvm.Cond.instanceMethod ({ cls := "ScheduleAnalyzer", name := "formatOrder", desc := "(I)I" } : Jvm.MethodName)) ∈ lw_all := lw_g (lw_at lw_m11 13 rfl) rfl
theorem q2528 : (Jvm.Cond.selects "ScheduleAnalyzer" ({ cls := "ScheduleAnalyzer", name := "formatOrder", desc := "(I)I" } : Jvm.MethodName) ({ cls := "ScheduleAnalyzer", name := "formatOrder", desc := "(I)I" } : Jvm.MethodName)) ∈ lw_all := lw_g (lw_at lw_m11 14 rfl) rfl
theorem q2529 : (Jvm.Cond.code ({ cls := "ScheduleAnalyzer", name := "formatOrder", desc := "(I)I" } : Jvm.MethodName) prog_1_method_71_code (5 : Nat) (Option.some Jvm.ClassFile.FieldType.int)) ∈ lw_all := lw_g (lw_at lw_m11 15 rfl) rfl
theorem q2530 : (Jvm.Cond.stringRef "ScheduleAnalyzer" (378 : Nat) "") ∈ lw_tbl := lw_at lw_m11 16 rfl
theorem q2531 : (Jvm.Cond.interfaceEntry "ScheduleAnalyzer" (380 : Nat)) ∈ lw_tbl := lw_at lw_m11 17 rfl
theorem q2532 : (Jvm.Cond.methodLink "ScheduleAnalyzer" (380 : Nat) ({ cls := "java/util/List", name := "iterator", desc := "()Ljava/util/Iterator;" } : Jvm.MethodName)) ∈ lw_all := lw_g (lw_at lw_m11 18 rfl) rfl
theorem q2533 : (Jvm.Cond.interfaceEntry "ScheduleAnalyzer" (384 : Nat)) ∈ lw_tbl := lw_at lw_m11 19 rfl
theorem q2534 : (Jvm.Cond.methodLink "ScheduleAnalyzer" (384 : Nat) ({ cls := "java/util/Iterator", name := "hasNext", desc := "()Z" } : Jvm.MethodName)) ∈ lw_all := lw_g (lw_at lw_m11 20 rfl) rfl
theorem q2535 : (Jvm.Cond.interfaceEntry "ScheduleAnalyzer" (389 : Nat)) ∈ lw_tbl := lw_at lw_m11 21 rfl
theorem q2536 : (Jvm.Cond.methodLink "ScheduleAnalyzer" (389 : Nat) ({ cls := "java/util/Iterator", name := "next", desc := "()Ljava/lang/Object;" } : Jvm.MethodName)) ∈ lw_all := lw_g (lw_at lw_m11 22 rfl) rfl
theorem q2537 : (Jvm.Cond.methodLink "ScheduleAnalyzer" (392 : Nat) ({ cls := "java/lang/String", name := "isEmpty", desc := "()Z" } : Jvm.MethodName)) ∈ lw_all := lw_g (lw_at lw_m11 23 rfl) rfl
theorem q2538 : (Jvm.Cond.stringRef "ScheduleAnalyzer" (397 : Nat) "<") ∈ lw_tbl := lw_at lw_m11 24 rfl
theorem q2539 : (Jvm.Cond.methodLink "ScheduleAnalyzer" (399 : Nat) ({ cls := "java/lang/StringBuilder", name := "append", desc := "(I)Ljava/lang/StringBuilder;" } : Jvm.MethodName)) ∈ lw_all := lw_g (lw_at lw_m11 25 rfl) rfl
theorem q2544 : (Jvm.Cond.instanceMethod ({ cls := "ScheduleAnalyzer", name := "lineChar", desc := "(I)C" } : Jvm.MethodName)) ∈ lw_all := lw_g (lw_at lw_m11 30 rfl) rfl
theorem q2545 : (Jvm.Cond.selects "ScheduleAnalyzer" ({ cls := "ScheduleAnalyzer", name := "lineChar", desc := "(I)C" } : Jvm.MethodName) ({ cls := "ScheduleAnalyzer", name := "lineChar", desc := "(I)C" } : Jvm.MethodName)) ∈ lw_all := lw_g (lw_at lw_m11 31 rfl) rfl
theorem q2546 : (Jvm.Cond.code ({ cls := "ScheduleAnalyzer", name := "lineChar", desc := "(I)C" } : Jvm.MethodName) prog_1_method_72_code (2 : Nat) (Option.some Jvm.ClassFile.FieldType.char)) ∈ lw_all := lw_g (lw_at lw_m11 32 rfl) rfl
theorem q2547 : (Jvm.Cond.methodLink "ScheduleAnalyzer" (402 : Nat) ({ cls := "java/lang/StringBuilder", name := "charAt", desc := "(I)C" } : Jvm.MethodName)) ∈ lw_all := lw_g (lw_at lw_m11 33 rfl) rfl
theorem q2561 : (Jvm.Cond.instanceMethod ({ cls := "ScheduleAnalyzer", name := "append", desc := "(C)I" } : Jvm.MethodName)) ∈ lw_all := lw_g (lw_at lw_m11 47 rfl) rfl
theorem q2562 : (Jvm.Cond.selects "ScheduleAnalyzer" ({ cls := "ScheduleAnalyzer", name := "append", desc := "(C)I" } : Jvm.MethodName) ({ cls := "ScheduleAnalyzer", name := "append", desc := "(C)I" } : Jvm.MethodName)) ∈ lw_all := lw_g (lw_at lw_m11 48 rfl) rfl
theorem q2563 : (Jvm.Cond.code ({ cls := "ScheduleAnalyzer", name := "append", desc := "(C)I" } : Jvm.MethodName) prog_1_method_73_code (2 : Nat) (Option.some Jvm.ClassFile.FieldType.int)) ∈ lw_all := lw_g (lw_at lw_m11 49 rfl) rfl
theorem q2564 : (Jvm.Cond.methodLink "ScheduleAnalyzer" (406 : Nat) ({ cls := "java/lang/StringBuilder", name := "append", desc := "(C)Ljava/lang/StringBuilder;" } : Jvm.MethodName)) ∈ lw_all := lw_g (lw_at lw_m11 50 rfl) rfl
theorem q2569 : (Jvm.Cond.instanceMethod ({ cls := "ScheduleAnalyzer", name := "errorPosition", desc := "()I" } : Jvm.MethodName)) ∈ lw_all := lw_g (lw_at lw_m11 55 rfl) rfl
theorem q2570 : (Jvm.Cond.selects "ScheduleAnalyzer" ({ cls := "ScheduleAnalyzer", name := "errorPosition", desc := "()I" } : Jvm.MethodName) ({ cls := "ScheduleAnalyzer", name := "errorPosition", desc := "()I" } : Jvm.MethodName)) ∈ lw_all := lw_g (lw_at lw_m11 56 rfl) rfl
theorem q2571 : (Jvm.Cond.code ({ cls := "ScheduleAnalyzer", name := "errorPosition", desc := "()I" } : Jvm.MethodName) prog_1_method_75_code (1 : Nat) (Option.some Jvm.ClassFile.FieldType.int)) ∈ lw_all := lw_g (lw_at lw_m11 57 rfl) rfl
theorem q2576 : (Jvm.Cond.instanceMethod ({ cls := "ScheduleAnalyzer", name := "undo", desc := "()I" } : Jvm.MethodName)) ∈ lw_all := lw_g (lw_at lw_m11 62 rfl) rfl
theorem q2577 : (Jvm.Cond.selects "ScheduleAnalyzer" ({ cls := "ScheduleAnalyzer", name := "undo", desc := "()I" } : Jvm.MethodName) ({ cls := "ScheduleAnalyzer", name := "undo", desc := "()I" } : Jvm.MethodName)) ∈ lw_all := lw_g (lw_at lw_m11 63 rfl) rfl
theorem q2578 : (Jvm.Cond.code ({ cls := "ScheduleAnalyzer", name := "undo", desc := "()I" } : Jvm.MethodName) prog_1_method_77_code (1 : Nat) (Option.some Jvm.ClassFile.FieldType.int)) ∈ lw_all := lw_g (lw_at lw_m11 64 rfl) rfl
theorem q2579 : (Jvm.Cond.methodLink "ScheduleAnalyzer" (409 : Nat) ({ cls := "java/util/ArrayDeque", name := "isEmpty", desc := "()Z" } : Jvm.MethodName)) ∈ lw_all := lw_g (lw_at lw_m11 65 rfl) rfl
theorem q2583 : (Jvm.Cond.methodLink "ScheduleAnalyzer" (410 : Nat) ({ cls := "java/util/ArrayDeque", name := "removeLast", desc := "()Ljava/lang/Object;" } : Jvm.MethodName)) ∈ lw_all := lw_g (lw_at lw_m11 69 rfl) rfl
theorem q2598 : (Jvm.Cond.instanceMethod ({ cls := "ScheduleAnalyzer", name := "restore", desc := "()I" } : Jvm.MethodName)) ∈ lw_all := lw_g (lw_at lw_m11 84 rfl) rfl
theorem q2599 : (Jvm.Cond.selects "ScheduleAnalyzer" ({ cls := "ScheduleAnalyzer", name := "restore", desc := "()I" } : Jvm.MethodName) ({ cls := "ScheduleAnalyzer", name := "restore", desc := "()I" } : Jvm.MethodName)) ∈ lw_all := lw_g (lw_at lw_m11 85 rfl) rfl
theorem q2600 : (Jvm.Cond.code ({ cls := "ScheduleAnalyzer", name := "restore", desc := "()I" } : Jvm.MethodName) prog_1_method_79_code (1 : Nat) (Option.some Jvm.ClassFile.FieldType.int)) ∈ lw_all := lw_g (lw_at lw_m11 86 rfl) rfl
theorem q2601 : (Jvm.Cond.methodLink "ScheduleAnalyzer" (419 : Nat) ({ cls := "java/util/ArrayDeque", name := "clear", desc := "()V" } : Jvm.MethodName)) ∈ lw_all := lw_g (lw_at lw_m11 87 rfl) rfl
theorem q3235 : (Jvm.Cond.castable "ScheduleAnalyzer" "java/lang/Object") ∈ lw_tbl := lw_at lw_m14 1 rfl
theorem in_X1 : ∀ w ∈ wsX10, w ∈ lw_all := lw_in wsX10 [845, 847, 849, 851, 853, 855] (by decide +kernel) (by decide +kernel)

/-! ScheduleAnalyzer$State -/
set_option maxRecDepth 100000
def RX2 : String := "ScheduleAnalyzer$State"
def TX2 : u_T := fun k => match k with
  | 0 => ("ScheduleAnalyzer$State", "slots", "[LScheduleAnalyzer$Schedule;", true)
  | _ => ("ScheduleAnalyzer$State", "values", "[I", false)
def tyX2 : Nat → FieldType := fun k => match k with
  | 0 => .array (.object "ScheduleAnalyzer$Schedule")
  | _ => .array .int
abbrev wsX20 : List Cond := u_ws RX2 TX2 2
theorem nmX2 : ∀ a, a < 2 → ∀ b, b < 2 → a ≠ b → (TX2 a).2.1 ≠ (TX2 b).2.1 := by decide +kernel
theorem tyX2_ok : ∀ k, k < 2 → parseFieldDescriptor (TX2 k).2.2.1 = some (tyX2 k) := by decide +kernel
abbrev cX2_init : ByteArray := prog_9_method_1_code
def yX2_init : MethodName := ⟨RX2, "<init>", "()V"⟩
def dkwX2_init_2 : List UInt8 := [132, 1, 1, 167, 255, 228, 177]
abbrev dktX2_init_2 : List UInt8 := dkwX2_init_2 ++ []
def dkwX2_init_1 : List UInt8 := [162, 0, 29, 42, 180, 0, 11, 27, 187, 0, 9, 89, 187, 0, 21, 89, 183, 0, 23, 183, 0, 24, 83]
abbrev dktX2_init_1 : List UInt8 := dkwX2_init_1 ++ dktX2_init_2
def dkwX2_init_0 : List UInt8 := [42, 183, 0, 3, 42, 7, 189, 0, 9, 181, 0, 11, 42, 7, 188, 10, 181, 0, 17, 3, 60, 27, 7]
abbrev dktX2_init_0 : List UInt8 := dkwX2_init_0 ++ dktX2_init_1
theorem dksX2_init_0 : cX2_init.data.toList.drop 0 = dktX2_init_0 := by decide +kernel
theorem dksX2_init_1 : cX2_init.data.toList.drop 23 = dktX2_init_1 := dk_seg dksX2_init_0 23 rfl rfl
theorem dksX2_init_2 : cX2_init.data.toList.drop 46 = dktX2_init_2 := dk_seg dksX2_init_1 23 rfl rfl
theorem dX2_init_0 : decode cX2_init 0 = .ok (.aload_n 0, 1) := dk_42 (dk_at dksX2_init_0 0 rfl rfl)
theorem dX2_init_1 : decode cX2_init 1 = .ok (.invokespecial 3, 3) := dk_183 0 3 (dk_at dksX2_init_0 1 rfl rfl)
theorem dX2_init_4 : decode cX2_init 4 = .ok (.aload_n 0, 1) := dk_42 (dk_at dksX2_init_0 4 rfl rfl)
theorem dX2_init_5 : decode cX2_init 5 = .ok (.iconst 4, 1) := dk_7 (dk_at dksX2_init_0 5 rfl rfl)
theorem dX2_init_6 : decode cX2_init 6 = .ok (.anewarray 9, 3) := dk_189 0 9 (dk_at dksX2_init_0 6 rfl rfl)
theorem dX2_init_9 : decode cX2_init 9 = .ok (.putfield 11, 3) := dk_181 0 11 (dk_at dksX2_init_0 9 rfl rfl)
theorem dX2_init_12 : decode cX2_init 12 = .ok (.aload_n 0, 1) := dk_42 (dk_at dksX2_init_0 12 rfl rfl)
theorem dX2_init_13 : decode cX2_init 13 = .ok (.iconst 4, 1) := dk_7 (dk_at dksX2_init_0 13 rfl rfl)
theorem dX2_init_14 : decode cX2_init 14 = .ok (.newarray .int, 2) := dk_188_10 (dk_at dksX2_init_0 14 rfl rfl)
theorem dX2_init_16 : decode cX2_init 16 = .ok (.putfield 17, 3) := dk_181 0 17 (dk_at dksX2_init_0 16 rfl rfl)
theorem dX2_init_19 : decode cX2_init 19 = .ok (.iconst 0, 1) := dk_3 (dk_at dksX2_init_0 19 rfl rfl)
theorem dX2_init_20 : decode cX2_init 20 = .ok (.istore_n 1, 1) := dk_60 (dk_at dksX2_init_0 20 rfl rfl)
theorem dX2_init_21 : decode cX2_init 21 = .ok (.iload_n 1, 1) := dk_27 (dk_at dksX2_init_0 21 rfl rfl)
theorem dX2_init_22 : decode cX2_init 22 = .ok (.iconst 4, 1) := dk_7 (dk_at dksX2_init_0 22 rfl rfl)
theorem dX2_init_23 : decode cX2_init 23 = .ok (.if_icmp .ge 29, 3) := dk_162 0 29 (dk_at dksX2_init_1 0 rfl rfl)
theorem dX2_init_26 : decode cX2_init 26 = .ok (.aload_n 0, 1) := dk_42 (dk_at dksX2_init_1 3 rfl rfl)
theorem dX2_init_27 : decode cX2_init 27 = .ok (.getfield 11, 3) := dk_180 0 11 (dk_at dksX2_init_1 4 rfl rfl)
theorem dX2_init_30 : decode cX2_init 30 = .ok (.iload_n 1, 1) := dk_27 (dk_at dksX2_init_1 7 rfl rfl)
theorem dX2_init_31 : decode cX2_init 31 = .ok (.new 9, 3) := dk_187 0 9 (dk_at dksX2_init_1 8 rfl rfl)
theorem dX2_init_34 : decode cX2_init 34 = .ok (.dup, 1) := dk_89 (dk_at dksX2_init_1 11 rfl rfl)
theorem dX2_init_35 : decode cX2_init 35 = .ok (.new 21, 3) := dk_187 0 21 (dk_at dksX2_init_1 12 rfl rfl)
theorem dX2_init_38 : decode cX2_init 38 = .ok (.dup, 1) := dk_89 (dk_at dksX2_init_1 15 rfl rfl)
theorem dX2_init_39 : decode cX2_init 39 = .ok (.invokespecial 23, 3) := dk_183 0 23 (dk_at dksX2_init_1 16 rfl rfl)
theorem dX2_init_42 : decode cX2_init 42 = .ok (.invokespecial 24, 3) := dk_183 0 24 (dk_at dksX2_init_1 19 rfl rfl)
theorem dX2_init_45 : decode cX2_init 45 = .ok (.aastore, 1) := dk_83 (dk_at dksX2_init_1 22 rfl rfl)
theorem dX2_init_46 : decode cX2_init 46 = .ok (.iinc 1 1, 3) := dk_132 1 1 (dk_at dksX2_init_2 0 rfl rfl)
theorem dX2_init_49 : decode cX2_init 49 = .ok (.goto (-28), 3) := dk_167 255 228 (dk_at dksX2_init_2 3 rfl rfl)
theorem dX2_init_52 : decode cX2_init 52 = .ok (.return_, 1) := dk_177 (dk_at dksX2_init_2 6 rfl rfl)
abbrev cX2_copy : ByteArray := prog_9_method_2_code
def yX2_copy : MethodName := ⟨RX2, "copy", "()LScheduleAnalyzer$State;"⟩
def dkwX2_copy_2 : List UInt8 := [176]
abbrev dktX2_copy_2 : List UInt8 := dkwX2_copy_2 ++ []
def dkwX2_copy_1 : List UInt8 := [28, 50, 83, 132, 2, 1, 167, 255, 236, 43, 42, 180, 0, 17, 182, 0, 28, 192, 0, 29, 181, 0, 17, 43]
abbrev dktX2_copy_1 : List UInt8 := dkwX2_copy_1 ++ dktX2_copy_2
def dkwX2_copy_0 : List UInt8 := [187, 0, 12, 89, 183, 0, 27, 76, 3, 61, 28, 7, 162, 0, 21, 43, 180, 0, 11, 28, 42, 180, 0, 11]
abbrev dktX2_copy_0 : List UInt8 := dkwX2_copy_0 ++ dktX2_copy_1
theorem dksX2_copy_0 : cX2_copy.data.toList.drop 0 = dktX2_copy_0 := by decide +kernel
theorem dksX2_copy_1 : cX2_copy.data.toList.drop 24 = dktX2_copy_1 := dk_seg dksX2_copy_0 24 rfl rfl
theorem dksX2_copy_2 : cX2_copy.data.toList.drop 48 = dktX2_copy_2 := dk_seg dksX2_copy_1 24 rfl rfl
theorem dX2_copy_0 : decode cX2_copy 0 = .ok (.new 12, 3) := dk_187 0 12 (dk_at dksX2_copy_0 0 rfl rfl)
theorem dX2_copy_3 : decode cX2_copy 3 = .ok (.dup, 1) := dk_89 (dk_at dksX2_copy_0 3 rfl rfl)
theorem dX2_copy_4 : decode cX2_copy 4 = .ok (.invokespecial 27, 3) := dk_183 0 27 (dk_at dksX2_copy_0 4 rfl rfl)
theorem dX2_copy_7 : decode cX2_copy 7 = .ok (.astore_n 1, 1) := dk_76 (dk_at dksX2_copy_0 7 rfl rfl)
theorem dX2_copy_8 : decode cX2_copy 8 = .ok (.iconst 0, 1) := dk_3 (dk_at dksX2_copy_0 8 rfl rfl)
theorem dX2_copy_9 : decode cX2_copy 9 = .ok (.istore_n 2, 1) := dk_61 (dk_at dksX2_copy_0 9 rfl rfl)
theorem dX2_copy_10 : decode cX2_copy 10 = .ok (.iload_n 2, 1) := dk_28 (dk_at dksX2_copy_0 10 rfl rfl)
theorem dX2_copy_11 : decode cX2_copy 11 = .ok (.iconst 4, 1) := dk_7 (dk_at dksX2_copy_0 11 rfl rfl)
theorem dX2_copy_12 : decode cX2_copy 12 = .ok (.if_icmp .ge 21, 3) := dk_162 0 21 (dk_at dksX2_copy_0 12 rfl rfl)
theorem dX2_copy_15 : decode cX2_copy 15 = .ok (.aload_n 1, 1) := dk_43 (dk_at dksX2_copy_0 15 rfl rfl)
theorem dX2_copy_16 : decode cX2_copy 16 = .ok (.getfield 11, 3) := dk_180 0 11 (dk_at dksX2_copy_0 16 rfl rfl)
theorem dX2_copy_19 : decode cX2_copy 19 = .ok (.iload_n 2, 1) := dk_28 (dk_at dksX2_copy_0 19 rfl rfl)
theorem dX2_copy_20 : decode cX2_copy 20 = .ok (.aload_n 0, 1) := dk_42 (dk_at dksX2_copy_0 20 rfl rfl)
theorem dX2_copy_21 : decode cX2_copy 21 = .ok (.getfield 11, 3) := dk_180 0 11 (dk_at dksX2_copy_0 21 rfl rfl)
theorem dX2_copy_24 : decode cX2_copy 24 = .ok (.iload_n 2, 1) := dk_28 (dk_at dksX2_copy_1 0 rfl rfl)
theorem dX2_copy_25 : decode cX2_copy 25 = .ok (.aaload, 1) := dk_50 (dk_at dksX2_copy_1 1 rfl rfl)
theorem dX2_copy_26 : decode cX2_copy 26 = .ok (.aastore, 1) := dk_83 (dk_at dksX2_copy_1 2 rfl rfl)
theorem dX2_copy_27 : decode cX2_copy 27 = .ok (.iinc 2 1, 3) := dk_132 2 1 (dk_at dksX2_copy_1 3 rfl rfl)
theorem dX2_copy_30 : decode cX2_copy 30 = .ok (.goto (-20), 3) := dk_167 255 236 (dk_at dksX2_copy_1 6 rfl rfl)
theorem dX2_copy_33 : decode cX2_copy 33 = .ok (.aload_n 1, 1) := dk_43 (dk_at dksX2_copy_1 9 rfl rfl)
theorem dX2_copy_34 : decode cX2_copy 34 = .ok (.aload_n 0, 1) := dk_42 (dk_at dksX2_copy_1 10 rfl rfl)
theorem dX2_copy_35 : decode cX2_copy 35 = .ok (.getfield 17, 3) := dk_180 0 17 (dk_at dksX2_copy_1 11 rfl rfl)
theorem dX2_copy_38 : decode cX2_copy 38 = .ok (.invokevirtual 28, 3) := dk_182 0 28 (dk_at dksX2_copy_1 14 rfl rfl)
theorem dX2_copy_41 : decode cX2_copy 41 = .ok (.checkcast 29, 3) := dk_192 0 29 (dk_at dksX2_copy_1 17 rfl rfl)
theorem dX2_copy_44 : decode cX2_copy 44 = .ok (.putfield 17, 3) := dk_181 0 17 (dk_at dksX2_copy_1 20 rfl rfl)
theorem dX2_copy_47 : decode cX2_copy 47 = .ok (.aload_n 1, 1) := dk_43 (dk_at dksX2_copy_1 23 rfl rfl)
theorem dX2_copy_48 : decode cX2_copy 48 = .ok (.areturn, 1) := dk_176 (dk_at dksX2_copy_2 0 rfl rfl)
abbrev cX2_countOperations : ByteArray := prog_9_method_3_code
def yX2_countOperations : MethodName := ⟨RX2, "countOperations", "()I"⟩
def dkwX2_countOperations_1 : List UInt8 := [58, 5, 27, 25, 5, 182, 0, 33, 96, 60, 132, 4, 1, 167, 255, 233, 27, 172]
abbrev dktX2_countOperations_1 : List UInt8 := dkwX2_countOperations_1 ++ []
def dkwX2_countOperations_0 : List UInt8 := [3, 60, 42, 180, 0, 11, 77, 44, 190, 62, 3, 54, 4, 21, 4, 29, 162, 0, 23, 44, 21, 4, 50]
abbrev dktX2_countOperations_0 : List UInt8 := dkwX2_countOperations_0 ++ dktX2_countOperations_1
theorem dksX2_countOperations_0 : cX2_countOperations.data.toList.drop 0 = dktX2_countOperations_0 := by decide +kernel
theorem dksX2_countOperations_1 : cX2_countOperations.data.toList.drop 23 = dktX2_countOperations_1 := dk_seg dksX2_countOperations_0 23 rfl rfl
theorem dX2_countOperations_0 : decode cX2_countOperations 0 = .ok (.iconst 0, 1) := dk_3 (dk_at dksX2_countOperations_0 0 rfl rfl)
theorem dX2_countOperations_1 : decode cX2_countOperations 1 = .ok (.istore_n 1, 1) := dk_60 (dk_at dksX2_countOperations_0 1 rfl rfl)
theorem dX2_countOperations_2 : decode cX2_countOperations 2 = .ok (.aload_n 0, 1) := dk_42 (dk_at dksX2_countOperations_0 2 rfl rfl)
theorem dX2_countOperations_3 : decode cX2_countOperations 3 = .ok (.getfield 11, 3) := dk_180 0 11 (dk_at dksX2_countOperations_0 3 rfl rfl)
theorem dX2_countOperations_6 : decode cX2_countOperations 6 = .ok (.astore_n 2, 1) := dk_77 (dk_at dksX2_countOperations_0 6 rfl rfl)
theorem dX2_countOperations_7 : decode cX2_countOperations 7 = .ok (.aload_n 2, 1) := dk_44 (dk_at dksX2_countOperations_0 7 rfl rfl)
theorem dX2_countOperations_8 : decode cX2_countOperations 8 = .ok (.arraylength, 1) := dk_190 (dk_at dksX2_countOperations_0 8 rfl rfl)
theorem dX2_countOperations_9 : decode cX2_countOperations 9 = .ok (.istore_n 3, 1) := dk_62 (dk_at dksX2_countOperations_0 9 rfl rfl)
theorem dX2_countOperations_10 : decode cX2_countOperations 10 = .ok (.iconst 0, 1) := dk_3 (dk_at dksX2_countOperations_0 10 rfl rfl)
theorem dX2_countOperations_11 : decode cX2_countOperations 11 = .ok (.istore 4, 2) := dk_54 4 (dk_at dksX2_countOperations_0 11 rfl rfl)
theorem dX2_countOperations_13 : decode cX2_countOperations 13 = .ok (.iload 4, 2) := dk_21 4 (dk_at dksX2_countOperations_0 13 rfl rfl)
theorem dX2_countOperations_15 : decode cX2_countOperations 15 = .ok (.iload_n 3, 1) := dk_29 (dk_at dksX2_countOperations_0 15 rfl rfl)
theorem dX2_countOperations_16 : decode cX2_countOperations 16 = .ok (.if_icmp .ge 23, 3) := dk_162 0 23 (dk_at dksX2_countOperations_0 16 rfl rfl)
theorem dX2_countOperations_19 : decode cX2_countOperations 19 = .ok (.aload_n 2, 1) := dk_44 (dk_at dksX2_countOperations_0 19 rfl rfl)
theorem dX2_countOperations_20 : decode cX2_countOperations 20 = .ok (.iload 4, 2) := dk_21 4 (dk_at dksX2_countOperations_0 20 rfl rfl)
theorem dX2_countOperations_22 : decode cX2_countOperations 22 = .ok (.aaload, 1) := dk_50 (dk_at dksX2_countOperations_0 22 rfl rfl)
theorem dX2_countOperations_23 : decode cX2_countOperations 23 = .ok (.astore 5, 2) := dk_58 5 (dk_at dksX2_countOperations_1 0 rfl rfl)
theorem dX2_countOperations_25 : decode cX2_countOperations 25 = .ok (.iload_n 1, 1) := dk_27 (dk_at dksX2_countOperations_1 2 rfl rfl)
theorem dX2_countOperations_26 : decode cX2_countOperations 26 = .ok (.aload 5, 2) := dk_25 5 (dk_at dksX2_countOperations_1 3 rfl rfl)
theorem dX2_countOperations_28 : decode cX2_countOperations 28 = .ok (.invokevirtual 33, 3) := dk_182 0 33 (dk_at dksX2_countOperations_1 5 rfl rfl)
theorem dX2_countOperations_31 : decode cX2_countOperations 31 = .ok (.iadd, 1) := dk_96 (dk_at dksX2_countOperations_1 8 rfl rfl)
theorem dX2_countOperations_32 : decode cX2_countOperations 32 = .ok (.istore_n 1, 1) := dk_60 (dk_at dksX2_countOperations_1 9 rfl rfl)
theorem dX2_countOperations_33 : decode cX2_countOperations 33 = .ok (.iinc 4 1, 3) := dk_132 4 1 (dk_at dksX2_countOperations_1 10 rfl rfl)
theorem dX2_countOperations_36 : decode cX2_countOperations 36 = .ok (.goto (-23), 3) := dk_167 255 233 (dk_at dksX2_countOperations_1 13 rfl rfl)
theorem dX2_countOperations_39 : decode cX2_countOperations 39 = .ok (.iload_n 1, 1) := dk_27 (dk_at dksX2_countOperations_1 16 rfl rfl)
theorem dX2_countOperations_40 : decode cX2_countOperations 40 = .ok (.ireturn, 1) := dk_172 (dk_at dksX2_countOperations_1 17 rfl rfl)
theorem q116 : (Jvm.Cond.initialized "ScheduleAnalyzer$State") ∈ lw_all := lw_g (lw_at lw_m1 2 rfl) rfl
theorem q174 : (Jvm.Cond.instantiable "ScheduleAnalyzer$State" (2 : Nat)) ∈ lw_all := lw_g (lw_at lw_m1 60 rfl) rfl
theorem q176 : (Jvm.Cond.instanceMethod ({ cls := "ScheduleAnalyzer$State", name := "<init>", desc := "()V" } : Jvm.MethodName)) ∈ lw_all := lw_g (lw_at lw_m1 62 rfl) rfl
theorem q177 : (Jvm.Cond.code ({ cls := "ScheduleAnalyzer$State", name := "<init>", desc := "()V" } : Jvm.MethodName) prog_9_method_1_code (2 : Nat) (Option.none : Option Jvm.ClassFile.FieldType)) ∈ lw_all := lw_g (lw_at lw_m1 63 rfl) rfl
theorem q178 : (Jvm.Cond.methodLink "ScheduleAnalyzer$State" (3 : Nat) ({ cls := "java/lang/Object", name := "<init>", desc := "()V" } : Jvm.MethodName)) ∈ lw_all := lw_g (lw_at lw_m1 64 rfl) rfl
theorem q179 : (Jvm.Cond.classLink "ScheduleAnalyzer$State" (9 : Nat) "ScheduleAnalyzer$Schedule") ∈ lw_all := lw_g (lw_at lw_m1 65 rfl) rfl
theorem q182 : (Jvm.Cond.classLink "ScheduleAnalyzer$State" (21 : Nat) "java/util/ArrayList") ∈ lw_all := lw_g (lw_at lw_m1 68 rfl) rfl
theorem q184 : (Jvm.Cond.methodLink "ScheduleAnalyzer$State" (23 : Nat) ({ cls := "java/util/ArrayList", name := "<init>", desc := "()V" } : Jvm.MethodName)) ∈ lw_all := lw_g (lw_at lw_m1 70 rfl) rfl
theorem q212 : (Jvm.Cond.methodLink "ScheduleAnalyzer$State" (24 : Nat) ({ cls := "ScheduleAnalyzer$Schedule", name := "<init>", desc := "(Ljava/util/List;)V" } : Jvm.MethodName)) ∈ lw_all := lw_g (lw_at lw_m1 98 rfl) rfl
theorem q748 : (Jvm.Cond.selects "ScheduleAnalyzer$State" ({ cls := "java/lang/Object", name := "getClass", desc := "()Ljava/lang/Class;" } : Jvm.MethodName) ({ cls := "java/lang/Object", name := "getClass", desc := "()Ljava/lang/Class;" } : Jvm.MethodName)) ∈ lw_all := lw_g (lw_at lw_m3 154 rfl) rfl
theorem q811 : (Jvm.Cond.fieldLink "ScheduleAnalyzer$State" (11 : Nat) "ScheduleAnalyzer$State" "slots" "[LScheduleAnalyzer$Schedule;") ∈ lw_all := lw_g (lw_at lw_m3 217 rfl) rfl
theorem q813 : (Jvm.Cond.fieldLink "ScheduleAnalyzer$State" (17 : Nat) "ScheduleAnalyzer$State" "values" "[I") ∈ lw_all := lw_g (lw_at lw_m3 219 rfl) rfl
theorem q815 : (Jvm.Cond.laysFinal "ScheduleAnalyzer$State" "ScheduleAnalyzer$State" "slots" "[LScheduleAnalyzer$Schedule;") ∈ lw_all := lw_g (lw_at lw_m3 221 rfl) rfl
theorem q816 : (Jvm.Cond.soleField "ScheduleAnalyzer$State" "slots") ∈ lw_all := lw_g (lw_at lw_m3 222 rfl) rfl
theorem q817 : (Jvm.Cond.lays "ScheduleAnalyzer$State" "ScheduleAnalyzer$State" "values" "[I") ∈ lw_all := lw_g (lw_at lw_m3 223 rfl) rfl
theorem q818 : (Jvm.Cond.soleField "ScheduleAnalyzer$State" "values") ∈ lw_all := lw_g (lw_at lw_m3 224 rfl) rfl
theorem q819 : (Jvm.Cond.superclass "ScheduleAnalyzer$State" "java/lang/Object") ∈ lw_all := lw_g (lw_at lw_m3 225 rfl) rfl
theorem q1546 : (Jvm.Cond.instanceMethod ({ cls := "ScheduleAnalyzer$State", name := "copy", desc := "()LScheduleAnalyzer$State;" } : Jvm.MethodName)) ∈ lw_all := lw_g (lw_at lw_m6 232 rfl) rfl
theorem q1547 : (Jvm.Cond.selects "ScheduleAnalyzer$State" ({ cls := "ScheduleAnalyzer$State", name := "copy", desc := "()LScheduleAnalyzer$State;" } : Jvm.MethodName) ({ cls := "ScheduleAnalyzer$State", name := "copy", desc := "()LScheduleAnalyzer$State;" } : Jvm.MethodName)) ∈ lw_all := lw_g (lw_at lw_m6 233 rfl) rfl
theorem q1548 : (Jvm.Cond.code ({ cls := "ScheduleAnalyzer$State", name := "copy", desc := "()LScheduleAnalyzer$State;" } : Jvm.MethodName) prog_9_method_2_code (3 : Nat) (Option.some (Jvm.ClassFile.FieldType.object "ScheduleAnalyzer$State"))) ∈ lw_all := lw_g (lw_at lw_m6 234 rfl) rfl
theorem q1549 : (Jvm.Cond.classLink "ScheduleAnalyzer$State" (12 : Nat) "ScheduleAnalyzer$State") ∈ lw_all := lw_g (lw_at lw_m6 235 rfl) rfl
theorem q1550 : (Jvm.Cond.methodLink "ScheduleAnalyzer$State" (27 : Nat) ({ cls := "ScheduleAnalyzer$State", name := "<init>", desc := "()V" } : Jvm.MethodName)) ∈ lw_all := lw_g (lw_at lw_m6 236 rfl) rfl
theorem q1551 : (Jvm.Cond.methodLink "ScheduleAnalyzer$State" (28 : Nat) ({ cls := "[I", name := "clone", desc := "()Ljava/lang/Object;" } : Jvm.MethodName)) ∈ lw_all := lw_g (lw_at lw_m6 237 rfl) rfl
theorem q1552 : (Jvm.Cond.classLink "ScheduleAnalyzer$State" (29 : Nat) "[I") ∈ lw_all := lw_g (lw_at lw_m6 238 rfl) rfl
theorem q1554 : (Jvm.Cond.instanceMethod ({ cls := "ScheduleAnalyzer$State", name := "countOperations", desc := "()I" } : Jvm.MethodName)) ∈ lw_all := lw_g (lw_at lw_m7 0 rfl) rfl
theorem q1555 : (Jvm.Cond.selects "ScheduleAnalyzer$State" ({ cls := "ScheduleAnalyzer$State", name := "countOperations", desc := "()I" } : Jvm.MethodName) ({ cls := "ScheduleAnalyzer$State", name := "countOperations", desc := "()I" } : Jvm.MethodName)) ∈ lw_all := lw_g (lw_at lw_m7 1 rfl) rfl
theorem q1556 : (Jvm.Cond.code ({ cls := "ScheduleAnalyzer$State", name := "countOperations", desc := "()I" } : Jvm.MethodName) prog_9_method_3_code (6 : Nat) (Option.some Jvm.ClassFile.FieldType.int)) ∈ lw_all := lw_g (lw_at lw_m7 2 rfl) rfl
theorem q1557 : (Jvm.Cond.methodLink "ScheduleAnalyzer$State" (33 : Nat) ({ cls := "ScheduleAnalyzer$Schedule", name := "size", desc := "()I" } : Jvm.MethodName)) ∈ lw_all := lw_g (lw_at lw_m7 3 rfl) rfl
theorem q1839 : (Jvm.Cond.selects "ScheduleAnalyzer$State" ({ cls := "java/lang/Object", name := "equals", desc := "(Ljava/lang/Object;)Z" } : Jvm.MethodName) ({ cls := "java/lang/Object", name := "equals", desc := "(Ljava/lang/Object;)Z" } : Jvm.MethodName)) ∈ lw_all := lw_g (lw_at lw_m8 45 rfl) rfl
theorem q2455 : (Jvm.Cond.selects "ScheduleAnalyzer$State" ({ cls := "java/lang/Object", name := "toString", desc := "()Ljava/lang/String;" } : Jvm.MethodName) ({ cls := "java/lang/Object", name := "toString", desc := "()Ljava/lang/String;" } : Jvm.MethodName)) ∈ lw_all := lw_g (lw_at lw_m10 181 rfl) rfl
theorem q3236 : (Jvm.Cond.castable "ScheduleAnalyzer$State" "java/lang/Object") ∈ lw_tbl := lw_at lw_m14 2 rfl
theorem in_X2 : ∀ w ∈ wsX20, w ∈ lw_all := lw_in wsX20 [815, 817] (by decide +kernel) (by decide +kernel)

/-! ScheduleAnalyzer$Schedule -/
set_option maxRecDepth 100000
def RX3 : String := "ScheduleAnalyzer$Schedule"
def TX3 : u_T := fun k => match k with
  | _ => ("ScheduleAnalyzer$Schedule", "operations", "Ljava/util/List;", true)
def tyX3 : Nat → FieldType := fun k => match k with
  | _ => .object "java/util/List"
abbrev wsX30 : List Cond := u_ws RX3 TX3 1
theorem nmX3 : ∀ a, a < 1 → ∀ b, b < 1 → a ≠ b → (TX3 a).2.1 ≠ (TX3 b).2.1 := by decide +kernel
theorem tyX3_ok : ∀ k, k < 1 → parseFieldDescriptor (TX3 k).2.2.1 = some (tyX3 k) := by decide +kernel
abbrev cX3_init : ByteArray := prog_8_method_1_code
def yX3_init : MethodName := ⟨RX3, "<init>", "(Ljava/util/List;)V"⟩
def dkwX3_init_2 : List UInt8 := [185, 0, 36, 2, 0, 87, 167, 255, 226, 177]
abbrev dktX3_init_2 : List UInt8 := dkwX3_init_2 ++ []
def dkwX3_init_1 : List UInt8 := [185, 0, 24, 1, 0, 153, 0, 27, 44, 185, 0, 30, 1, 0, 192, 0, 34, 78, 42, 180, 0, 12, 45]
abbrev dktX3_init_1 : List UInt8 := dkwX3_init_1 ++ dktX3_init_2
def dkwX3_init_0 : List UInt8 := [42, 183, 0, 3, 42, 187, 0, 9, 89, 183, 0, 11, 181, 0, 12, 43, 185, 0, 18, 1, 0, 77, 44]
abbrev dktX3_init_0 : List UInt8 := dkwX3_init_0 ++ dktX3_init_1
theorem dksX3_init_0 : cX3_init.data.toList.drop 0 = dktX3_init_0 := by decide +kernel
theorem dksX3_init_1 : cX3_init.data.toList.drop 23 = dktX3_init_1 := dk_seg dksX3_init_0 23 rfl rfl
theorem dksX3_init_2 : cX3_init.data.toList.drop 46 = dktX3_init_2 := dk_seg dksX3_init_1 23 rfl rfl
theorem dX3_init_0 : decode cX3_init 0 = .ok (.aload_n 0, 1) := dk_42 (dk_at dksX3_init_0 0 rfl rfl)
theorem dX3_init_1 : decode cX3_init 1 = .ok (.invokespecial 3, 3) := dk_183 0 3 (dk_at dksX3_init_0 1 rfl rfl)
theorem dX3_init_4 : decode cX3_init 4 = .ok (.aload_n 0, 1) := dk_42 (dk_at dksX3_init_0 4 rfl rfl)
theorem dX3_init_5 : decode cX3_init 5 = .ok (.new 9, 3) := dk_187 0 9 (dk_at dksX3_init_0 5 rfl rfl)
theorem dX3_init_8 : decode cX3_init 8 = .ok (.dup, 1) := dk_89 (dk_at dksX3_init_0 8 rfl rfl)
theorem dX3_init_9 : decode cX3_init 9 = .ok (.invokespecial 11, 3) := dk_183 0 11 (dk_at dksX3_init_0 9 rfl rfl)
theorem dX3_init_12 : decode cX3_init 12 = .ok (.putfield 12, 3) := dk_181 0 12 (dk_at dksX3_init_0 12 rfl rfl)
theorem dX3_init_15 : decode cX3_init 15 = .ok (.aload_n 1, 1) := dk_43 (dk_at dksX3_init_0 15 rfl rfl)
theorem dX3_init_16 : decode cX3_init 16 = .ok (.invokeinterface 18 1, 5) := by decide +kernel
theorem dX3_init_21 : decode cX3_init 21 = .ok (.astore_n 2, 1) := dk_77 (dk_at dksX3_init_0 21 rfl rfl)
theorem dX3_init_22 : decode cX3_init 22 = .ok (.aload_n 2, 1) := dk_44 (dk_at dksX3_init_0 22 rfl rfl)
theorem dX3_init_23 : decode cX3_init 23 = .ok (.invokeinterface 24 1, 5) := by decide +kernel
theorem dX3_init_28 : decode cX3_init 28 = .ok (.ifCond .eq 27, 3) := dk_153 0 27 (dk_at dksX3_init_1 5 rfl rfl)
theorem dX3_init_31 : decode cX3_init 31 = .ok (.aload_n 2, 1) := dk_44 (dk_at dksX3_init_1 8 rfl rfl)
theorem dX3_init_32 : decode cX3_init 32 = .ok (.invokeinterface 30 1, 5) := by decide +kernel
theorem dX3_init_37 : decode cX3_init 37 = .ok (.checkcast 34, 3) := dk_192 0 34 (dk_at dksX3_init_1 14 rfl rfl)
theorem dX3_init_40 : decode cX3_init 40 = .ok (.astore_n 3, 1) := dk_78 (dk_at dksX3_init_1 17 rfl rfl)
theorem dX3_init_41 : decode cX3_init 41 = .ok (.aload_n 0, 1) := dk_42 (dk_at dksX3_init_1 18 rfl rfl)
theorem dX3_init_42 : decode cX3_init 42 = .ok (.getfield 12, 3) := dk_180 0 12 (dk_at dksX3_init_1 19 rfl rfl)
theorem dX3_init_45 : decode cX3_init 45 = .ok (.aload_n 3, 1) := dk_45 (dk_at dksX3_init_1 22 rfl rfl)
theorem dX3_init_46 : decode cX3_init 46 = .ok (.invokeinterface 36 2, 5) := by decide +kernel
theorem dX3_init_51 : decode cX3_init 51 = .ok (.pop, 1) := dk_87 (dk_at dksX3_init_2 5 rfl rfl)
theorem dX3_init_52 : decode cX3_init 52 = .ok (.goto (-30), 3) := dk_167 255 226 (dk_at dksX3_init_2 6 rfl rfl)
theorem dX3_init_55 : decode cX3_init 55 = .ok (.return_, 1) := dk_177 (dk_at dksX3_init_2 9 rfl rfl)
abbrev cX3_graph : ByteArray := prog_8_method_11_code
def yX3_graph : MethodName := ⟨RX3, "graph", "()LScheduleAnalyzer$Graph;"⟩
def dkwX3_graph_4 : List UInt8 := [182, 0, 101, 132, 4, 1, 167, 255, 186, 132, 3, 1, 167, 255, 169, 44, 176]
abbrev dktX3_graph_4 : List UInt8 := dkwX3_graph_4 ++ []
def dkwX3_graph_3 : List UInt8 := [182, 0, 97, 153, 0, 23, 44, 25, 5, 180, 0, 72, 184, 0, 80, 25, 6, 180, 0, 72, 184, 0, 80]
abbrev dktX3_graph_3 : List UInt8 := dkwX3_graph_3 ++ dktX3_graph_4
def dkwX3_graph_2 : List UInt8 := [192, 0, 34, 58, 5, 43, 180, 0, 12, 29, 185, 0, 61, 2, 0, 192, 0, 34, 58, 6, 25, 5, 25, 6]
abbrev dktX3_graph_2 : List UInt8 := dkwX3_graph_2 ++ dktX3_graph_3
def dkwX3_graph_1 : List UInt8 := [162, 0, 85, 3, 54, 4, 21, 4, 29, 162, 0, 70, 43, 180, 0, 12, 21, 4, 185, 0, 61, 2, 0]
abbrev dktX3_graph_1 : List UInt8 := dkwX3_graph_1 ++ dktX3_graph_2
def dkwX3_graph_0 : List UInt8 := [42, 182, 0, 86, 76, 187, 0, 90, 89, 43, 182, 0, 92, 183, 0, 96, 77, 3, 62, 29, 43, 182, 0, 44]
abbrev dktX3_graph_0 : List UInt8 := dkwX3_graph_0 ++ dktX3_graph_1
theorem dksX3_graph_0 : cX3_graph.data.toList.drop 0 = dktX3_graph_0 := by decide +kernel
theorem dksX3_graph_1 : cX3_graph.data.toList.drop 24 = dktX3_graph_1 := dk_seg dksX3_graph_0 24 rfl rfl
theorem dksX3_graph_2 : cX3_graph.data.toList.drop 47 = dktX3_graph_2 := dk_seg dksX3_graph_1 23 rfl rfl
theorem dksX3_graph_3 : cX3_graph.data.toList.drop 71 = dktX3_graph_3 := dk_seg dksX3_graph_2 24 rfl rfl
theorem dksX3_graph_4 : cX3_graph.data.toList.drop 94 = dktX3_graph_4 := dk_seg dksX3_graph_3 23 rfl rfl
theorem dX3_graph_0 : decode cX3_graph 0 = .ok (.aload_n 0, 1) := dk_42 (dk_at dksX3_graph_0 0 rfl rfl)
theorem dX3_graph_1 : decode cX3_graph 1 = .ok (.invokevirtual 86, 3) := dk_182 0 86 (dk_at dksX3_graph_0 1 rfl rfl)
theorem dX3_graph_4 : decode cX3_graph 4 = .ok (.astore_n 1, 1) := dk_76 (dk_at dksX3_graph_0 4 rfl rfl)
theorem dX3_graph_5 : decode cX3_graph 5 = .ok (.new 90, 3) := dk_187 0 90 (dk_at dksX3_graph_0 5 rfl rfl)
theorem dX3_graph_8 : decode cX3_graph 8 = .ok (.dup, 1) := dk_89 (dk_at dksX3_graph_0 8 rfl rfl)
theorem dX3_graph_9 : decode cX3_graph 9 = .ok (.aload_n 1, 1) := dk_43 (dk_at dksX3_graph_0 9 rfl rfl)
theorem dX3_graph_10 : decode cX3_graph 10 = .ok (.invokevirtual 92, 3) := dk_182 0 92 (dk_at dksX3_graph_0 10 rfl rfl)
theorem dX3_graph_13 : decode cX3_graph 13 = .ok (.invokespecial 96, 3) := dk_183 0 96 (dk_at dksX3_graph_0 13 rfl rfl)
theorem dX3_graph_16 : decode cX3_graph 16 = .ok (.astore_n 2, 1) := dk_77 (dk_at dksX3_graph_0 16 rfl rfl)
theorem dX3_graph_17 : decode cX3_graph 17 = .ok (.iconst 0, 1) := dk_3 (dk_at dksX3_graph_0 17 rfl rfl)
theorem dX3_graph_18 : decode cX3_graph 18 = .ok (.istore_n 3, 1) := dk_62 (dk_at dksX3_graph_0 18 rfl rfl)
theorem dX3_graph_19 : decode cX3_graph 19 = .ok (.iload_n 3, 1) := dk_29 (dk_at dksX3_graph_0 19 rfl rfl)
theorem dX3_graph_20 : decode cX3_graph 20 = .ok (.aload_n 1, 1) := dk_43 (dk_at dksX3_graph_0 20 rfl rfl)
theorem dX3_graph_21 : decode cX3_graph 21 = .ok (.invokevirtual 44, 3) := dk_182 0 44 (dk_at dksX3_graph_0 21 rfl rfl)
theorem dX3_graph_24 : decode cX3_graph 24 = .ok (.if_icmp .ge 85, 3) := dk_162 0 85 (dk_at dksX3_graph_1 0 rfl rfl)
theorem dX3_graph_27 : decode cX3_graph 27 = .ok (.iconst 0, 1) := dk_3 (dk_at dksX3_graph_1 3 rfl rfl)
theorem dX3_graph_28 : decode cX3_graph 28 = .ok (.istore 4, 2) := dk_54 4 (dk_at dksX3_graph_1 4 rfl rfl)
theorem dX3_graph_30 : decode cX3_graph 30 = .ok (.iload 4, 2) := dk_21 4 (dk_at dksX3_graph_1 6 rfl rfl)
theorem dX3_graph_32 : decode cX3_graph 32 = .ok (.iload_n 3, 1) := dk_29 (dk_at dksX3_graph_1 8 rfl rfl)
theorem dX3_graph_33 : decode cX3_graph 33 = .ok (.if_icmp .ge 70, 3) := dk_162 0 70 (dk_at dksX3_graph_1 9 rfl rfl)
theorem dX3_graph_36 : decode cX3_graph 36 = .ok (.aload_n 1, 1) := dk_43 (dk_at dksX3_graph_1 12 rfl rfl)
theorem dX3_graph_37 : decode cX3_graph 37 = .ok (.getfield 12, 3) := dk_180 0 12 (dk_at dksX3_graph_1 13 rfl rfl)
theorem dX3_graph_40 : decode cX3_graph 40 = .ok (.iload 4, 2) := dk_21 4 (dk_at dksX3_graph_1 16 rfl rfl)
theorem dX3_graph_42 : decode cX3_graph 42 = .ok (.invokeinterface 61 2, 5) := by decide +kernel
theorem dX3_graph_47 : decode cX3_graph 47 = .ok (.checkcast 34, 3) := dk_192 0 34 (dk_at dksX3_graph_2 0 rfl rfl)
theorem dX3_graph_50 : decode cX3_graph 50 = .ok (.astore 5, 2) := dk_58 5 (dk_at dksX3_graph_2 3 rfl rfl)
theorem dX3_graph_52 : decode cX3_graph 52 = .ok (.aload_n 1, 1) := dk_43 (dk_at dksX3_graph_2 5 rfl rfl)
theorem dX3_graph_53 : decode cX3_graph 53 = .ok (.getfield 12, 3) := dk_180 0 12 (dk_at dksX3_graph_2 6 rfl rfl)
theorem dX3_graph_56 : decode cX3_graph 56 = .ok (.iload_n 3, 1) := dk_29 (dk_at dksX3_graph_2 9 rfl rfl)
theorem dX3_graph_57 : decode cX3_graph 57 = .ok (.invokeinterface 61 2, 5) := by decide +kernel
theorem dX3_graph_62 : decode cX3_graph 62 = .ok (.checkcast 34, 3) := dk_192 0 34 (dk_at dksX3_graph_2 15 rfl rfl)
theorem dX3_graph_65 : decode cX3_graph 65 = .ok (.astore 6, 2) := dk_58 6 (dk_at dksX3_graph_2 18 rfl rfl)
theorem dX3_graph_67 : decode cX3_graph 67 = .ok (.aload 5, 2) := dk_25 5 (dk_at dksX3_graph_2 20 rfl rfl)
theorem dX3_graph_69 : decode cX3_graph 69 = .ok (.aload 6, 2) := dk_25 6 (dk_at dksX3_graph_2 22 rfl rfl)
theorem dX3_graph_71 : decode cX3_graph 71 = .ok (.invokevirtual 97, 3) := dk_182 0 97 (dk_at dksX3_graph_3 0 rfl rfl)
theorem dX3_graph_74 : decode cX3_graph 74 = .ok (.ifCond .eq 23, 3) := dk_153 0 23 (dk_at dksX3_graph_3 3 rfl rfl)
theorem dX3_graph_77 : decode cX3_graph 77 = .ok (.aload_n 2, 1) := dk_44 (dk_at dksX3_graph_3 6 rfl rfl)
theorem dX3_graph_78 : decode cX3_graph 78 = .ok (.aload 5, 2) := dk_25 5 (dk_at dksX3_graph_3 7 rfl rfl)
theorem dX3_graph_80 : decode cX3_graph 80 = .ok (.getfield 72, 3) := dk_180 0 72 (dk_at dksX3_graph_3 9 rfl rfl)
theorem dX3_graph_83 : decode cX3_graph 83 = .ok (.invokestatic 80, 3) := dk_184 0 80 (dk_at dksX3_graph_3 12 rfl rfl)
theorem dX3_graph_86 : decode cX3_graph 86 = .ok (.aload 6, 2) := dk_25 6 (dk_at dksX3_graph_3 15 rfl rfl)
theorem dX3_graph_88 : decode cX3_graph 88 = .ok (.getfield 72, 3) := dk_180 0 72 (dk_at dksX3_graph_3 17 rfl rfl)
theorem dX3_graph_91 : decode cX3_graph 91 = .ok (.invokestatic 80, 3) := dk_184 0 80 (dk_at dksX3_graph_3 20 rfl rfl)
theorem dX3_graph_94 : decode cX3_graph 94 = .ok (.invokevirtual 101, 3) := dk_182 0 101 (dk_at dksX3_graph_4 0 rfl rfl)
theorem dX3_graph_97 : decode cX3_graph 97 = .ok (.iinc 4 1, 3) := dk_132 4 1 (dk_at dksX3_graph_4 3 rfl rfl)
theorem dX3_graph_100 : decode cX3_graph 100 = .ok (.goto (-70), 3) := dk_167 255 186 (dk_at dksX3_graph_4 6 rfl rfl)
theorem dX3_graph_103 : decode cX3_graph 103 = .ok (.iinc 3 1, 3) := dk_132 3 1 (dk_at dksX3_graph_4 9 rfl rfl)
theorem dX3_graph_106 : decode cX3_graph 106 = .ok (.goto (-87), 3) := dk_167 255 169 (dk_at dksX3_graph_4 12 rfl rfl)
theorem dX3_graph_109 : decode cX3_graph 109 = .ok (.aload_n 2, 1) := dk_44 (dk_at dksX3_graph_4 15 rfl rfl)
theorem dX3_graph_110 : decode cX3_graph 110 = .ok (.areturn, 1) := dk_176 (dk_at dksX3_graph_4 16 rfl rfl)
abbrev cX3_rest : ByteArray := prog_8_method_9_code
def yX3_rest : MethodName := ⟨RX3, "rest", "()LScheduleAnalyzer$Schedule;"⟩
def dkwX3_rest_2 : List UInt8 := [43, 45, 185, 0, 36, 2, 0, 87, 167, 255, 218, 187, 0, 13, 89, 43, 183, 0, 58, 176]
abbrev dktX3_rest_2 : List UInt8 := dkwX3_rest_2 ++ []
def dkwX3_rest_1 : List UInt8 := [153, 0, 35, 44, 185, 0, 30, 1, 0, 192, 0, 34, 78, 42, 45, 180, 0, 72, 182, 0, 76, 154, 0, 11]
abbrev dktX3_rest_1 : List UInt8 := dkwX3_rest_1 ++ dktX3_rest_2
def dkwX3_rest_0 : List UInt8 := [187, 0, 9, 89, 183, 0, 11, 76, 42, 180, 0, 12, 185, 0, 18, 1, 0, 77, 44, 185, 0, 24, 1, 0]
abbrev dktX3_rest_0 : List UInt8 := dkwX3_rest_0 ++ dktX3_rest_1
theorem dksX3_rest_0 : cX3_rest.data.toList.drop 0 = dktX3_rest_0 := by decide +kernel
theorem dksX3_rest_1 : cX3_rest.data.toList.drop 24 = dktX3_rest_1 := dk_seg dksX3_rest_0 24 rfl rfl
theorem dksX3_rest_2 : cX3_rest.data.toList.drop 48 = dktX3_rest_2 := dk_seg dksX3_rest_1 24 rfl rfl
theorem dX3_rest_0 : decode cX3_rest 0 = .ok (.new 9, 3) := dk_187 0 9 (dk_at dksX3_rest_0 0 rfl rfl)
theorem dX3_rest_3 : decode cX3_rest 3 = .ok (.dup, 1) := dk_89 (dk_at dksX3_rest_0 3 rfl rfl)
theorem dX3_rest_4 : decode cX3_rest 4 = .ok (.invokespecial 11, 3) := dk_183 0 11 (dk_at dksX3_rest_0 4 rfl rfl)
theorem dX3_rest_7 : decode cX3_rest 7 = .ok (.astore_n 1, 1) := dk_76 (dk_at dksX3_rest_0 7 rfl rfl)
theorem dX3_rest_8 : decode cX3_rest 8 = .ok (.aload_n 0, 1) := dk_42 (dk_at dksX3_rest_0 8 rfl rfl)
theorem dX3_rest_9 : decode cX3_rest 9 = .ok (.getfield 12, 3) := dk_180 0 12 (dk_at dksX3_rest_0 9 rfl rfl)
theorem dX3_rest_12 : decode cX3_rest 12 = .ok (.invokeinterface 18 1, 5) := by decide +kernel
theorem dX3_rest_17 : decode cX3_rest 17 = .ok (.astore_n 2, 1) := dk_77 (dk_at dksX3_rest_0 17 rfl rfl)
theorem dX3_rest_18 : decode cX3_rest 18 = .ok (.aload_n 2, 1) := dk_44 (dk_at dksX3_rest_0 18 rfl rfl)
theorem dX3_rest_19 : decode cX3_rest 19 = .ok (.invokeinterface 24 1, 5) := by decide +kernel
theorem dX3_rest_24 : decode cX3_rest 24 = .ok (.ifCond .eq 35, 3) := dk_153 0 35 (dk_at dksX3_rest_1 0 rfl rfl)
theorem dX3_rest_27 : decode cX3_rest 27 = .ok (.aload_n 2, 1) := dk_44 (dk_at dksX3_rest_1 3 rfl rfl)
theorem dX3_rest_28 : decode cX3_rest 28 = .ok (.invokeinterface 30 1, 5) := by decide +kernel
theorem dX3_rest_33 : decode cX3_rest 33 = .ok (.checkcast 34, 3) := dk_192 0 34 (dk_at dksX3_rest_1 9 rfl rfl)
theorem dX3_rest_36 : decode cX3_rest 36 = .ok (.astore_n 3, 1) := dk_78 (dk_at dksX3_rest_1 12 rfl rfl)
theorem dX3_rest_37 : decode cX3_rest 37 = .ok (.aload_n 0, 1) := dk_42 (dk_at dksX3_rest_1 13 rfl rfl)
theorem dX3_rest_38 : decode cX3_rest 38 = .ok (.aload_n 3, 1) := dk_45 (dk_at dksX3_rest_1 14 rfl rfl)
theorem dX3_rest_39 : decode cX3_rest 39 = .ok (.getfield 72, 3) := dk_180 0 72 (dk_at dksX3_rest_1 15 rfl rfl)
theorem dX3_rest_42 : decode cX3_rest 42 = .ok (.invokevirtual 76, 3) := dk_182 0 76 (dk_at dksX3_rest_1 18 rfl rfl)
theorem dX3_rest_45 : decode cX3_rest 45 = .ok (.ifCond .ne 11, 3) := dk_154 0 11 (dk_at dksX3_rest_1 21 rfl rfl)
theorem dX3_rest_48 : decode cX3_rest 48 = .ok (.aload_n 1, 1) := dk_43 (dk_at dksX3_rest_2 0 rfl rfl)
theorem dX3_rest_49 : decode cX3_rest 49 = .ok (.aload_n 3, 1) := dk_45 (dk_at dksX3_rest_2 1 rfl rfl)
theorem dX3_rest_50 : decode cX3_rest 50 = .ok (.invokeinterface 36 2, 5) := by decide +kernel
theorem dX3_rest_55 : decode cX3_rest 55 = .ok (.pop, 1) := dk_87 (dk_at dksX3_rest_2 7 rfl rfl)
theorem dX3_rest_56 : decode cX3_rest 56 = .ok (.goto (-38), 3) := dk_167 255 218 (dk_at dksX3_rest_2 8 rfl rfl)
theorem dX3_rest_59 : decode cX3_rest 59 = .ok (.new 13, 3) := dk_187 0 13 (dk_at dksX3_rest_2 11 rfl rfl)
theorem dX3_rest_62 : decode cX3_rest 62 = .ok (.dup, 1) := dk_89 (dk_at dksX3_rest_2 14 rfl rfl)
theorem dX3_rest_63 : decode cX3_rest 63 = .ok (.aload_n 1, 1) := dk_43 (dk_at dksX3_rest_2 15 rfl rfl)
theorem dX3_rest_64 : decode cX3_rest 64 = .ok (.invokespecial 58, 3) := dk_183 0 58 (dk_at dksX3_rest_2 16 rfl rfl)
theorem dX3_rest_67 : decode cX3_rest 67 = .ok (.areturn, 1) := dk_176 (dk_at dksX3_rest_2 19 rfl rfl)
abbrev cX3_isAborted : ByteArray := prog_8_method_5_code
def yX3_isAborted : MethodName := ⟨RX3, "isAborted", "(I)Z"⟩
def dkwX3_isAborted_0 : List UInt8 := [42, 27, 186, 0, 57, 0, 0, 182, 0, 53, 172]
abbrev dktX3_isAborted_0 : List UInt8 := dkwX3_isAborted_0 ++ []
theorem dksX3_isAborted_0 : cX3_isAborted.data.toList.drop 0 = dktX3_isAborted_0 := by decide +kernel
theorem dX3_isAborted_0 : decode cX3_isAborted 0 = .ok (.aload_n 0, 1) := dk_42 (dk_at dksX3_isAborted_0 0 rfl rfl)
theorem dX3_isAborted_1 : decode cX3_isAborted 1 = .ok (.iload_n 1, 1) := dk_27 (dk_at dksX3_isAborted_0 1 rfl rfl)
theorem dX3_isAborted_2 : decode cX3_isAborted 2 = .ok (.invokedynamic 57, 5) := by decide +kernel
theorem dX3_isAborted_7 : decode cX3_isAborted 7 = .ok (.invokevirtual 53, 3) := dk_182 0 53 (dk_at dksX3_isAborted_0 7 rfl rfl)
theorem dX3_isAborted_10 : decode cX3_isAborted 10 = .ok (.ireturn, 1) := dk_172 (dk_at dksX3_isAborted_0 10 rfl rfl)
abbrev cX3_lambda_isAborted_1 : ByteArray := prog_8_method_39_code
def yX3_lambda_isAborted_1 : MethodName := ⟨RX3, "lambda$isAborted$1", "(ILScheduleAnalyzer$Operation;)Z"⟩
def dkwX3_lambda_isAborted_1_0 : List UInt8 := [43, 16, 120, 26, 182, 0, 211, 172]
abbrev dktX3_lambda_isAborted_1_0 : List UInt8 := dkwX3_lambda_isAborted_1_0 ++ []
theorem dksX3_lambda_isAborted_1_0 : cX3_lambda_isAborted_1.data.toList.drop 0 = dktX3_lambda_isAborted_1_0 := by decide +kernel
theorem dX3_lambda_isAborted_1_0 : decode cX3_lambda_isAborted_1 0 = .ok (.aload_n 1, 1) := dk_43 (dk_at dksX3_lambda_isAborted_1_0 0 rfl rfl)
theorem dX3_lambda_isAborted_1_1 : decode cX3_lambda_isAborted_1 1 = .ok (.bipush 120, 2) := dk_16 120 (dk_at dksX3_lambda_isAborted_1_0 1 rfl rfl)
theorem dX3_lambda_isAborted_1_3 : decode cX3_lambda_isAborted_1 3 = .ok (.iload_n 0, 1) := dk_26 (dk_at dksX3_lambda_isAborted_1_0 3 rfl rfl)
theorem dX3_lambda_isAborted_1_4 : decode cX3_lambda_isAborted_1 4 = .ok (.invokevirtual 211, 3) := dk_182 0 211 (dk_at dksX3_lambda_isAborted_1_0 4 rfl rfl)
theorem dX3_lambda_isAborted_1_7 : decode cX3_lambda_isAborted_1 7 = .ok (.ireturn, 1) := dk_172 (dk_at dksX3_lambda_isAborted_1_0 7 rfl rfl)
abbrev cX3_has : ByteArray := prog_8_method_3_code
def yX3_has : MethodName := ⟨RX3, "has", "(LScheduleAnalyzer$OperationTest;)Z"⟩
def dkwX3_has_0 : List UInt8 := [42, 180, 0, 12, 42, 182, 0, 44, 43, 184, 0, 45, 2, 159, 0, 7, 4, 167, 0, 4, 3, 172]
abbrev dktX3_has_0 : List UInt8 := dkwX3_has_0 ++ []
theorem dksX3_has_0 : cX3_has.data.toList.drop 0 = dktX3_has_0 := by decide +kernel
theorem dX3_has_0 : decode cX3_has 0 = .ok (.aload_n 0, 1) := dk_42 (dk_at dksX3_has_0 0 rfl rfl)
theorem dX3_has_1 : decode cX3_has 1 = .ok (.getfield 12, 3) := dk_180 0 12 (dk_at dksX3_has_0 1 rfl rfl)
theorem dX3_has_4 : decode cX3_has 4 = .ok (.aload_n 0, 1) := dk_42 (dk_at dksX3_has_0 4 rfl rfl)
theorem dX3_has_5 : decode cX3_has 5 = .ok (.invokevirtual 44, 3) := dk_182 0 44 (dk_at dksX3_has_0 5 rfl rfl)
theorem dX3_has_8 : decode cX3_has 8 = .ok (.aload_n 1, 1) := dk_43 (dk_at dksX3_has_0 8 rfl rfl)
theorem dX3_has_9 : decode cX3_has 9 = .ok (.invokestatic 45, 3) := dk_184 0 45 (dk_at dksX3_has_0 9 rfl rfl)
theorem dX3_has_12 : decode cX3_has 12 = .ok (.iconst (-1), 1) := dk_2 (dk_at dksX3_has_0 12 rfl rfl)
theorem dX3_has_13 : decode cX3_has 13 = .ok (.if_icmp .eq 7, 3) := dk_159 0 7 (dk_at dksX3_has_0 13 rfl rfl)
theorem dX3_has_16 : decode cX3_has 16 = .ok (.iconst 1, 1) := dk_4 (dk_at dksX3_has_0 16 rfl rfl)
theorem dX3_has_17 : decode cX3_has 17 = .ok (.goto 4, 3) := dk_167 0 4 (dk_at dksX3_has_0 17 rfl rfl)
theorem dX3_has_20 : decode cX3_has 20 = .ok (.iconst 0, 1) := dk_3 (dk_at dksX3_has_0 20 rfl rfl)
theorem dX3_has_21 : decode cX3_has 21 = .ok (.ireturn, 1) := dk_172 (dk_at dksX3_has_0 21 rfl rfl)
abbrev cX3_size : ByteArray := prog_8_method_2_code
def yX3_size : MethodName := ⟨RX3, "size", "()I"⟩
def dkwX3_size_0 : List UInt8 := [42, 180, 0, 12, 185, 0, 40, 1, 0, 172]
abbrev dktX3_size_0 : List UInt8 := dkwX3_size_0 ++ []
theorem dksX3_size_0 : cX3_size.data.toList.drop 0 = dktX3_size_0 := by decide +kernel
theorem dX3_size_0 : decode cX3_size 0 = .ok (.aload_n 0, 1) := dk_42 (dk_at dksX3_size_0 0 rfl rfl)
theorem dX3_size_1 : decode cX3_size 1 = .ok (.getfield 12, 3) := dk_180 0 12 (dk_at dksX3_size_0 1 rfl rfl)
theorem dX3_size_4 : decode cX3_size 4 = .ok (.invokeinterface 40 1, 5) := by decide +kernel
theorem dX3_size_9 : decode cX3_size 9 = .ok (.ireturn, 1) := dk_172 (dk_at dksX3_size_0 9 rfl rfl)
abbrev cX3_transactions : ByteArray := prog_8_method_10_code
def yX3_transactions : MethodName := ⟨RX3, "transactions", "()Ljava/util/List;"⟩
def dkwX3_transactions_2 : List UInt8 := [185, 0, 36, 2, 0, 87, 167, 255, 223, 43, 176]
abbrev dktX3_transactions_2 : List UInt8 := dkwX3_transactions_2 ++ []
def dkwX3_transactions_1 : List UInt8 := [153, 0, 30, 44, 185, 0, 30, 1, 0, 192, 0, 34, 78, 43, 45, 180, 0, 72, 184, 0, 80]
abbrev dktX3_transactions_1 : List UInt8 := dkwX3_transactions_1 ++ dktX3_transactions_2
def dkwX3_transactions_0 : List UInt8 := [187, 0, 9, 89, 183, 0, 11, 76, 42, 180, 0, 12, 185, 0, 18, 1, 0, 77, 44, 185, 0, 24, 1, 0]
abbrev dktX3_transactions_0 : List UInt8 := dkwX3_transactions_0 ++ dktX3_transactions_1
theorem dksX3_transactions_0 : cX3_transactions.data.toList.drop 0 = dktX3_transactions_0 := by decide +kernel
theorem dksX3_transactions_1 : cX3_transactions.data.toList.drop 24 = dktX3_transactions_1 := dk_seg dksX3_transactions_0 24 rfl rfl
theorem dksX3_transactions_2 : cX3_transactions.data.toList.drop 45 = dktX3_transactions_2 := dk_seg dksX3_transactions_1 21 rfl rfl
theorem dX3_transactions_0 : decode cX3_transactions 0 = .ok (.new 9, 3) := dk_187 0 9 (dk_at dksX3_transactions_0 0 rfl rfl)
theorem dX3_transactions_3 : decode cX3_transactions 3 = .ok (.dup, 1) := dk_89 (dk_at dksX3_transactions_0 3 rfl rfl)
theorem dX3_transactions_4 : decode cX3_transactions 4 = .ok (.invokespecial 11, 3) := dk_183 0 11 (dk_at dksX3_transactions_0 4 rfl rfl)
theorem dX3_transactions_7 : decode cX3_transactions 7 = .ok (.astore_n 1, 1) := dk_76 (dk_at dksX3_transactions_0 7 rfl rfl)
theorem dX3_transactions_8 : decode cX3_transactions 8 = .ok (.aload_n 0, 1) := dk_42 (dk_at dksX3_transactions_0 8 rfl rfl)
theorem dX3_transactions_9 : decode cX3_transactions 9 = .ok (.getfield 12, 3) := dk_180 0 12 (dk_at dksX3_transactions_0 9 rfl rfl)
theorem dX3_transactions_12 : decode cX3_transactions 12 = .ok (.invokeinterface 18 1, 5) := by decide +kernel
theorem dX3_transactions_17 : decode cX3_transactions 17 = .ok (.astore_n 2, 1) := dk_77 (dk_at dksX3_transactions_0 17 rfl rfl)
theorem dX3_transactions_18 : decode cX3_transactions 18 = .ok (.aload_n 2, 1) := dk_44 (dk_at dksX3_transactions_0 18 rfl rfl)
theorem dX3_transactions_19 : decode cX3_transactions 19 = .ok (.invokeinterface 24 1, 5) := by decide +kernel
theorem dX3_transactions_24 : decode cX3_transactions 24 = .ok (.ifCond .eq 30, 3) := dk_153 0 30 (dk_at dksX3_transactions_1 0 rfl rfl)
theorem dX3_transactions_27 : decode cX3_transactions 27 = .ok (.aload_n 2, 1) := dk_44 (dk_at dksX3_transactions_1 3 rfl rfl)
theorem dX3_transactions_28 : decode cX3_transactions 28 = .ok (.invokeinterface 30 1, 5) := by decide +kernel
theorem dX3_transactions_33 : decode cX3_transactions 33 = .ok (.checkcast 34, 3) := dk_192 0 34 (dk_at dksX3_transactions_1 9 rfl rfl)
theorem dX3_transactions_36 : decode cX3_transactions 36 = .ok (.astore_n 3, 1) := dk_78 (dk_at dksX3_transactions_1 12 rfl rfl)
theorem dX3_transactions_37 : decode cX3_transactions 37 = .ok (.aload_n 1, 1) := dk_43 (dk_at dksX3_transactions_1 13 rfl rfl)
theorem dX3_transactions_38 : decode cX3_transactions 38 = .ok (.aload_n 3, 1) := dk_45 (dk_at dksX3_transactions_1 14 rfl rfl)
theorem dX3_transactions_39 : decode cX3_transactions 39 = .ok (.getfield 72, 3) := dk_180 0 72 (dk_at dksX3_transactions_1 15 rfl rfl)
theorem dX3_transactions_42 : decode cX3_transactions 42 = .ok (.invokestatic 80, 3) := dk_184 0 80 (dk_at dksX3_transactions_1 18 rfl rfl)
theorem dX3_transactions_45 : decode cX3_transactions 45 = .ok (.invokeinterface 36 2, 5) := by decide +kernel
theorem dX3_transactions_50 : decode cX3_transactions 50 = .ok (.pop, 1) := dk_87 (dk_at dksX3_transactions_2 5 rfl rfl)
theorem dX3_transactions_51 : decode cX3_transactions 51 = .ok (.goto (-33), 3) := dk_167 255 223 (dk_at dksX3_transactions_2 6 rfl rfl)
theorem dX3_transactions_54 : decode cX3_transactions 54 = .ok (.aload_n 1, 1) := dk_43 (dk_at dksX3_transactions_2 9 rfl rfl)
theorem dX3_transactions_55 : decode cX3_transactions 55 = .ok (.areturn, 1) := dk_176 (dk_at dksX3_transactions_2 10 rfl rfl)
abbrev cX3_countDirtyReads : ByteArray := prog_8_method_20_code
def yX3_countDirtyReads : MethodName := ⟨RX3, "countDirtyReads", "()I"⟩
def dkwX3_countDirtyReads_1 : List UInt8 := [167, 0, 4, 3, 96, 60, 132, 2, 1, 167, 255, 229, 27, 172]
abbrev dktX3_countDirtyReads_1 : List UInt8 := dkwX3_countDirtyReads_1 ++ []
def dkwX3_countDirtyReads_0 : List UInt8 := [3, 60, 3, 61, 28, 42, 182, 0, 44, 162, 0, 25, 27, 42, 28, 182, 0, 145, 153, 0, 7, 4]
abbrev dktX3_countDirtyReads_0 : List UInt8 := dkwX3_countDirtyReads_0 ++ dktX3_countDirtyReads_1
theorem dksX3_countDirtyReads_0 : cX3_countDirtyReads.data.toList.drop 0 = dktX3_countDirtyReads_0 := by decide +kernel
theorem dksX3_countDirtyReads_1 : cX3_countDirtyReads.data.toList.drop 22 = dktX3_countDirtyReads_1 := dk_seg dksX3_countDirtyReads_0 22 rfl rfl
theorem dX3_countDirtyReads_0 : decode cX3_countDirtyReads 0 = .ok (.iconst 0, 1) := dk_3 (dk_at dksX3_countDirtyReads_0 0 rfl rfl)
theorem dX3_countDirtyReads_1 : decode cX3_countDirtyReads 1 = .ok (.istore_n 1, 1) := dk_60 (dk_at dksX3_countDirtyReads_0 1 rfl rfl)
theorem dX3_countDirtyReads_2 : decode cX3_countDirtyReads 2 = .ok (.iconst 0, 1) := dk_3 (dk_at dksX3_countDirtyReads_0 2 rfl rfl)
theorem dX3_countDirtyReads_3 : decode cX3_countDirtyReads 3 = .ok (.istore_n 2, 1) := dk_61 (dk_at dksX3_countDirtyReads_0 3 rfl rfl)
theorem dX3_countDirtyReads_4 : decode cX3_countDirtyReads 4 = .ok (.iload_n 2, 1) := dk_28 (dk_at dksX3_countDirtyReads_0 4 rfl rfl)
theorem dX3_countDirtyReads_5 : decode cX3_countDirtyReads 5 = .ok (.aload_n 0, 1) := dk_42 (dk_at dksX3_countDirtyReads_0 5 rfl rfl)
theorem dX3_countDirtyReads_6 : decode cX3_countDirtyReads 6 = .ok (.invokevirtual 44, 3) := dk_182 0 44 (dk_at dksX3_countDirtyReads_0 6 rfl rfl)
theorem dX3_countDirtyReads_9 : decode cX3_countDirtyReads 9 = .ok (.if_icmp .ge 25, 3) := dk_162 0 25 (dk_at dksX3_countDirtyReads_0 9 rfl rfl)
theorem dX3_countDirtyReads_12 : decode cX3_countDirtyReads 12 = .ok (.iload_n 1, 1) := dk_27 (dk_at dksX3_countDirtyReads_0 12 rfl rfl)
theorem dX3_countDirtyReads_13 : decode cX3_countDirtyReads 13 = .ok (.aload_n 0, 1) := dk_42 (dk_at dksX3_countDirtyReads_0 13 rfl rfl)
theorem dX3_countDirtyReads_14 : decode cX3_countDirtyReads 14 = .ok (.iload_n 2, 1) := dk_28 (dk_at dksX3_countDirtyReads_0 14 rfl rfl)
theorem dX3_countDirtyReads_15 : decode cX3_countDirtyReads 15 = .ok (.invokevirtual 145, 3) := dk_182 0 145 (dk_at dksX3_countDirtyReads_0 15 rfl rfl)
theorem dX3_countDirtyReads_18 : decode cX3_countDirtyReads 18 = .ok (.ifCond .eq 7, 3) := dk_153 0 7 (dk_at dksX3_countDirtyReads_0 18 rfl rfl)
theorem dX3_countDirtyReads_21 : decode cX3_countDirtyReads 21 = .ok (.iconst 1, 1) := dk_4 (dk_at dksX3_countDirtyReads_0 21 rfl rfl)
theorem dX3_countDirtyReads_22 : decode cX3_countDirtyReads 22 = .ok (.goto 4, 3) := dk_167 0 4 (dk_at dksX3_countDirtyReads_1 0 rfl rfl)
theorem dX3_countDirtyReads_25 : decode cX3_countDirtyReads 25 = .ok (.iconst 0, 1) := dk_3 (dk_at dksX3_countDirtyReads_1 3 rfl rfl)
theorem dX3_countDirtyReads_26 : decode cX3_countDirtyReads 26 = .ok (.iadd, 1) := dk_96 (dk_at dksX3_countDirtyReads_1 4 rfl rfl)
theorem dX3_countDirtyReads_27 : decode cX3_countDirtyReads 27 = .ok (.istore_n 1, 1) := dk_60 (dk_at dksX3_countDirtyReads_1 5 rfl rfl)
theorem dX3_countDirtyReads_28 : decode cX3_countDirtyReads 28 = .ok (.iinc 2 1, 3) := dk_132 2 1 (dk_at dksX3_countDirtyReads_1 6 rfl rfl)
theorem dX3_countDirtyReads_31 : decode cX3_countDirtyReads 31 = .ok (.goto (-27), 3) := dk_167 255 229 (dk_at dksX3_countDirtyReads_1 9 rfl rfl)
theorem dX3_countDirtyReads_34 : decode cX3_countDirtyReads 34 = .ok (.iload_n 1, 1) := dk_27 (dk_at dksX3_countDirtyReads_1 12 rfl rfl)
theorem dX3_countDirtyReads_35 : decode cX3_countDirtyReads 35 = .ok (.ireturn, 1) := dk_172 (dk_at dksX3_countDirtyReads_1 13 rfl rfl)
abbrev cX3_isDirty : ByteArray := prog_8_method_19_code
def yX3_isDirty : MethodName := ⟨RX3, "isDirty", "(I)Z"⟩
def dkwX3_isDirty_1 : List UInt8 := [3, 172]
abbrev dktX3_isDirty_1 : List UInt8 := dkwX3_isDirty_1 ++ []
def dkwX3_isDirty_0 : List UInt8 := [42, 27, 182, 0, 138, 61, 28, 2, 159, 0, 16, 42, 28, 27, 182, 0, 141, 154, 0, 7, 4, 167, 0, 4]
abbrev dktX3_isDirty_0 : List UInt8 := dkwX3_isDirty_0 ++ dktX3_isDirty_1
theorem dksX3_isDirty_0 : cX3_isDirty.data.toList.drop 0 = dktX3_isDirty_0 := by decide +kernel
theorem dksX3_isDirty_1 : cX3_isDirty.data.toList.drop 24 = dktX3_isDirty_1 := dk_seg dksX3_isDirty_0 24 rfl rfl
theorem dX3_isDirty_0 : decode cX3_isDirty 0 = .ok (.aload_n 0, 1) := dk_42 (dk_at dksX3_isDirty_0 0 rfl rfl)
theorem dX3_isDirty_1 : decode cX3_isDirty 1 = .ok (.iload_n 1, 1) := dk_27 (dk_at dksX3_isDirty_0 1 rfl rfl)
theorem dX3_isDirty_2 : decode cX3_isDirty 2 = .ok (.invokevirtual 138, 3) := dk_182 0 138 (dk_at dksX3_isDirty_0 2 rfl rfl)
theorem dX3_isDirty_5 : decode cX3_isDirty 5 = .ok (.istore_n 2, 1) := dk_61 (dk_at dksX3_isDirty_0 5 rfl rfl)
theorem dX3_isDirty_6 : decode cX3_isDirty 6 = .ok (.iload_n 2, 1) := dk_28 (dk_at dksX3_isDirty_0 6 rfl rfl)
theorem dX3_isDirty_7 : decode cX3_isDirty 7 = .ok (.iconst (-1), 1) := dk_2 (dk_at dksX3_isDirty_0 7 rfl rfl)
theorem dX3_isDirty_8 : decode cX3_isDirty 8 = .ok (.if_icmp .eq 16, 3) := dk_159 0 16 (dk_at dksX3_isDirty_0 8 rfl rfl)
theorem dX3_isDirty_11 : decode cX3_isDirty 11 = .ok (.aload_n 0, 1) := dk_42 (dk_at dksX3_isDirty_0 11 rfl rfl)
theorem dX3_isDirty_12 : decode cX3_isDirty 12 = .ok (.iload_n 2, 1) := dk_28 (dk_at dksX3_isDirty_0 12 rfl rfl)
theorem dX3_isDirty_13 : decode cX3_isDirty 13 = .ok (.iload_n 1, 1) := dk_27 (dk_at dksX3_isDirty_0 13 rfl rfl)
theorem dX3_isDirty_14 : decode cX3_isDirty 14 = .ok (.invokevirtual 141, 3) := dk_182 0 141 (dk_at dksX3_isDirty_0 14 rfl rfl)
theorem dX3_isDirty_17 : decode cX3_isDirty 17 = .ok (.ifCond .ne 7, 3) := dk_154 0 7 (dk_at dksX3_isDirty_0 17 rfl rfl)
theorem dX3_isDirty_20 : decode cX3_isDirty 20 = .ok (.iconst 1, 1) := dk_4 (dk_at dksX3_isDirty_0 20 rfl rfl)
theorem dX3_isDirty_21 : decode cX3_isDirty 21 = .ok (.goto 4, 3) := dk_167 0 4 (dk_at dksX3_isDirty_0 21 rfl rfl)
theorem dX3_isDirty_24 : decode cX3_isDirty 24 = .ok (.iconst 0, 1) := dk_3 (dk_at dksX3_isDirty_1 0 rfl rfl)
theorem dX3_isDirty_25 : decode cX3_isDirty 25 = .ok (.ireturn, 1) := dk_172 (dk_at dksX3_isDirty_1 1 rfl rfl)
abbrev cX3_foreignSource : ByteArray := prog_8_method_18_code
def yX3_foreignSource : MethodName := ⟨RX3, "foreignSource", "(I)I"⟩
def dkwX3_foreignSource_3 : List UInt8 := [192, 0, 34, 180, 0, 72, 160, 0, 7, 2, 167, 0, 4, 29, 172]
abbrev dktX3_foreignSource_3 : List UInt8 := dkwX3_foreignSource_3 ++ []
def dkwX3_foreignSource_2 : List UInt8 := [185, 0, 61, 2, 0, 192, 0, 34, 180, 0, 72, 62, 29, 42, 180, 0, 12, 27, 185, 0, 61, 2, 0]
abbrev dktX3_foreignSource_2 : List UInt8 := dkwX3_foreignSource_2 ++ dktX3_foreignSource_3
def dkwX3_foreignSource_1 : List UInt8 := [182, 0, 134, 167, 0, 4, 2, 61, 28, 2, 160, 0, 7, 2, 167, 0, 19, 42, 180, 0, 12, 28]
abbrev dktX3_foreignSource_1 : List UInt8 := dkwX3_foreignSource_1 ++ dktX3_foreignSource_2
def dkwX3_foreignSource_0 : List UInt8 := [42, 180, 0, 12, 27, 185, 0, 61, 2, 0, 192, 0, 34, 180, 0, 131, 16, 114, 160, 0, 11, 42, 27]
abbrev dktX3_foreignSource_0 : List UInt8 := dkwX3_foreignSource_0 ++ dktX3_foreignSource_1
theorem dksX3_foreignSource_0 : cX3_foreignSource.data.toList.drop 0 = dktX3_foreignSource_0 := by decide +kernel
theorem dksX3_foreignSource_1 : cX3_foreignSource.data.toList.drop 23 = dktX3_foreignSource_1 := dk_seg dksX3_foreignSource_0 23 rfl rfl
theorem dksX3_foreignSource_2 : cX3_foreignSource.data.toList.drop 45 = dktX3_foreignSource_2 := dk_seg dksX3_foreignSource_1 22 rfl rfl
theorem dksX3_foreignSource_3 : cX3_foreignSource.data.toList.drop 68 = dktX3_foreignSource_3 := dk_seg dksX3_foreignSource_2 23 rfl rfl
theorem dX3_foreignSource_0 : decode cX3_foreignSource 0 = .ok (.aload_n 0, 1) := dk_42 (dk_at dksX3_foreignSource_0 0 rfl rfl)
theorem dX3_foreignSource_1 : decode cX3_foreignSource 1 = .ok (.getfield 12, 3) := dk_180 0 12 (dk_at dksX3_foreignSource_0 1 rfl rfl)
theorem dX3_foreignSource_4 : decode cX3_foreignSource 4 = .ok (.iload_n 1, 1) := dk_27 (dk_at dksX3_foreignSource_0 4 rfl rfl)
theorem dX3_foreignSource_5 : decode cX3_foreignSource 5 = .ok (.invokeinterface 61 2, 5) := by decide +kernel
theorem dX3_foreignSource_10 : decode cX3_foreignSource 10 = .ok (.checkcast 34, 3) := dk_192 0 34 (dk_at dksX3_foreignSource_0 10 rfl rfl)
theorem dX3_foreignSource_13 : decode cX3_foreignSource 13 = .ok (.getfield 131, 3) := dk_180 0 131 (dk_at dksX3_foreignSource_0 13 rfl rfl)
theorem dX3_foreignSource_16 : decode cX3_foreignSource 16 = .ok (.bipush 114, 2) := dk_16 114 (dk_at dksX3_foreignSource_0 16 rfl rfl)
theorem dX3_foreignSource_18 : decode cX3_foreignSource 18 = .ok (.if_icmp .ne 11, 3) := dk_160 0 11 (dk_at dksX3_foreignSource_0 18 rfl rfl)
theorem dX3_foreignSource_21 : decode cX3_foreignSource 21 = .ok (.aload_n 0, 1) := dk_42 (dk_at dksX3_foreignSource_0 21 rfl rfl)
theorem dX3_foreignSource_22 : decode cX3_foreignSource 22 = .ok (.iload_n 1, 1) := dk_27 (dk_at dksX3_foreignSource_0 22 rfl rfl)
theorem dX3_foreignSource_23 : decode cX3_foreignSource 23 = .ok (.invokevirtual 134, 3) := dk_182 0 134 (dk_at dksX3_foreignSource_1 0 rfl rfl)
theorem dX3_foreignSource_26 : decode cX3_foreignSource 26 = .ok (.goto 4, 3) := dk_167 0 4 (dk_at dksX3_foreignSource_1 3 rfl rfl)
theorem dX3_foreignSource_29 : decode cX3_foreignSource 29 = .ok (.iconst (-1), 1) := dk_2 (dk_at dksX3_foreignSource_1 6 rfl rfl)
theorem dX3_foreignSource_30 : decode cX3_foreignSource 30 = .ok (.istore_n 2, 1) := dk_61 (dk_at dksX3_foreignSource_1 7 rfl rfl)
theorem dX3_foreignSource_31 : decode cX3_foreignSource 31 = .ok (.iload_n 2, 1) := dk_28 (dk_at dksX3_foreignSource_1 8 rfl rfl)
theorem dX3_foreignSource_32 : decode cX3_foreignSource 32 = .ok (.iconst (-1), 1) := dk_2 (dk_at dksX3_foreignSource_1 9 rfl rfl)
theorem dX3_foreignSource_33 : decode cX3_foreignSource 33 = .ok (.if_icmp .ne 7, 3) := dk_160 0 7 (dk_at dksX3_foreignSource_1 10 rfl rfl)
theorem dX3_foreignSource_36 : decode cX3_foreignSource 36 = .ok (.iconst (-1), 1) := dk_2 (dk_at dksX3_foreignSource_1 13 rfl rfl)
theorem dX3_foreignSource_37 : decode cX3_foreignSource 37 = .ok (.goto 19, 3) := dk_167 0 19 (dk_at dksX3_foreignSource_1 14 rfl rfl)
theorem dX3_foreignSource_40 : decode cX3_foreignSource 40 = .ok (.aload_n 0, 1) := dk_42 (dk_at dksX3_foreignSource_1 17 rfl rfl)
theorem dX3_foreignSource_41 : decode cX3_foreignSource 41 = .ok (.getfield 12, 3) := dk_180 0 12 (dk_at dksX3_foreignSource_1 18 rfl rfl)
theorem dX3_foreignSource_44 : decode cX3_foreignSource 44 = .ok (.iload_n 2, 1) := dk_28 (dk_at dksX3_foreignSource_1 21 rfl rfl)
theorem dX3_foreignSource_45 : decode cX3_foreignSource 45 = .ok (.invokeinterface 61 2, 5) := by decide +kernel
theorem dX3_foreignSource_50 : decode cX3_foreignSource 50 = .ok (.checkcast 34, 3) := dk_192 0 34 (dk_at dksX3_foreignSource_2 5 rfl rfl)
theorem dX3_foreignSource_53 : decode cX3_foreignSource 53 = .ok (.getfield 72, 3) := dk_180 0 72 (dk_at dksX3_foreignSource_2 8 rfl rfl)
theorem dX3_foreignSource_56 : decode cX3_foreignSource 56 = .ok (.istore_n 3, 1) := dk_62 (dk_at dksX3_foreignSource_2 11 rfl rfl)
theorem dX3_foreignSource_57 : decode cX3_foreignSource 57 = .ok (.iload_n 3, 1) := dk_29 (dk_at dksX3_foreignSource_2 12 rfl rfl)
theorem dX3_foreignSource_58 : decode cX3_foreignSource 58 = .ok (.aload_n 0, 1) := dk_42 (dk_at dksX3_foreignSource_2 13 rfl rfl)
theorem dX3_foreignSource_59 : decode cX3_foreignSource 59 = .ok (.getfield 12, 3) := dk_180 0 12 (dk_at dksX3_foreignSource_2 14 rfl rfl)
theorem dX3_foreignSource_62 : decode cX3_foreignSource 62 = .ok (.iload_n 1, 1) := dk_27 (dk_at dksX3_foreignSource_2 17 rfl rfl)
theorem dX3_foreignSource_63 : decode cX3_foreignSource 63 = .ok (.invokeinterface 61 2, 5) := by decide +kernel
theorem dX3_foreignSource_68 : decode cX3_foreignSource 68 = .ok (.checkcast 34, 3) := dk_192 0 34 (dk_at dksX3_foreignSource_3 0 rfl rfl)
theorem dX3_foreignSource_71 : decode cX3_foreignSource 71 = .ok (.getfield 72, 3) := dk_180 0 72 (dk_at dksX3_foreignSource_3 3 rfl rfl)
theorem dX3_foreignSource_74 : decode cX3_foreignSource 74 = .ok (.if_icmp .ne 7, 3) := dk_160 0 7 (dk_at dksX3_foreignSource_3 6 rfl rfl)
theorem dX3_foreignSource_77 : decode cX3_foreignSource 77 = .ok (.iconst (-1), 1) := dk_2 (dk_at dksX3_foreignSource_3 9 rfl rfl)
theorem dX3_foreignSource_78 : decode cX3_foreignSource 78 = .ok (.goto 4, 3) := dk_167 0 4 (dk_at dksX3_foreignSource_3 10 rfl rfl)
theorem dX3_foreignSource_81 : decode cX3_foreignSource 81 = .ok (.iload_n 3, 1) := dk_29 (dk_at dksX3_foreignSource_3 13 rfl rfl)
theorem dX3_foreignSource_82 : decode cX3_foreignSource 82 = .ok (.ireturn, 1) := dk_172 (dk_at dksX3_foreignSource_3 14 rfl rfl)
abbrev cX3_sourceOf : ByteArray := prog_8_method_17_code
def yX3_sourceOf : MethodName := ⟨RX3, "sourceOf", "(I)I"⟩
def dkwX3_sourceOf_1 : List UInt8 := [27, 186, 0, 128, 0, 0, 184, 0, 45, 172]
abbrev dktX3_sourceOf_1 : List UInt8 := dkwX3_sourceOf_1 ++ []
def dkwX3_sourceOf_0 : List UInt8 := [42, 180, 0, 12, 27, 185, 0, 61, 2, 0, 192, 0, 34, 180, 0, 124, 61, 42, 180, 0, 12, 27, 42, 28]
abbrev dktX3_sourceOf_0 : List UInt8 := dkwX3_sourceOf_0 ++ dktX3_sourceOf_1
theorem dksX3_sourceOf_0 : cX3_sourceOf.data.toList.drop 0 = dktX3_sourceOf_0 := by decide +kernel
theorem dksX3_sourceOf_1 : cX3_sourceOf.data.toList.drop 24 = dktX3_sourceOf_1 := dk_seg dksX3_sourceOf_0 24 rfl rfl
theorem dX3_sourceOf_0 : decode cX3_sourceOf 0 = .ok (.aload_n 0, 1) := dk_42 (dk_at dksX3_sourceOf_0 0 rfl rfl)
theorem dX3_sourceOf_1 : decode cX3_sourceOf 1 = .ok (.getfield 12, 3) := dk_180 0 12 (dk_at dksX3_sourceOf_0 1 rfl rfl)
theorem dX3_sourceOf_4 : decode cX3_sourceOf 4 = .ok (.iload_n 1, 1) := dk_27 (dk_at dksX3_sourceOf_0 4 rfl rfl)
theorem dX3_sourceOf_5 : decode cX3_sourceOf 5 = .ok (.invokeinterface 61 2, 5) := by decide +kernel
theorem dX3_sourceOf_10 : decode cX3_sourceOf 10 = .ok (.checkcast 34, 3) := dk_192 0 34 (dk_at dksX3_sourceOf_0 10 rfl rfl)
theorem dX3_sourceOf_13 : decode cX3_sourceOf 13 = .ok (.getfield 124, 3) := dk_180 0 124 (dk_at dksX3_sourceOf_0 13 rfl rfl)
theorem dX3_sourceOf_16 : decode cX3_sourceOf 16 = .ok (.istore_n 2, 1) := dk_61 (dk_at dksX3_sourceOf_0 16 rfl rfl)
theorem dX3_sourceOf_17 : decode cX3_sourceOf 17 = .ok (.aload_n 0, 1) := dk_42 (dk_at dksX3_sourceOf_0 17 rfl rfl)
theorem dX3_sourceOf_18 : decode cX3_sourceOf 18 = .ok (.getfield 12, 3) := dk_180 0 12 (dk_at dksX3_sourceOf_0 18 rfl rfl)
theorem dX3_sourceOf_21 : decode cX3_sourceOf 21 = .ok (.iload_n 1, 1) := dk_27 (dk_at dksX3_sourceOf_0 21 rfl rfl)
theorem dX3_sourceOf_22 : decode cX3_sourceOf 22 = .ok (.aload_n 0, 1) := dk_42 (dk_at dksX3_sourceOf_0 22 rfl rfl)
theorem dX3_sourceOf_23 : decode cX3_sourceOf 23 = .ok (.iload_n 2, 1) := dk_28 (dk_at dksX3_sourceOf_0 23 rfl rfl)
theorem dX3_sourceOf_24 : decode cX3_sourceOf 24 = .ok (.iload_n 1, 1) := dk_27 (dk_at dksX3_sourceOf_1 0 rfl rfl)
theorem dX3_sourceOf_25 : decode cX3_sourceOf 25 = .ok (.invokedynamic 128, 5) := by decide +kernel
theorem dX3_sourceOf_30 : decode cX3_sourceOf 30 = .ok (.invokestatic 45, 3) := dk_184 0 45 (dk_at dksX3_sourceOf_1 6 rfl rfl)
theorem dX3_sourceOf_33 : decode cX3_sourceOf 33 = .ok (.ireturn, 1) := dk_172 (dk_at dksX3_sourceOf_1 9 rfl rfl)
abbrev cX3_lambda_sourceOf_6 : ByteArray := prog_8_method_34_code
def yX3_lambda_sourceOf_6 : MethodName := ⟨RX3, "lambda$sourceOf$6", "(CILScheduleAnalyzer$Operation;)Z"⟩
def dkwX3_lambda_sourceOf_6_1 : List UInt8 := [3, 172]
abbrev dktX3_lambda_sourceOf_6_1 : List UInt8 := dkwX3_lambda_sourceOf_6_1 ++ []
def dkwX3_lambda_sourceOf_6_0 : List UInt8 := [45, 27, 182, 0, 155, 153, 0, 19, 42, 45, 180, 0, 72, 28, 182, 0, 215, 154, 0, 7, 4, 167, 0, 4]
abbrev dktX3_lambda_sourceOf_6_0 : List UInt8 := dkwX3_lambda_sourceOf_6_0 ++ dktX3_lambda_sourceOf_6_1
theorem dksX3_lambda_sourceOf_6_0 : cX3_lambda_sourceOf_6.data.toList.drop 0 = dktX3_lambda_sourceOf_6_0 := by decide +kernel
theorem dksX3_lambda_sourceOf_6_1 : cX3_lambda_sourceOf_6.data.toList.drop 24 = dktX3_lambda_sourceOf_6_1 := dk_seg dksX3_lambda_sourceOf_6_0 24 rfl rfl
theorem dX3_lambda_sourceOf_6_0 : decode cX3_lambda_sourceOf_6 0 = .ok (.aload_n 3, 1) := dk_45 (dk_at dksX3_lambda_sourceOf_6_0 0 rfl rfl)
theorem dX3_lambda_sourceOf_6_1 : decode cX3_lambda_sourceOf_6 1 = .ok (.iload_n 1, 1) := dk_27 (dk_at dksX3_lambda_sourceOf_6_0 1 rfl rfl)
theorem dX3_lambda_sourceOf_6_2 : decode cX3_lambda_sourceOf_6 2 = .ok (.invokevirtual 155, 3) := dk_182 0 155 (dk_at dksX3_lambda_sourceOf_6_0 2 rfl rfl)
theorem dX3_lambda_sourceOf_6_5 : decode cX3_lambda_sourceOf_6 5 = .ok (.ifCond .eq 19, 3) := dk_153 0 19 (dk_at dksX3_lambda_sourceOf_6_0 5 rfl rfl)
theorem dX3_lambda_sourceOf_6_8 : decode cX3_lambda_sourceOf_6 8 = .ok (.aload_n 0, 1) := dk_42 (dk_at dksX3_lambda_sourceOf_6_0 8 rfl rfl)
theorem dX3_lambda_sourceOf_6_9 : decode cX3_lambda_sourceOf_6 9 = .ok (.aload_n 3, 1) := dk_45 (dk_at dksX3_lambda_sourceOf_6_0 9 rfl rfl)
theorem dX3_lambda_sourceOf_6_10 : decode cX3_lambda_sourceOf_6 10 = .ok (.getfield 72, 3) := dk_180 0 72 (dk_at dksX3_lambda_sourceOf_6_0 10 rfl rfl)
theorem dX3_lambda_sourceOf_6_13 : decode cX3_lambda_sourceOf_6 13 = .ok (.iload_n 2, 1) := dk_28 (dk_at dksX3_lambda_sourceOf_6_0 13 rfl rfl)
theorem dX3_lambda_sourceOf_6_14 : decode cX3_lambda_sourceOf_6 14 = .ok (.invokevirtual 215, 3) := dk_182 0 215 (dk_at dksX3_lambda_sourceOf_6_0 14 rfl rfl)
theorem dX3_lambda_sourceOf_6_17 : decode cX3_lambda_sourceOf_6 17 = .ok (.ifCond .ne 7, 3) := dk_154 0 7 (dk_at dksX3_lambda_sourceOf_6_0 17 rfl rfl)
theorem dX3_lambda_sourceOf_6_20 : decode cX3_lambda_sourceOf_6 20 = .ok (.iconst 1, 1) := dk_4 (dk_at dksX3_lambda_sourceOf_6_0 20 rfl rfl)
theorem dX3_lambda_sourceOf_6_21 : decode cX3_lambda_sourceOf_6 21 = .ok (.goto 4, 3) := dk_167 0 4 (dk_at dksX3_lambda_sourceOf_6_0 21 rfl rfl)
theorem dX3_lambda_sourceOf_6_24 : decode cX3_lambda_sourceOf_6 24 = .ok (.iconst 0, 1) := dk_3 (dk_at dksX3_lambda_sourceOf_6_1 0 rfl rfl)
theorem dX3_lambda_sourceOf_6_25 : decode cX3_lambda_sourceOf_6 25 = .ok (.ireturn, 1) := dk_172 (dk_at dksX3_lambda_sourceOf_6_1 1 rfl rfl)
abbrev cX3_isAbortedBefore : ByteArray := prog_8_method_15_code
def yX3_isAbortedBefore : MethodName := ⟨RX3, "isAbortedBefore", "(II)Z"⟩
def dkwX3_isAbortedBefore_0 : List UInt8 := [42, 180, 0, 12, 28, 27, 186, 0, 122, 0, 0, 184, 0, 45, 2, 159, 0, 7, 4, 167, 0, 4, 3, 172]
abbrev dktX3_isAbortedBefore_0 : List UInt8 := dkwX3_isAbortedBefore_0 ++ []
theorem dksX3_isAbortedBefore_0 : cX3_isAbortedBefore.data.toList.drop 0 = dktX3_isAbortedBefore_0 := by decide +kernel
theorem dX3_isAbortedBefore_0 : decode cX3_isAbortedBefore 0 = .ok (.aload_n 0, 1) := dk_42 (dk_at dksX3_isAbortedBefore_0 0 rfl rfl)
theorem dX3_isAbortedBefore_1 : decode cX3_isAbortedBefore 1 = .ok (.getfield 12, 3) := dk_180 0 12 (dk_at dksX3_isAbortedBefore_0 1 rfl rfl)
theorem dX3_isAbortedBefore_4 : decode cX3_isAbortedBefore 4 = .ok (.iload_n 2, 1) := dk_28 (dk_at dksX3_isAbortedBefore_0 4 rfl rfl)
theorem dX3_isAbortedBefore_5 : decode cX3_isAbortedBefore 5 = .ok (.iload_n 1, 1) := dk_27 (dk_at dksX3_isAbortedBefore_0 5 rfl rfl)
theorem dX3_isAbortedBefore_6 : decode cX3_isAbortedBefore 6 = .ok (.invokedynamic 122, 5) := by decide +kernel
theorem dX3_isAbortedBefore_11 : decode cX3_isAbortedBefore 11 = .ok (.invokestatic 45, 3) := dk_184 0 45 (dk_at dksX3_isAbortedBefore_0 11 rfl rfl)
theorem dX3_isAbortedBefore_14 : decode cX3_isAbortedBefore 14 = .ok (.iconst (-1), 1) := dk_2 (dk_at dksX3_isAbortedBefore_0 14 rfl rfl)
theorem dX3_isAbortedBefore_15 : decode cX3_isAbortedBefore 15 = .ok (.if_icmp .eq 7, 3) := dk_159 0 7 (dk_at dksX3_isAbortedBefore_0 15 rfl rfl)
theorem dX3_isAbortedBefore_18 : decode cX3_isAbortedBefore 18 = .ok (.iconst 1, 1) := dk_4 (dk_at dksX3_isAbortedBefore_0 18 rfl rfl)
theorem dX3_isAbortedBefore_19 : decode cX3_isAbortedBefore 19 = .ok (.goto 4, 3) := dk_167 0 4 (dk_at dksX3_isAbortedBefore_0 19 rfl rfl)
theorem dX3_isAbortedBefore_22 : decode cX3_isAbortedBefore 22 = .ok (.iconst 0, 1) := dk_3 (dk_at dksX3_isAbortedBefore_0 22 rfl rfl)
theorem dX3_isAbortedBefore_23 : decode cX3_isAbortedBefore 23 = .ok (.ireturn, 1) := dk_172 (dk_at dksX3_isAbortedBefore_0 23 rfl rfl)
abbrev cX3_lambda_isAbortedBefore_4 : ByteArray := prog_8_method_36_code
def yX3_lambda_isAbortedBefore_4 : MethodName := ⟨RX3, "lambda$isAbortedBefore$4", "(ILScheduleAnalyzer$Operation;)Z"⟩
def dkwX3_lambda_isAbortedBefore_4_0 : List UInt8 := [43, 16, 120, 26, 182, 0, 211, 172]
abbrev dktX3_lambda_isAbortedBefore_4_0 : List UInt8 := dkwX3_lambda_isAbortedBefore_4_0 ++ []
theorem dksX3_lambda_isAbortedBefore_4_0 : cX3_lambda_isAbortedBefore_4.data.toList.drop 0 = dktX3_lambda_isAbortedBefore_4_0 := by decide +kernel
theorem dX3_lambda_isAbortedBefore_4_0 : decode cX3_lambda_isAbortedBefore_4 0 = .ok (.aload_n 1, 1) := dk_43 (dk_at dksX3_lambda_isAbortedBefore_4_0 0 rfl rfl)
theorem dX3_lambda_isAbortedBefore_4_1 : decode cX3_lambda_isAbortedBefore_4 1 = .ok (.bipush 120, 2) := dk_16 120 (dk_at dksX3_lambda_isAbortedBefore_4_0 1 rfl rfl)
theorem dX3_lambda_isAbortedBefore_4_3 : decode cX3_lambda_isAbortedBefore_4 3 = .ok (.iload_n 0, 1) := dk_26 (dk_at dksX3_lambda_isAbortedBefore_4_0 3 rfl rfl)
theorem dX3_lambda_isAbortedBefore_4_4 : decode cX3_lambda_isAbortedBefore_4 4 = .ok (.invokevirtual 211, 3) := dk_182 0 211 (dk_at dksX3_lambda_isAbortedBefore_4_0 4 rfl rfl)
theorem dX3_lambda_isAbortedBefore_4_7 : decode cX3_lambda_isAbortedBefore_4 7 = .ok (.ireturn, 1) := dk_172 (dk_at dksX3_lambda_isAbortedBefore_4_0 7 rfl rfl)
abbrev cX3_isCommittedBefore : ByteArray := prog_8_method_16_code
def yX3_isCommittedBefore : MethodName := ⟨RX3, "isCommittedBefore", "(II)Z"⟩
def dkwX3_isCommittedBefore_0 : List UInt8 := [42, 180, 0, 12, 28, 27, 186, 0, 123, 0, 0, 184, 0, 45, 2, 159, 0, 7, 4, 167, 0, 4, 3, 172]
abbrev dktX3_isCommittedBefore_0 : List UInt8 := dkwX3_isCommittedBefore_0 ++ []
theorem dksX3_isCommittedBefore_0 : cX3_isCommittedBefore.data.toList.drop 0 = dktX3_isCommittedBefore_0 := by decide +kernel
theorem dX3_isCommittedBefore_0 : decode cX3_isCommittedBefore 0 = .ok (.aload_n 0, 1) := dk_42 (dk_at dksX3_isCommittedBefore_0 0 rfl rfl)
theorem dX3_isCommittedBefore_1 : decode cX3_isCommittedBefore 1 = .ok (.getfield 12, 3) := dk_180 0 12 (dk_at dksX3_isCommittedBefore_0 1 rfl rfl)
theorem dX3_isCommittedBefore_4 : decode cX3_isCommittedBefore 4 = .ok (.iload_n 2, 1) := dk_28 (dk_at dksX3_isCommittedBefore_0 4 rfl rfl)
theorem dX3_isCommittedBefore_5 : decode cX3_isCommittedBefore 5 = .ok (.iload_n 1, 1) := dk_27 (dk_at dksX3_isCommittedBefore_0 5 rfl rfl)
theorem dX3_isCommittedBefore_6 : decode cX3_isCommittedBefore 6 = .ok (.invokedynamic 123, 5) := by decide +kernel
theorem dX3_isCommittedBefore_11 : decode cX3_isCommittedBefore 11 = .ok (.invokestatic 45, 3) := dk_184 0 45 (dk_at dksX3_isCommittedBefore_0 11 rfl rfl)
theorem dX3_isCommittedBefore_14 : decode cX3_isCommittedBefore 14 = .ok (.iconst (-1), 1) := dk_2 (dk_at dksX3_isCommittedBefore_0 14 rfl rfl)
theorem dX3_isCommittedBefore_15 : decode cX3_isCommittedBefore 15 = .ok (.if_icmp .eq 7, 3) := dk_159 0 7 (dk_at dksX3_isCommittedBefore_0 15 rfl rfl)
theorem dX3_isCommittedBefore_18 : decode cX3_isCommittedBefore 18 = .ok (.iconst 1, 1) := dk_4 (dk_at dksX3_isCommittedBefore_0 18 rfl rfl)
theorem dX3_isCommittedBefore_19 : decode cX3_isCommittedBefore 19 = .ok (.goto 4, 3) := dk_167 0 4 (dk_at dksX3_isCommittedBefore_0 19 rfl rfl)
theorem dX3_isCommittedBefore_22 : decode cX3_isCommittedBefore 22 = .ok (.iconst 0, 1) := dk_3 (dk_at dksX3_isCommittedBefore_0 22 rfl rfl)
theorem dX3_isCommittedBefore_23 : decode cX3_isCommittedBefore 23 = .ok (.ireturn, 1) := dk_172 (dk_at dksX3_isCommittedBefore_0 23 rfl rfl)
abbrev cX3_lambda_isCommittedBefore_5 : ByteArray := prog_8_method_35_code
def yX3_lambda_isCommittedBefore_5 : MethodName := ⟨RX3, "lambda$isCommittedBefore$5", "(ILScheduleAnalyzer$Operation;)Z"⟩
def dkwX3_lambda_isCommittedBefore_5_0 : List UInt8 := [43, 16, 99, 26, 182, 0, 211, 172]
abbrev dktX3_lambda_isCommittedBefore_5_0 : List UInt8 := dkwX3_lambda_isCommittedBefore_5_0 ++ []
theorem dksX3_lambda_isCommittedBefore_5_0 : cX3_lambda_isCommittedBefore_5.data.toList.drop 0 = dktX3_lambda_isCommittedBefore_5_0 := by decide +kernel
theorem dX3_lambda_isCommittedBefore_5_0 : decode cX3_lambda_isCommittedBefore_5 0 = .ok (.aload_n 1, 1) := dk_43 (dk_at dksX3_lambda_isCommittedBefore_5_0 0 rfl rfl)
theorem dX3_lambda_isCommittedBefore_5_1 : decode cX3_lambda_isCommittedBefore_5 1 = .ok (.bipush 99, 2) := dk_16 99 (dk_at dksX3_lambda_isCommittedBefore_5_0 1 rfl rfl)
theorem dX3_lambda_isCommittedBefore_5_3 : decode cX3_lambda_isCommittedBefore_5 3 = .ok (.iload_n 0, 1) := dk_26 (dk_at dksX3_lambda_isCommittedBefore_5_0 3 rfl rfl)
theorem dX3_lambda_isCommittedBefore_5_4 : decode cX3_lambda_isCommittedBefore_5 4 = .ok (.invokevirtual 211, 3) := dk_182 0 211 (dk_at dksX3_lambda_isCommittedBefore_5_0 4 rfl rfl)
theorem dX3_lambda_isCommittedBefore_5_7 : decode cX3_lambda_isCommittedBefore_5 7 = .ok (.ireturn, 1) := dk_172 (dk_at dksX3_lambda_isCommittedBefore_5_0 7 rfl rfl)
abbrev cX3_countConflicts : ByteArray := prog_8_method_12_code
def yX3_countConflicts : MethodName := ⟨RX3, "countConflicts", "()I"⟩
def dkwX3_countConflicts_2 : List UInt8 := [61, 132, 3, 1, 167, 255, 216, 28, 172]
abbrev dktX3_countConflicts_2 : List UInt8 := dkwX3_countConflicts_2 ++ []
def dkwX3_countConflicts_1 : List UInt8 := [185, 0, 61, 2, 0, 192, 0, 34, 58, 4, 28, 43, 29, 25, 4, 186, 0, 105, 0, 0, 184, 0, 108, 96]
abbrev dktX3_countConflicts_1 : List UInt8 := dkwX3_countConflicts_1 ++ dktX3_countConflicts_2
def dkwX3_countConflicts_0 : List UInt8 := [42, 182, 0, 86, 180, 0, 12, 76, 3, 61, 3, 62, 29, 43, 185, 0, 40, 1, 0, 162, 0, 36, 43, 29]
abbrev dktX3_countConflicts_0 : List UInt8 := dkwX3_countConflicts_0 ++ dktX3_countConflicts_1
theorem dksX3_countConflicts_0 : cX3_countConflicts.data.toList.drop 0 = dktX3_countConflicts_0 := by decide +kernel
theorem dksX3_countConflicts_1 : cX3_countConflicts.data.toList.drop 24 = dktX3_countConflicts_1 := dk_seg dksX3_countConflicts_0 24 rfl rfl
theorem dksX3_countConflicts_2 : cX3_countConflicts.data.toList.drop 48 = dktX3_countConflicts_2 := dk_seg dksX3_countConflicts_1 24 rfl rfl
theorem dX3_countConflicts_0 : decode cX3_countConflicts 0 = .ok (.aload_n 0, 1) := dk_42 (dk_at dksX3_countConflicts_0 0 rfl rfl)
theorem dX3_countConflicts_1 : decode cX3_countConflicts 1 = .ok (.invokevirtual 86, 3) := dk_182 0 86 (dk_at dksX3_countConflicts_0 1 rfl rfl)
theorem dX3_countConflicts_4 : decode cX3_countConflicts 4 = .ok (.getfield 12, 3) := dk_180 0 12 (dk_at dksX3_countConflicts_0 4 rfl rfl)
theorem dX3_countConflicts_7 : decode cX3_countConflicts 7 = .ok (.astore_n 1, 1) := dk_76 (dk_at dksX3_countConflicts_0 7 rfl rfl)
theorem dX3_countConflicts_8 : decode cX3_countConflicts 8 = .ok (.iconst 0, 1) := dk_3 (dk_at dksX3_countConflicts_0 8 rfl rfl)
theorem dX3_countConflicts_9 : decode cX3_countConflicts 9 = .ok (.istore_n 2, 1) := dk_61 (dk_at dksX3_countConflicts_0 9 rfl rfl)
theorem dX3_countConflicts_10 : decode cX3_countConflicts 10 = .ok (.iconst 0, 1) := dk_3 (dk_at dksX3_countConflicts_0 10 rfl rfl)
theorem dX3_countConflicts_11 : decode cX3_countConflicts 11 = .ok (.istore_n 3, 1) := dk_62 (dk_at dksX3_countConflicts_0 11 rfl rfl)
theorem dX3_countConflicts_12 : decode cX3_countConflicts 12 = .ok (.iload_n 3, 1) := dk_29 (dk_at dksX3_countConflicts_0 12 rfl rfl)
theorem dX3_countConflicts_13 : decode cX3_countConflicts 13 = .ok (.aload_n 1, 1) := dk_43 (dk_at dksX3_countConflicts_0 13 rfl rfl)
theorem dX3_countConflicts_14 : decode cX3_countConflicts 14 = .ok (.invokeinterface 40 1, 5) := by decide +kernel
theorem dX3_countConflicts_19 : decode cX3_countConflicts 19 = .ok (.if_icmp .ge 36, 3) := dk_162 0 36 (dk_at dksX3_countConflicts_0 19 rfl rfl)
theorem dX3_countConflicts_22 : decode cX3_countConflicts 22 = .ok (.aload_n 1, 1) := dk_43 (dk_at dksX3_countConflicts_0 22 rfl rfl)
theorem dX3_countConflicts_23 : decode cX3_countConflicts 23 = .ok (.iload_n 3, 1) := dk_29 (dk_at dksX3_countConflicts_0 23 rfl rfl)
theorem dX3_countConflicts_24 : decode cX3_countConflicts 24 = .ok (.invokeinterface 61 2, 5) := by decide +kernel
theorem dX3_countConflicts_29 : decode cX3_countConflicts 29 = .ok (.checkcast 34, 3) := dk_192 0 34 (dk_at dksX3_countConflicts_1 5 rfl rfl)
theorem dX3_countConflicts_32 : decode cX3_countConflicts 32 = .ok (.astore 4, 2) := dk_58 4 (dk_at dksX3_countConflicts_1 8 rfl rfl)
theorem dX3_countConflicts_34 : decode cX3_countConflicts 34 = .ok (.iload_n 2, 1) := dk_28 (dk_at dksX3_countConflicts_1 10 rfl rfl)
theorem dX3_countConflicts_35 : decode cX3_countConflicts 35 = .ok (.aload_n 1, 1) := dk_43 (dk_at dksX3_countConflicts_1 11 rfl rfl)
theorem dX3_countConflicts_36 : decode cX3_countConflicts 36 = .ok (.iload_n 3, 1) := dk_29 (dk_at dksX3_countConflicts_1 12 rfl rfl)
theorem dX3_countConflicts_37 : decode cX3_countConflicts 37 = .ok (.aload 4, 2) := dk_25 4 (dk_at dksX3_countConflicts_1 13 rfl rfl)
theorem dX3_countConflicts_39 : decode cX3_countConflicts 39 = .ok (.invokedynamic 105, 5) := by decide +kernel
theorem dX3_countConflicts_44 : decode cX3_countConflicts 44 = .ok (.invokestatic 108, 3) := dk_184 0 108 (dk_at dksX3_countConflicts_1 20 rfl rfl)
theorem dX3_countConflicts_47 : decode cX3_countConflicts 47 = .ok (.iadd, 1) := dk_96 (dk_at dksX3_countConflicts_1 23 rfl rfl)
theorem dX3_countConflicts_48 : decode cX3_countConflicts 48 = .ok (.istore_n 2, 1) := dk_61 (dk_at dksX3_countConflicts_2 0 rfl rfl)
theorem dX3_countConflicts_49 : decode cX3_countConflicts 49 = .ok (.iinc 3 1, 3) := dk_132 3 1 (dk_at dksX3_countConflicts_2 1 rfl rfl)
theorem dX3_countConflicts_52 : decode cX3_countConflicts 52 = .ok (.goto (-40), 3) := dk_167 255 216 (dk_at dksX3_countConflicts_2 4 rfl rfl)
theorem dX3_countConflicts_55 : decode cX3_countConflicts 55 = .ok (.iload_n 2, 1) := dk_28 (dk_at dksX3_countConflicts_2 7 rfl rfl)
theorem dX3_countConflicts_56 : decode cX3_countConflicts 56 = .ok (.ireturn, 1) := dk_172 (dk_at dksX3_countConflicts_2 8 rfl rfl)
abbrev cX3_lambda_countConflicts_2 : ByteArray := prog_8_method_38_code
def yX3_lambda_countConflicts_2 : MethodName := ⟨RX3, "lambda$countConflicts$2", "(LScheduleAnalyzer$Operation;LScheduleAnalyzer$Operation;)Z"⟩
def dkwX3_lambda_countConflicts_2_0 : List UInt8 := [43, 42, 182, 0, 97, 172]
abbrev dktX3_lambda_countConflicts_2_0 : List UInt8 := dkwX3_lambda_countConflicts_2_0 ++ []
theorem dksX3_lambda_countConflicts_2_0 : cX3_lambda_countConflicts_2.data.toList.drop 0 = dktX3_lambda_countConflicts_2_0 := by decide +kernel
theorem dX3_lambda_countConflicts_2_0 : decode cX3_lambda_countConflicts_2 0 = .ok (.aload_n 1, 1) := dk_43 (dk_at dksX3_lambda_countConflicts_2_0 0 rfl rfl)
theorem dX3_lambda_countConflicts_2_1 : decode cX3_lambda_countConflicts_2 1 = .ok (.aload_n 0, 1) := dk_42 (dk_at dksX3_lambda_countConflicts_2_0 1 rfl rfl)
theorem dX3_lambda_countConflicts_2_2 : decode cX3_lambda_countConflicts_2 2 = .ok (.invokevirtual 97, 3) := dk_182 0 97 (dk_at dksX3_lambda_countConflicts_2_0 2 rfl rfl)
theorem dX3_lambda_countConflicts_2_5 : decode cX3_lambda_countConflicts_2 5 = .ok (.ireturn, 1) := dk_172 (dk_at dksX3_lambda_countConflicts_2_0 5 rfl rfl)
abbrev cX3_countConflictsByItems : ByteArray := prog_8_method_14_code
def yX3_countConflictsByItems : MethodName := ⟨RX3, "countConflictsByItems", "()I"⟩
def dkwX3_countConflictsByItems_4 : List UInt8 := [62, 167, 255, 171, 28, 172]
abbrev dktX3_countConflictsByItems_4 : List UInt8 := dkwX3_countConflictsByItems_4 ++ []
def dkwX3_countConflictsByItems_3 : List UInt8 := [21, 4, 21, 7, 96, 54, 4, 21, 5, 21, 8, 96, 54, 5, 132, 6, 1, 167, 255, 194, 29, 4, 96, 146]
abbrev dktX3_countConflictsByItems_3 : List UInt8 := dkwX3_countConflictsByItems_3 ++ dktX3_countConflictsByItems_4
def dkwX3_countConflictsByItems_2 : List UInt8 := [29, 184, 0, 118, 54, 8, 28, 21, 8, 21, 4, 21, 5, 96, 104, 21, 7, 21, 5, 104, 96, 96, 61]
abbrev dktX3_countConflictsByItems_2 : List UInt8 := dkwX3_countConflictsByItems_2 ++ dktX3_countConflictsByItems_3
def dkwX3_countConflictsByItems_1 : List UInt8 := [54, 6, 21, 6, 8, 163, 0, 62, 43, 16, 114, 21, 6, 29, 184, 0, 118, 54, 7, 43, 16, 119, 21, 6]
abbrev dktX3_countConflictsByItems_1 : List UInt8 := dkwX3_countConflictsByItems_1 ++ dktX3_countConflictsByItems_2
def dkwX3_countConflictsByItems_0 : List UInt8 := [42, 182, 0, 86, 76, 3, 61, 16, 97, 62, 29, 16, 100, 163, 0, 85, 3, 54, 4, 3, 54, 5, 4]
abbrev dktX3_countConflictsByItems_0 : List UInt8 := dkwX3_countConflictsByItems_0 ++ dktX3_countConflictsByItems_1
theorem dksX3_countConflictsByItems_0 : cX3_countConflictsByItems.data.toList.drop 0 = dktX3_countConflictsByItems_0 := by decide +kernel
theorem dksX3_countConflictsByItems_1 : cX3_countConflictsByItems.data.toList.drop 23 = dktX3_countConflictsByItems_1 := dk_seg dksX3_countConflictsByItems_0 23 rfl rfl
theorem dksX3_countConflictsByItems_2 : cX3_countConflictsByItems.data.toList.drop 47 = dktX3_countConflictsByItems_2 := dk_seg dksX3_countConflictsByItems_1 24 rfl rfl
theorem dksX3_countConflictsByItems_3 : cX3_countConflictsByItems.data.toList.drop 70 = dktX3_countConflictsByItems_3 := dk_seg dksX3_countConflictsByItems_2 23 rfl rfl
theorem dksX3_countConflictsByItems_4 : cX3_countConflictsByItems.data.toList.drop 94 = dktX3_countConflictsByItems_4 := dk_seg dksX3_countConflictsByItems_3 24 rfl rfl
theorem dX3_countConflictsByItems_0 : decode cX3_countConflictsByItems 0 = .ok (.aload_n 0, 1) := dk_42 (dk_at dksX3_countConflictsByItems_0 0 rfl rfl)
theorem dX3_countConflictsByItems_1 : decode cX3_countConflictsByItems 1 = .ok (.invokevirtual 86, 3) := dk_182 0 86 (dk_at dksX3_countConflictsByItems_0 1 rfl rfl)
theorem dX3_countConflictsByItems_4 : decode cX3_countConflictsByItems 4 = .ok (.astore_n 1, 1) := dk_76 (dk_at dksX3_countConflictsByItems_0 4 rfl rfl)
theorem dX3_countConflictsByItems_5 : decode cX3_countConflictsByItems 5 = .ok (.iconst 0, 1) := dk_3 (dk_at dksX3_countConflictsByItems_0 5 rfl rfl)
theorem dX3_countConflictsByItems_6 : decode cX3_countConflictsByItems 6 = .ok (.istore_n 2, 1) := dk_61 (dk_at dksX3_countConflictsByItems_0 6 rfl rfl)
theorem dX3_countConflictsByItems_7 : decode cX3_countConflictsByItems 7 = .ok (.bipush 97, 2) := dk_16 97 (dk_at dksX3_countConflictsByItems_0 7 rfl rfl)
theorem dX3_countConflictsByItems_9 : decode cX3_countConflictsByItems 9 = .ok (.istore_n 3, 1) := dk_62 (dk_at dksX3_countConflictsByItems_0 9 rfl rfl)
theorem dX3_countConflictsByItems_10 : decode cX3_countConflictsByItems 10 = .ok (.iload_n 3, 1) := dk_29 (dk_at dksX3_countConflictsByItems_0 10 rfl rfl)
theorem dX3_countConflictsByItems_11 : decode cX3_countConflictsByItems 11 = .ok (.bipush 100, 2) := dk_16 100 (dk_at dksX3_countConflictsByItems_0 11 rfl rfl)
theorem dX3_countConflictsByItems_13 : decode cX3_countConflictsByItems 13 = .ok (.if_icmp .gt 85, 3) := dk_163 0 85 (dk_at dksX3_countConflictsByItems_0 13 rfl rfl)
theorem dX3_countConflictsByItems_16 : decode cX3_countConflictsByItems 16 = .ok (.iconst 0, 1) := dk_3 (dk_at dksX3_countConflictsByItems_0 16 rfl rfl)
theorem dX3_countConflictsByItems_17 : decode cX3_countConflictsByItems 17 = .ok (.istore 4, 2) := dk_54 4 (dk_at dksX3_countConflictsByItems_0 17 rfl rfl)
theorem dX3_countConflictsByItems_19 : decode cX3_countConflictsByItems 19 = .ok (.iconst 0, 1) := dk_3 (dk_at dksX3_countConflictsByItems_0 19 rfl rfl)
theorem dX3_countConflictsByItems_20 : decode cX3_countConflictsByItems 20 = .ok (.istore 5, 2) := dk_54 5 (dk_at dksX3_countConflictsByItems_0 20 rfl rfl)
theorem dX3_countConflictsByItems_22 : decode cX3_countConflictsByItems 22 = .ok (.iconst 1, 1) := dk_4 (dk_at dksX3_countConflictsByItems_0 22 rfl rfl)
theorem dX3_countConflictsByItems_23 : decode cX3_countConflictsByItems 23 = .ok (.istore 6, 2) := dk_54 6 (dk_at dksX3_countConflictsByItems_1 0 rfl rfl)
theorem dX3_countConflictsByItems_25 : decode cX3_countConflictsByItems 25 = .ok (.iload 6, 2) := dk_21 6 (dk_at dksX3_countConflictsByItems_1 2 rfl rfl)
theorem dX3_countConflictsByItems_27 : decode cX3_countConflictsByItems 27 = .ok (.iconst 5, 1) := dk_8 (dk_at dksX3_countConflictsByItems_1 4 rfl rfl)
theorem dX3_countConflictsByItems_28 : decode cX3_countConflictsByItems 28 = .ok (.if_icmp .gt 62, 3) := dk_163 0 62 (dk_at dksX3_countConflictsByItems_1 5 rfl rfl)
theorem dX3_countConflictsByItems_31 : decode cX3_countConflictsByItems 31 = .ok (.aload_n 1, 1) := dk_43 (dk_at dksX3_countConflictsByItems_1 8 rfl rfl)
theorem dX3_countConflictsByItems_32 : decode cX3_countConflictsByItems 32 = .ok (.bipush 114, 2) := dk_16 114 (dk_at dksX3_countConflictsByItems_1 9 rfl rfl)
theorem dX3_countConflictsByItems_34 : decode cX3_countConflictsByItems 34 = .ok (.iload 6, 2) := dk_21 6 (dk_at dksX3_countConflictsByItems_1 11 rfl rfl)
theorem dX3_countConflictsByItems_36 : decode cX3_countConflictsByItems 36 = .ok (.iload_n 3, 1) := dk_29 (dk_at dksX3_countConflictsByItems_1 13 rfl rfl)
theorem dX3_countConflictsByItems_37 : decode cX3_countConflictsByItems 37 = .ok (.invokestatic 118, 3) := dk_184 0 118 (dk_at dksX3_countConflictsByItems_1 14 rfl rfl)
theorem dX3_countConflictsByItems_40 : decode cX3_countConflictsByItems 40 = .ok (.istore 7, 2) := dk_54 7 (dk_at dksX3_countConflictsByItems_1 17 rfl rfl)
theorem dX3_countConflictsByItems_42 : decode cX3_countConflictsByItems 42 = .ok (.aload_n 1, 1) := dk_43 (dk_at dksX3_countConflictsByItems_1 19 rfl rfl)
theorem dX3_countConflictsByItems_43 : decode cX3_countConflictsByItems 43 = .ok (.bipush 119, 2) := dk_16 119 (dk_at dksX3_countConflictsByItems_1 20 rfl rfl)
theorem dX3_countConflictsByItems_45 : decode cX3_countConflictsByItems 45 = .ok (.iload 6, 2) := dk_21 6 (dk_at dksX3_countConflictsByItems_1 22 rfl rfl)
theorem dX3_countConflictsByItems_47 : decode cX3_countConflictsByItems 47 = .ok (.iload_n 3, 1) := dk_29 (dk_at dksX3_countConflictsByItems_2 0 rfl rfl)
theorem dX3_countConflictsByItems_48 : decode cX3_countConflictsByItems 48 = .ok (.invokestatic 118, 3) := dk_184 0 118 (dk_at dksX3_countConflictsByItems_2 1 rfl rfl)
theorem dX3_countConflictsByItems_51 : decode cX3_countConflictsByItems 51 = .ok (.istore 8, 2) := dk_54 8 (dk_at dksX3_countConflictsByItems_2 4 rfl rfl)
theorem dX3_countConflictsByItems_53 : decode cX3_countConflictsByItems 53 = .ok (.iload_n 2, 1) := dk_28 (dk_at dksX3_countConflictsByItems_2 6 rfl rfl)
theorem dX3_countConflictsByItems_54 : decode cX3_countConflictsByItems 54 = .ok (.iload 8, 2) := dk_21 8 (dk_at dksX3_countConflictsByItems_2 7 rfl rfl)
theorem dX3_countConflictsByItems_56 : decode cX3_countConflictsByItems 56 = .ok (.iload 4, 2) := dk_21 4 (dk_at dksX3_countConflictsByItems_2 9 rfl rfl)
theorem dX3_countConflictsByItems_58 : decode cX3_countConflictsByItems 58 = .ok (.iload 5, 2) := dk_21 5 (dk_at dksX3_countConflictsByItems_2 11 rfl rfl)
theorem dX3_countConflictsByItems_60 : decode cX3_countConflictsByItems 60 = .ok (.iadd, 1) := dk_96 (dk_at dksX3_countConflictsByItems_2 13 rfl rfl)
theorem dX3_countConflictsByItems_61 : decode cX3_countConflictsByItems 61 = .ok (.imul, 1) := dk_104 (dk_at dksX3_countConflictsByItems_2 14 rfl rfl)
theorem dX3_countConflictsByItems_62 : decode cX3_countConflictsByItems 62 = .ok (.iload 7, 2) := dk_21 7 (dk_at dksX3_countConflictsByItems_2 15 rfl rfl)
theorem dX3_countConflictsByItems_64 : decode cX3_countConflictsByItems 64 = .ok (.iload 5, 2) := dk_21 5 (dk_at dksX3_countConflictsByItems_2 17 rfl rfl)
theorem dX3_countConflictsByItems_66 : decode cX3_countConflictsByItems 66 = .ok (.imul, 1) := dk_104 (dk_at dksX3_countConflictsByItems_2 19 rfl rfl)
theorem dX3_countConflictsByItems_67 : decode cX3_countConflictsByItems 67 = .ok (.iadd, 1) := dk_96 (dk_at dksX3_countConflictsByItems_2 20 rfl rfl)
theorem dX3_countConflictsByItems_68 : decode cX3_countConflictsByItems 68 = .ok (.iadd, 1) := dk_96 (dk_at dksX3_countConflictsByItems_2 21 rfl rfl)
theorem dX3_countConflictsByItems_69 : decode cX3_countConflictsByItems 69 = .ok (.istore_n 2, 1) := dk_61 (dk_at dksX3_countConflictsByItems_2 22 rfl rfl)
theorem dX3_countConflictsByItems_70 : decode cX3_countConflictsByItems 70 = .ok (.iload 4, 2) := dk_21 4 (dk_at dksX3_countConflictsByItems_3 0 rfl rfl)
theorem dX3_countConflictsByItems_72 : decode cX3_countConflictsByItems 72 = .ok (.iload 7, 2) := dk_21 7 (dk_at dksX3_countConflictsByItems_3 2 rfl rfl)
theorem dX3_countConflictsByItems_74 : decode cX3_countConflictsByItems 74 = .ok (.iadd, 1) := dk_96 (dk_at dksX3_countConflictsByItems_3 4 rfl rfl)
theorem dX3_countConflictsByItems_75 : decode cX3_countConflictsByItems 75 = .ok (.istore 4, 2) := dk_54 4 (dk_at dksX3_countConflictsByItems_3 5 rfl rfl)
theorem dX3_countConflictsByItems_77 : decode cX3_countConflictsByItems 77 = .ok (.iload 5, 2) := dk_21 5 (dk_at dksX3_countConflictsByItems_3 7 rfl rfl)
theorem dX3_countConflictsByItems_79 : decode cX3_countConflictsByItems 79 = .ok (.iload 8, 2) := dk_21 8 (dk_at dksX3_countConflictsByItems_3 9 rfl rfl)
theorem dX3_countConflictsByItems_81 : decode cX3_countConflictsByItems 81 = .ok (.iadd, 1) := dk_96 (dk_at dksX3_countConflictsByItems_3 11 rfl rfl)
theorem dX3_countConflictsByItems_82 : decode cX3_countConflictsByItems 82 = .ok (.istore 5, 2) := dk_54 5 (dk_at dksX3_countConflictsByItems_3 12 rfl rfl)
theorem dX3_countConflictsByItems_84 : decode cX3_countConflictsByItems 84 = .ok (.iinc 6 1, 3) := dk_132 6 1 (dk_at dksX3_countConflictsByItems_3 14 rfl rfl)
theorem dX3_countConflictsByItems_87 : decode cX3_countConflictsByItems 87 = .ok (.goto (-62), 3) := dk_167 255 194 (dk_at dksX3_countConflictsByItems_3 17 rfl rfl)
theorem dX3_countConflictsByItems_90 : decode cX3_countConflictsByItems 90 = .ok (.iload_n 3, 1) := dk_29 (dk_at dksX3_countConflictsByItems_3 20 rfl rfl)
theorem dX3_countConflictsByItems_91 : decode cX3_countConflictsByItems 91 = .ok (.iconst 1, 1) := dk_4 (dk_at dksX3_countConflictsByItems_3 21 rfl rfl)
theorem dX3_countConflictsByItems_92 : decode cX3_countConflictsByItems 92 = .ok (.iadd, 1) := dk_96 (dk_at dksX3_countConflictsByItems_3 22 rfl rfl)
theorem dX3_countConflictsByItems_93 : decode cX3_countConflictsByItems 93 = .ok (.i2c, 1) := dk_146 (dk_at dksX3_countConflictsByItems_3 23 rfl rfl)
theorem dX3_countConflictsByItems_94 : decode cX3_countConflictsByItems 94 = .ok (.istore_n 3, 1) := dk_62 (dk_at dksX3_countConflictsByItems_4 0 rfl rfl)
theorem dX3_countConflictsByItems_95 : decode cX3_countConflictsByItems 95 = .ok (.goto (-85), 3) := dk_167 255 171 (dk_at dksX3_countConflictsByItems_4 1 rfl rfl)
theorem dX3_countConflictsByItems_98 : decode cX3_countConflictsByItems 98 = .ok (.iload_n 2, 1) := dk_28 (dk_at dksX3_countConflictsByItems_4 4 rfl rfl)
theorem dX3_countConflictsByItems_99 : decode cX3_countConflictsByItems 99 = .ok (.ireturn, 1) := dk_172 (dk_at dksX3_countConflictsByItems_4 5 rfl rfl)
abbrev cX3_countOf : ByteArray := prog_8_method_13_code
def yX3_countOf : MethodName := ⟨RX3, "countOf", "(LScheduleAnalyzer$Schedule;CIC)I"⟩
def dkwX3_countOf_0 : List UInt8 := [42, 180, 0, 12, 27, 28, 29, 186, 0, 111, 0, 0, 184, 0, 114, 172]
abbrev dktX3_countOf_0 : List UInt8 := dkwX3_countOf_0 ++ []
theorem dksX3_countOf_0 : cX3_countOf.data.toList.drop 0 = dktX3_countOf_0 := by decide +kernel
theorem dX3_countOf_0 : decode cX3_countOf 0 = .ok (.aload_n 0, 1) := dk_42 (dk_at dksX3_countOf_0 0 rfl rfl)
theorem dX3_countOf_1 : decode cX3_countOf 1 = .ok (.getfield 12, 3) := dk_180 0 12 (dk_at dksX3_countOf_0 1 rfl rfl)
theorem dX3_countOf_4 : decode cX3_countOf 4 = .ok (.iload_n 1, 1) := dk_27 (dk_at dksX3_countOf_0 4 rfl rfl)
theorem dX3_countOf_5 : decode cX3_countOf 5 = .ok (.iload_n 2, 1) := dk_28 (dk_at dksX3_countOf_0 5 rfl rfl)
theorem dX3_countOf_6 : decode cX3_countOf 6 = .ok (.iload_n 3, 1) := dk_29 (dk_at dksX3_countOf_0 6 rfl rfl)
theorem dX3_countOf_7 : decode cX3_countOf 7 = .ok (.invokedynamic 111, 5) := by decide +kernel
theorem dX3_countOf_12 : decode cX3_countOf 12 = .ok (.invokestatic 114, 3) := dk_184 0 114 (dk_at dksX3_countOf_0 12 rfl rfl)
theorem dX3_countOf_15 : decode cX3_countOf 15 = .ok (.ireturn, 1) := dk_172 (dk_at dksX3_countOf_0 15 rfl rfl)
abbrev cX3_lambda_countOf_3 : ByteArray := prog_8_method_37_code
def yX3_lambda_countOf_3 : MethodName := ⟨RX3, "lambda$countOf$3", "(CICLScheduleAnalyzer$Operation;)Z"⟩
def dkwX3_lambda_countOf_3_0 : List UInt8 := [45, 26, 27, 182, 0, 211, 153, 0, 15, 45, 180, 0, 124, 28, 160, 0, 7, 4, 167, 0, 4, 3, 172]
abbrev dktX3_lambda_countOf_3_0 : List UInt8 := dkwX3_lambda_countOf_3_0 ++ []
theorem dksX3_lambda_countOf_3_0 : cX3_lambda_countOf_3.data.toList.drop 0 = dktX3_lambda_countOf_3_0 := by decide +kernel
theorem dX3_lambda_countOf_3_0 : decode cX3_lambda_countOf_3 0 = .ok (.aload_n 3, 1) := dk_45 (dk_at dksX3_lambda_countOf_3_0 0 rfl rfl)
theorem dX3_lambda_countOf_3_1 : decode cX3_lambda_countOf_3 1 = .ok (.iload_n 0, 1) := dk_26 (dk_at dksX3_lambda_countOf_3_0 1 rfl rfl)
theorem dX3_lambda_countOf_3_2 : decode cX3_lambda_countOf_3 2 = .ok (.iload_n 1, 1) := dk_27 (dk_at dksX3_lambda_countOf_3_0 2 rfl rfl)
theorem dX3_lambda_countOf_3_3 : decode cX3_lambda_countOf_3 3 = .ok (.invokevirtual 211, 3) := dk_182 0 211 (dk_at dksX3_lambda_countOf_3_0 3 rfl rfl)
theorem dX3_lambda_countOf_3_6 : decode cX3_lambda_countOf_3 6 = .ok (.ifCond .eq 15, 3) := dk_153 0 15 (dk_at dksX3_lambda_countOf_3_0 6 rfl rfl)
theorem dX3_lambda_countOf_3_9 : decode cX3_lambda_countOf_3 9 = .ok (.aload_n 3, 1) := dk_45 (dk_at dksX3_lambda_countOf_3_0 9 rfl rfl)
theorem dX3_lambda_countOf_3_10 : decode cX3_lambda_countOf_3 10 = .ok (.getfield 124, 3) := dk_180 0 124 (dk_at dksX3_lambda_countOf_3_0 10 rfl rfl)
theorem dX3_lambda_countOf_3_13 : decode cX3_lambda_countOf_3 13 = .ok (.iload_n 2, 1) := dk_28 (dk_at dksX3_lambda_countOf_3_0 13 rfl rfl)
theorem dX3_lambda_countOf_3_14 : decode cX3_lambda_countOf_3 14 = .ok (.if_icmp .ne 7, 3) := dk_160 0 7 (dk_at dksX3_lambda_countOf_3_0 14 rfl rfl)
theorem dX3_lambda_countOf_3_17 : decode cX3_lambda_countOf_3 17 = .ok (.iconst 1, 1) := dk_4 (dk_at dksX3_lambda_countOf_3_0 17 rfl rfl)
theorem dX3_lambda_countOf_3_18 : decode cX3_lambda_countOf_3 18 = .ok (.goto 4, 3) := dk_167 0 4 (dk_at dksX3_lambda_countOf_3_0 18 rfl rfl)
theorem dX3_lambda_countOf_3_21 : decode cX3_lambda_countOf_3 21 = .ok (.iconst 0, 1) := dk_3 (dk_at dksX3_lambda_countOf_3_0 21 rfl rfl)
theorem dX3_lambda_countOf_3_22 : decode cX3_lambda_countOf_3 22 = .ok (.ireturn, 1) := dk_172 (dk_at dksX3_lambda_countOf_3_0 22 rfl rfl)
abbrev cX3_isStrict : ByteArray := prog_8_method_25_code
def yX3_isStrict : MethodName := ⟨RX3, "isStrict", "()Z"⟩
def dkwX3_isStrict_1 : List UInt8 := [167, 0, 4, 3, 126, 60, 132, 2, 1, 167, 255, 229, 27, 172]
abbrev dktX3_isStrict_1 : List UInt8 := dkwX3_isStrict_1 ++ []
def dkwX3_isStrict_0 : List UInt8 := [4, 60, 3, 61, 28, 42, 182, 0, 44, 162, 0, 25, 27, 42, 28, 182, 0, 163, 154, 0, 7, 4]
abbrev dktX3_isStrict_0 : List UInt8 := dkwX3_isStrict_0 ++ dktX3_isStrict_1
theorem dksX3_isStrict_0 : cX3_isStrict.data.toList.drop 0 = dktX3_isStrict_0 := by decide +kernel
theorem dksX3_isStrict_1 : cX3_isStrict.data.toList.drop 22 = dktX3_isStrict_1 := dk_seg dksX3_isStrict_0 22 rfl rfl
theorem dX3_isStrict_0 : decode cX3_isStrict 0 = .ok (.iconst 1, 1) := dk_4 (dk_at dksX3_isStrict_0 0 rfl rfl)
theorem dX3_isStrict_1 : decode cX3_isStrict 1 = .ok (.istore_n 1, 1) := dk_60 (dk_at dksX3_isStrict_0 1 rfl rfl)
theorem dX3_isStrict_2 : decode cX3_isStrict 2 = .ok (.iconst 0, 1) := dk_3 (dk_at dksX3_isStrict_0 2 rfl rfl)
theorem dX3_isStrict_3 : decode cX3_isStrict 3 = .ok (.istore_n 2, 1) := dk_61 (dk_at dksX3_isStrict_0 3 rfl rfl)
theorem dX3_isStrict_4 : decode cX3_isStrict 4 = .ok (.iload_n 2, 1) := dk_28 (dk_at dksX3_isStrict_0 4 rfl rfl)
theorem dX3_isStrict_5 : decode cX3_isStrict 5 = .ok (.aload_n 0, 1) := dk_42 (dk_at dksX3_isStrict_0 5 rfl rfl)
theorem dX3_isStrict_6 : decode cX3_isStrict 6 = .ok (.invokevirtual 44, 3) := dk_182 0 44 (dk_at dksX3_isStrict_0 6 rfl rfl)
theorem dX3_isStrict_9 : decode cX3_isStrict 9 = .ok (.if_icmp .ge 25, 3) := dk_162 0 25 (dk_at dksX3_isStrict_0 9 rfl rfl)
theorem dX3_isStrict_12 : decode cX3_isStrict 12 = .ok (.iload_n 1, 1) := dk_27 (dk_at dksX3_isStrict_0 12 rfl rfl)
theorem dX3_isStrict_13 : decode cX3_isStrict 13 = .ok (.aload_n 0, 1) := dk_42 (dk_at dksX3_isStrict_0 13 rfl rfl)
theorem dX3_isStrict_14 : decode cX3_isStrict 14 = .ok (.iload_n 2, 1) := dk_28 (dk_at dksX3_isStrict_0 14 rfl rfl)
theorem dX3_isStrict_15 : decode cX3_isStrict 15 = .ok (.invokevirtual 163, 3) := dk_182 0 163 (dk_at dksX3_isStrict_0 15 rfl rfl)
theorem dX3_isStrict_18 : decode cX3_isStrict 18 = .ok (.ifCond .ne 7, 3) := dk_154 0 7 (dk_at dksX3_isStrict_0 18 rfl rfl)
theorem dX3_isStrict_21 : decode cX3_isStrict 21 = .ok (.iconst 1, 1) := dk_4 (dk_at dksX3_isStrict_0 21 rfl rfl)
theorem dX3_isStrict_22 : decode cX3_isStrict 22 = .ok (.goto 4, 3) := dk_167 0 4 (dk_at dksX3_isStrict_1 0 rfl rfl)
theorem dX3_isStrict_25 : decode cX3_isStrict 25 = .ok (.iconst 0, 1) := dk_3 (dk_at dksX3_isStrict_1 3 rfl rfl)
theorem dX3_isStrict_26 : decode cX3_isStrict 26 = .ok (.iand, 1) := dk_126 (dk_at dksX3_isStrict_1 4 rfl rfl)
theorem dX3_isStrict_27 : decode cX3_isStrict 27 = .ok (.istore_n 1, 1) := dk_60 (dk_at dksX3_isStrict_1 5 rfl rfl)
theorem dX3_isStrict_28 : decode cX3_isStrict 28 = .ok (.iinc 2 1, 3) := dk_132 2 1 (dk_at dksX3_isStrict_1 6 rfl rfl)
theorem dX3_isStrict_31 : decode cX3_isStrict 31 = .ok (.goto (-27), 3) := dk_167 255 229 (dk_at dksX3_isStrict_1 9 rfl rfl)
theorem dX3_isStrict_34 : decode cX3_isStrict 34 = .ok (.iload_n 1, 1) := dk_27 (dk_at dksX3_isStrict_1 12 rfl rfl)
theorem dX3_isStrict_35 : decode cX3_isStrict 35 = .ok (.ireturn, 1) := dk_172 (dk_at dksX3_isStrict_1 13 rfl rfl)
abbrev cX3_isTooEarly : ByteArray := prog_8_method_23_code
def yX3_isTooEarly : MethodName := ⟨RX3, "isTooEarly", "(I)Z"⟩
def dkwX3_isTooEarly_4 : List UInt8 := [182, 0, 159, 154, 0, 7, 4, 167, 0, 4, 3, 128, 62, 132, 4, 1, 167, 255, 167, 29, 172]
abbrev dktX3_isTooEarly_4 : List UInt8 := dkwX3_isTooEarly_4 ++ []
def dkwX3_isTooEarly_3 : List UInt8 := [159, 0, 7, 4, 167, 0, 4, 3, 54, 6, 29, 21, 6, 153, 0, 20, 42, 25, 5, 180, 0, 72, 27]
abbrev dktX3_isTooEarly_3 : List UInt8 := dkwX3_isTooEarly_3 ++ dktX3_isTooEarly_4
def dkwX3_isTooEarly_2 : List UInt8 := [58, 5, 25, 5, 44, 180, 0, 124, 182, 0, 155, 153, 0, 19, 25, 5, 180, 0, 72, 44, 180, 0, 72]
abbrev dktX3_isTooEarly_2 : List UInt8 := dkwX3_isTooEarly_2 ++ dktX3_isTooEarly_3
def dkwX3_isTooEarly_1 : List UInt8 := [153, 0, 88, 21, 4, 27, 162, 0, 82, 42, 180, 0, 12, 21, 4, 185, 0, 61, 2, 0, 192, 0, 34]
abbrev dktX3_isTooEarly_1 : List UInt8 := dkwX3_isTooEarly_1 ++ dktX3_isTooEarly_2
def dkwX3_isTooEarly_0 : List UInt8 := [42, 180, 0, 12, 27, 185, 0, 61, 2, 0, 192, 0, 34, 77, 3, 62, 3, 54, 4, 44, 182, 0, 152]
abbrev dktX3_isTooEarly_0 : List UInt8 := dkwX3_isTooEarly_0 ++ dktX3_isTooEarly_1
theorem dksX3_isTooEarly_0 : cX3_isTooEarly.data.toList.drop 0 = dktX3_isTooEarly_0 := by decide +kernel
theorem dksX3_isTooEarly_1 : cX3_isTooEarly.data.toList.drop 23 = dktX3_isTooEarly_1 := dk_seg dksX3_isTooEarly_0 23 rfl rfl
theorem dksX3_isTooEarly_2 : cX3_isTooEarly.data.toList.drop 46 = dktX3_isTooEarly_2 := dk_seg dksX3_isTooEarly_1 23 rfl rfl
theorem dksX3_isTooEarly_3 : cX3_isTooEarly.data.toList.drop 69 = dktX3_isTooEarly_3 := dk_seg dksX3_isTooEarly_2 23 rfl rfl
theorem dksX3_isTooEarly_4 : cX3_isTooEarly.data.toList.drop 92 = dktX3_isTooEarly_4 := dk_seg dksX3_isTooEarly_3 23 rfl rfl
theorem dX3_isTooEarly_0 : decode cX3_isTooEarly 0 = .ok (.aload_n 0, 1) := dk_42 (dk_at dksX3_isTooEarly_0 0 rfl rfl)
theorem dX3_isTooEarly_1 : decode cX3_isTooEarly 1 = .ok (.getfield 12, 3) := dk_180 0 12 (dk_at dksX3_isTooEarly_0 1 rfl rfl)
theorem dX3_isTooEarly_4 : decode cX3_isTooEarly 4 = .ok (.iload_n 1, 1) := dk_27 (dk_at dksX3_isTooEarly_0 4 rfl rfl)
theorem dX3_isTooEarly_5 : decode cX3_isTooEarly 5 = .ok (.invokeinterface 61 2, 5) := by decide +kernel
theorem dX3_isTooEarly_10 : decode cX3_isTooEarly 10 = .ok (.checkcast 34, 3) := dk_192 0 34 (dk_at dksX3_isTooEarly_0 10 rfl rfl)
theorem dX3_isTooEarly_13 : decode cX3_isTooEarly 13 = .ok (.astore_n 2, 1) := dk_77 (dk_at dksX3_isTooEarly_0 13 rfl rfl)
theorem dX3_isTooEarly_14 : decode cX3_isTooEarly 14 = .ok (.iconst 0, 1) := dk_3 (dk_at dksX3_isTooEarly_0 14 rfl rfl)
theorem dX3_isTooEarly_15 : decode cX3_isTooEarly 15 = .ok (.istore_n 3, 1) := dk_62 (dk_at dksX3_isTooEarly_0 15 rfl rfl)
theorem dX3_isTooEarly_16 : decode cX3_isTooEarly 16 = .ok (.iconst 0, 1) := dk_3 (dk_at dksX3_isTooEarly_0 16 rfl rfl)
theorem dX3_isTooEarly_17 : decode cX3_isTooEarly 17 = .ok (.istore 4, 2) := dk_54 4 (dk_at dksX3_isTooEarly_0 17 rfl rfl)
theorem dX3_isTooEarly_19 : decode cX3_isTooEarly 19 = .ok (.aload_n 2, 1) := dk_44 (dk_at dksX3_isTooEarly_0 19 rfl rfl)
theorem dX3_isTooEarly_20 : decode cX3_isTooEarly 20 = .ok (.invokevirtual 152, 3) := dk_182 0 152 (dk_at dksX3_isTooEarly_0 20 rfl rfl)
theorem dX3_isTooEarly_23 : decode cX3_isTooEarly 23 = .ok (.ifCond .eq 88, 3) := dk_153 0 88 (dk_at dksX3_isTooEarly_1 0 rfl rfl)
theorem dX3_isTooEarly_26 : decode cX3_isTooEarly 26 = .ok (.iload 4, 2) := dk_21 4 (dk_at dksX3_isTooEarly_1 3 rfl rfl)
theorem dX3_isTooEarly_28 : decode cX3_isTooEarly 28 = .ok (.iload_n 1, 1) := dk_27 (dk_at dksX3_isTooEarly_1 5 rfl rfl)
theorem dX3_isTooEarly_29 : decode cX3_isTooEarly 29 = .ok (.if_icmp .ge 82, 3) := dk_162 0 82 (dk_at dksX3_isTooEarly_1 6 rfl rfl)
theorem dX3_isTooEarly_32 : decode cX3_isTooEarly 32 = .ok (.aload_n 0, 1) := dk_42 (dk_at dksX3_isTooEarly_1 9 rfl rfl)
theorem dX3_isTooEarly_33 : decode cX3_isTooEarly 33 = .ok (.getfield 12, 3) := dk_180 0 12 (dk_at dksX3_isTooEarly_1 10 rfl rfl)
theorem dX3_isTooEarly_36 : decode cX3_isTooEarly 36 = .ok (.iload 4, 2) := dk_21 4 (dk_at dksX3_isTooEarly_1 13 rfl rfl)
theorem dX3_isTooEarly_38 : decode cX3_isTooEarly 38 = .ok (.invokeinterface 61 2, 5) := by decide +kernel
theorem dX3_isTooEarly_43 : decode cX3_isTooEarly 43 = .ok (.checkcast 34, 3) := dk_192 0 34 (dk_at dksX3_isTooEarly_1 20 rfl rfl)
theorem dX3_isTooEarly_46 : decode cX3_isTooEarly 46 = .ok (.astore 5, 2) := dk_58 5 (dk_at dksX3_isTooEarly_2 0 rfl rfl)
theorem dX3_isTooEarly_48 : decode cX3_isTooEarly 48 = .ok (.aload 5, 2) := dk_25 5 (dk_at dksX3_isTooEarly_2 2 rfl rfl)
theorem dX3_isTooEarly_50 : decode cX3_isTooEarly 50 = .ok (.aload_n 2, 1) := dk_44 (dk_at dksX3_isTooEarly_2 4 rfl rfl)
theorem dX3_isTooEarly_51 : decode cX3_isTooEarly 51 = .ok (.getfield 124, 3) := dk_180 0 124 (dk_at dksX3_isTooEarly_2 5 rfl rfl)
theorem dX3_isTooEarly_54 : decode cX3_isTooEarly 54 = .ok (.invokevirtual 155, 3) := dk_182 0 155 (dk_at dksX3_isTooEarly_2 8 rfl rfl)
theorem dX3_isTooEarly_57 : decode cX3_isTooEarly 57 = .ok (.ifCond .eq 19, 3) := dk_153 0 19 (dk_at dksX3_isTooEarly_2 11 rfl rfl)
theorem dX3_isTooEarly_60 : decode cX3_isTooEarly 60 = .ok (.aload 5, 2) := dk_25 5 (dk_at dksX3_isTooEarly_2 14 rfl rfl)
theorem dX3_isTooEarly_62 : decode cX3_isTooEarly 62 = .ok (.getfield 72, 3) := dk_180 0 72 (dk_at dksX3_isTooEarly_2 16 rfl rfl)
theorem dX3_isTooEarly_65 : decode cX3_isTooEarly 65 = .ok (.aload_n 2, 1) := dk_44 (dk_at dksX3_isTooEarly_2 19 rfl rfl)
theorem dX3_isTooEarly_66 : decode cX3_isTooEarly 66 = .ok (.getfield 72, 3) := dk_180 0 72 (dk_at dksX3_isTooEarly_2 20 rfl rfl)
theorem dX3_isTooEarly_69 : decode cX3_isTooEarly 69 = .ok (.if_icmp .eq 7, 3) := dk_159 0 7 (dk_at dksX3_isTooEarly_3 0 rfl rfl)
theorem dX3_isTooEarly_72 : decode cX3_isTooEarly 72 = .ok (.iconst 1, 1) := dk_4 (dk_at dksX3_isTooEarly_3 3 rfl rfl)
theorem dX3_isTooEarly_73 : decode cX3_isTooEarly 73 = .ok (.goto 4, 3) := dk_167 0 4 (dk_at dksX3_isTooEarly_3 4 rfl rfl)
theorem dX3_isTooEarly_76 : decode cX3_isTooEarly 76 = .ok (.iconst 0, 1) := dk_3 (dk_at dksX3_isTooEarly_3 7 rfl rfl)
theorem dX3_isTooEarly_77 : decode cX3_isTooEarly 77 = .ok (.istore 6, 2) := dk_54 6 (dk_at dksX3_isTooEarly_3 8 rfl rfl)
theorem dX3_isTooEarly_79 : decode cX3_isTooEarly 79 = .ok (.iload_n 3, 1) := dk_29 (dk_at dksX3_isTooEarly_3 10 rfl rfl)
theorem dX3_isTooEarly_80 : decode cX3_isTooEarly 80 = .ok (.iload 6, 2) := dk_21 6 (dk_at dksX3_isTooEarly_3 11 rfl rfl)
theorem dX3_isTooEarly_82 : decode cX3_isTooEarly 82 = .ok (.ifCond .eq 20, 3) := dk_153 0 20 (dk_at dksX3_isTooEarly_3 13 rfl rfl)
theorem dX3_isTooEarly_85 : decode cX3_isTooEarly 85 = .ok (.aload_n 0, 1) := dk_42 (dk_at dksX3_isTooEarly_3 16 rfl rfl)
theorem dX3_isTooEarly_86 : decode cX3_isTooEarly 86 = .ok (.aload 5, 2) := dk_25 5 (dk_at dksX3_isTooEarly_3 17 rfl rfl)
theorem dX3_isTooEarly_88 : decode cX3_isTooEarly 88 = .ok (.getfield 72, 3) := dk_180 0 72 (dk_at dksX3_isTooEarly_3 19 rfl rfl)
theorem dX3_isTooEarly_91 : decode cX3_isTooEarly 91 = .ok (.iload_n 1, 1) := dk_27 (dk_at dksX3_isTooEarly_3 22 rfl rfl)
theorem dX3_isTooEarly_92 : decode cX3_isTooEarly 92 = .ok (.invokevirtual 159, 3) := dk_182 0 159 (dk_at dksX3_isTooEarly_4 0 rfl rfl)
theorem dX3_isTooEarly_95 : decode cX3_isTooEarly 95 = .ok (.ifCond .ne 7, 3) := dk_154 0 7 (dk_at dksX3_isTooEarly_4 3 rfl rfl)
theorem dX3_isTooEarly_98 : decode cX3_isTooEarly 98 = .ok (.iconst 1, 1) := dk_4 (dk_at dksX3_isTooEarly_4 6 rfl rfl)
theorem dX3_isTooEarly_99 : decode cX3_isTooEarly 99 = .ok (.goto 4, 3) := dk_167 0 4 (dk_at dksX3_isTooEarly_4 7 rfl rfl)
theorem dX3_isTooEarly_102 : decode cX3_isTooEarly 102 = .ok (.iconst 0, 1) := dk_3 (dk_at dksX3_isTooEarly_4 10 rfl rfl)
theorem dX3_isTooEarly_103 : decode cX3_isTooEarly 103 = .ok (.ior, 1) := dk_128 (dk_at dksX3_isTooEarly_4 11 rfl rfl)
theorem dX3_isTooEarly_104 : decode cX3_isTooEarly 104 = .ok (.istore_n 3, 1) := dk_62 (dk_at dksX3_isTooEarly_4 12 rfl rfl)
theorem dX3_isTooEarly_105 : decode cX3_isTooEarly 105 = .ok (.iinc 4 1, 3) := dk_132 4 1 (dk_at dksX3_isTooEarly_4 13 rfl rfl)
theorem dX3_isTooEarly_108 : decode cX3_isTooEarly 108 = .ok (.goto (-89), 3) := dk_167 255 167 (dk_at dksX3_isTooEarly_4 16 rfl rfl)
theorem dX3_isTooEarly_111 : decode cX3_isTooEarly 111 = .ok (.iload_n 3, 1) := dk_29 (dk_at dksX3_isTooEarly_4 19 rfl rfl)
theorem dX3_isTooEarly_112 : decode cX3_isTooEarly 112 = .ok (.ireturn, 1) := dk_172 (dk_at dksX3_isTooEarly_4 20 rfl rfl)
abbrev cX3_isEndedBefore : ByteArray := prog_8_method_24_code
def yX3_isEndedBefore : MethodName := ⟨RX3, "isEndedBefore", "(II)Z"⟩
def dkwX3_isEndedBefore_0 : List UInt8 := [42, 180, 0, 12, 28, 27, 186, 0, 162, 0, 0, 184, 0, 45, 2, 159, 0, 7, 4, 167, 0, 4, 3, 172]
abbrev dktX3_isEndedBefore_0 : List UInt8 := dkwX3_isEndedBefore_0 ++ []
theorem dksX3_isEndedBefore_0 : cX3_isEndedBefore.data.toList.drop 0 = dktX3_isEndedBefore_0 := by decide +kernel
theorem dX3_isEndedBefore_0 : decode cX3_isEndedBefore 0 = .ok (.aload_n 0, 1) := dk_42 (dk_at dksX3_isEndedBefore_0 0 rfl rfl)
theorem dX3_isEndedBefore_1 : decode cX3_isEndedBefore 1 = .ok (.getfield 12, 3) := dk_180 0 12 (dk_at dksX3_isEndedBefore_0 1 rfl rfl)
theorem dX3_isEndedBefore_4 : decode cX3_isEndedBefore 4 = .ok (.iload_n 2, 1) := dk_28 (dk_at dksX3_isEndedBefore_0 4 rfl rfl)
theorem dX3_isEndedBefore_5 : decode cX3_isEndedBefore 5 = .ok (.iload_n 1, 1) := dk_27 (dk_at dksX3_isEndedBefore_0 5 rfl rfl)
theorem dX3_isEndedBefore_6 : decode cX3_isEndedBefore 6 = .ok (.invokedynamic 162, 5) := by decide +kernel
theorem dX3_isEndedBefore_11 : decode cX3_isEndedBefore 11 = .ok (.invokestatic 45, 3) := dk_184 0 45 (dk_at dksX3_isEndedBefore_0 11 rfl rfl)
theorem dX3_isEndedBefore_14 : decode cX3_isEndedBefore 14 = .ok (.iconst (-1), 1) := dk_2 (dk_at dksX3_isEndedBefore_0 14 rfl rfl)
theorem dX3_isEndedBefore_15 : decode cX3_isEndedBefore 15 = .ok (.if_icmp .eq 7, 3) := dk_159 0 7 (dk_at dksX3_isEndedBefore_0 15 rfl rfl)
theorem dX3_isEndedBefore_18 : decode cX3_isEndedBefore 18 = .ok (.iconst 1, 1) := dk_4 (dk_at dksX3_isEndedBefore_0 18 rfl rfl)
theorem dX3_isEndedBefore_19 : decode cX3_isEndedBefore 19 = .ok (.goto 4, 3) := dk_167 0 4 (dk_at dksX3_isEndedBefore_0 19 rfl rfl)
theorem dX3_isEndedBefore_22 : decode cX3_isEndedBefore 22 = .ok (.iconst 0, 1) := dk_3 (dk_at dksX3_isEndedBefore_0 22 rfl rfl)
theorem dX3_isEndedBefore_23 : decode cX3_isEndedBefore 23 = .ok (.ireturn, 1) := dk_172 (dk_at dksX3_isEndedBefore_0 23 rfl rfl)
abbrev cX3_lambda_isEndedBefore_8 : ByteArray := prog_8_method_32_code
def yX3_lambda_isEndedBefore_8 : MethodName := ⟨RX3, "lambda$isEndedBefore$8", "(ILScheduleAnalyzer$Operation;)Z"⟩
def dkwX3_lambda_isEndedBefore_8_0 : List UInt8 := [43, 26, 182, 0, 208, 172]
abbrev dktX3_lambda_isEndedBefore_8_0 : List UInt8 := dkwX3_lambda_isEndedBefore_8_0 ++ []
theorem dksX3_lambda_isEndedBefore_8_0 : cX3_lambda_isEndedBefore_8.data.toList.drop 0 = dktX3_lambda_isEndedBefore_8_0 := by decide +kernel
theorem dX3_lambda_isEndedBefore_8_0 : decode cX3_lambda_isEndedBefore_8 0 = .ok (.aload_n 1, 1) := dk_43 (dk_at dksX3_lambda_isEndedBefore_8_0 0 rfl rfl)
theorem dX3_lambda_isEndedBefore_8_1 : decode cX3_lambda_isEndedBefore_8 1 = .ok (.iload_n 0, 1) := dk_26 (dk_at dksX3_lambda_isEndedBefore_8_0 1 rfl rfl)
theorem dX3_lambda_isEndedBefore_8_2 : decode cX3_lambda_isEndedBefore_8 2 = .ok (.invokevirtual 208, 3) := dk_182 0 208 (dk_at dksX3_lambda_isEndedBefore_8_0 2 rfl rfl)
theorem dX3_lambda_isEndedBefore_8_5 : decode cX3_lambda_isEndedBefore_8 5 = .ok (.ireturn, 1) := dk_172 (dk_at dksX3_lambda_isEndedBefore_8_0 5 rfl rfl)
abbrev cX3_isRecoverable : ByteArray := prog_8_method_21_code
def yX3_isRecoverable : MethodName := ⟨RX3, "isRecoverable", "()Z"⟩
def dkwX3_isRecoverable_3 : List UInt8 := [126, 60, 132, 2, 1, 167, 255, 184, 27, 172]
abbrev dktX3_isRecoverable_3 : List UInt8 := dkwX3_isRecoverable_3 ++ []
def dkwX3_isRecoverable_2 : List UInt8 := [54, 4, 27, 21, 4, 2, 159, 0, 13, 42, 29, 21, 4, 182, 0, 141, 153, 0, 7, 4, 167, 0, 4, 3]
abbrev dktX3_isRecoverable_2 : List UInt8 := dkwX3_isRecoverable_2 ++ dktX3_isRecoverable_3
def dkwX3_isRecoverable_1 : List UInt8 := [167, 0, 23, 42, 42, 180, 0, 12, 28, 185, 0, 61, 2, 0, 192, 0, 34, 180, 0, 72, 182, 0, 148]
abbrev dktX3_isRecoverable_1 : List UInt8 := dkwX3_isRecoverable_1 ++ dktX3_isRecoverable_2
def dkwX3_isRecoverable_0 : List UInt8 := [4, 60, 3, 61, 28, 42, 182, 0, 44, 162, 0, 70, 42, 28, 182, 0, 138, 62, 29, 2, 160, 0, 7, 2]
abbrev dktX3_isRecoverable_0 : List UInt8 := dkwX3_isRecoverable_0 ++ dktX3_isRecoverable_1
theorem dksX3_isRecoverable_0 : cX3_isRecoverable.data.toList.drop 0 = dktX3_isRecoverable_0 := by decide +kernel
theorem dksX3_isRecoverable_1 : cX3_isRecoverable.data.toList.drop 24 = dktX3_isRecoverable_1 := dk_seg dksX3_isRecoverable_0 24 rfl rfl
theorem dksX3_isRecoverable_2 : cX3_isRecoverable.data.toList.drop 47 = dktX3_isRecoverable_2 := dk_seg dksX3_isRecoverable_1 23 rfl rfl
theorem dksX3_isRecoverable_3 : cX3_isRecoverable.data.toList.drop 71 = dktX3_isRecoverable_3 := dk_seg dksX3_isRecoverable_2 24 rfl rfl
theorem dX3_isRecoverable_0 : decode cX3_isRecoverable 0 = .ok (.iconst 1, 1) := dk_4 (dk_at dksX3_isRecoverable_0 0 rfl rfl)
theorem dX3_isRecoverable_1 : decode cX3_isRecoverable 1 = .ok (.istore_n 1, 1) := dk_60 (dk_at dksX3_isRecoverable_0 1 rfl rfl)
theorem dX3_isRecoverable_2 : decode cX3_isRecoverable 2 = .ok (.iconst 0, 1) := dk_3 (dk_at dksX3_isRecoverable_0 2 rfl rfl)
theorem dX3_isRecoverable_3 : decode cX3_isRecoverable 3 = .ok (.istore_n 2, 1) := dk_61 (dk_at dksX3_isRecoverable_0 3 rfl rfl)
theorem dX3_isRecoverable_4 : decode cX3_isRecoverable 4 = .ok (.iload_n 2, 1) := dk_28 (dk_at dksX3_isRecoverable_0 4 rfl rfl)
theorem dX3_isRecoverable_5 : decode cX3_isRecoverable 5 = .ok (.aload_n 0, 1) := dk_42 (dk_at dksX3_isRecoverable_0 5 rfl rfl)
theorem dX3_isRecoverable_6 : decode cX3_isRecoverable 6 = .ok (.invokevirtual 44, 3) := dk_182 0 44 (dk_at dksX3_isRecoverable_0 6 rfl rfl)
theorem dX3_isRecoverable_9 : decode cX3_isRecoverable 9 = .ok (.if_icmp .ge 70, 3) := dk_162 0 70 (dk_at dksX3_isRecoverable_0 9 rfl rfl)
theorem dX3_isRecoverable_12 : decode cX3_isRecoverable 12 = .ok (.aload_n 0, 1) := dk_42 (dk_at dksX3_isRecoverable_0 12 rfl rfl)
theorem dX3_isRecoverable_13 : decode cX3_isRecoverable 13 = .ok (.iload_n 2, 1) := dk_28 (dk_at dksX3_isRecoverable_0 13 rfl rfl)
theorem dX3_isRecoverable_14 : decode cX3_isRecoverable 14 = .ok (.invokevirtual 138, 3) := dk_182 0 138 (dk_at dksX3_isRecoverable_0 14 rfl rfl)
theorem dX3_isRecoverable_17 : decode cX3_isRecoverable 17 = .ok (.istore_n 3, 1) := dk_62 (dk_at dksX3_isRecoverable_0 17 rfl rfl)
theorem dX3_isRecoverable_18 : decode cX3_isRecoverable 18 = .ok (.iload_n 3, 1) := dk_29 (dk_at dksX3_isRecoverable_0 18 rfl rfl)
theorem dX3_isRecoverable_19 : decode cX3_isRecoverable 19 = .ok (.iconst (-1), 1) := dk_2 (dk_at dksX3_isRecoverable_0 19 rfl rfl)
theorem dX3_isRecoverable_20 : decode cX3_isRecoverable 20 = .ok (.if_icmp .ne 7, 3) := dk_160 0 7 (dk_at dksX3_isRecoverable_0 20 rfl rfl)
theorem dX3_isRecoverable_23 : decode cX3_isRecoverable 23 = .ok (.iconst (-1), 1) := dk_2 (dk_at dksX3_isRecoverable_0 23 rfl rfl)
theorem dX3_isRecoverable_24 : decode cX3_isRecoverable 24 = .ok (.goto 23, 3) := dk_167 0 23 (dk_at dksX3_isRecoverable_1 0 rfl rfl)
theorem dX3_isRecoverable_27 : decode cX3_isRecoverable 27 = .ok (.aload_n 0, 1) := dk_42 (dk_at dksX3_isRecoverable_1 3 rfl rfl)
theorem dX3_isRecoverable_28 : decode cX3_isRecoverable 28 = .ok (.aload_n 0, 1) := dk_42 (dk_at dksX3_isRecoverable_1 4 rfl rfl)
theorem dX3_isRecoverable_29 : decode cX3_isRecoverable 29 = .ok (.getfield 12, 3) := dk_180 0 12 (dk_at dksX3_isRecoverable_1 5 rfl rfl)
theorem dX3_isRecoverable_32 : decode cX3_isRecoverable 32 = .ok (.iload_n 2, 1) := dk_28 (dk_at dksX3_isRecoverable_1 8 rfl rfl)
theorem dX3_isRecoverable_33 : decode cX3_isRecoverable 33 = .ok (.invokeinterface 61 2, 5) := by decide +kernel
theorem dX3_isRecoverable_38 : decode cX3_isRecoverable 38 = .ok (.checkcast 34, 3) := dk_192 0 34 (dk_at dksX3_isRecoverable_1 14 rfl rfl)
theorem dX3_isRecoverable_41 : decode cX3_isRecoverable 41 = .ok (.getfield 72, 3) := dk_180 0 72 (dk_at dksX3_isRecoverable_1 17 rfl rfl)
theorem dX3_isRecoverable_44 : decode cX3_isRecoverable 44 = .ok (.invokevirtual 148, 3) := dk_182 0 148 (dk_at dksX3_isRecoverable_1 20 rfl rfl)
theorem dX3_isRecoverable_47 : decode cX3_isRecoverable 47 = .ok (.istore 4, 2) := dk_54 4 (dk_at dksX3_isRecoverable_2 0 rfl rfl)
theorem dX3_isRecoverable_49 : decode cX3_isRecoverable 49 = .ok (.iload_n 1, 1) := dk_27 (dk_at dksX3_isRecoverable_2 2 rfl rfl)
theorem dX3_isRecoverable_50 : decode cX3_isRecoverable 50 = .ok (.iload 4, 2) := dk_21 4 (dk_at dksX3_isRecoverable_2 3 rfl rfl)
theorem dX3_isRecoverable_52 : decode cX3_isRecoverable 52 = .ok (.iconst (-1), 1) := dk_2 (dk_at dksX3_isRecoverable_2 5 rfl rfl)
theorem dX3_isRecoverable_53 : decode cX3_isRecoverable 53 = .ok (.if_icmp .eq 13, 3) := dk_159 0 13 (dk_at dksX3_isRecoverable_2 6 rfl rfl)
theorem dX3_isRecoverable_56 : decode cX3_isRecoverable 56 = .ok (.aload_n 0, 1) := dk_42 (dk_at dksX3_isRecoverable_2 9 rfl rfl)
theorem dX3_isRecoverable_57 : decode cX3_isRecoverable 57 = .ok (.iload_n 3, 1) := dk_29 (dk_at dksX3_isRecoverable_2 10 rfl rfl)
theorem dX3_isRecoverable_58 : decode cX3_isRecoverable 58 = .ok (.iload 4, 2) := dk_21 4 (dk_at dksX3_isRecoverable_2 11 rfl rfl)
theorem dX3_isRecoverable_60 : decode cX3_isRecoverable 60 = .ok (.invokevirtual 141, 3) := dk_182 0 141 (dk_at dksX3_isRecoverable_2 13 rfl rfl)
theorem dX3_isRecoverable_63 : decode cX3_isRecoverable 63 = .ok (.ifCond .eq 7, 3) := dk_153 0 7 (dk_at dksX3_isRecoverable_2 16 rfl rfl)
theorem dX3_isRecoverable_66 : decode cX3_isRecoverable 66 = .ok (.iconst 1, 1) := dk_4 (dk_at dksX3_isRecoverable_2 19 rfl rfl)
theorem dX3_isRecoverable_67 : decode cX3_isRecoverable 67 = .ok (.goto 4, 3) := dk_167 0 4 (dk_at dksX3_isRecoverable_2 20 rfl rfl)
theorem dX3_isRecoverable_70 : decode cX3_isRecoverable 70 = .ok (.iconst 0, 1) := dk_3 (dk_at dksX3_isRecoverable_2 23 rfl rfl)
theorem dX3_isRecoverable_71 : decode cX3_isRecoverable 71 = .ok (.iand, 1) := dk_126 (dk_at dksX3_isRecoverable_3 0 rfl rfl)
theorem dX3_isRecoverable_72 : decode cX3_isRecoverable 72 = .ok (.istore_n 1, 1) := dk_60 (dk_at dksX3_isRecoverable_3 1 rfl rfl)
theorem dX3_isRecoverable_73 : decode cX3_isRecoverable 73 = .ok (.iinc 2 1, 3) := dk_132 2 1 (dk_at dksX3_isRecoverable_3 2 rfl rfl)
theorem dX3_isRecoverable_76 : decode cX3_isRecoverable 76 = .ok (.goto (-72), 3) := dk_167 255 184 (dk_at dksX3_isRecoverable_3 5 rfl rfl)
theorem dX3_isRecoverable_79 : decode cX3_isRecoverable 79 = .ok (.iload_n 1, 1) := dk_27 (dk_at dksX3_isRecoverable_3 8 rfl rfl)
theorem dX3_isRecoverable_80 : decode cX3_isRecoverable 80 = .ok (.ireturn, 1) := dk_172 (dk_at dksX3_isRecoverable_3 9 rfl rfl)
abbrev cX3_commitOf : ByteArray := prog_8_method_22_code
def yX3_commitOf : MethodName := ⟨RX3, "commitOf", "(I)I"⟩
def dkwX3_commitOf_0 : List UInt8 := [42, 180, 0, 12, 42, 182, 0, 44, 27, 186, 0, 151, 0, 0, 184, 0, 45, 172]
abbrev dktX3_commitOf_0 : List UInt8 := dkwX3_commitOf_0 ++ []
theorem dksX3_commitOf_0 : cX3_commitOf.data.toList.drop 0 = dktX3_commitOf_0 := by decide +kernel
theorem dX3_commitOf_0 : decode cX3_commitOf 0 = .ok (.aload_n 0, 1) := dk_42 (dk_at dksX3_commitOf_0 0 rfl rfl)
theorem dX3_commitOf_1 : decode cX3_commitOf 1 = .ok (.getfield 12, 3) := dk_180 0 12 (dk_at dksX3_commitOf_0 1 rfl rfl)
theorem dX3_commitOf_4 : decode cX3_commitOf 4 = .ok (.aload_n 0, 1) := dk_42 (dk_at dksX3_commitOf_0 4 rfl rfl)
theorem dX3_commitOf_5 : decode cX3_commitOf 5 = .ok (.invokevirtual 44, 3) := dk_182 0 44 (dk_at dksX3_commitOf_0 5 rfl rfl)
theorem dX3_commitOf_8 : decode cX3_commitOf 8 = .ok (.iload_n 1, 1) := dk_27 (dk_at dksX3_commitOf_0 8 rfl rfl)
theorem dX3_commitOf_9 : decode cX3_commitOf 9 = .ok (.invokedynamic 151, 5) := by decide +kernel
theorem dX3_commitOf_14 : decode cX3_commitOf 14 = .ok (.invokestatic 45, 3) := dk_184 0 45 (dk_at dksX3_commitOf_0 14 rfl rfl)
theorem dX3_commitOf_17 : decode cX3_commitOf 17 = .ok (.ireturn, 1) := dk_172 (dk_at dksX3_commitOf_0 17 rfl rfl)
abbrev cX3_lambda_commitOf_7 : ByteArray := prog_8_method_33_code
def yX3_lambda_commitOf_7 : MethodName := ⟨RX3, "lambda$commitOf$7", "(ILScheduleAnalyzer$Operation;)Z"⟩
def dkwX3_lambda_commitOf_7_0 : List UInt8 := [43, 16, 99, 26, 182, 0, 211, 172]
abbrev dktX3_lambda_commitOf_7_0 : List UInt8 := dkwX3_lambda_commitOf_7_0 ++ []
theorem dksX3_lambda_commitOf_7_0 : cX3_lambda_commitOf_7.data.toList.drop 0 = dktX3_lambda_commitOf_7_0 := by decide +kernel
theorem dX3_lambda_commitOf_7_0 : decode cX3_lambda_commitOf_7 0 = .ok (.aload_n 1, 1) := dk_43 (dk_at dksX3_lambda_commitOf_7_0 0 rfl rfl)
theorem dX3_lambda_commitOf_7_1 : decode cX3_lambda_commitOf_7 1 = .ok (.bipush 99, 2) := dk_16 99 (dk_at dksX3_lambda_commitOf_7_0 1 rfl rfl)
theorem dX3_lambda_commitOf_7_3 : decode cX3_lambda_commitOf_7 3 = .ok (.iload_n 0, 1) := dk_26 (dk_at dksX3_lambda_commitOf_7_0 3 rfl rfl)
theorem dX3_lambda_commitOf_7_4 : decode cX3_lambda_commitOf_7 4 = .ok (.invokevirtual 211, 3) := dk_182 0 211 (dk_at dksX3_lambda_commitOf_7_0 4 rfl rfl)
theorem dX3_lambda_commitOf_7_7 : decode cX3_lambda_commitOf_7 7 = .ok (.ireturn, 1) := dk_172 (dk_at dksX3_lambda_commitOf_7_0 7 rfl rfl)
abbrev cX3_hasEnded : ByteArray := prog_8_method_4_code
def yX3_hasEnded : MethodName := ⟨RX3, "hasEnded", "(I)Z"⟩
def dkwX3_hasEnded_0 : List UInt8 := [42, 27, 186, 0, 49, 0, 0, 182, 0, 53, 172]
abbrev dktX3_hasEnded_0 : List UInt8 := dkwX3_hasEnded_0 ++ []
theorem dksX3_hasEnded_0 : cX3_hasEnded.data.toList.drop 0 = dktX3_hasEnded_0 := by decide +kernel
theorem dX3_hasEnded_0 : decode cX3_hasEnded 0 = .ok (.aload_n 0, 1) := dk_42 (dk_at dksX3_hasEnded_0 0 rfl rfl)
theorem dX3_hasEnded_1 : decode cX3_hasEnded 1 = .ok (.iload_n 1, 1) := dk_27 (dk_at dksX3_hasEnded_0 1 rfl rfl)
theorem dX3_hasEnded_2 : decode cX3_hasEnded 2 = .ok (.invokedynamic 49, 5) := by decide +kernel
theorem dX3_hasEnded_7 : decode cX3_hasEnded 7 = .ok (.invokevirtual 53, 3) := dk_182 0 53 (dk_at dksX3_hasEnded_0 7 rfl rfl)
theorem dX3_hasEnded_10 : decode cX3_hasEnded 10 = .ok (.ireturn, 1) := dk_172 (dk_at dksX3_hasEnded_0 10 rfl rfl)
abbrev cX3_lambda_hasEnded_0 : ByteArray := prog_8_method_40_code
def yX3_lambda_hasEnded_0 : MethodName := ⟨RX3, "lambda$hasEnded$0", "(ILScheduleAnalyzer$Operation;)Z"⟩
def dkwX3_lambda_hasEnded_0_0 : List UInt8 := [43, 26, 182, 0, 208, 172]
abbrev dktX3_lambda_hasEnded_0_0 : List UInt8 := dkwX3_lambda_hasEnded_0_0 ++ []
theorem dksX3_lambda_hasEnded_0_0 : cX3_lambda_hasEnded_0.data.toList.drop 0 = dktX3_lambda_hasEnded_0_0 := by decide +kernel
theorem dX3_lambda_hasEnded_0_0 : decode cX3_lambda_hasEnded_0 0 = .ok (.aload_n 1, 1) := dk_43 (dk_at dksX3_lambda_hasEnded_0_0 0 rfl rfl)
theorem dX3_lambda_hasEnded_0_1 : decode cX3_lambda_hasEnded_0 1 = .ok (.iload_n 0, 1) := dk_26 (dk_at dksX3_lambda_hasEnded_0_0 1 rfl rfl)
theorem dX3_lambda_hasEnded_0_2 : decode cX3_lambda_hasEnded_0 2 = .ok (.invokevirtual 208, 3) := dk_182 0 208 (dk_at dksX3_lambda_hasEnded_0_0 2 rfl rfl)
theorem dX3_lambda_hasEnded_0_5 : decode cX3_lambda_hasEnded_0 5 = .ok (.ireturn, 1) := dk_172 (dk_at dksX3_lambda_hasEnded_0_0 5 rfl rfl)
abbrev cX3_with : ByteArray := prog_8_method_6_code
def yX3_with : MethodName := ⟨RX3, "with", "(LScheduleAnalyzer$Operation;)LScheduleAnalyzer$Schedule;"⟩
def dkwX3_with_1 : List UInt8 := [176]
abbrev dktX3_with_1 : List UInt8 := dkwX3_with_1 ++ []
def dkwX3_with_0 : List UInt8 := [187, 0, 13, 89, 42, 180, 0, 12, 183, 0, 58, 77, 44, 180, 0, 12, 43, 185, 0, 36, 2, 0, 87, 44]
abbrev dktX3_with_0 : List UInt8 := dkwX3_with_0 ++ dktX3_with_1
theorem dksX3_with_0 : cX3_with.data.toList.drop 0 = dktX3_with_0 := by decide +kernel
theorem dksX3_with_1 : cX3_with.data.toList.drop 24 = dktX3_with_1 := dk_seg dksX3_with_0 24 rfl rfl
theorem dX3_with_0 : decode cX3_with 0 = .ok (.new 13, 3) := dk_187 0 13 (dk_at dksX3_with_0 0 rfl rfl)
theorem dX3_with_3 : decode cX3_with 3 = .ok (.dup, 1) := dk_89 (dk_at dksX3_with_0 3 rfl rfl)
theorem dX3_with_4 : decode cX3_with 4 = .ok (.aload_n 0, 1) := dk_42 (dk_at dksX3_with_0 4 rfl rfl)
theorem dX3_with_5 : decode cX3_with 5 = .ok (.getfield 12, 3) := dk_180 0 12 (dk_at dksX3_with_0 5 rfl rfl)
theorem dX3_with_8 : decode cX3_with 8 = .ok (.invokespecial 58, 3) := dk_183 0 58 (dk_at dksX3_with_0 8 rfl rfl)
theorem dX3_with_11 : decode cX3_with 11 = .ok (.astore_n 2, 1) := dk_77 (dk_at dksX3_with_0 11 rfl rfl)
theorem dX3_with_12 : decode cX3_with 12 = .ok (.aload_n 2, 1) := dk_44 (dk_at dksX3_with_0 12 rfl rfl)
theorem dX3_with_13 : decode cX3_with 13 = .ok (.getfield 12, 3) := dk_180 0 12 (dk_at dksX3_with_0 13 rfl rfl)
theorem dX3_with_16 : decode cX3_with 16 = .ok (.aload_n 1, 1) := dk_43 (dk_at dksX3_with_0 16 rfl rfl)
theorem dX3_with_17 : decode cX3_with 17 = .ok (.invokeinterface 36 2, 5) := by decide +kernel
theorem dX3_with_22 : decode cX3_with 22 = .ok (.pop, 1) := dk_87 (dk_at dksX3_with_0 22 rfl rfl)
theorem dX3_with_23 : decode cX3_with 23 = .ok (.aload_n 2, 1) := dk_44 (dk_at dksX3_with_0 23 rfl rfl)
theorem dX3_with_24 : decode cX3_with 24 = .ok (.areturn, 1) := dk_176 (dk_at dksX3_with_1 0 rfl rfl)
abbrev cX3_without : ByteArray := prog_8_method_7_code
def yX3_without : MethodName := ⟨RX3, "without", "(I)LScheduleAnalyzer$Schedule;"⟩
def dkwX3_without_1 : List UInt8 := [185, 0, 61, 2, 0, 185, 0, 65, 2, 0, 87, 44, 176]
abbrev dktX3_without_1 : List UInt8 := dkwX3_without_1 ++ []
def dkwX3_without_0 : List UInt8 := [187, 0, 13, 89, 42, 180, 0, 12, 183, 0, 58, 77, 44, 180, 0, 12, 42, 180, 0, 12, 27]
abbrev dktX3_without_0 : List UInt8 := dkwX3_without_0 ++ dktX3_without_1
theorem dksX3_without_0 : cX3_without.data.toList.drop 0 = dktX3_without_0 := by decide +kernel
theorem dksX3_without_1 : cX3_without.data.toList.drop 21 = dktX3_without_1 := dk_seg dksX3_without_0 21 rfl rfl
theorem dX3_without_0 : decode cX3_without 0 = .ok (.new 13, 3) := dk_187 0 13 (dk_at dksX3_without_0 0 rfl rfl)
theorem dX3_without_3 : decode cX3_without 3 = .ok (.dup, 1) := dk_89 (dk_at dksX3_without_0 3 rfl rfl)
theorem dX3_without_4 : decode cX3_without 4 = .ok (.aload_n 0, 1) := dk_42 (dk_at dksX3_without_0 4 rfl rfl)
theorem dX3_without_5 : decode cX3_without 5 = .ok (.getfield 12, 3) := dk_180 0 12 (dk_at dksX3_without_0 5 rfl rfl)
theorem dX3_without_8 : decode cX3_without 8 = .ok (.invokespecial 58, 3) := dk_183 0 58 (dk_at dksX3_without_0 8 rfl rfl)
theorem dX3_without_11 : decode cX3_without 11 = .ok (.astore_n 2, 1) := dk_77 (dk_at dksX3_without_0 11 rfl rfl)
theorem dX3_without_12 : decode cX3_without 12 = .ok (.aload_n 2, 1) := dk_44 (dk_at dksX3_without_0 12 rfl rfl)
theorem dX3_without_13 : decode cX3_without 13 = .ok (.getfield 12, 3) := dk_180 0 12 (dk_at dksX3_without_0 13 rfl rfl)
theorem dX3_without_16 : decode cX3_without 16 = .ok (.aload_n 0, 1) := dk_42 (dk_at dksX3_without_0 16 rfl rfl)
theorem dX3_without_17 : decode cX3_without 17 = .ok (.getfield 12, 3) := dk_180 0 12 (dk_at dksX3_without_0 17 rfl rfl)
theorem dX3_without_20 : decode cX3_without 20 = .ok (.iload_n 1, 1) := dk_27 (dk_at dksX3_without_0 20 rfl rfl)
theorem dX3_without_21 : decode cX3_without 21 = .ok (.invokeinterface 61 2, 5) := by decide +kernel
theorem dX3_without_26 : decode cX3_without 26 = .ok (.invokeinterface 65 2, 5) := by decide +kernel
theorem dX3_without_31 : decode cX3_without 31 = .ok (.pop, 1) := dk_87 (dk_at dksX3_without_1 10 rfl rfl)
theorem dX3_without_32 : decode cX3_without 32 = .ok (.aload_n 2, 1) := dk_44 (dk_at dksX3_without_1 11 rfl rfl)
theorem dX3_without_33 : decode cX3_without 33 = .ok (.areturn, 1) := dk_176 (dk_at dksX3_without_1 12 rfl rfl)
abbrev cX3_exchanged : ByteArray := prog_8_method_8_code
def yX3_exchanged : MethodName := ⟨RX3, "exchanged", "(I)LScheduleAnalyzer$Schedule;"⟩
def dkwX3_exchanged_2 : List UInt8 := [180, 0, 12, 27, 185, 0, 61, 2, 0, 192, 0, 34, 185, 0, 68, 3, 0, 87, 44, 176]
abbrev dktX3_exchanged_2 : List UInt8 := dkwX3_exchanged_2 ++ []
def dkwX3_exchanged_1 : List UInt8 := [185, 0, 61, 2, 0, 192, 0, 34, 185, 0, 68, 3, 0, 87, 44, 180, 0, 12, 27, 4, 96, 42]
abbrev dktX3_exchanged_1 : List UInt8 := dkwX3_exchanged_1 ++ dktX3_exchanged_2
def dkwX3_exchanged_0 : List UInt8 := [187, 0, 13, 89, 42, 180, 0, 12, 183, 0, 58, 77, 44, 180, 0, 12, 27, 42, 180, 0, 12, 27, 4, 96]
abbrev dktX3_exchanged_0 : List UInt8 := dkwX3_exchanged_0 ++ dktX3_exchanged_1
theorem dksX3_exchanged_0 : cX3_exchanged.data.toList.drop 0 = dktX3_exchanged_0 := by decide +kernel
theorem dksX3_exchanged_1 : cX3_exchanged.data.toList.drop 24 = dktX3_exchanged_1 := dk_seg dksX3_exchanged_0 24 rfl rfl
theorem dksX3_exchanged_2 : cX3_exchanged.data.toList.drop 46 = dktX3_exchanged_2 := dk_seg dksX3_exchanged_1 22 rfl rfl
theorem dX3_exchanged_0 : decode cX3_exchanged 0 = .ok (.new 13, 3) := dk_187 0 13 (dk_at dksX3_exchanged_0 0 rfl rfl)
theorem dX3_exchanged_3 : decode cX3_exchanged 3 = .ok (.dup, 1) := dk_89 (dk_at dksX3_exchanged_0 3 rfl rfl)
theorem dX3_exchanged_4 : decode cX3_exchanged 4 = .ok (.aload_n 0, 1) := dk_42 (dk_at dksX3_exchanged_0 4 rfl rfl)
theorem dX3_exchanged_5 : decode cX3_exchanged 5 = .ok (.getfield 12, 3) := dk_180 0 12 (dk_at dksX3_exchanged_0 5 rfl rfl)
theorem dX3_exchanged_8 : decode cX3_exchanged 8 = .ok (.invokespecial 58, 3) := dk_183 0 58 (dk_at dksX3_exchanged_0 8 rfl rfl)
theorem dX3_exchanged_11 : decode cX3_exchanged 11 = .ok (.astore_n 2, 1) := dk_77 (dk_at dksX3_exchanged_0 11 rfl rfl)
theorem dX3_exchanged_12 : decode cX3_exchanged 12 = .ok (.aload_n 2, 1) := dk_44 (dk_at dksX3_exchanged_0 12 rfl rfl)
theorem dX3_exchanged_13 : decode cX3_exchanged 13 = .ok (.getfield 12, 3) := dk_180 0 12 (dk_at dksX3_exchanged_0 13 rfl rfl)
theorem dX3_exchanged_16 : decode cX3_exchanged 16 = .ok (.iload_n 1, 1) := dk_27 (dk_at dksX3_exchanged_0 16 rfl rfl)
theorem dX3_exchanged_17 : decode cX3_exchanged 17 = .ok (.aload_n 0, 1) := dk_42 (dk_at dksX3_exchanged_0 17 rfl rfl)
theorem dX3_exchanged_18 : decode cX3_exchanged 18 = .ok (.getfield 12, 3) := dk_180 0 12 (dk_at dksX3_exchanged_0 18 rfl rfl)
theorem dX3_exchanged_21 : decode cX3_exchanged 21 = .ok (.iload_n 1, 1) := dk_27 (dk_at dksX3_exchanged_0 21 rfl rfl)
theorem dX3_exchanged_22 : decode cX3_exchanged 22 = .ok (.iconst 1, 1) := dk_4 (dk_at dksX3_exchanged_0 22 rfl rfl)
theorem dX3_exchanged_23 : decode cX3_exchanged 23 = .ok (.iadd, 1) := dk_96 (dk_at dksX3_exchanged_0 23 rfl rfl)
theorem dX3_exchanged_24 : decode cX3_exchanged 24 = .ok (.invokeinterface 61 2, 5) := by decide +kernel
theorem dX3_exchanged_29 : decode cX3_exchanged 29 = .ok (.checkcast 34, 3) := dk_192 0 34 (dk_at dksX3_exchanged_1 5 rfl rfl)
theorem dX3_exchanged_32 : decode cX3_exchanged 32 = .ok (.invokeinterface 68 3, 5) := by decide +kernel
theorem dX3_exchanged_37 : decode cX3_exchanged 37 = .ok (.pop, 1) := dk_87 (dk_at dksX3_exchanged_1 13 rfl rfl)
theorem dX3_exchanged_38 : decode cX3_exchanged 38 = .ok (.aload_n 2, 1) := dk_44 (dk_at dksX3_exchanged_1 14 rfl rfl)
theorem dX3_exchanged_39 : decode cX3_exchanged 39 = .ok (.getfield 12, 3) := dk_180 0 12 (dk_at dksX3_exchanged_1 15 rfl rfl)
theorem dX3_exchanged_42 : decode cX3_exchanged 42 = .ok (.iload_n 1, 1) := dk_27 (dk_at dksX3_exchanged_1 18 rfl rfl)
theorem dX3_exchanged_43 : decode cX3_exchanged 43 = .ok (.iconst 1, 1) := dk_4 (dk_at dksX3_exchanged_1 19 rfl rfl)
theorem dX3_exchanged_44 : decode cX3_exchanged 44 = .ok (.iadd, 1) := dk_96 (dk_at dksX3_exchanged_1 20 rfl rfl)
theorem dX3_exchanged_45 : decode cX3_exchanged 45 = .ok (.aload_n 0, 1) := dk_42 (dk_at dksX3_exchanged_1 21 rfl rfl)
theorem dX3_exchanged_46 : decode cX3_exchanged 46 = .ok (.getfield 12, 3) := dk_180 0 12 (dk_at dksX3_exchanged_2 0 rfl rfl)
theorem dX3_exchanged_49 : decode cX3_exchanged 49 = .ok (.iload_n 1, 1) := dk_27 (dk_at dksX3_exchanged_2 3 rfl rfl)
theorem dX3_exchanged_50 : decode cX3_exchanged 50 = .ok (.invokeinterface 61 2, 5) := by decide +kernel
theorem dX3_exchanged_55 : decode cX3_exchanged 55 = .ok (.checkcast 34, 3) := dk_192 0 34 (dk_at dksX3_exchanged_2 9 rfl rfl)
theorem dX3_exchanged_58 : decode cX3_exchanged 58 = .ok (.invokeinterface 68 3, 5) := by decide +kernel
theorem dX3_exchanged_63 : decode cX3_exchanged 63 = .ok (.pop, 1) := dk_87 (dk_at dksX3_exchanged_2 17 rfl rfl)
theorem dX3_exchanged_64 : decode cX3_exchanged 64 = .ok (.aload_n 2, 1) := dk_44 (dk_at dksX3_exchanged_2 18 rfl rfl)
theorem dX3_exchanged_65 : decode cX3_exchanged 65 = .ok (.areturn, 1) := dk_176 (dk_at dksX3_exchanged_2 19 rfl rfl)
abbrev cX3_arranged : ByteArray := prog_8_method_26_code
def yX3_arranged : MethodName := ⟨RX3, "arranged", "(Ljava/util/List;)LScheduleAnalyzer$Schedule;"⟩
def dkwX3_arranged_4 : List UInt8 := [167, 255, 178, 187, 0, 13, 89, 44, 183, 0, 58, 176]
abbrev dktX3_arranged_4 : List UInt8 := dkwX3_arranged_4 ++ []
def dkwX3_arranged_3 : List UInt8 := [25, 6, 180, 0, 72, 21, 4, 160, 0, 12, 44, 25, 6, 185, 0, 36, 2, 0, 87, 167, 255, 215]
abbrev dktX3_arranged_3 : List UInt8 := dkwX3_arranged_3 ++ dktX3_arranged_4
def dkwX3_arranged_2 : List UInt8 := [58, 5, 25, 5, 185, 0, 24, 1, 0, 153, 0, 37, 25, 5, 185, 0, 30, 1, 0, 192, 0, 34, 58, 6]
abbrev dktX3_arranged_2 : List UInt8 := dkwX3_arranged_2 ++ dktX3_arranged_3
def dkwX3_arranged_1 : List UInt8 := [45, 185, 0, 30, 1, 0, 192, 0, 81, 182, 0, 166, 54, 4, 42, 180, 0, 12, 185, 0, 18, 1, 0]
abbrev dktX3_arranged_1 : List UInt8 := dkwX3_arranged_1 ++ dktX3_arranged_2
def dkwX3_arranged_0 : List UInt8 := [187, 0, 9, 89, 183, 0, 11, 77, 43, 185, 0, 18, 1, 0, 78, 45, 185, 0, 24, 1, 0, 153, 0, 75]
abbrev dktX3_arranged_0 : List UInt8 := dkwX3_arranged_0 ++ dktX3_arranged_1
theorem dksX3_arranged_0 : cX3_arranged.data.toList.drop 0 = dktX3_arranged_0 := by decide +kernel
theorem dksX3_arranged_1 : cX3_arranged.data.toList.drop 24 = dktX3_arranged_1 := dk_seg dksX3_arranged_0 24 rfl rfl
theorem dksX3_arranged_2 : cX3_arranged.data.toList.drop 47 = dktX3_arranged_2 := dk_seg dksX3_arranged_1 23 rfl rfl
theorem dksX3_arranged_3 : cX3_arranged.data.toList.drop 71 = dktX3_arranged_3 := dk_seg dksX3_arranged_2 24 rfl rfl
theorem dksX3_arranged_4 : cX3_arranged.data.toList.drop 93 = dktX3_arranged_4 := dk_seg dksX3_arranged_3 22 rfl rfl
theorem dX3_arranged_0 : decode cX3_arranged 0 = .ok (.new 9, 3) := dk_187 0 9 (dk_at dksX3_arranged_0 0 rfl rfl)
theorem dX3_arranged_3 : decode cX3_arranged 3 = .ok (.dup, 1) := dk_89 (dk_at dksX3_arranged_0 3 rfl rfl)
theorem dX3_arranged_4 : decode cX3_arranged 4 = .ok (.invokespecial 11, 3) := dk_183 0 11 (dk_at dksX3_arranged_0 4 rfl rfl)
theorem dX3_arranged_7 : decode cX3_arranged 7 = .ok (.astore_n 2, 1) := dk_77 (dk_at dksX3_arranged_0 7 rfl rfl)
theorem dX3_arranged_8 : decode cX3_arranged 8 = .ok (.aload_n 1, 1) := dk_43 (dk_at dksX3_arranged_0 8 rfl rfl)
theorem dX3_arranged_9 : decode cX3_arranged 9 = .ok (.invokeinterface 18 1, 5) := by decide +kernel
theorem dX3_arranged_14 : decode cX3_arranged 14 = .ok (.astore_n 3, 1) := dk_78 (dk_at dksX3_arranged_0 14 rfl rfl)
theorem dX3_arranged_15 : decode cX3_arranged 15 = .ok (.aload_n 3, 1) := dk_45 (dk_at dksX3_arranged_0 15 rfl rfl)
theorem dX3_arranged_16 : decode cX3_arranged 16 = .ok (.invokeinterface 24 1, 5) := by decide +kernel
theorem dX3_arranged_21 : decode cX3_arranged 21 = .ok (.ifCond .eq 75, 3) := dk_153 0 75 (dk_at dksX3_arranged_0 21 rfl rfl)
theorem dX3_arranged_24 : decode cX3_arranged 24 = .ok (.aload_n 3, 1) := dk_45 (dk_at dksX3_arranged_1 0 rfl rfl)
theorem dX3_arranged_25 : decode cX3_arranged 25 = .ok (.invokeinterface 30 1, 5) := by decide +kernel
theorem dX3_arranged_30 : decode cX3_arranged 30 = .ok (.checkcast 81, 3) := dk_192 0 81 (dk_at dksX3_arranged_1 6 rfl rfl)
theorem dX3_arranged_33 : decode cX3_arranged 33 = .ok (.invokevirtual 166, 3) := dk_182 0 166 (dk_at dksX3_arranged_1 9 rfl rfl)
theorem dX3_arranged_36 : decode cX3_arranged 36 = .ok (.istore 4, 2) := dk_54 4 (dk_at dksX3_arranged_1 12 rfl rfl)
theorem dX3_arranged_38 : decode cX3_arranged 38 = .ok (.aload_n 0, 1) := dk_42 (dk_at dksX3_arranged_1 14 rfl rfl)
theorem dX3_arranged_39 : decode cX3_arranged 39 = .ok (.getfield 12, 3) := dk_180 0 12 (dk_at dksX3_arranged_1 15 rfl rfl)
theorem dX3_arranged_42 : decode cX3_arranged 42 = .ok (.invokeinterface 18 1, 5) := by decide +kernel
theorem dX3_arranged_47 : decode cX3_arranged 47 = .ok (.astore 5, 2) := dk_58 5 (dk_at dksX3_arranged_2 0 rfl rfl)
theorem dX3_arranged_49 : decode cX3_arranged 49 = .ok (.aload 5, 2) := dk_25 5 (dk_at dksX3_arranged_2 2 rfl rfl)
theorem dX3_arranged_51 : decode cX3_arranged 51 = .ok (.invokeinterface 24 1, 5) := by decide +kernel
theorem dX3_arranged_56 : decode cX3_arranged 56 = .ok (.ifCond .eq 37, 3) := dk_153 0 37 (dk_at dksX3_arranged_2 9 rfl rfl)
theorem dX3_arranged_59 : decode cX3_arranged 59 = .ok (.aload 5, 2) := dk_25 5 (dk_at dksX3_arranged_2 12 rfl rfl)
theorem dX3_arranged_61 : decode cX3_arranged 61 = .ok (.invokeinterface 30 1, 5) := by decide +kernel
theorem dX3_arranged_66 : decode cX3_arranged 66 = .ok (.checkcast 34, 3) := dk_192 0 34 (dk_at dksX3_arranged_2 19 rfl rfl)
theorem dX3_arranged_69 : decode cX3_arranged 69 = .ok (.astore 6, 2) := dk_58 6 (dk_at dksX3_arranged_2 22 rfl rfl)
theorem dX3_arranged_71 : decode cX3_arranged 71 = .ok (.aload 6, 2) := dk_25 6 (dk_at dksX3_arranged_3 0 rfl rfl)
theorem dX3_arranged_73 : decode cX3_arranged 73 = .ok (.getfield 72, 3) := dk_180 0 72 (dk_at dksX3_arranged_3 2 rfl rfl)
theorem dX3_arranged_76 : decode cX3_arranged 76 = .ok (.iload 4, 2) := dk_21 4 (dk_at dksX3_arranged_3 5 rfl rfl)
theorem dX3_arranged_78 : decode cX3_arranged 78 = .ok (.if_icmp .ne 12, 3) := dk_160 0 12 (dk_at dksX3_arranged_3 7 rfl rfl)
theorem dX3_arranged_81 : decode cX3_arranged 81 = .ok (.aload_n 2, 1) := dk_44 (dk_at dksX3_arranged_3 10 rfl rfl)
theorem dX3_arranged_82 : decode cX3_arranged 82 = .ok (.aload 6, 2) := dk_25 6 (dk_at dksX3_arranged_3 11 rfl rfl)
theorem dX3_arranged_84 : decode cX3_arranged 84 = .ok (.invokeinterface 36 2, 5) := by decide +kernel
theorem dX3_arranged_89 : decode cX3_arranged 89 = .ok (.pop, 1) := dk_87 (dk_at dksX3_arranged_3 18 rfl rfl)
theorem dX3_arranged_90 : decode cX3_arranged 90 = .ok (.goto (-41), 3) := dk_167 255 215 (dk_at dksX3_arranged_3 19 rfl rfl)
theorem dX3_arranged_93 : decode cX3_arranged 93 = .ok (.goto (-78), 3) := dk_167 255 178 (dk_at dksX3_arranged_4 0 rfl rfl)
theorem dX3_arranged_96 : decode cX3_arranged 96 = .ok (.new 13, 3) := dk_187 0 13 (dk_at dksX3_arranged_4 3 rfl rfl)
theorem dX3_arranged_99 : decode cX3_arranged 99 = .ok (.dup, 1) := dk_89 (dk_at dksX3_arranged_4 6 rfl rfl)
theorem dX3_arranged_100 : decode cX3_arranged 100 = .ok (.aload_n 2, 1) := dk_44 (dk_at dksX3_arranged_4 7 rfl rfl)
theorem dX3_arranged_101 : decode cX3_arranged 101 = .ok (.invokespecial 58, 3) := dk_183 0 58 (dk_at dksX3_arranged_4 8 rfl rfl)
theorem dX3_arranged_104 : decode cX3_arranged 104 = .ok (.areturn, 1) := dk_176 (dk_at dksX3_arranged_4 11 rfl rfl)
abbrev cX3_isEquivalentTo : ByteArray := prog_8_method_29_code
def yX3_isEquivalentTo : MethodName := ⟨RX3, "isEquivalentTo", "(LScheduleAnalyzer$Schedule;)Z"⟩
def dkwX3_isEquivalentTo_4 : List UInt8 := [61, 132, 5, 1, 167, 255, 188, 132, 3, 1, 167, 255, 159, 28, 172]
abbrev dktX3_isEquivalentTo_4 : List UInt8 := dkwX3_isEquivalentTo_4 ++ []
def dkwX3_isEquivalentTo_3 : List UInt8 := [54, 6, 21, 6, 153, 0, 15, 42, 43, 21, 5, 182, 0, 181, 21, 4, 162, 0, 7, 4, 167, 0, 4, 3]
abbrev dktX3_isEquivalentTo_3 : List UInt8 := dkwX3_isEquivalentTo_3 ++ dktX3_isEquivalentTo_4
def dkwX3_isEquivalentTo_2 : List UInt8 := [185, 0, 61, 2, 0, 192, 0, 34, 42, 180, 0, 12, 29, 185, 0, 61, 2, 0, 192, 0, 34, 182, 0, 97]
abbrev dktX3_isEquivalentTo_2 : List UInt8 := dkwX3_isEquivalentTo_2 ++ dktX3_isEquivalentTo_3
def dkwX3_isEquivalentTo_1 : List UInt8 := [182, 0, 181, 54, 4, 3, 54, 5, 28, 153, 0, 70, 21, 5, 29, 162, 0, 64, 42, 180, 0, 12, 21, 5]
abbrev dktX3_isEquivalentTo_1 : List UInt8 := dkwX3_isEquivalentTo_1 ++ dktX3_isEquivalentTo_2
def dkwX3_isEquivalentTo_0 : List UInt8 := [42, 43, 182, 0, 177, 61, 3, 62, 28, 153, 0, 99, 29, 42, 182, 0, 44, 162, 0, 91, 42, 43, 29]
abbrev dktX3_isEquivalentTo_0 : List UInt8 := dkwX3_isEquivalentTo_0 ++ dktX3_isEquivalentTo_1
theorem dksX3_isEquivalentTo_0 : cX3_isEquivalentTo.data.toList.drop 0 = dktX3_isEquivalentTo_0 := by decide +kernel
theorem dksX3_isEquivalentTo_1 : cX3_isEquivalentTo.data.toList.drop 23 = dktX3_isEquivalentTo_1 := dk_seg dksX3_isEquivalentTo_0 23 rfl rfl
theorem dksX3_isEquivalentTo_2 : cX3_isEquivalentTo.data.toList.drop 47 = dktX3_isEquivalentTo_2 := dk_seg dksX3_isEquivalentTo_1 24 rfl rfl
theorem dksX3_isEquivalentTo_3 : cX3_isEquivalentTo.data.toList.drop 71 = dktX3_isEquivalentTo_3 := dk_seg dksX3_isEquivalentTo_2 24 rfl rfl
theorem dksX3_isEquivalentTo_4 : cX3_isEquivalentTo.data.toList.drop 95 = dktX3_isEquivalentTo_4 := dk_seg dksX3_isEquivalentTo_3 24 rfl rfl
theorem dX3_isEquivalentTo_0 : decode cX3_isEquivalentTo 0 = .ok (.aload_n 0, 1) := dk_42 (dk_at dksX3_isEquivalentTo_0 0 rfl rfl)
theorem dX3_isEquivalentTo_1 : decode cX3_isEquivalentTo 1 = .ok (.aload_n 1, 1) := dk_43 (dk_at dksX3_isEquivalentTo_0 1 rfl rfl)
theorem dX3_isEquivalentTo_2 : decode cX3_isEquivalentTo 2 = .ok (.invokevirtual 177, 3) := dk_182 0 177 (dk_at dksX3_isEquivalentTo_0 2 rfl rfl)
theorem dX3_isEquivalentTo_5 : decode cX3_isEquivalentTo 5 = .ok (.istore_n 2, 1) := dk_61 (dk_at dksX3_isEquivalentTo_0 5 rfl rfl)
theorem dX3_isEquivalentTo_6 : decode cX3_isEquivalentTo 6 = .ok (.iconst 0, 1) := dk_3 (dk_at dksX3_isEquivalentTo_0 6 rfl rfl)
theorem dX3_isEquivalentTo_7 : decode cX3_isEquivalentTo 7 = .ok (.istore_n 3, 1) := dk_62 (dk_at dksX3_isEquivalentTo_0 7 rfl rfl)
theorem dX3_isEquivalentTo_8 : decode cX3_isEquivalentTo 8 = .ok (.iload_n 2, 1) := dk_28 (dk_at dksX3_isEquivalentTo_0 8 rfl rfl)
theorem dX3_isEquivalentTo_9 : decode cX3_isEquivalentTo 9 = .ok (.ifCond .eq 99, 3) := dk_153 0 99 (dk_at dksX3_isEquivalentTo_0 9 rfl rfl)
theorem dX3_isEquivalentTo_12 : decode cX3_isEquivalentTo 12 = .ok (.iload_n 3, 1) := dk_29 (dk_at dksX3_isEquivalentTo_0 12 rfl rfl)
theorem dX3_isEquivalentTo_13 : decode cX3_isEquivalentTo 13 = .ok (.aload_n 0, 1) := dk_42 (dk_at dksX3_isEquivalentTo_0 13 rfl rfl)
theorem dX3_isEquivalentTo_14 : decode cX3_isEquivalentTo 14 = .ok (.invokevirtual 44, 3) := dk_182 0 44 (dk_at dksX3_isEquivalentTo_0 14 rfl rfl)
theorem dX3_isEquivalentTo_17 : decode cX3_isEquivalentTo 17 = .ok (.if_icmp .ge 91, 3) := dk_162 0 91 (dk_at dksX3_isEquivalentTo_0 17 rfl rfl)
theorem dX3_isEquivalentTo_20 : decode cX3_isEquivalentTo 20 = .ok (.aload_n 0, 1) := dk_42 (dk_at dksX3_isEquivalentTo_0 20 rfl rfl)
theorem dX3_isEquivalentTo_21 : decode cX3_isEquivalentTo 21 = .ok (.aload_n 1, 1) := dk_43 (dk_at dksX3_isEquivalentTo_0 21 rfl rfl)
theorem dX3_isEquivalentTo_22 : decode cX3_isEquivalentTo 22 = .ok (.iload_n 3, 1) := dk_29 (dk_at dksX3_isEquivalentTo_0 22 rfl rfl)
theorem dX3_isEquivalentTo_23 : decode cX3_isEquivalentTo 23 = .ok (.invokevirtual 181, 3) := dk_182 0 181 (dk_at dksX3_isEquivalentTo_1 0 rfl rfl)
theorem dX3_isEquivalentTo_26 : decode cX3_isEquivalentTo 26 = .ok (.istore 4, 2) := dk_54 4 (dk_at dksX3_isEquivalentTo_1 3 rfl rfl)
theorem dX3_isEquivalentTo_28 : decode cX3_isEquivalentTo 28 = .ok (.iconst 0, 1) := dk_3 (dk_at dksX3_isEquivalentTo_1 5 rfl rfl)
theorem dX3_isEquivalentTo_29 : decode cX3_isEquivalentTo 29 = .ok (.istore 5, 2) := dk_54 5 (dk_at dksX3_isEquivalentTo_1 6 rfl rfl)
theorem dX3_isEquivalentTo_31 : decode cX3_isEquivalentTo 31 = .ok (.iload_n 2, 1) := dk_28 (dk_at dksX3_isEquivalentTo_1 8 rfl rfl)
theorem dX3_isEquivalentTo_32 : decode cX3_isEquivalentTo 32 = .ok (.ifCond .eq 70, 3) := dk_153 0 70 (dk_at dksX3_isEquivalentTo_1 9 rfl rfl)
theorem dX3_isEquivalentTo_35 : decode cX3_isEquivalentTo 35 = .ok (.iload 5, 2) := dk_21 5 (dk_at dksX3_isEquivalentTo_1 12 rfl rfl)
theorem dX3_isEquivalentTo_37 : decode cX3_isEquivalentTo 37 = .ok (.iload_n 3, 1) := dk_29 (dk_at dksX3_isEquivalentTo_1 14 rfl rfl)
theorem dX3_isEquivalentTo_38 : decode cX3_isEquivalentTo 38 = .ok (.if_icmp .ge 64, 3) := dk_162 0 64 (dk_at dksX3_isEquivalentTo_1 15 rfl rfl)
theorem dX3_isEquivalentTo_41 : decode cX3_isEquivalentTo 41 = .ok (.aload_n 0, 1) := dk_42 (dk_at dksX3_isEquivalentTo_1 18 rfl rfl)
theorem dX3_isEquivalentTo_42 : decode cX3_isEquivalentTo 42 = .ok (.getfield 12, 3) := dk_180 0 12 (dk_at dksX3_isEquivalentTo_1 19 rfl rfl)
theorem dX3_isEquivalentTo_45 : decode cX3_isEquivalentTo 45 = .ok (.iload 5, 2) := dk_21 5 (dk_at dksX3_isEquivalentTo_1 22 rfl rfl)
theorem dX3_isEquivalentTo_47 : decode cX3_isEquivalentTo 47 = .ok (.invokeinterface 61 2, 5) := by decide +kernel
theorem dX3_isEquivalentTo_52 : decode cX3_isEquivalentTo 52 = .ok (.checkcast 34, 3) := dk_192 0 34 (dk_at dksX3_isEquivalentTo_2 5 rfl rfl)
theorem dX3_isEquivalentTo_55 : decode cX3_isEquivalentTo 55 = .ok (.aload_n 0, 1) := dk_42 (dk_at dksX3_isEquivalentTo_2 8 rfl rfl)
theorem dX3_isEquivalentTo_56 : decode cX3_isEquivalentTo 56 = .ok (.getfield 12, 3) := dk_180 0 12 (dk_at dksX3_isEquivalentTo_2 9 rfl rfl)
theorem dX3_isEquivalentTo_59 : decode cX3_isEquivalentTo 59 = .ok (.iload_n 3, 1) := dk_29 (dk_at dksX3_isEquivalentTo_2 12 rfl rfl)
theorem dX3_isEquivalentTo_60 : decode cX3_isEquivalentTo 60 = .ok (.invokeinterface 61 2, 5) := by decide +kernel
theorem dX3_isEquivalentTo_65 : decode cX3_isEquivalentTo 65 = .ok (.checkcast 34, 3) := dk_192 0 34 (dk_at dksX3_isEquivalentTo_2 18 rfl rfl)
theorem dX3_isEquivalentTo_68 : decode cX3_isEquivalentTo 68 = .ok (.invokevirtual 97, 3) := dk_182 0 97 (dk_at dksX3_isEquivalentTo_2 21 rfl rfl)
theorem dX3_isEquivalentTo_71 : decode cX3_isEquivalentTo 71 = .ok (.istore 6, 2) := dk_54 6 (dk_at dksX3_isEquivalentTo_3 0 rfl rfl)
theorem dX3_isEquivalentTo_73 : decode cX3_isEquivalentTo 73 = .ok (.iload 6, 2) := dk_21 6 (dk_at dksX3_isEquivalentTo_3 2 rfl rfl)
theorem dX3_isEquivalentTo_75 : decode cX3_isEquivalentTo 75 = .ok (.ifCond .eq 15, 3) := dk_153 0 15 (dk_at dksX3_isEquivalentTo_3 4 rfl rfl)
theorem dX3_isEquivalentTo_78 : decode cX3_isEquivalentTo 78 = .ok (.aload_n 0, 1) := dk_42 (dk_at dksX3_isEquivalentTo_3 7 rfl rfl)
theorem dX3_isEquivalentTo_79 : decode cX3_isEquivalentTo 79 = .ok (.aload_n 1, 1) := dk_43 (dk_at dksX3_isEquivalentTo_3 8 rfl rfl)
theorem dX3_isEquivalentTo_80 : decode cX3_isEquivalentTo 80 = .ok (.iload 5, 2) := dk_21 5 (dk_at dksX3_isEquivalentTo_3 9 rfl rfl)
theorem dX3_isEquivalentTo_82 : decode cX3_isEquivalentTo 82 = .ok (.invokevirtual 181, 3) := dk_182 0 181 (dk_at dksX3_isEquivalentTo_3 11 rfl rfl)
theorem dX3_isEquivalentTo_85 : decode cX3_isEquivalentTo 85 = .ok (.iload 4, 2) := dk_21 4 (dk_at dksX3_isEquivalentTo_3 14 rfl rfl)
theorem dX3_isEquivalentTo_87 : decode cX3_isEquivalentTo 87 = .ok (.if_icmp .ge 7, 3) := dk_162 0 7 (dk_at dksX3_isEquivalentTo_3 16 rfl rfl)
theorem dX3_isEquivalentTo_90 : decode cX3_isEquivalentTo 90 = .ok (.iconst 1, 1) := dk_4 (dk_at dksX3_isEquivalentTo_3 19 rfl rfl)
theorem dX3_isEquivalentTo_91 : decode cX3_isEquivalentTo 91 = .ok (.goto 4, 3) := dk_167 0 4 (dk_at dksX3_isEquivalentTo_3 20 rfl rfl)
theorem dX3_isEquivalentTo_94 : decode cX3_isEquivalentTo 94 = .ok (.iconst 0, 1) := dk_3 (dk_at dksX3_isEquivalentTo_3 23 rfl rfl)
theorem dX3_isEquivalentTo_95 : decode cX3_isEquivalentTo 95 = .ok (.istore_n 2, 1) := dk_61 (dk_at dksX3_isEquivalentTo_4 0 rfl rfl)
theorem dX3_isEquivalentTo_96 : decode cX3_isEquivalentTo 96 = .ok (.iinc 5 1, 3) := dk_132 5 1 (dk_at dksX3_isEquivalentTo_4 1 rfl rfl)
theorem dX3_isEquivalentTo_99 : decode cX3_isEquivalentTo 99 = .ok (.goto (-68), 3) := dk_167 255 188 (dk_at dksX3_isEquivalentTo_4 4 rfl rfl)
theorem dX3_isEquivalentTo_102 : decode cX3_isEquivalentTo 102 = .ok (.iinc 3 1, 3) := dk_132 3 1 (dk_at dksX3_isEquivalentTo_4 7 rfl rfl)
theorem dX3_isEquivalentTo_105 : decode cX3_isEquivalentTo 105 = .ok (.goto (-97), 3) := dk_167 255 159 (dk_at dksX3_isEquivalentTo_4 10 rfl rfl)
theorem dX3_isEquivalentTo_108 : decode cX3_isEquivalentTo 108 = .ok (.iload_n 2, 1) := dk_28 (dk_at dksX3_isEquivalentTo_4 13 rfl rfl)
theorem dX3_isEquivalentTo_109 : decode cX3_isEquivalentTo 109 = .ok (.ireturn, 1) := dk_172 (dk_at dksX3_isEquivalentTo_4 14 rfl rfl)
abbrev cX3_hasSameOperations : ByteArray := prog_8_method_28_code
def yX3_hasSameOperations : MethodName := ⟨RX3, "hasSameOperations", "(LScheduleAnalyzer$Schedule;)Z"⟩
def dkwX3_hasSameOperations_6 : List UInt8 := [132, 7, 1, 167, 255, 209, 132, 3, 1, 167, 255, 127, 28, 172]
abbrev dktX3_hasSameOperations_6 : List UInt8 := dkwX3_hasSameOperations_6 ++ []
def dkwX3_hasSameOperations_5 : List UInt8 := [185, 0, 61, 2, 0, 192, 0, 34, 25, 6, 21, 7, 185, 0, 61, 2, 0, 192, 0, 34, 182, 0, 174, 61]
abbrev dktX3_hasSameOperations_5 : List UInt8 := dkwX3_hasSameOperations_5 ++ dktX3_hasSameOperations_6
def dkwX3_hasSameOperations_4 : List UInt8 := [54, 7, 28, 153, 0, 49, 21, 7, 25, 5, 185, 0, 40, 1, 0, 162, 0, 37, 25, 5, 21, 7]
abbrev dktX3_hasSameOperations_4 : List UInt8 := dkwX3_hasSameOperations_4 ++ dktX3_hasSameOperations_5
def dkwX3_hasSameOperations_3 : List UInt8 := [185, 0, 40, 1, 0, 25, 6, 185, 0, 40, 1, 0, 160, 0, 7, 4, 167, 0, 4, 3, 126, 61, 3]
abbrev dktX3_hasSameOperations_3 : List UInt8 := dkwX3_hasSameOperations_3 ++ dktX3_hasSameOperations_4
def dkwX3_hasSameOperations_2 : List UInt8 := [182, 0, 170, 180, 0, 12, 58, 5, 43, 25, 4, 182, 0, 170, 180, 0, 12, 58, 6, 28, 25, 5]
abbrev dktX3_hasSameOperations_2 : List UInt8 := dkwX3_hasSameOperations_2 ++ dktX3_hasSameOperations_3
def dkwX3_hasSameOperations_1 : List UInt8 := [187, 0, 9, 89, 183, 0, 11, 58, 4, 25, 4, 29, 184, 0, 80, 185, 0, 36, 2, 0, 87, 42, 25, 4]
abbrev dktX3_hasSameOperations_1 : List UInt8 := dkwX3_hasSameOperations_1 ++ dktX3_hasSameOperations_2
def dkwX3_hasSameOperations_0 : List UInt8 := [42, 182, 0, 44, 43, 182, 0, 44, 160, 0, 7, 4, 167, 0, 4, 3, 61, 4, 62, 29, 8, 163, 0, 130]
abbrev dktX3_hasSameOperations_0 : List UInt8 := dkwX3_hasSameOperations_0 ++ dktX3_hasSameOperations_1
theorem dksX3_hasSameOperations_0 : cX3_hasSameOperations.data.toList.drop 0 = dktX3_hasSameOperations_0 := by decide +kernel
theorem dksX3_hasSameOperations_1 : cX3_hasSameOperations.data.toList.drop 24 = dktX3_hasSameOperations_1 := dk_seg dksX3_hasSameOperations_0 24 rfl rfl
theorem dksX3_hasSameOperations_2 : cX3_hasSameOperations.data.toList.drop 48 = dktX3_hasSameOperations_2 := dk_seg dksX3_hasSameOperations_1 24 rfl rfl
theorem dksX3_hasSameOperations_3 : cX3_hasSameOperations.data.toList.drop 70 = dktX3_hasSameOperations_3 := dk_seg dksX3_hasSameOperations_2 22 rfl rfl
theorem dksX3_hasSameOperations_4 : cX3_hasSameOperations.data.toList.drop 93 = dktX3_hasSameOperations_4 := dk_seg dksX3_hasSameOperations_3 23 rfl rfl
theorem dksX3_hasSameOperations_5 : cX3_hasSameOperations.data.toList.drop 115 = dktX3_hasSameOperations_5 := dk_seg dksX3_hasSameOperations_4 22 rfl rfl
theorem dksX3_hasSameOperations_6 : cX3_hasSameOperations.data.toList.drop 139 = dktX3_hasSameOperations_6 := dk_seg dksX3_hasSameOperations_5 24 rfl rfl
theorem dX3_hasSameOperations_0 : decode cX3_hasSameOperations 0 = .ok (.aload_n 0, 1) := dk_42 (dk_at dksX3_hasSameOperations_0 0 rfl rfl)
theorem dX3_hasSameOperations_1 : decode cX3_hasSameOperations 1 = .ok (.invokevirtual 44, 3) := dk_182 0 44 (dk_at dksX3_hasSameOperations_0 1 rfl rfl)
theorem dX3_hasSameOperations_4 : decode cX3_hasSameOperations 4 = .ok (.aload_n 1, 1) := dk_43 (dk_at dksX3_hasSameOperations_0 4 rfl rfl)
theorem dX3_hasSameOperations_5 : decode cX3_hasSameOperations 5 = .ok (.invokevirtual 44, 3) := dk_182 0 44 (dk_at dksX3_hasSameOperations_0 5 rfl rfl)
theorem dX3_hasSameOperations_8 : decode cX3_hasSameOperations 8 = .ok (.if_icmp .ne 7, 3) := dk_160 0 7 (dk_at dksX3_hasSameOperations_0 8 rfl rfl)
theorem dX3_hasSameOperations_11 : decode cX3_hasSameOperations 11 = .ok (.iconst 1, 1) := dk_4 (dk_at dksX3_hasSameOperations_0 11 rfl rfl)
theorem dX3_hasSameOperations_12 : decode cX3_hasSameOperations 12 = .ok (.goto 4, 3) := dk_167 0 4 (dk_at dksX3_hasSameOperations_0 12 rfl rfl)
theorem dX3_hasSameOperations_15 : decode cX3_hasSameOperations 15 = .ok (.iconst 0, 1) := dk_3 (dk_at dksX3_hasSameOperations_0 15 rfl rfl)
theorem dX3_hasSameOperations_16 : decode cX3_hasSameOperations 16 = .ok (.istore_n 2, 1) := dk_61 (dk_at dksX3_hasSameOperations_0 16 rfl rfl)
theorem dX3_hasSameOperations_17 : decode cX3_hasSameOperations 17 = .ok (.iconst 1, 1) := dk_4 (dk_at dksX3_hasSameOperations_0 17 rfl rfl)
theorem dX3_hasSameOperations_18 : decode cX3_hasSameOperations 18 = .ok (.istore_n 3, 1) := dk_62 (dk_at dksX3_hasSameOperations_0 18 rfl rfl)
theorem dX3_hasSameOperations_19 : decode cX3_hasSameOperations 19 = .ok (.iload_n 3, 1) := dk_29 (dk_at dksX3_hasSameOperations_0 19 rfl rfl)
theorem dX3_hasSameOperations_20 : decode cX3_hasSameOperations 20 = .ok (.iconst 5, 1) := dk_8 (dk_at dksX3_hasSameOperations_0 20 rfl rfl)
theorem dX3_hasSameOperations_21 : decode cX3_hasSameOperations 21 = .ok (.if_icmp .gt 130, 3) := dk_163 0 130 (dk_at dksX3_hasSameOperations_0 21 rfl rfl)
theorem dX3_hasSameOperations_24 : decode cX3_hasSameOperations 24 = .ok (.new 9, 3) := dk_187 0 9 (dk_at dksX3_hasSameOperations_1 0 rfl rfl)
theorem dX3_hasSameOperations_27 : decode cX3_hasSameOperations 27 = .ok (.dup, 1) := dk_89 (dk_at dksX3_hasSameOperations_1 3 rfl rfl)
theorem dX3_hasSameOperations_28 : decode cX3_hasSameOperations 28 = .ok (.invokespecial 11, 3) := dk_183 0 11 (dk_at dksX3_hasSameOperations_1 4 rfl rfl)
theorem dX3_hasSameOperations_31 : decode cX3_hasSameOperations 31 = .ok (.astore 4, 2) := dk_58 4 (dk_at dksX3_hasSameOperations_1 7 rfl rfl)
theorem dX3_hasSameOperations_33 : decode cX3_hasSameOperations 33 = .ok (.aload 4, 2) := dk_25 4 (dk_at dksX3_hasSameOperations_1 9 rfl rfl)
theorem dX3_hasSameOperations_35 : decode cX3_hasSameOperations 35 = .ok (.iload_n 3, 1) := dk_29 (dk_at dksX3_hasSameOperations_1 11 rfl rfl)
theorem dX3_hasSameOperations_36 : decode cX3_hasSameOperations 36 = .ok (.invokestatic 80, 3) := dk_184 0 80 (dk_at dksX3_hasSameOperations_1 12 rfl rfl)
theorem dX3_hasSameOperations_39 : decode cX3_hasSameOperations 39 = .ok (.invokeinterface 36 2, 5) := by decide +kernel
theorem dX3_hasSameOperations_44 : decode cX3_hasSameOperations 44 = .ok (.pop, 1) := dk_87 (dk_at dksX3_hasSameOperations_1 20 rfl rfl)
theorem dX3_hasSameOperations_45 : decode cX3_hasSameOperations 45 = .ok (.aload_n 0, 1) := dk_42 (dk_at dksX3_hasSameOperations_1 21 rfl rfl)
theorem dX3_hasSameOperations_46 : decode cX3_hasSameOperations 46 = .ok (.aload 4, 2) := dk_25 4 (dk_at dksX3_hasSameOperations_1 22 rfl rfl)
theorem dX3_hasSameOperations_48 : decode cX3_hasSameOperations 48 = .ok (.invokevirtual 170, 3) := dk_182 0 170 (dk_at dksX3_hasSameOperations_2 0 rfl rfl)
theorem dX3_hasSameOperations_51 : decode cX3_hasSameOperations 51 = .ok (.getfield 12, 3) := dk_180 0 12 (dk_at dksX3_hasSameOperations_2 3 rfl rfl)
theorem dX3_hasSameOperations_54 : decode cX3_hasSameOperations 54 = .ok (.astore 5, 2) := dk_58 5 (dk_at dksX3_hasSameOperations_2 6 rfl rfl)
theorem dX3_hasSameOperations_56 : decode cX3_hasSameOperations 56 = .ok (.aload_n 1, 1) := dk_43 (dk_at dksX3_hasSameOperations_2 8 rfl rfl)
theorem dX3_hasSameOperations_57 : decode cX3_hasSameOperations 57 = .ok (.aload 4, 2) := dk_25 4 (dk_at dksX3_hasSameOperations_2 9 rfl rfl)
theorem dX3_hasSameOperations_59 : decode cX3_hasSameOperations 59 = .ok (.invokevirtual 170, 3) := dk_182 0 170 (dk_at dksX3_hasSameOperations_2 11 rfl rfl)
theorem dX3_hasSameOperations_62 : decode cX3_hasSameOperations 62 = .ok (.getfield 12, 3) := dk_180 0 12 (dk_at dksX3_hasSameOperations_2 14 rfl rfl)
theorem dX3_hasSameOperations_65 : decode cX3_hasSameOperations 65 = .ok (.astore 6, 2) := dk_58 6 (dk_at dksX3_hasSameOperations_2 17 rfl rfl)
theorem dX3_hasSameOperations_67 : decode cX3_hasSameOperations 67 = .ok (.iload_n 2, 1) := dk_28 (dk_at dksX3_hasSameOperations_2 19 rfl rfl)
theorem dX3_hasSameOperations_68 : decode cX3_hasSameOperations 68 = .ok (.aload 5, 2) := dk_25 5 (dk_at dksX3_hasSameOperations_2 20 rfl rfl)
theorem dX3_hasSameOperations_70 : decode cX3_hasSameOperations 70 = .ok (.invokeinterface 40 1, 5) := by decide +kernel
theorem dX3_hasSameOperations_75 : decode cX3_hasSameOperations 75 = .ok (.aload 6, 2) := dk_25 6 (dk_at dksX3_hasSameOperations_3 5 rfl rfl)
theorem dX3_hasSameOperations_77 : decode cX3_hasSameOperations 77 = .ok (.invokeinterface 40 1, 5) := by decide +kernel
theorem dX3_hasSameOperations_82 : decode cX3_hasSameOperations 82 = .ok (.if_icmp .ne 7, 3) := dk_160 0 7 (dk_at dksX3_hasSameOperations_3 12 rfl rfl)
theorem dX3_hasSameOperations_85 : decode cX3_hasSameOperations 85 = .ok (.iconst 1, 1) := dk_4 (dk_at dksX3_hasSameOperations_3 15 rfl rfl)
theorem dX3_hasSameOperations_86 : decode cX3_hasSameOperations 86 = .ok (.goto 4, 3) := dk_167 0 4 (dk_at dksX3_hasSameOperations_3 16 rfl rfl)
theorem dX3_hasSameOperations_89 : decode cX3_hasSameOperations 89 = .ok (.iconst 0, 1) := dk_3 (dk_at dksX3_hasSameOperations_3 19 rfl rfl)
theorem dX3_hasSameOperations_90 : decode cX3_hasSameOperations 90 = .ok (.iand, 1) := dk_126 (dk_at dksX3_hasSameOperations_3 20 rfl rfl)
theorem dX3_hasSameOperations_91 : decode cX3_hasSameOperations 91 = .ok (.istore_n 2, 1) := dk_61 (dk_at dksX3_hasSameOperations_3 21 rfl rfl)
theorem dX3_hasSameOperations_92 : decode cX3_hasSameOperations 92 = .ok (.iconst 0, 1) := dk_3 (dk_at dksX3_hasSameOperations_3 22 rfl rfl)
theorem dX3_hasSameOperations_93 : decode cX3_hasSameOperations 93 = .ok (.istore 7, 2) := dk_54 7 (dk_at dksX3_hasSameOperations_4 0 rfl rfl)
theorem dX3_hasSameOperations_95 : decode cX3_hasSameOperations 95 = .ok (.iload_n 2, 1) := dk_28 (dk_at dksX3_hasSameOperations_4 2 rfl rfl)
theorem dX3_hasSameOperations_96 : decode cX3_hasSameOperations 96 = .ok (.ifCond .eq 49, 3) := dk_153 0 49 (dk_at dksX3_hasSameOperations_4 3 rfl rfl)
theorem dX3_hasSameOperations_99 : decode cX3_hasSameOperations 99 = .ok (.iload 7, 2) := dk_21 7 (dk_at dksX3_hasSameOperations_4 6 rfl rfl)
theorem dX3_hasSameOperations_101 : decode cX3_hasSameOperations 101 = .ok (.aload 5, 2) := dk_25 5 (dk_at dksX3_hasSameOperations_4 8 rfl rfl)
theorem dX3_hasSameOperations_103 : decode cX3_hasSameOperations 103 = .ok (.invokeinterface 40 1, 5) := by decide +kernel
theorem dX3_hasSameOperations_108 : decode cX3_hasSameOperations 108 = .ok (.if_icmp .ge 37, 3) := dk_162 0 37 (dk_at dksX3_hasSameOperations_4 15 rfl rfl)
theorem dX3_hasSameOperations_111 : decode cX3_hasSameOperations 111 = .ok (.aload 5, 2) := dk_25 5 (dk_at dksX3_hasSameOperations_4 18 rfl rfl)
theorem dX3_hasSameOperations_113 : decode cX3_hasSameOperations 113 = .ok (.iload 7, 2) := dk_21 7 (dk_at dksX3_hasSameOperations_4 20 rfl rfl)
theorem dX3_hasSameOperations_115 : decode cX3_hasSameOperations 115 = .ok (.invokeinterface 61 2, 5) := by decide +kernel
theorem dX3_hasSameOperations_120 : decode cX3_hasSameOperations 120 = .ok (.checkcast 34, 3) := dk_192 0 34 (dk_at dksX3_hasSameOperations_5 5 rfl rfl)
theorem dX3_hasSameOperations_123 : decode cX3_hasSameOperations 123 = .ok (.aload 6, 2) := dk_25 6 (dk_at dksX3_hasSameOperations_5 8 rfl rfl)
theorem dX3_hasSameOperations_125 : decode cX3_hasSameOperations 125 = .ok (.iload 7, 2) := dk_21 7 (dk_at dksX3_hasSameOperations_5 10 rfl rfl)
theorem dX3_hasSameOperations_127 : decode cX3_hasSameOperations 127 = .ok (.invokeinterface 61 2, 5) := by decide +kernel
theorem dX3_hasSameOperations_132 : decode cX3_hasSameOperations 132 = .ok (.checkcast 34, 3) := dk_192 0 34 (dk_at dksX3_hasSameOperations_5 17 rfl rfl)
theorem dX3_hasSameOperations_135 : decode cX3_hasSameOperations 135 = .ok (.invokevirtual 174, 3) := dk_182 0 174 (dk_at dksX3_hasSameOperations_5 20 rfl rfl)
theorem dX3_hasSameOperations_138 : decode cX3_hasSameOperations 138 = .ok (.istore_n 2, 1) := dk_61 (dk_at dksX3_hasSameOperations_5 23 rfl rfl)
theorem dX3_hasSameOperations_139 : decode cX3_hasSameOperations 139 = .ok (.iinc 7 1, 3) := dk_132 7 1 (dk_at dksX3_hasSameOperations_6 0 rfl rfl)
theorem dX3_hasSameOperations_142 : decode cX3_hasSameOperations 142 = .ok (.goto (-47), 3) := dk_167 255 209 (dk_at dksX3_hasSameOperations_6 3 rfl rfl)
theorem dX3_hasSameOperations_145 : decode cX3_hasSameOperations 145 = .ok (.iinc 3 1, 3) := dk_132 3 1 (dk_at dksX3_hasSameOperations_6 6 rfl rfl)
theorem dX3_hasSameOperations_148 : decode cX3_hasSameOperations 148 = .ok (.goto (-129), 3) := dk_167 255 127 (dk_at dksX3_hasSameOperations_6 9 rfl rfl)
theorem dX3_hasSameOperations_151 : decode cX3_hasSameOperations 151 = .ok (.iload_n 2, 1) := dk_28 (dk_at dksX3_hasSameOperations_6 12 rfl rfl)
theorem dX3_hasSameOperations_152 : decode cX3_hasSameOperations 152 = .ok (.ireturn, 1) := dk_172 (dk_at dksX3_hasSameOperations_6 13 rfl rfl)
abbrev cX3_placeIn : ByteArray := prog_8_method_27_code
def yX3_placeIn : MethodName := ⟨RX3, "placeIn", "(LScheduleAnalyzer$Schedule;I)I"⟩
def dkwX3_placeIn_4 : List UInt8 := [132, 5, 1, 167, 255, 196, 21, 5, 172]
abbrev dktX3_placeIn_4 : List UInt8 := dkwX3_placeIn_4 ++ []
def dkwX3_placeIn_3 : List UInt8 := [185, 0, 61, 2, 0, 192, 0, 34, 180, 0, 72, 29, 160, 0, 7, 4, 167, 0, 4, 3, 100, 54, 4]
abbrev dktX3_placeIn_3 : List UInt8 := dkwX3_placeIn_3 ++ dktX3_placeIn_4
def dkwX3_placeIn_2 : List UInt8 := [192, 0, 34, 180, 0, 72, 29, 160, 0, 8, 21, 4, 158, 0, 40, 21, 4, 43, 180, 0, 12, 21, 5]
abbrev dktX3_placeIn_2 : List UInt8 := dkwX3_placeIn_2 ++ dktX3_placeIn_3
def dkwX3_placeIn_1 : List UInt8 := [186, 0, 169, 0, 0, 184, 0, 108, 54, 4, 3, 54, 5, 43, 180, 0, 12, 21, 5, 185, 0, 61, 2, 0]
abbrev dktX3_placeIn_1 : List UInt8 := dkwX3_placeIn_1 ++ dktX3_placeIn_2
def dkwX3_placeIn_0 : List UInt8 := [42, 180, 0, 12, 28, 185, 0, 61, 2, 0, 192, 0, 34, 180, 0, 72, 62, 42, 180, 0, 12, 28, 29]
abbrev dktX3_placeIn_0 : List UInt8 := dkwX3_placeIn_0 ++ dktX3_placeIn_1
theorem dksX3_placeIn_0 : cX3_placeIn.data.toList.drop 0 = dktX3_placeIn_0 := by decide +kernel
theorem dksX3_placeIn_1 : cX3_placeIn.data.toList.drop 23 = dktX3_placeIn_1 := dk_seg dksX3_placeIn_0 23 rfl rfl
theorem dksX3_placeIn_2 : cX3_placeIn.data.toList.drop 47 = dktX3_placeIn_2 := dk_seg dksX3_placeIn_1 24 rfl rfl
theorem dksX3_placeIn_3 : cX3_placeIn.data.toList.drop 70 = dktX3_placeIn_3 := dk_seg dksX3_placeIn_2 23 rfl rfl
theorem dksX3_placeIn_4 : cX3_placeIn.data.toList.drop 93 = dktX3_placeIn_4 := dk_seg dksX3_placeIn_3 23 rfl rfl
theorem dX3_placeIn_0 : decode cX3_placeIn 0 = .ok (.aload_n 0, 1) := dk_42 (dk_at dksX3_placeIn_0 0 rfl rfl)
theorem dX3_placeIn_1 : decode cX3_placeIn 1 = .ok (.getfield 12, 3) := dk_180 0 12 (dk_at dksX3_placeIn_0 1 rfl rfl)
theorem dX3_placeIn_4 : decode cX3_placeIn 4 = .ok (.iload_n 2, 1) := dk_28 (dk_at dksX3_placeIn_0 4 rfl rfl)
theorem dX3_placeIn_5 : decode cX3_placeIn 5 = .ok (.invokeinterface 61 2, 5) := by decide +kernel
theorem dX3_placeIn_10 : decode cX3_placeIn 10 = .ok (.checkcast 34, 3) := dk_192 0 34 (dk_at dksX3_placeIn_0 10 rfl rfl)
theorem dX3_placeIn_13 : decode cX3_placeIn 13 = .ok (.getfield 72, 3) := dk_180 0 72 (dk_at dksX3_placeIn_0 13 rfl rfl)
theorem dX3_placeIn_16 : decode cX3_placeIn 16 = .ok (.istore_n 3, 1) := dk_62 (dk_at dksX3_placeIn_0 16 rfl rfl)
theorem dX3_placeIn_17 : decode cX3_placeIn 17 = .ok (.aload_n 0, 1) := dk_42 (dk_at dksX3_placeIn_0 17 rfl rfl)
theorem dX3_placeIn_18 : decode cX3_placeIn 18 = .ok (.getfield 12, 3) := dk_180 0 12 (dk_at dksX3_placeIn_0 18 rfl rfl)
theorem dX3_placeIn_21 : decode cX3_placeIn 21 = .ok (.iload_n 2, 1) := dk_28 (dk_at dksX3_placeIn_0 21 rfl rfl)
theorem dX3_placeIn_22 : decode cX3_placeIn 22 = .ok (.iload_n 3, 1) := dk_29 (dk_at dksX3_placeIn_0 22 rfl rfl)
theorem dX3_placeIn_23 : decode cX3_placeIn 23 = .ok (.invokedynamic 169, 5) := by decide +kernel
theorem dX3_placeIn_28 : decode cX3_placeIn 28 = .ok (.invokestatic 108, 3) := dk_184 0 108 (dk_at dksX3_placeIn_1 5 rfl rfl)
theorem dX3_placeIn_31 : decode cX3_placeIn 31 = .ok (.istore 4, 2) := dk_54 4 (dk_at dksX3_placeIn_1 8 rfl rfl)
theorem dX3_placeIn_33 : decode cX3_placeIn 33 = .ok (.iconst 0, 1) := dk_3 (dk_at dksX3_placeIn_1 10 rfl rfl)
theorem dX3_placeIn_34 : decode cX3_placeIn 34 = .ok (.istore 5, 2) := dk_54 5 (dk_at dksX3_placeIn_1 11 rfl rfl)
theorem dX3_placeIn_36 : decode cX3_placeIn 36 = .ok (.aload_n 1, 1) := dk_43 (dk_at dksX3_placeIn_1 13 rfl rfl)
theorem dX3_placeIn_37 : decode cX3_placeIn 37 = .ok (.getfield 12, 3) := dk_180 0 12 (dk_at dksX3_placeIn_1 14 rfl rfl)
theorem dX3_placeIn_40 : decode cX3_placeIn 40 = .ok (.iload 5, 2) := dk_21 5 (dk_at dksX3_placeIn_1 17 rfl rfl)
theorem dX3_placeIn_42 : decode cX3_placeIn 42 = .ok (.invokeinterface 61 2, 5) := by decide +kernel
theorem dX3_placeIn_47 : decode cX3_placeIn 47 = .ok (.checkcast 34, 3) := dk_192 0 34 (dk_at dksX3_placeIn_2 0 rfl rfl)
theorem dX3_placeIn_50 : decode cX3_placeIn 50 = .ok (.getfield 72, 3) := dk_180 0 72 (dk_at dksX3_placeIn_2 3 rfl rfl)
theorem dX3_placeIn_53 : decode cX3_placeIn 53 = .ok (.iload_n 3, 1) := dk_29 (dk_at dksX3_placeIn_2 6 rfl rfl)
theorem dX3_placeIn_54 : decode cX3_placeIn 54 = .ok (.if_icmp .ne 8, 3) := dk_160 0 8 (dk_at dksX3_placeIn_2 7 rfl rfl)
theorem dX3_placeIn_57 : decode cX3_placeIn 57 = .ok (.iload 4, 2) := dk_21 4 (dk_at dksX3_placeIn_2 10 rfl rfl)
theorem dX3_placeIn_59 : decode cX3_placeIn 59 = .ok (.ifCond .le 40, 3) := dk_158 0 40 (dk_at dksX3_placeIn_2 12 rfl rfl)
theorem dX3_placeIn_62 : decode cX3_placeIn 62 = .ok (.iload 4, 2) := dk_21 4 (dk_at dksX3_placeIn_2 15 rfl rfl)
theorem dX3_placeIn_64 : decode cX3_placeIn 64 = .ok (.aload_n 1, 1) := dk_43 (dk_at dksX3_placeIn_2 17 rfl rfl)
theorem dX3_placeIn_65 : decode cX3_placeIn 65 = .ok (.getfield 12, 3) := dk_180 0 12 (dk_at dksX3_placeIn_2 18 rfl rfl)
theorem dX3_placeIn_68 : decode cX3_placeIn 68 = .ok (.iload 5, 2) := dk_21 5 (dk_at dksX3_placeIn_2 21 rfl rfl)
theorem dX3_placeIn_70 : decode cX3_placeIn 70 = .ok (.invokeinterface 61 2, 5) := by decide +kernel
theorem dX3_placeIn_75 : decode cX3_placeIn 75 = .ok (.checkcast 34, 3) := dk_192 0 34 (dk_at dksX3_placeIn_3 5 rfl rfl)
theorem dX3_placeIn_78 : decode cX3_placeIn 78 = .ok (.getfield 72, 3) := dk_180 0 72 (dk_at dksX3_placeIn_3 8 rfl rfl)
theorem dX3_placeIn_81 : decode cX3_placeIn 81 = .ok (.iload_n 3, 1) := dk_29 (dk_at dksX3_placeIn_3 11 rfl rfl)
theorem dX3_placeIn_82 : decode cX3_placeIn 82 = .ok (.if_icmp .ne 7, 3) := dk_160 0 7 (dk_at dksX3_placeIn_3 12 rfl rfl)
theorem dX3_placeIn_85 : decode cX3_placeIn 85 = .ok (.iconst 1, 1) := dk_4 (dk_at dksX3_placeIn_3 15 rfl rfl)
theorem dX3_placeIn_86 : decode cX3_placeIn 86 = .ok (.goto 4, 3) := dk_167 0 4 (dk_at dksX3_placeIn_3 16 rfl rfl)
theorem dX3_placeIn_89 : decode cX3_placeIn 89 = .ok (.iconst 0, 1) := dk_3 (dk_at dksX3_placeIn_3 19 rfl rfl)
theorem dX3_placeIn_90 : decode cX3_placeIn 90 = .ok (.isub, 1) := dk_100 (dk_at dksX3_placeIn_3 20 rfl rfl)
theorem dX3_placeIn_91 : decode cX3_placeIn 91 = .ok (.istore 4, 2) := dk_54 4 (dk_at dksX3_placeIn_3 21 rfl rfl)
theorem dX3_placeIn_93 : decode cX3_placeIn 93 = .ok (.iinc 5 1, 3) := dk_132 5 1 (dk_at dksX3_placeIn_4 0 rfl rfl)
theorem dX3_placeIn_96 : decode cX3_placeIn 96 = .ok (.goto (-60), 3) := dk_167 255 196 (dk_at dksX3_placeIn_4 3 rfl rfl)
theorem dX3_placeIn_99 : decode cX3_placeIn 99 = .ok (.iload 5, 2) := dk_21 5 (dk_at dksX3_placeIn_4 6 rfl rfl)
theorem dX3_placeIn_101 : decode cX3_placeIn 101 = .ok (.ireturn, 1) := dk_172 (dk_at dksX3_placeIn_4 8 rfl rfl)
abbrev cX3_lambda_placeIn_9 : ByteArray := prog_8_method_31_code
def yX3_lambda_placeIn_9 : MethodName := ⟨RX3, "lambda$placeIn$9", "(ILScheduleAnalyzer$Operation;)Z"⟩
def dkwX3_lambda_placeIn_9_0 : List UInt8 := [43, 180, 0, 72, 26, 160, 0, 7, 4, 167, 0, 4, 3, 172]
abbrev dktX3_lambda_placeIn_9_0 : List UInt8 := dkwX3_lambda_placeIn_9_0 ++ []
theorem dksX3_lambda_placeIn_9_0 : cX3_lambda_placeIn_9.data.toList.drop 0 = dktX3_lambda_placeIn_9_0 := by decide +kernel
theorem dX3_lambda_placeIn_9_0 : decode cX3_lambda_placeIn_9 0 = .ok (.aload_n 1, 1) := dk_43 (dk_at dksX3_lambda_placeIn_9_0 0 rfl rfl)
theorem dX3_lambda_placeIn_9_1 : decode cX3_lambda_placeIn_9 1 = .ok (.getfield 72, 3) := dk_180 0 72 (dk_at dksX3_lambda_placeIn_9_0 1 rfl rfl)
theorem dX3_lambda_placeIn_9_4 : decode cX3_lambda_placeIn_9 4 = .ok (.iload_n 0, 1) := dk_26 (dk_at dksX3_lambda_placeIn_9_0 4 rfl rfl)
theorem dX3_lambda_placeIn_9_5 : decode cX3_lambda_placeIn_9 5 = .ok (.if_icmp .ne 7, 3) := dk_160 0 7 (dk_at dksX3_lambda_placeIn_9_0 5 rfl rfl)
theorem dX3_lambda_placeIn_9_8 : decode cX3_lambda_placeIn_9 8 = .ok (.iconst 1, 1) := dk_4 (dk_at dksX3_lambda_placeIn_9_0 8 rfl rfl)
theorem dX3_lambda_placeIn_9_9 : decode cX3_lambda_placeIn_9 9 = .ok (.goto 4, 3) := dk_167 0 4 (dk_at dksX3_lambda_placeIn_9_0 9 rfl rfl)
theorem dX3_lambda_placeIn_9_12 : decode cX3_lambda_placeIn_9 12 = .ok (.iconst 0, 1) := dk_3 (dk_at dksX3_lambda_placeIn_9_0 12 rfl rfl)
theorem dX3_lambda_placeIn_9_13 : decode cX3_lambda_placeIn_9 13 = .ok (.ireturn, 1) := dk_172 (dk_at dksX3_lambda_placeIn_9_0 13 rfl rfl)
abbrev cX3_toString : ByteArray := prog_8_method_30_code
def yX3_toString : MethodName := ⟨RX3, "toString", "()Ljava/lang/String;"⟩
def dkwX3_toString_3 : List UInt8 := [43, 176]
abbrev dktX3_toString_3 : List UInt8 := dkwX3_toString_3 ++ []
def dkwX3_toString_2 : List UInt8 := [153, 0, 8, 18, 185, 167, 0, 5, 18, 199, 182, 0, 190, 45, 182, 0, 201, 182, 0, 204, 76, 167, 255, 201]
abbrev dktX3_toString_2 : List UInt8 := dkwX3_toString_2 ++ dktX3_toString_3
def dkwX3_toString_1 : List UInt8 := [185, 0, 30, 1, 0, 192, 0, 34, 78, 187, 0, 187, 89, 183, 0, 189, 43, 182, 0, 190, 43, 182, 0, 194]
abbrev dktX3_toString_1 : List UInt8 := dkwX3_toString_1 ++ dktX3_toString_2
def dkwX3_toString_0 : List UInt8 := [18, 185, 76, 42, 180, 0, 12, 185, 0, 18, 1, 0, 77, 44, 185, 0, 24, 1, 0, 153, 0, 52, 44]
abbrev dktX3_toString_0 : List UInt8 := dkwX3_toString_0 ++ dktX3_toString_1
theorem dksX3_toString_0 : cX3_toString.data.toList.drop 0 = dktX3_toString_0 := by decide +kernel
theorem dksX3_toString_1 : cX3_toString.data.toList.drop 23 = dktX3_toString_1 := dk_seg dksX3_toString_0 23 rfl rfl
theorem dksX3_toString_2 : cX3_toString.data.toList.drop 47 = dktX3_toString_2 := dk_seg dksX3_toString_1 24 rfl rfl
theorem dksX3_toString_3 : cX3_toString.data.toList.drop 71 = dktX3_toString_3 := dk_seg dksX3_toString_2 24 rfl rfl
theorem dX3_toString_0 : decode cX3_toString 0 = .ok (.ldc 185, 2) := dk_18 185 (dk_at dksX3_toString_0 0 rfl rfl)
theorem dX3_toString_2 : decode cX3_toString 2 = .ok (.astore_n 1, 1) := dk_76 (dk_at dksX3_toString_0 2 rfl rfl)
theorem dX3_toString_3 : decode cX3_toString 3 = .ok (.aload_n 0, 1) := dk_42 (dk_at dksX3_toString_0 3 rfl rfl)
theorem dX3_toString_4 : decode cX3_toString 4 = .ok (.getfield 12, 3) := dk_180 0 12 (dk_at dksX3_toString_0 4 rfl rfl)
theorem dX3_toString_7 : decode cX3_toString 7 = .ok (.invokeinterface 18 1, 5) := by decide +kernel
theorem dX3_toString_12 : decode cX3_toString 12 = .ok (.astore_n 2, 1) := dk_77 (dk_at dksX3_toString_0 12 rfl rfl)
theorem dX3_toString_13 : decode cX3_toString 13 = .ok (.aload_n 2, 1) := dk_44 (dk_at dksX3_toString_0 13 rfl rfl)
theorem dX3_toString_14 : decode cX3_toString 14 = .ok (.invokeinterface 24 1, 5) := by decide +kernel
theorem dX3_toString_19 : decode cX3_toString 19 = .ok (.ifCond .eq 52, 3) := dk_153 0 52 (dk_at dksX3_toString_0 19 rfl rfl)
theorem dX3_toString_22 : decode cX3_toString 22 = .ok (.aload_n 2, 1) := dk_44 (dk_at dksX3_toString_0 22 rfl rfl)
theorem dX3_toString_23 : decode cX3_toString 23 = .ok (.invokeinterface 30 1, 5) := by decide +kernel
theorem dX3_toString_28 : decode cX3_toString 28 = .ok (.checkcast 34, 3) := dk_192 0 34 (dk_at dksX3_toString_1 5 rfl rfl)
theorem dX3_toString_31 : decode cX3_toString 31 = .ok (.astore_n 3, 1) := dk_78 (dk_at dksX3_toString_1 8 rfl rfl)
theorem dX3_toString_32 : decode cX3_toString 32 = .ok (.new 187, 3) := dk_187 0 187 (dk_at dksX3_toString_1 9 rfl rfl)
theorem dX3_toString_35 : decode cX3_toString 35 = .ok (.dup, 1) := dk_89 (dk_at dksX3_toString_1 12 rfl rfl)
theorem dX3_toString_36 : decode cX3_toString 36 = .ok (.invokespecial 189, 3) := dk_183 0 189 (dk_at dksX3_toString_1 13 rfl rfl)
theorem dX3_toString_39 : decode cX3_toString 39 = .ok (.aload_n 1, 1) := dk_43 (dk_at dksX3_toString_1 16 rfl rfl)
theorem dX3_toString_40 : decode cX3_toString 40 = .ok (.invokevirtual 190, 3) := dk_182 0 190 (dk_at dksX3_toString_1 17 rfl rfl)
theorem dX3_toString_43 : decode cX3_toString 43 = .ok (.aload_n 1, 1) := dk_43 (dk_at dksX3_toString_1 20 rfl rfl)
theorem dX3_toString_44 : decode cX3_toString 44 = .ok (.invokevirtual 194, 3) := dk_182 0 194 (dk_at dksX3_toString_1 21 rfl rfl)
theorem dX3_toString_47 : decode cX3_toString 47 = .ok (.ifCond .eq 8, 3) := dk_153 0 8 (dk_at dksX3_toString_2 0 rfl rfl)
theorem dX3_toString_50 : decode cX3_toString 50 = .ok (.ldc 185, 2) := dk_18 185 (dk_at dksX3_toString_2 3 rfl rfl)
theorem dX3_toString_52 : decode cX3_toString 52 = .ok (.goto 5, 3) := dk_167 0 5 (dk_at dksX3_toString_2 5 rfl rfl)
theorem dX3_toString_55 : decode cX3_toString 55 = .ok (.ldc 199, 2) := dk_18 199 (dk_at dksX3_toString_2 8 rfl rfl)
theorem dX3_toString_57 : decode cX3_toString 57 = .ok (.invokevirtual 190, 3) := dk_182 0 190 (dk_at dksX3_toString_2 10 rfl rfl)
theorem dX3_toString_60 : decode cX3_toString 60 = .ok (.aload_n 3, 1) := dk_45 (dk_at dksX3_toString_2 13 rfl rfl)
theorem dX3_toString_61 : decode cX3_toString 61 = .ok (.invokevirtual 201, 3) := dk_182 0 201 (dk_at dksX3_toString_2 14 rfl rfl)
theorem dX3_toString_64 : decode cX3_toString 64 = .ok (.invokevirtual 204, 3) := dk_182 0 204 (dk_at dksX3_toString_2 17 rfl rfl)
theorem dX3_toString_67 : decode cX3_toString 67 = .ok (.astore_n 1, 1) := dk_76 (dk_at dksX3_toString_2 20 rfl rfl)
theorem dX3_toString_68 : decode cX3_toString 68 = .ok (.goto (-55), 3) := dk_167 255 201 (dk_at dksX3_toString_2 21 rfl rfl)
theorem dX3_toString_71 : decode cX3_toString 71 = .ok (.aload_n 1, 1) := dk_43 (dk_at dksX3_toString_3 0 rfl rfl)
theorem dX3_toString_72 : decode cX3_toString 72 = .ok (.areturn, 1) := dk_176 (dk_at dksX3_toString_3 1 rfl rfl)
theorem q117 : (Jvm.Cond.initialized "ScheduleAnalyzer$Schedule") ∈ lw_all := lw_g (lw_at lw_m1 3 rfl) rfl
theorem q181 : (Jvm.Cond.instantiable "ScheduleAnalyzer$Schedule" (1 : Nat)) ∈ lw_all := lw_g (lw_at lw_m1 67 rfl) rfl
theorem q213 : (Jvm.Cond.instanceMethod ({ cls := "ScheduleAnalyzer$Schedule", name := "<init>", desc := "(Ljava/util/List;)V" } : Jvm.MethodName)) ∈ lw_all := lw_g (lw_at lw_m1 99 rfl) rfl
theorem q214 : (Jvm.Cond.code ({ cls := "ScheduleAnalyzer$Schedule", name := "<init>", desc := "(Ljava/util/List;)V" } : Jvm.MethodName) prog_8_method_1_code (4 : Nat) (Option.none : Option Jvm.ClassFile.FieldType)) ∈ lw_all := lw_g (lw_at lw_m1 100 rfl) rfl
theorem q215 : (Jvm.Cond.methodLink "ScheduleAnalyzer$Schedule" (3 : Nat) ({ cls := "java/lang/Object", name := "<init>", desc := "()V" } : Jvm.MethodName)) ∈ lw_all := lw_g (lw_at lw_m1 101 rfl) rfl
theorem q216 : (Jvm.Cond.classLink "ScheduleAnalyzer$Schedule" (9 : Nat) "java/util/ArrayList") ∈ lw_all := lw_g (lw_at lw_m1 102 rfl) rfl
theorem q217 : (Jvm.Cond.methodLink "ScheduleAnalyzer$Schedule" (11 : Nat) ({ cls := "java/util/ArrayList", name := "<init>", desc := "()V" } : Jvm.MethodName)) ∈ lw_all := lw_g (lw_at lw_m1 103 rfl) rfl
theorem q218 : (Jvm.Cond.interfaceEntry "ScheduleAnalyzer$Schedule" (18 : Nat)) ∈ lw_tbl := lw_at lw_m1 104 rfl
theorem q219 : (Jvm.Cond.methodLink "ScheduleAnalyzer$Schedule" (18 : Nat) ({ cls := "java/util/List", name := "iterator", desc := "()Ljava/util/Iterator;" } : Jvm.MethodName)) ∈ lw_all := lw_g (lw_at lw_m1 105 rfl) rfl
theorem q286 : (Jvm.Cond.interfaceEntry "ScheduleAnalyzer$Schedule" (24 : Nat)) ∈ lw_tbl := lw_at lw_m1 172 rfl
theorem q287 : (Jvm.Cond.methodLink "ScheduleAnalyzer$Schedule" (24 : Nat) ({ cls := "java/util/Iterator", name := "hasNext", desc := "()Z" } : Jvm.MethodName)) ∈ lw_all := lw_g (lw_at lw_m1 173 rfl) rfl
theorem q302 : (Jvm.Cond.interfaceEntry "ScheduleAnalyzer$Schedule" (30 : Nat)) ∈ lw_tbl := lw_at lw_m1 188 rfl
theorem q303 : (Jvm.Cond.methodLink "ScheduleAnalyzer$Schedule" (30 : Nat) ({ cls := "java/util/Iterator", name := "next", desc := "()Ljava/lang/Object;" } : Jvm.MethodName)) ∈ lw_all := lw_g (lw_at lw_m1 189 rfl) rfl
theorem q712 : (Jvm.Cond.classLink "ScheduleAnalyzer$Schedule" (34 : Nat) "ScheduleAnalyzer$Operation") ∈ lw_all := lw_g (lw_at lw_m3 118 rfl) rfl
theorem q713 : (Jvm.Cond.interfaceEntry "ScheduleAnalyzer$Schedule" (36 : Nat)) ∈ lw_tbl := lw_at lw_m3 119 rfl
theorem q714 : (Jvm.Cond.methodLink "ScheduleAnalyzer$Schedule" (36 : Nat) ({ cls := "java/util/List", name := "add", desc := "(Ljava/lang/Object;)Z" } : Jvm.MethodName)) ∈ lw_all := lw_g (lw_at lw_m3 120 rfl) rfl
theorem q747 : (Jvm.Cond.selects "ScheduleAnalyzer$Schedule" ({ cls := "java/lang/Object", name := "getClass", desc := "()Ljava/lang/Class;" } : Jvm.MethodName) ({ cls := "java/lang/Object", name := "getClass", desc := "()Ljava/lang/Class;" } : Jvm.MethodName)) ∈ lw_all := lw_g (lw_at lw_m3 153 rfl) rfl
theorem q803 : (Jvm.Cond.fieldLink "ScheduleAnalyzer$Schedule" (12 : Nat) "ScheduleAnalyzer$Schedule" "operations" "Ljava/util/List;") ∈ lw_all := lw_g (lw_at lw_m3 209 rfl) rfl
theorem q808 : (Jvm.Cond.laysFinal "ScheduleAnalyzer$Schedule" "ScheduleAnalyzer$Schedule" "operations" "Ljava/util/List;") ∈ lw_all := lw_g (lw_at lw_m3 214 rfl) rfl
theorem q809 : (Jvm.Cond.soleField "ScheduleAnalyzer$Schedule" "operations") ∈ lw_all := lw_g (lw_at lw_m3 215 rfl) rfl
theorem q810 : (Jvm.Cond.superclass "ScheduleAnalyzer$Schedule" "java/lang/Object") ∈ lw_all := lw_g (lw_at lw_m3 216 rfl) rfl
theorem q867 : (Jvm.Cond.instanceMethod ({ cls := "ScheduleAnalyzer$Schedule", name := "graph", desc := "()LScheduleAnalyzer$Graph;" } : Jvm.MethodName)) ∈ lw_all := lw_g (lw_at lw_m4 33 rfl) rfl
theorem q868 : (Jvm.Cond.selects "ScheduleAnalyzer$Schedule" ({ cls := "ScheduleAnalyzer$Schedule", name := "graph", desc := "()LScheduleAnalyzer$Graph;" } : Jvm.MethodName) ({ cls := "ScheduleAnalyzer$Schedule", name := "graph", desc := "()LScheduleAnalyzer$Graph;" } : Jvm.MethodName)) ∈ lw_all := lw_g (lw_at lw_m4 34 rfl) rfl
theorem q869 : (Jvm.Cond.code ({ cls := "ScheduleAnalyzer$Schedule", name := "graph", desc := "()LScheduleAnalyzer$Graph;" } : Jvm.MethodName) prog_8_method_11_code (7 : Nat) (Option.some (Jvm.ClassFile.FieldType.object "ScheduleAnalyzer$Graph"))) ∈ lw_all := lw_g (lw_at lw_m4 35 rfl) rfl
theorem q870 : (Jvm.Cond.methodLink "ScheduleAnalyzer$Schedule" (86 : Nat) ({ cls := "ScheduleAnalyzer$Schedule", name := "rest", desc := "()LScheduleAnalyzer$Schedule;" } : Jvm.MethodName)) ∈ lw_all := lw_g (lw_at lw_m4 36 rfl) rfl
theorem q871 : (Jvm.Cond.instanceMethod ({ cls := "ScheduleAnalyzer$Schedule", name := "rest", desc := "()LScheduleAnalyzer$Schedule;" } : Jvm.MethodName)) ∈ lw_all := lw_g (lw_at lw_m4 37 rfl) rfl
theorem q872 : (Jvm.Cond.selects "ScheduleAnalyzer$Schedule" ({ cls := "ScheduleAnalyzer$Schedule", name := "rest", desc := "()LScheduleAnalyzer$Schedule;" } : Jvm.MethodName) ({ cls := "ScheduleAnalyzer$Schedule", name := "rest", desc := "()LScheduleAnalyzer$Schedule;" } : Jvm.MethodName)) ∈ lw_all := lw_g (lw_at lw_m4 38 rfl) rfl
theorem q873 : (Jvm.Cond.code ({ cls := "ScheduleAnalyzer$Schedule", name := "rest", desc := "()LScheduleAnalyzer$Schedule;" } : Jvm.MethodName) prog_8_method_9_code (4 : Nat) (Option.some (Jvm.ClassFile.FieldType.object "ScheduleAnalyzer$Schedule"))) ∈ lw_all := lw_g (lw_at lw_m4 39 rfl) rfl
theorem q874 : (Jvm.Cond.methodLink "ScheduleAnalyzer$Schedule" (76 : Nat) ({ cls := "ScheduleAnalyzer$Schedule", name := "isAborted", desc := "(I)Z" } : Jvm.MethodName)) ∈ lw_all := lw_g (lw_at lw_m4 40 rfl) rfl
theorem q875 : (Jvm.Cond.instanceMethod ({ cls := "ScheduleAnalyzer$Schedule", name := "isAborted", desc := "(I)Z" } : Jvm.MethodName)) ∈ lw_all := lw_g (lw_at lw_m4 41 rfl) rfl
theorem q876 : (Jvm.Cond.selects "ScheduleAnalyzer$Schedule" ({ cls := "ScheduleAnalyzer$Schedule", name := "isAborted", desc := "(I)Z" } : Jvm.MethodName) ({ cls := "ScheduleAnalyzer$Schedule", name := "isAborted", desc := "(I)Z" } : Jvm.MethodName)) ∈ lw_all := lw_g (lw_at lw_m4 42 rfl) rfl
theorem q877 : (Jvm.Cond.code ({ cls := "ScheduleAnalyzer$Schedule", name := "isAborted", desc := "(I)Z" } : Jvm.MethodName) prog_8_method_5_code (2 : Nat) (Option.some Jvm.ClassFile.FieldType.boolean)) ∈ lw_all := lw_g (lw_at lw_m4 43 rfl) rfl
theorem q878 : (Jvm.Cond.static ({ cls := "ScheduleAnalyzer$Schedule", name := "lambda$isAborted$1", desc := "(ILScheduleAnalyzer$Operation;)Z" } : Jvm.MethodName)) ∈ lw_all := lw_g (lw_at lw_m4 44 rfl) rfl
theorem q879 : (Jvm.Cond.code ({ cls := "ScheduleAnalyzer$Schedule", name := "lambda$isAborted$1", desc := "(ILScheduleAnalyzer$Operation;)Z" } : Jvm.MethodName) prog_8_method_39_code (2 : Nat) (Option.some Jvm.ClassFile.FieldType.boolean)) ∈ lw_all := lw_g (lw_at lw_m4 45 rfl) rfl
theorem q880 : (Jvm.Cond.methodLink "ScheduleAnalyzer$Schedule" (211 : Nat) ({ cls := "ScheduleAnalyzer$Operation", name := "isOf", desc := "(CI)Z" } : Jvm.MethodName)) ∈ lw_all := lw_g (lw_at lw_m4 46 rfl) rfl
theorem q884 : (Jvm.Cond.methodLink "ScheduleAnalyzer$Schedule" (53 : Nat) ({ cls := "ScheduleAnalyzer$Schedule", name := "has", desc := "(LScheduleAnalyzer$OperationTest;)Z" } : Jvm.MethodName)) ∈ lw_all := lw_g (lw_at lw_m4 50 rfl) rfl
theorem q885 : (Jvm.Cond.instanceMethod ({ cls := "ScheduleAnalyzer$Schedule", name := "has", desc := "(LScheduleAnalyzer$OperationTest;)Z" } : Jvm.MethodName)) ∈ lw_all := lw_g (lw_at lw_m4 51 rfl) rfl
theorem q886 : (Jvm.Cond.selects "ScheduleAnalyzer$Schedule" ({ cls := "ScheduleAnalyzer$Schedule", name := "has", desc := "(LScheduleAnalyzer$OperationTest;)Z" } : Jvm.MethodName) ({ cls := "ScheduleAnalyzer$Schedule", name := "has", desc := "(LScheduleAnalyzer$OperationTest;)Z" } : Jvm.MethodName)) ∈ lw_all := lw_g (lw_at lw_m4 52 rfl) rfl
theorem q887 : (Jvm.Cond.code ({ cls := "ScheduleAnalyzer$Schedule", name := "has", desc := "(LScheduleAnalyzer$OperationTest;)Z" } : Jvm.MethodName) prog_8_method_3_code (2 : Nat) (Option.some Jvm.ClassFile.FieldType.boolean)) ∈ lw_all := lw_g (lw_at lw_m4 53 rfl) rfl
theorem q888 : (Jvm.Cond.methodLink "ScheduleAnalyzer$Schedule" (44 : Nat) ({ cls := "ScheduleAnalyzer$Schedule", name := "size", desc := "()I" } : Jvm.MethodName)) ∈ lw_all := lw_g (lw_at lw_m4 54 rfl) rfl
theorem q889 : (Jvm.Cond.instanceMethod ({ cls := "ScheduleAnalyzer$Schedule", name := "size", desc := "()I" } : Jvm.MethodName)) ∈ lw_all := lw_g (lw_at lw_m4 55 rfl) rfl
theorem q890 : (Jvm.Cond.selects "ScheduleAnalyzer$Schedule" ({ cls := "ScheduleAnalyzer$Schedule", name := "size", desc := "()I" } : Jvm.MethodName) ({ cls := "ScheduleAnalyzer$Schedule", name := "size", desc := "()I" } : Jvm.MethodName)) ∈ lw_all := lw_g (lw_at lw_m4 56 rfl) rfl
theorem q891 : (Jvm.Cond.code ({ cls := "ScheduleAnalyzer$Schedule", name := "size", desc := "()I" } : Jvm.MethodName) prog_8_method_2_code (1 : Nat) (Option.some Jvm.ClassFile.FieldType.int)) ∈ lw_all := lw_g (lw_at lw_m4 57 rfl) rfl
theorem q892 : (Jvm.Cond.interfaceEntry "ScheduleAnalyzer$Schedule" (40 : Nat)) ∈ lw_tbl := lw_at lw_m4 58 rfl
theorem q893 : (Jvm.Cond.methodLink "ScheduleAnalyzer$Schedule" (40 : Nat) ({ cls := "java/util/List", name := "size", desc := "()I" } : Jvm.MethodName)) ∈ lw_all := lw_g (lw_at lw_m4 59 rfl) rfl
theorem q907 : (Jvm.Cond.methodLinkNest "ScheduleAnalyzer$Schedule" (45 : Nat) ({ cls := "ScheduleAnalyzer", name := "findBefore", desc := "(Ljava/util/List;ILScheduleAnalyzer$OperationTest;)I" } : Jvm.MethodName) "ScheduleAnalyzer") ∈ lw_tbl := lw_at lw_m4 73 rfl
theorem q917 : (Jvm.Cond.classLink "ScheduleAnalyzer$Schedule" (13 : Nat) "ScheduleAnalyzer$Schedule") ∈ lw_all := lw_g (lw_at lw_m4 83 rfl) rfl
theorem q918 : (Jvm.Cond.methodLink "ScheduleAnalyzer$Schedule" (58 : Nat) ({ cls := "ScheduleAnalyzer$Schedule", name := "<init>", desc := "(Ljava/util/List;)V" } : Jvm.MethodName)) ∈ lw_all := lw_g (lw_at lw_m4 84 rfl) rfl
theorem q919 : (Jvm.Cond.classLink "ScheduleAnalyzer$Schedule" (90 : Nat) "ScheduleAnalyzer$Graph") ∈ lw_all := lw_g (lw_at lw_m4 85 rfl) rfl
theorem q921 : (Jvm.Cond.methodLink "ScheduleAnalyzer$Schedule" (92 : Nat) ({ cls := "ScheduleAnalyzer$Schedule", name := "transactions", desc := "()Ljava/util/List;" } : Jvm.MethodName)) ∈ lw_all := lw_g (lw_at lw_m4 87 rfl) rfl
theorem q922 : (Jvm.Cond.instanceMethod ({ cls := "ScheduleAnalyzer$Schedule", name := "transactions", desc := "()Ljava/util/List;" } : Jvm.MethodName)) ∈ lw_all := lw_g (lw_at lw_m4 88 rfl) rfl
theorem q923 : (Jvm.Cond.selects "ScheduleAnalyzer$Schedule" ({ cls := "ScheduleAnalyzer$Schedule", name := "transactions", desc := "()Ljava/util/List;" } : Jvm.MethodName) ({ cls := "ScheduleAnalyzer$Schedule", name := "transactions", desc := "()Ljava/util/List;" } : Jvm.MethodName)) ∈ lw_all := lw_g (lw_at lw_m4 89 rfl) rfl
theorem q924 : (Jvm.Cond.code ({ cls := "ScheduleAnalyzer$Schedule", name := "transactions", desc := "()Ljava/util/List;" } : Jvm.MethodName) prog_8_method_10_code (4 : Nat) (Option.some (Jvm.ClassFile.FieldType.object "java/util/List"))) ∈ lw_all := lw_g (lw_at lw_m4 90 rfl) rfl
theorem q925 : (Jvm.Cond.methodLink "ScheduleAnalyzer$Schedule" (80 : Nat) ({ cls := "java/lang/Integer", name := "valueOf", desc := "(I)Ljava/lang/Integer;" } : Jvm.MethodName)) ∈ lw_all := lw_g (lw_at lw_m4 91 rfl) rfl
theorem q945 : (Jvm.Cond.methodLink "ScheduleAnalyzer$Schedule" (96 : Nat) ({ cls := "ScheduleAnalyzer$Graph", name := "<init>", desc := "(Ljava/util/List;)V" } : Jvm.MethodName)) ∈ lw_all := lw_g (lw_at lw_m4 111 rfl) rfl
theorem q1200 : (Jvm.Cond.interfaceEntry "ScheduleAnalyzer$Schedule" (61 : Nat)) ∈ lw_tbl := lw_at lw_m5 126 rfl
theorem q1201 : (Jvm.Cond.methodLink "ScheduleAnalyzer$Schedule" (61 : Nat) ({ cls := "java/util/List", name := "get", desc := "(I)Ljava/lang/Object;" } : Jvm.MethodName)) ∈ lw_all := lw_g (lw_at lw_m5 127 rfl) rfl
theorem q1202 : (Jvm.Cond.methodLink "ScheduleAnalyzer$Schedule" (97 : Nat) ({ cls := "ScheduleAnalyzer$Operation", name := "conflictsWith", desc := "(LScheduleAnalyzer$Operation;)Z" } : Jvm.MethodName)) ∈ lw_all := lw_g (lw_at lw_m5 128 rfl) rfl
theorem q1210 : (Jvm.Cond.methodLink "ScheduleAnalyzer$Schedule" (101 : Nat) ({ cls := "ScheduleAnalyzer$Graph", name := "connect", desc := "(Ljava/lang/Comparable;Ljava/lang/Comparable;)V" } : Jvm.MethodName)) ∈ lw_all := lw_g (lw_at lw_m5 136 rfl) rfl
theorem q1223 : (Jvm.Cond.instanceMethod ({ cls := "ScheduleAnalyzer$Schedule", name := "countDirtyReads", desc := "()I" } : Jvm.MethodName)) ∈ lw_all := lw_g (lw_at lw_m5 149 rfl) rfl
theorem q1224 : (Jvm.Cond.selects "ScheduleAnalyzer$Schedule" ({ cls := "ScheduleAnalyzer$Schedule", name := "countDirtyReads", desc := "()I" } : Jvm.MethodName) ({ cls := "ScheduleAnalyzer$Schedule", name := "countDirtyReads", desc := "()I" } : Jvm.MethodName)) ∈ lw_all := lw_g (lw_at lw_m5 150 rfl) rfl
theorem q1225 : (Jvm.Cond.code ({ cls := "ScheduleAnalyzer$Schedule", name := "countDirtyReads", desc := "()I" } : Jvm.MethodName) prog_8_method_20_code (3 : Nat) (Option.some Jvm.ClassFile.FieldType.int)) ∈ lw_all := lw_g (lw_at lw_m5 151 rfl) rfl
theorem q1226 : (Jvm.Cond.methodLink "ScheduleAnalyzer$Schedule" (145 : Nat) ({ cls := "ScheduleAnalyzer$Schedule", name := "isDirty", desc := "(I)Z" } : Jvm.MethodName)) ∈ lw_all := lw_g (lw_at lw_m5 152 rfl) rfl
theorem q1227 : (Jvm.Cond.instanceMethod ({ cls := "ScheduleAnalyzer$Schedule", name := "isDirty", desc := "(I)Z" } : Jvm.MethodName)) ∈ lw_all := lw_g (lw_at lw_m5 153 rfl) rfl
theorem q1228 : (Jvm.Cond.selects "ScheduleAnalyzer$Schedule" ({ cls := "ScheduleAnalyzer$Schedule", name := "isDirty", desc := "(I)Z" } : Jvm.MethodName) ({ cls := "ScheduleAnalyzer$Schedule", name := "isDirty", desc := "(I)Z" } : Jvm.MethodName)) ∈ lw_all := lw_g (lw_at lw_m5 154 rfl) rfl
theorem q1229 : (Jvm.Cond.code ({ cls := "ScheduleAnalyzer$Schedule", name := "isDirty", desc := "(I)Z" } : Jvm.MethodName) prog_8_method_19_code (3 : Nat) (Option.some Jvm.ClassFile.FieldType.boolean)) ∈ lw_all := lw_g (lw_at lw_m5 155 rfl) rfl
theorem q1230 : (Jvm.Cond.methodLink "ScheduleAnalyzer$Schedule" (138 : Nat) ({ cls := "ScheduleAnalyzer$Schedule", name := "foreignSource", desc := "(I)I" } : Jvm.MethodName)) ∈ lw_all := lw_g (lw_at lw_m5 156 rfl) rfl
theorem q1231 : (Jvm.Cond.privateMethod ({ cls := "ScheduleAnalyzer$Schedule", name := "foreignSource", desc := "(I)I" } : Jvm.MethodName)) ∈ lw_tbl := lw_at lw_m5 157 rfl
theorem q1232 : (Jvm.Cond.instanceMethod ({ cls := "ScheduleAnalyzer$Schedule", name := "foreignSource", desc := "(I)I" } : Jvm.MethodName)) ∈ lw_all := lw_g (lw_at lw_m5 158 rfl) rfl
theorem q1233 : (Jvm.Cond.code ({ cls := "ScheduleAnalyzer$Schedule", name := "foreignSource", desc := "(I)I" } : Jvm.MethodName) prog_8_method_18_code (4 : Nat) (Option.some Jvm.ClassFile.FieldType.int)) ∈ lw_all := lw_g (lw_at lw_m5 159 rfl) rfl
theorem q1234 : (Jvm.Cond.methodLink "ScheduleAnalyzer$Schedule" (134 : Nat) ({ cls := "ScheduleAnalyzer$Schedule", name := "sourceOf", desc := "(I)I" } : Jvm.MethodName)) ∈ lw_all := lw_g (lw_at lw_m5 160 rfl) rfl
theorem q1235 : (Jvm.Cond.instanceMethod ({ cls := "ScheduleAnalyzer$Schedule", name := "sourceOf", desc := "(I)I" } : Jvm.MethodName)) ∈ lw_all := lw_g (lw_at lw_m5 161 rfl) rfl
theorem q1236 : (Jvm.Cond.selects "ScheduleAnalyzer$Schedule" ({ cls := "ScheduleAnalyzer$Schedule", name := "sourceOf", desc := "(I)I" } : Jvm.MethodName) ({ cls := "ScheduleAnalyzer$Schedule", name := "sourceOf", desc := "(I)I" } : Jvm.MethodName)) ∈ lw_all := lw_g (lw_at lw_m5 162 rfl) rfl
theorem q1237 : (Jvm.Cond.code ({ cls := "ScheduleAnalyzer$Schedule", name := "sourceOf", desc := "(I)I" } : Jvm.MethodName) prog_8_method_17_code (3 : Nat) (Option.some Jvm.ClassFile.FieldType.int)) ∈ lw_all := lw_g (lw_at lw_m5 163 rfl) rfl
theorem q1238 : (Jvm.Cond.privateMethod ({ cls := "ScheduleAnalyzer$Schedule", name := "lambda$sourceOf$6", desc := "(CILScheduleAnalyzer$Operation;)Z" } : Jvm.MethodName)) ∈ lw_tbl := lw_at lw_m5 164 rfl
theorem q1239 : (Jvm.Cond.instanceMethod ({ cls := "ScheduleAnalyzer$Schedule", name := "lambda$sourceOf$6", desc := "(CILScheduleAnalyzer$Operation;)Z" } : Jvm.MethodName)) ∈ lw_all := lw_g (lw_at lw_m5 165 rfl) rfl
theorem q1240 : (Jvm.Cond.code ({ cls := "ScheduleAnalyzer$Schedule", name := "lambda$sourceOf$6", desc := "(CILScheduleAnalyzer$Operation;)Z" } : Jvm.MethodName) prog_8_method_34_code (4 : Nat) (Option.some Jvm.ClassFile.FieldType.boolean)) ∈ lw_all := lw_g (lw_at lw_m5 166 rfl) rfl
theorem q1241 : (Jvm.Cond.methodLink "ScheduleAnalyzer$Schedule" (155 : Nat) ({ cls := "ScheduleAnalyzer$Operation", name := "isWriteOf", desc := "(C)Z" } : Jvm.MethodName)) ∈ lw_all := lw_g (lw_at lw_m5 167 rfl) rfl
theorem q1245 : (Jvm.Cond.methodLink "ScheduleAnalyzer$Schedule" (215 : Nat) ({ cls := "ScheduleAnalyzer$Schedule", name := "isAbortedBefore", desc := "(II)Z" } : Jvm.MethodName)) ∈ lw_all := lw_g (lw_at lw_m5 171 rfl) rfl
theorem q1246 : (Jvm.Cond.privateMethod ({ cls := "ScheduleAnalyzer$Schedule", name := "isAbortedBefore", desc := "(II)Z" } : Jvm.MethodName)) ∈ lw_tbl := lw_at lw_m5 172 rfl
theorem q1247 : (Jvm.Cond.instanceMethod ({ cls := "ScheduleAnalyzer$Schedule", name := "isAbortedBefore", desc := "(II)Z" } : Jvm.MethodName)) ∈ lw_all := lw_g (lw_at lw_m5 173 rfl) rfl
theorem q1248 : (Jvm.Cond.code ({ cls := "ScheduleAnalyzer$Schedule", name := "isAbortedBefore", desc := "(II)Z" } : Jvm.MethodName) prog_8_method_15_code (3 : Nat) (Option.some Jvm.ClassFile.FieldType.boolean)) ∈ lw_all := lw_g (lw_at lw_m5 174 rfl) rfl
theorem q1249 : (Jvm.Cond.static ({ cls := "ScheduleAnalyzer$Schedule", name := "lambda$isAbortedBefore$4", desc := "(ILScheduleAnalyzer$Operation;)Z" } : Jvm.MethodName)) ∈ lw_all := lw_g (lw_at lw_m5 175 rfl) rfl
theorem q1250 : (Jvm.Cond.code ({ cls := "ScheduleAnalyzer$Schedule", name := "lambda$isAbortedBefore$4", desc := "(ILScheduleAnalyzer$Operation;)Z" } : Jvm.MethodName) prog_8_method_36_code (2 : Nat) (Option.some Jvm.ClassFile.FieldType.boolean)) ∈ lw_all := lw_g (lw_at lw_m5 176 rfl) rfl
theorem q1251 : (Jvm.Cond.methodLink "ScheduleAnalyzer$Schedule" (141 : Nat) ({ cls := "ScheduleAnalyzer$Schedule", name := "isCommittedBefore", desc := "(II)Z" } : Jvm.MethodName)) ∈ lw_all := lw_g (lw_at lw_m5 177 rfl) rfl
theorem q1252 : (Jvm.Cond.privateMethod ({ cls := "ScheduleAnalyzer$Schedule", name := "isCommittedBefore", desc := "(II)Z" } : Jvm.MethodName)) ∈ lw_tbl := lw_at lw_m5 178 rfl
theorem q1253 : (Jvm.Cond.instanceMethod ({ cls := "ScheduleAnalyzer$Schedule", name := "isCommittedBefore", desc := "(II)Z" } : Jvm.MethodName)) ∈ lw_all := lw_g (lw_at lw_m5 179 rfl) rfl
theorem q1254 : (Jvm.Cond.code ({ cls := "ScheduleAnalyzer$Schedule", name := "isCommittedBefore", desc := "(II)Z" } : Jvm.MethodName) prog_8_method_16_code (3 : Nat) (Option.some Jvm.ClassFile.FieldType.boolean)) ∈ lw_all := lw_g (lw_at lw_m5 180 rfl) rfl
theorem q1255 : (Jvm.Cond.static ({ cls := "ScheduleAnalyzer$Schedule", name := "lambda$isCommittedBefore$5", desc := "(ILScheduleAnalyzer$Operation;)Z" } : Jvm.MethodName)) ∈ lw_all := lw_g (lw_at lw_m5 181 rfl) rfl
theorem q1256 : (Jvm.Cond.code ({ cls := "ScheduleAnalyzer$Schedule", name := "lambda$isCommittedBefore$5", desc := "(ILScheduleAnalyzer$Operation;)Z" } : Jvm.MethodName) prog_8_method_35_code (2 : Nat) (Option.some Jvm.ClassFile.FieldType.boolean)) ∈ lw_all := lw_g (lw_at lw_m5 182 rfl) rfl
theorem q1258 : (Jvm.Cond.instanceMethod ({ cls := "ScheduleAnalyzer$Schedule", name := "countConflicts", desc := "()I" } : Jvm.MethodName)) ∈ lw_all := lw_g (lw_at lw_m5 184 rfl) rfl
theorem q1259 : (Jvm.Cond.selects "ScheduleAnalyzer$Schedule" ({ cls := "ScheduleAnalyzer$Schedule", name := "countConflicts", desc := "()I" } : Jvm.MethodName) ({ cls := "ScheduleAnalyzer$Schedule", name := "countConflicts", desc := "()I" } : Jvm.MethodName)) ∈ lw_all := lw_g (lw_at lw_m5 185 rfl) rfl
theorem q1260 : (Jvm.Cond.code ({ cls := "ScheduleAnalyzer$Schedule", name := "countConflicts", desc := "()I" } : Jvm.MethodName) prog_8_method_12_code (5 : Nat) (Option.some Jvm.ClassFile.FieldType.int)) ∈ lw_all := lw_g (lw_at lw_m5 186 rfl) rfl
theorem q1261 : (Jvm.Cond.static ({ cls := "ScheduleAnalyzer$Schedule", name := "lambda$countConflicts$2", desc := "(LScheduleAnalyzer$Operation;LScheduleAnalyzer$Operation;)Z" } : Jvm.MethodName)) ∈ lw_all := lw_g (lw_at lw_m5 187 rfl) rfl
theorem q1262 : (Jvm.Cond.code ({ cls := "ScheduleAnalyzer$Schedule", name := "lambda$countConflicts$2", desc := "(LScheduleAnalyzer$Operation;LScheduleAnalyzer$Operation;)Z" } : Jvm.MethodName) prog_8_method_38_code (2 : Nat) (Option.some Jvm.ClassFile.FieldType.boolean)) ∈ lw_all := lw_g (lw_at lw_m5 188 rfl) rfl
theorem q1263 : (Jvm.Cond.methodLinkNest "ScheduleAnalyzer$Schedule" (108 : Nat) ({ cls := "ScheduleAnalyzer", name := "countBefore", desc := "(Ljava/util/List;ILScheduleAnalyzer$OperationTest;)I" } : Jvm.MethodName) "ScheduleAnalyzer") ∈ lw_tbl := lw_at lw_m5 189 rfl
theorem q1267 : (Jvm.Cond.instanceMethod ({ cls := "ScheduleAnalyzer$Schedule", name := "countConflictsByItems", desc := "()I" } : Jvm.MethodName)) ∈ lw_all := lw_g (lw_at lw_m5 193 rfl) rfl
theorem q1268 : (Jvm.Cond.selects "ScheduleAnalyzer$Schedule" ({ cls := "ScheduleAnalyzer$Schedule", name := "countConflictsByItems", desc := "()I" } : Jvm.MethodName) ({ cls := "ScheduleAnalyzer$Schedule", name := "countConflictsByItems", desc := "()I" } : Jvm.MethodName)) ∈ lw_all := lw_g (lw_at lw_m5 194 rfl) rfl
theorem q1269 : (Jvm.Cond.code ({ cls := "ScheduleAnalyzer$Schedule", name := "countConflictsByItems", desc := "()I" } : Jvm.MethodName) prog_8_method_14_code (9 : Nat) (Option.some Jvm.ClassFile.FieldType.int)) ∈ lw_all := lw_g (lw_at lw_m5 195 rfl) rfl
theorem q1270 : (Jvm.Cond.methodLink "ScheduleAnalyzer$Schedule" (118 : Nat) ({ cls := "ScheduleAnalyzer$Schedule", name := "countOf", desc := "(LScheduleAnalyzer$Schedule;CIC)I" } : Jvm.MethodName)) ∈ lw_all := lw_g (lw_at lw_m5 196 rfl) rfl
theorem q1271 : (Jvm.Cond.static ({ cls := "ScheduleAnalyzer$Schedule", name := "countOf", desc := "(LScheduleAnalyzer$Schedule;CIC)I" } : Jvm.MethodName)) ∈ lw_all := lw_g (lw_at lw_m5 197 rfl) rfl
theorem q1272 : (Jvm.Cond.code ({ cls := "ScheduleAnalyzer$Schedule", name := "countOf", desc := "(LScheduleAnalyzer$Schedule;CIC)I" } : Jvm.MethodName) prog_8_method_13_code (4 : Nat) (Option.some Jvm.ClassFile.FieldType.int)) ∈ lw_all := lw_g (lw_at lw_m5 198 rfl) rfl
theorem q1273 : (Jvm.Cond.static ({ cls := "ScheduleAnalyzer$Schedule", name := "lambda$countOf$3", desc := "(CICLScheduleAnalyzer$Operation;)Z" } : Jvm.MethodName)) ∈ lw_all := lw_g (lw_at lw_m5 199 rfl) rfl
theorem q1274 : (Jvm.Cond.code ({ cls := "ScheduleAnalyzer$Schedule", name := "lambda$countOf$3", desc := "(CICLScheduleAnalyzer$Operation;)Z" } : Jvm.MethodName) prog_8_method_37_code (4 : Nat) (Option.some Jvm.ClassFile.FieldType.boolean)) ∈ lw_all := lw_g (lw_at lw_m5 200 rfl) rfl
theorem q1275 : (Jvm.Cond.methodLinkNest "ScheduleAnalyzer$Schedule" (114 : Nat) ({ cls := "ScheduleAnalyzer", name := "count", desc := "(Ljava/util/List;LScheduleAnalyzer$OperationTest;)I" } : Jvm.MethodName) "ScheduleAnalyzer") ∈ lw_tbl := lw_at lw_m5 201 rfl
theorem q1376 : (Jvm.Cond.instanceMethod ({ cls := "ScheduleAnalyzer$Schedule", name := "isStrict", desc := "()Z" } : Jvm.MethodName)) ∈ lw_all := lw_g (lw_at lw_m6 62 rfl) rfl
theorem q1377 : (Jvm.Cond.selects "ScheduleAnalyzer$Schedule" ({ cls := "ScheduleAnalyzer$Schedule", name := "isStrict", desc := "()Z" } : Jvm.MethodName) ({ cls := "ScheduleAnalyzer$Schedule", name := "isStrict", desc := "()Z" } : Jvm.MethodName)) ∈ lw_all := lw_g (lw_at lw_m6 63 rfl) rfl
theorem q1378 : (Jvm.Cond.code ({ cls := "ScheduleAnalyzer$Schedule", name := "isStrict", desc := "()Z" } : Jvm.MethodName) prog_8_method_25_code (3 : Nat) (Option.some Jvm.ClassFile.FieldType.boolean)) ∈ lw_all := lw_g (lw_at lw_m6 64 rfl) rfl
theorem q1379 : (Jvm.Cond.methodLink "ScheduleAnalyzer$Schedule" (163 : Nat) ({ cls := "ScheduleAnalyzer$Schedule", name := "isTooEarly", desc := "(I)Z" } : Jvm.MethodName)) ∈ lw_all := lw_g (lw_at lw_m6 65 rfl) rfl
theorem q1380 : (Jvm.Cond.privateMethod ({ cls := "ScheduleAnalyzer$Schedule", name := "isTooEarly", desc := "(I)Z" } : Jvm.MethodName)) ∈ lw_tbl := lw_at lw_m6 66 rfl
theorem q1381 : (Jvm.Cond.instanceMethod ({ cls := "ScheduleAnalyzer$Schedule", name := "isTooEarly", desc := "(I)Z" } : Jvm.MethodName)) ∈ lw_all := lw_g (lw_at lw_m6 67 rfl) rfl
theorem q1382 : (Jvm.Cond.code ({ cls := "ScheduleAnalyzer$Schedule", name := "isTooEarly", desc := "(I)Z" } : Jvm.MethodName) prog_8_method_23_code (7 : Nat) (Option.some Jvm.ClassFile.FieldType.boolean)) ∈ lw_all := lw_g (lw_at lw_m6 68 rfl) rfl
theorem q1383 : (Jvm.Cond.methodLink "ScheduleAnalyzer$Schedule" (152 : Nat) ({ cls := "ScheduleAnalyzer$Operation", name := "isAccess", desc := "()Z" } : Jvm.MethodName)) ∈ lw_all := lw_g (lw_at lw_m6 69 rfl) rfl
theorem q1384 : (Jvm.Cond.methodLink "ScheduleAnalyzer$Schedule" (159 : Nat) ({ cls := "ScheduleAnalyzer$Schedule", name := "isEndedBefore", desc := "(II)Z" } : Jvm.MethodName)) ∈ lw_all := lw_g (lw_at lw_m6 70 rfl) rfl
theorem q1385 : (Jvm.Cond.privateMethod ({ cls := "ScheduleAnalyzer$Schedule", name := "isEndedBefore", desc := "(II)Z" } : Jvm.MethodName)) ∈ lw_tbl := lw_at lw_m6 71 rfl
theorem q1386 : (Jvm.Cond.instanceMethod ({ cls := "ScheduleAnalyzer$Schedule", name := "isEndedBefore", desc := "(II)Z" } : Jvm.MethodName)) ∈ lw_all := lw_g (lw_at lw_m6 72 rfl) rfl
theorem q1387 : (Jvm.Cond.code ({ cls := "ScheduleAnalyzer$Schedule", name := "isEndedBefore", desc := "(II)Z" } : Jvm.MethodName) prog_8_method_24_code (3 : Nat) (Option.some Jvm.ClassFile.FieldType.boolean)) ∈ lw_all := lw_g (lw_at lw_m6 73 rfl) rfl
theorem q1388 : (Jvm.Cond.static ({ cls := "ScheduleAnalyzer$Schedule", name := "lambda$isEndedBefore$8", desc := "(ILScheduleAnalyzer$Operation;)Z" } : Jvm.MethodName)) ∈ lw_all := lw_g (lw_at lw_m6 74 rfl) rfl
theorem q1389 : (Jvm.Cond.code ({ cls := "ScheduleAnalyzer$Schedule", name := "lambda$isEndedBefore$8", desc := "(ILScheduleAnalyzer$Operation;)Z" } : Jvm.MethodName) prog_8_method_32_code (2 : Nat) (Option.some Jvm.ClassFile.FieldType.boolean)) ∈ lw_all := lw_g (lw_at lw_m6 75 rfl) rfl
theorem q1390 : (Jvm.Cond.methodLink "ScheduleAnalyzer$Schedule" (208 : Nat) ({ cls := "ScheduleAnalyzer$Operation", name := "isEndOf", desc := "(I)Z" } : Jvm.MethodName)) ∈ lw_all := lw_g (lw_at lw_m6 76 rfl) rfl
theorem q1451 : (Jvm.Cond.instanceMethod ({ cls := "ScheduleAnalyzer$Schedule", name := "isRecoverable", desc := "()Z" } : Jvm.MethodName)) ∈ lw_all := lw_g (lw_at lw_m6 137 rfl) rfl
theorem q1452 : (Jvm.Cond.selects "ScheduleAnalyzer$Schedule" ({ cls := "ScheduleAnalyzer$Schedule", name := "isRecoverable", desc := "()Z" } : Jvm.MethodName) ({ cls := "ScheduleAnalyzer$Schedule", name := "isRecoverable", desc := "()Z" } : Jvm.MethodName)) ∈ lw_all := lw_g (lw_at lw_m6 138 rfl) rfl
theorem q1453 : (Jvm.Cond.code ({ cls := "ScheduleAnalyzer$Schedule", name := "isRecoverable", desc := "()Z" } : Jvm.MethodName) prog_8_method_21_code (5 : Nat) (Option.some Jvm.ClassFile.FieldType.boolean)) ∈ lw_all := lw_g (lw_at lw_m6 139 rfl) rfl
theorem q1454 : (Jvm.Cond.methodLink "ScheduleAnalyzer$Schedule" (148 : Nat) ({ cls := "ScheduleAnalyzer$Schedule", name := "commitOf", desc := "(I)I" } : Jvm.MethodName)) ∈ lw_all := lw_g (lw_at lw_m6 140 rfl) rfl
theorem q1455 : (Jvm.Cond.privateMethod ({ cls := "ScheduleAnalyzer$Schedule", name := "commitOf", desc := "(I)I" } : Jvm.MethodName)) ∈ lw_tbl := lw_at lw_m6 141 rfl
theorem q1456 : (Jvm.Cond.instanceMethod ({ cls := "ScheduleAnalyzer$Schedule", name := "commitOf", desc := "(I)I" } : Jvm.MethodName)) ∈ lw_all := lw_g (lw_at lw_m6 142 rfl) rfl
theorem q1457 : (Jvm.Cond.code ({ cls := "ScheduleAnalyzer$Schedule", name := "commitOf", desc := "(I)I" } : Jvm.MethodName) prog_8_method_22_code (2 : Nat) (Option.some Jvm.ClassFile.FieldType.int)) ∈ lw_all := lw_g (lw_at lw_m6 143 rfl) rfl
theorem q1458 : (Jvm.Cond.static ({ cls := "ScheduleAnalyzer$Schedule", name := "lambda$commitOf$7", desc := "(ILScheduleAnalyzer$Operation;)Z" } : Jvm.MethodName)) ∈ lw_all := lw_g (lw_at lw_m6 144 rfl) rfl
theorem q1459 : (Jvm.Cond.code ({ cls := "ScheduleAnalyzer$Schedule", name := "lambda$commitOf$7", desc := "(ILScheduleAnalyzer$Operation;)Z" } : Jvm.MethodName) prog_8_method_33_code (2 : Nat) (Option.some Jvm.ClassFile.FieldType.boolean)) ∈ lw_all := lw_g (lw_at lw_m6 145 rfl) rfl
theorem q1661 : (Jvm.Cond.fieldLinkNest "ScheduleAnalyzer$Schedule" (131 : Nat) "ScheduleAnalyzer$Operation" "kind" "C" "ScheduleAnalyzer") ∈ lw_tbl := lw_at lw_m7 107 rfl
theorem q1667 : (Jvm.Cond.fieldLinkNest "ScheduleAnalyzer$Schedule" (72 : Nat) "ScheduleAnalyzer$Operation" "transaction" "I" "ScheduleAnalyzer") ∈ lw_tbl := lw_at lw_m7 113 rfl
theorem q1672 : (Jvm.Cond.fieldLinkNest "ScheduleAnalyzer$Schedule" (124 : Nat) "ScheduleAnalyzer$Operation" "item" "C" "ScheduleAnalyzer") ∈ lw_tbl := lw_at lw_m7 118 rfl
theorem q1784 : (Jvm.Cond.instanceMethod ({ cls := "ScheduleAnalyzer$Schedule", name := "hasEnded", desc := "(I)Z" } : Jvm.MethodName)) ∈ lw_all := lw_g (lw_at lw_m7 230 rfl) rfl
theorem q1785 : (Jvm.Cond.selects "ScheduleAnalyzer$Schedule" ({ cls := "ScheduleAnalyzer$Schedule", name := "hasEnded", desc := "(I)Z" } : Jvm.MethodName) ({ cls := "ScheduleAnalyzer$Schedule", name := "hasEnded", desc := "(I)Z" } : Jvm.MethodName)) ∈ lw_all := lw_g (lw_at lw_m7 231 rfl) rfl
theorem q1786 : (Jvm.Cond.code ({ cls := "ScheduleAnalyzer$Schedule", name := "hasEnded", desc := "(I)Z" } : Jvm.MethodName) prog_8_method_4_code (2 : Nat) (Option.some Jvm.ClassFile.FieldType.boolean)) ∈ lw_all := lw_g (lw_at lw_m7 232 rfl) rfl
theorem q1787 : (Jvm.Cond.static ({ cls := "ScheduleAnalyzer$Schedule", name := "lambda$hasEnded$0", desc := "(ILScheduleAnalyzer$Operation;)Z" } : Jvm.MethodName)) ∈ lw_all := lw_g (lw_at lw_m7 233 rfl) rfl
theorem q1788 : (Jvm.Cond.code ({ cls := "ScheduleAnalyzer$Schedule", name := "lambda$hasEnded$0", desc := "(ILScheduleAnalyzer$Operation;)Z" } : Jvm.MethodName) prog_8_method_40_code (2 : Nat) (Option.some Jvm.ClassFile.FieldType.boolean)) ∈ lw_all := lw_g (lw_at lw_m7 234 rfl) rfl
theorem q1790 : (Jvm.Cond.instanceMethod ({ cls := "ScheduleAnalyzer$Schedule", name := "with", desc := "(LScheduleAnalyzer$Operation;)LScheduleAnalyzer$Schedule;" } : Jvm.MethodName)) ∈ lw_all := lw_g (lw_at lw_m7 236 rfl) rfl
theorem q1791 : (Jvm.Cond.selects "ScheduleAnalyzer$Schedule" ({ cls := "ScheduleAnalyzer$Schedule", name := "with", desc := "(LScheduleAnalyzer$Operation;)LScheduleAnalyzer$Schedule;" } : Jvm.MethodName) ({ cls := "ScheduleAnalyzer$Schedule", name := "with", desc := "(LScheduleAnalyzer$Operation;)LScheduleAnalyzer$Schedule;" } : Jvm.MethodName)) ∈ lw_all := lw_g (lw_at lw_m7 237 rfl) rfl
theorem q1792 : (Jvm.Cond.code ({ cls := "ScheduleAnalyzer$Schedule", name := "with", desc := "(LScheduleAnalyzer$Operation;)LScheduleAnalyzer$Schedule;" } : Jvm.MethodName) prog_8_method_6_code (3 : Nat) (Option.some (Jvm.ClassFile.FieldType.object "ScheduleAnalyzer$Schedule"))) ∈ lw_all := lw_g (lw_at lw_m7 238 rfl) rfl
theorem q1816 : (Jvm.Cond.instanceMethod ({ cls := "ScheduleAnalyzer$Schedule", name := "without", desc := "(I)LScheduleAnalyzer$Schedule;" } : Jvm.MethodName)) ∈ lw_all := lw_g (lw_at lw_m8 22 rfl) rfl
theorem q1817 : (Jvm.Cond.selects "ScheduleAnalyzer$Schedule" ({ cls := "ScheduleAnalyzer$Schedule", name := "without", desc := "(I)LScheduleAnalyzer$Schedule;" } : Jvm.MethodName) ({ cls := "ScheduleAnalyzer$Schedule", name := "without", desc := "(I)LScheduleAnalyzer$Schedule;" } : Jvm.MethodName)) ∈ lw_all := lw_g (lw_at lw_m8 23 rfl) rfl
theorem q1818 : (Jvm.Cond.code ({ cls := "ScheduleAnalyzer$Schedule", name := "without", desc := "(I)LScheduleAnalyzer$Schedule;" } : Jvm.MethodName) prog_8_method_7_code (3 : Nat) (Option.some (Jvm.ClassFile.FieldType.object "ScheduleAnalyzer$Schedule"))) ∈ lw_all := lw_g (lw_at lw_m8 24 rfl) rfl
theorem q1819 : (Jvm.Cond.interfaceEntry "ScheduleAnalyzer$Schedule" (65 : Nat)) ∈ lw_tbl := lw_at lw_m8 25 rfl
theorem q1820 : (Jvm.Cond.methodLink "ScheduleAnalyzer$Schedule" (65 : Nat) ({ cls := "java/util/List", name := "remove", desc := "(Ljava/lang/Object;)Z" } : Jvm.MethodName)) ∈ lw_all := lw_g (lw_at lw_m8 26 rfl) rfl
theorem q1838 : (Jvm.Cond.selects "ScheduleAnalyzer$Schedule" ({ cls := "java/lang/Object", name := "equals", desc := "(Ljava/lang/Object;)Z" } : Jvm.MethodName) ({ cls := "java/lang/Object", name := "equals", desc := "(Ljava/lang/Object;)Z" } : Jvm.MethodName)) ∈ lw_all := lw_g (lw_at lw_m8 44 rfl) rfl
theorem q1881 : (Jvm.Cond.instanceMethod ({ cls := "ScheduleAnalyzer$Schedule", name := "exchanged", desc := "(I)LScheduleAnalyzer$Schedule;" } : Jvm.MethodName)) ∈ lw_all := lw_g (lw_at lw_m8 87 rfl) rfl
theorem q1882 : (Jvm.Cond.selects "ScheduleAnalyzer$Schedule" ({ cls := "ScheduleAnalyzer$Schedule", name := "exchanged", desc := "(I)LScheduleAnalyzer$Schedule;" } : Jvm.MethodName) ({ cls := "ScheduleAnalyzer$Schedule", name := "exchanged", desc := "(I)LScheduleAnalyzer$Schedule;" } : Jvm.MethodName)) ∈ lw_all := lw_g (lw_at lw_m8 88 rfl) rfl
theorem q1883 : (Jvm.Cond.code ({ cls := "ScheduleAnalyzer$Schedule", name := "exchanged", desc := "(I)LScheduleAnalyzer$Schedule;" } : Jvm.MethodName) prog_8_method_8_code (3 : Nat) (Option.some (Jvm.ClassFile.FieldType.object "ScheduleAnalyzer$Schedule"))) ∈ lw_all := lw_g (lw_at lw_m8 89 rfl) rfl
theorem q1884 : (Jvm.Cond.interfaceEntry "ScheduleAnalyzer$Schedule" (68 : Nat)) ∈ lw_tbl := lw_at lw_m8 90 rfl
theorem q1885 : (Jvm.Cond.methodLink "ScheduleAnalyzer$Schedule" (68 : Nat) ({ cls := "java/util/List", name := "set", desc := "(ILjava/lang/Object;)Ljava/lang/Object;" } : Jvm.MethodName)) ∈ lw_all := lw_g (lw_at lw_m8 91 rfl) rfl
theorem q1940 : (Jvm.Cond.instanceMethod ({ cls := "ScheduleAnalyzer$Schedule", name := "arranged", desc := "(Ljava/util/List;)LScheduleAnalyzer$Schedule;" } : Jvm.MethodName)) ∈ lw_all := lw_g (lw_at lw_m8 146 rfl) rfl
theorem q1941 : (Jvm.Cond.selects "ScheduleAnalyzer$Schedule" ({ cls := "ScheduleAnalyzer$Schedule", name := "arranged", desc := "(Ljava/util/List;)LScheduleAnalyzer$Schedule;" } : Jvm.MethodName) ({ cls := "ScheduleAnalyzer$Schedule", name := "arranged", desc := "(Ljava/util/List;)LScheduleAnalyzer$Schedule;" } : Jvm.MethodName)) ∈ lw_all := lw_g (lw_at lw_m8 147 rfl) rfl
theorem q1942 : (Jvm.Cond.code ({ cls := "ScheduleAnalyzer$Schedule", name := "arranged", desc := "(Ljava/util/List;)LScheduleAnalyzer$Schedule;" } : Jvm.MethodName) prog_8_method_26_code (7 : Nat) (Option.some (Jvm.ClassFile.FieldType.object "ScheduleAnalyzer$Schedule"))) ∈ lw_all := lw_g (lw_at lw_m8 148 rfl) rfl
theorem q1943 : (Jvm.Cond.classLink "ScheduleAnalyzer$Schedule" (81 : Nat) "java/lang/Integer") ∈ lw_all := lw_g (lw_at lw_m8 149 rfl) rfl
theorem q1944 : (Jvm.Cond.methodLink "ScheduleAnalyzer$Schedule" (166 : Nat) ({ cls := "java/lang/Integer", name := "intValue", desc := "()I" } : Jvm.MethodName)) ∈ lw_all := lw_g (lw_at lw_m8 150 rfl) rfl
theorem q2230 : (Jvm.Cond.instanceMethod ({ cls := "ScheduleAnalyzer$Schedule", name := "isEquivalentTo", desc := "(LScheduleAnalyzer$Schedule;)Z" } : Jvm.MethodName)) ∈ lw_all := lw_g (lw_at lw_m9 196 rfl) rfl
theorem q2231 : (Jvm.Cond.selects "ScheduleAnalyzer$Schedule" ({ cls := "ScheduleAnalyzer$Schedule", name := "isEquivalentTo", desc := "(LScheduleAnalyzer$Schedule;)Z" } : Jvm.MethodName) ({ cls := "ScheduleAnalyzer$Schedule", name := "isEquivalentTo", desc := "(LScheduleAnalyzer$Schedule;)Z" } : Jvm.MethodName)) ∈ lw_all := lw_g (lw_at lw_m9 197 rfl) rfl
theorem q2232 : (Jvm.Cond.code ({ cls := "ScheduleAnalyzer$Schedule", name := "isEquivalentTo", desc := "(LScheduleAnalyzer$Schedule;)Z" } : Jvm.MethodName) prog_8_method_29_code (7 : Nat) (Option.some Jvm.ClassFile.FieldType.boolean)) ∈ lw_all := lw_g (lw_at lw_m9 198 rfl) rfl
theorem q2233 : (Jvm.Cond.methodLink "ScheduleAnalyzer$Schedule" (177 : Nat) ({ cls := "ScheduleAnalyzer$Schedule", name := "hasSameOperations", desc := "(LScheduleAnalyzer$Schedule;)Z" } : Jvm.MethodName)) ∈ lw_all := lw_g (lw_at lw_m9 199 rfl) rfl
theorem q2234 : (Jvm.Cond.privateMethod ({ cls := "ScheduleAnalyzer$Schedule", name := "hasSameOperations", desc := "(LScheduleAnalyzer$Schedule;)Z" } : Jvm.MethodName)) ∈ lw_tbl := lw_at lw_m9 200 rfl
theorem q2235 : (Jvm.Cond.instanceMethod ({ cls := "ScheduleAnalyzer$Schedule", name := "hasSameOperations", desc := "(LScheduleAnalyzer$Schedule;)Z" } : Jvm.MethodName)) ∈ lw_all := lw_g (lw_at lw_m9 201 rfl) rfl
theorem q2236 : (Jvm.Cond.code ({ cls := "ScheduleAnalyzer$Schedule", name := "hasSameOperations", desc := "(LScheduleAnalyzer$Schedule;)Z" } : Jvm.MethodName) prog_8_method_28_code (8 : Nat) (Option.some Jvm.ClassFile.FieldType.boolean)) ∈ lw_all := lw_g (lw_at lw_m9 202 rfl) rfl
theorem q2237 : (Jvm.Cond.methodLink "ScheduleAnalyzer$Schedule" (170 : Nat) ({ cls := "ScheduleAnalyzer$Schedule", name := "arranged", desc := "(Ljava/util/List;)LScheduleAnalyzer$Schedule;" } : Jvm.MethodName)) ∈ lw_all := lw_g (lw_at lw_m9 203 rfl) rfl
theorem q2238 : (Jvm.Cond.methodLink "ScheduleAnalyzer$Schedule" (174 : Nat) ({ cls := "ScheduleAnalyzer$Operation", name := "isEqual", desc := "(LScheduleAnalyzer$Operation;)Z" } : Jvm.MethodName)) ∈ lw_all := lw_g (lw_at lw_m9 204 rfl) rfl
theorem q2242 : (Jvm.Cond.methodLink "ScheduleAnalyzer$Schedule" (181 : Nat) ({ cls := "ScheduleAnalyzer$Schedule", name := "placeIn", desc := "(LScheduleAnalyzer$Schedule;I)I" } : Jvm.MethodName)) ∈ lw_all := lw_g (lw_at lw_m9 208 rfl) rfl
theorem q2243 : (Jvm.Cond.privateMethod ({ cls := "ScheduleAnalyzer$Schedule", name := "placeIn", desc := "(LScheduleAnalyzer$Schedule;I)I" } : Jvm.MethodName)) ∈ lw_tbl := lw_at lw_m9 209 rfl
theorem q2244 : (Jvm.Cond.instanceMethod ({ cls := "ScheduleAnalyzer$Schedule", name := "placeIn", desc := "(LScheduleAnalyzer$Schedule;I)I" } : Jvm.MethodName)) ∈ lw_all := lw_g (lw_at lw_m9 210 rfl) rfl
theorem q2245 : (Jvm.Cond.code ({ cls := "ScheduleAnalyzer$Schedule", name := "placeIn", desc := "(LScheduleAnalyzer$Schedule;I)I" } : Jvm.MethodName) prog_8_method_27_code (6 : Nat) (Option.some Jvm.ClassFile.FieldType.int)) ∈ lw_all := lw_g (lw_at lw_m9 211 rfl) rfl
theorem q2246 : (Jvm.Cond.static ({ cls := "ScheduleAnalyzer$Schedule", name := "lambda$placeIn$9", desc := "(ILScheduleAnalyzer$Operation;)Z" } : Jvm.MethodName)) ∈ lw_all := lw_g (lw_at lw_m9 212 rfl) rfl
theorem q2247 : (Jvm.Cond.code ({ cls := "ScheduleAnalyzer$Schedule", name := "lambda$placeIn$9", desc := "(ILScheduleAnalyzer$Operation;)Z" } : Jvm.MethodName) prog_8_method_31_code (2 : Nat) (Option.some Jvm.ClassFile.FieldType.boolean)) ∈ lw_all := lw_g (lw_at lw_m9 213 rfl) rfl
theorem q2403 : (Jvm.Cond.instanceMethod ({ cls := "ScheduleAnalyzer$Schedule", name := "toString", desc := "()Ljava/lang/String;" } : Jvm.MethodName)) ∈ lw_all := lw_g (lw_at lw_m10 129 rfl) rfl
theorem q2404 : (Jvm.Cond.selects "ScheduleAnalyzer$Schedule" ({ cls := "ScheduleAnalyzer$Schedule", name := "toString", desc := "()Ljava/lang/String;" } : Jvm.MethodName) ({ cls := "ScheduleAnalyzer$Schedule", name := "toString", desc := "()Ljava/lang/String;" } : Jvm.MethodName)) ∈ lw_all := lw_g (lw_at lw_m10 130 rfl) rfl
theorem q2405 : (Jvm.Cond.code ({ cls := "ScheduleAnalyzer$Schedule", name := "toString", desc := "()Ljava/lang/String;" } : Jvm.MethodName) prog_8_method_30_code (4 : Nat) (Option.some (Jvm.ClassFile.FieldType.object "java/lang/String"))) ∈ lw_all := lw_g (lw_at lw_m10 131 rfl) rfl
theorem q2406 : (Jvm.Cond.stringRef "ScheduleAnalyzer$Schedule" (185 : Nat) "") ∈ lw_tbl := lw_at lw_m10 132 rfl
theorem q2407 : (Jvm.Cond.classLink "ScheduleAnalyzer$Schedule" (187 : Nat) "java/lang/StringBuilder") ∈ lw_all := lw_g (lw_at lw_m10 133 rfl) rfl
theorem q2408 : (Jvm.Cond.methodLink "ScheduleAnalyzer$Schedule" (189 : Nat) ({ cls := "java/lang/StringBuilder", name := "<init>", desc := "()V" } : Jvm.MethodName)) ∈ lw_all := lw_g (lw_at lw_m10 134 rfl) rfl
theorem q2409 : (Jvm.Cond.methodLink "ScheduleAnalyzer$Schedule" (190 : Nat) ({ cls := "java/lang/StringBuilder", name := "append", desc := "(Ljava/lang/String;)Ljava/lang/StringBuilder;" } : Jvm.MethodName)) ∈ lw_all := lw_g (lw_at lw_m10 135 rfl) rfl
theorem q2410 : (Jvm.Cond.methodLink "ScheduleAnalyzer$Schedule" (194 : Nat) ({ cls := "java/lang/String", name := "isEmpty", desc := "()Z" } : Jvm.MethodName)) ∈ lw_all := lw_g (lw_at lw_m10 136 rfl) rfl
theorem q2414 : (Jvm.Cond.stringRef "ScheduleAnalyzer$Schedule" (199 : Nat) " ") ∈ lw_tbl := lw_at lw_m10 140 rfl
theorem q2415 : (Jvm.Cond.methodLink "ScheduleAnalyzer$Schedule" (201 : Nat) ({ cls := "java/lang/StringBuilder", name := "append", desc := "(Ljava/lang/Object;)Ljava/lang/StringBuilder;" } : Jvm.MethodName)) ∈ lw_all := lw_g (lw_at lw_m10 141 rfl) rfl
theorem q2454 : (Jvm.Cond.selects "ScheduleAnalyzer$Schedule" ({ cls := "java/lang/Object", name := "toString", desc := "()Ljava/lang/String;" } : Jvm.MethodName) ({ cls := "ScheduleAnalyzer$Schedule", name := "toString", desc := "()Ljava/lang/String;" } : Jvm.MethodName)) ∈ lw_all := lw_g (lw_at lw_m10 180 rfl) rfl
theorem q2517 : (Jvm.Cond.methodLink "ScheduleAnalyzer$Schedule" (204 : Nat) ({ cls := "java/lang/StringBuilder", name := "toString", desc := "()Ljava/lang/String;" } : Jvm.MethodName)) ∈ lw_all := lw_g (lw_at lw_m11 3 rfl) rfl
theorem q3234 : (Jvm.Cond.castable "ScheduleAnalyzer$Schedule" "java/lang/Object") ∈ lw_tbl := lw_at lw_m14 0 rfl
theorem in_X3 : ∀ w ∈ wsX30, w ∈ lw_all := lw_in wsX30 [808] (by decide +kernel) (by decide +kernel)

/-! ScheduleAnalyzer$Parser -/
set_option maxRecDepth 100000
def RX5 : String := "ScheduleAnalyzer$Parser"
def TX5 : u_T := fun k => match k with
  | 0 => ("ScheduleAnalyzer$Parser", "text", "Ljava/lang/String;", true)
  | 1 => ("ScheduleAnalyzer$Parser", "operations", "Ljava/util/List;", true)
  | 2 => ("ScheduleAnalyzer$Parser", "position", "I", false)
  | _ => ("ScheduleAnalyzer$Parser", "hasFailed", "Z", false)
def tyX5 : Nat → FieldType := fun k => match k with
  | 0 => .object "java/lang/String"
  | 1 => .object "java/util/List"
  | 2 => .int
  | _ => .boolean
abbrev wsX50 : List Cond := u_ws RX5 TX5 4
theorem nmX5 : ∀ a, a < 4 → ∀ b, b < 4 → a ≠ b → (TX5 a).2.1 ≠ (TX5 b).2.1 := by decide +kernel
theorem tyX5_ok : ∀ k, k < 4 → parseFieldDescriptor (TX5 k).2.2.1 = some (tyX5 k) := by decide +kernel
abbrev cX5_init : ByteArray := prog_7_method_1_code
def yX5_init : MethodName := ⟨RX5, "<init>", "(Ljava/lang/String;)V"⟩
def dkwX5_init_0 : List UInt8 := [42, 183, 0, 1, 42, 187, 0, 7, 89, 183, 0, 9, 181, 0, 10, 42, 43, 181, 0, 16, 177]
abbrev dktX5_init_0 : List UInt8 := dkwX5_init_0 ++ []
theorem dksX5_init_0 : cX5_init.data.toList.drop 0 = dktX5_init_0 := by decide +kernel
theorem dX5_init_0 : decode cX5_init 0 = .ok (.aload_n 0, 1) := dk_42 (dk_at dksX5_init_0 0 rfl rfl)
theorem dX5_init_1 : decode cX5_init 1 = .ok (.invokespecial 1, 3) := dk_183 0 1 (dk_at dksX5_init_0 1 rfl rfl)
theorem dX5_init_4 : decode cX5_init 4 = .ok (.aload_n 0, 1) := dk_42 (dk_at dksX5_init_0 4 rfl rfl)
theorem dX5_init_5 : decode cX5_init 5 = .ok (.new 7, 3) := dk_187 0 7 (dk_at dksX5_init_0 5 rfl rfl)
theorem dX5_init_8 : decode cX5_init 8 = .ok (.dup, 1) := dk_89 (dk_at dksX5_init_0 8 rfl rfl)
theorem dX5_init_9 : decode cX5_init 9 = .ok (.invokespecial 9, 3) := dk_183 0 9 (dk_at dksX5_init_0 9 rfl rfl)
theorem dX5_init_12 : decode cX5_init 12 = .ok (.putfield 10, 3) := dk_181 0 10 (dk_at dksX5_init_0 12 rfl rfl)
theorem dX5_init_15 : decode cX5_init 15 = .ok (.aload_n 0, 1) := dk_42 (dk_at dksX5_init_0 15 rfl rfl)
theorem dX5_init_16 : decode cX5_init 16 = .ok (.aload_n 1, 1) := dk_43 (dk_at dksX5_init_0 16 rfl rfl)
theorem dX5_init_17 : decode cX5_init 17 = .ok (.putfield 16, 3) := dk_181 0 16 (dk_at dksX5_init_0 17 rfl rfl)
theorem dX5_init_20 : decode cX5_init 20 = .ok (.return_, 1) := dk_177 (dk_at dksX5_init_0 20 rfl rfl)
abbrev cX5_parse : ByteArray := prog_7_method_6_code
def yX5_parse : MethodName := ⟨RX5, "parse", "()Z"⟩
def dkwX5_parse_3 : List UInt8 := [172]
abbrev dktX5_parse_3 : List UInt8 := dkwX5_parse_3 ++ []
def dkwX5_parse_2 : List UInt8 := [154, 0, 7, 4, 167, 0, 4, 3, 128, 181, 0, 38, 42, 180, 0, 38, 154, 0, 7, 4, 167, 0, 4, 3]
abbrev dktX5_parse_2 : List UInt8 := dkwX5_parse_2 ++ dktX5_parse_3
def dkwX5_parse_1 : List UInt8 := [180, 0, 20, 4, 96, 181, 0, 20, 42, 182, 0, 67, 167, 255, 226, 42, 89, 180, 0, 38, 42, 182, 0, 30]
abbrev dktX5_parse_1 : List UInt8 := dkwX5_parse_1 ++ dktX5_parse_2
def dkwX5_parse_0 : List UInt8 := [42, 182, 0, 67, 42, 180, 0, 38, 154, 0, 29, 42, 16, 32, 182, 0, 48, 153, 0, 20, 42, 89]
abbrev dktX5_parse_0 : List UInt8 := dkwX5_parse_0 ++ dktX5_parse_1
theorem dksX5_parse_0 : cX5_parse.data.toList.drop 0 = dktX5_parse_0 := by decide +kernel
theorem dksX5_parse_1 : cX5_parse.data.toList.drop 22 = dktX5_parse_1 := dk_seg dksX5_parse_0 22 rfl rfl
theorem dksX5_parse_2 : cX5_parse.data.toList.drop 46 = dktX5_parse_2 := dk_seg dksX5_parse_1 24 rfl rfl
theorem dksX5_parse_3 : cX5_parse.data.toList.drop 70 = dktX5_parse_3 := dk_seg dksX5_parse_2 24 rfl rfl
theorem dX5_parse_0 : decode cX5_parse 0 = .ok (.aload_n 0, 1) := dk_42 (dk_at dksX5_parse_0 0 rfl rfl)
theorem dX5_parse_1 : decode cX5_parse 1 = .ok (.invokevirtual 67, 3) := dk_182 0 67 (dk_at dksX5_parse_0 1 rfl rfl)
theorem dX5_parse_4 : decode cX5_parse 4 = .ok (.aload_n 0, 1) := dk_42 (dk_at dksX5_parse_0 4 rfl rfl)
theorem dX5_parse_5 : decode cX5_parse 5 = .ok (.getfield 38, 3) := dk_180 0 38 (dk_at dksX5_parse_0 5 rfl rfl)
theorem dX5_parse_8 : decode cX5_parse 8 = .ok (.ifCond .ne 29, 3) := dk_154 0 29 (dk_at dksX5_parse_0 8 rfl rfl)
theorem dX5_parse_11 : decode cX5_parse 11 = .ok (.aload_n 0, 1) := dk_42 (dk_at dksX5_parse_0 11 rfl rfl)
theorem dX5_parse_12 : decode cX5_parse 12 = .ok (.bipush 32, 2) := dk_16 32 (dk_at dksX5_parse_0 12 rfl rfl)
theorem dX5_parse_14 : decode cX5_parse 14 = .ok (.invokevirtual 48, 3) := dk_182 0 48 (dk_at dksX5_parse_0 14 rfl rfl)
theorem dX5_parse_17 : decode cX5_parse 17 = .ok (.ifCond .eq 20, 3) := dk_153 0 20 (dk_at dksX5_parse_0 17 rfl rfl)
theorem dX5_parse_20 : decode cX5_parse 20 = .ok (.aload_n 0, 1) := dk_42 (dk_at dksX5_parse_0 20 rfl rfl)
theorem dX5_parse_21 : decode cX5_parse 21 = .ok (.dup, 1) := dk_89 (dk_at dksX5_parse_0 21 rfl rfl)
theorem dX5_parse_22 : decode cX5_parse 22 = .ok (.getfield 20, 3) := dk_180 0 20 (dk_at dksX5_parse_1 0 rfl rfl)
theorem dX5_parse_25 : decode cX5_parse 25 = .ok (.iconst 1, 1) := dk_4 (dk_at dksX5_parse_1 3 rfl rfl)
theorem dX5_parse_26 : decode cX5_parse 26 = .ok (.iadd, 1) := dk_96 (dk_at dksX5_parse_1 4 rfl rfl)
theorem dX5_parse_27 : decode cX5_parse 27 = .ok (.putfield 20, 3) := dk_181 0 20 (dk_at dksX5_parse_1 5 rfl rfl)
theorem dX5_parse_30 : decode cX5_parse 30 = .ok (.aload_n 0, 1) := dk_42 (dk_at dksX5_parse_1 8 rfl rfl)
theorem dX5_parse_31 : decode cX5_parse 31 = .ok (.invokevirtual 67, 3) := dk_182 0 67 (dk_at dksX5_parse_1 9 rfl rfl)
theorem dX5_parse_34 : decode cX5_parse 34 = .ok (.goto (-30), 3) := dk_167 255 226 (dk_at dksX5_parse_1 12 rfl rfl)
theorem dX5_parse_37 : decode cX5_parse 37 = .ok (.aload_n 0, 1) := dk_42 (dk_at dksX5_parse_1 15 rfl rfl)
theorem dX5_parse_38 : decode cX5_parse 38 = .ok (.dup, 1) := dk_89 (dk_at dksX5_parse_1 16 rfl rfl)
theorem dX5_parse_39 : decode cX5_parse 39 = .ok (.getfield 38, 3) := dk_180 0 38 (dk_at dksX5_parse_1 17 rfl rfl)
theorem dX5_parse_42 : decode cX5_parse 42 = .ok (.aload_n 0, 1) := dk_42 (dk_at dksX5_parse_1 20 rfl rfl)
theorem dX5_parse_43 : decode cX5_parse 43 = .ok (.invokevirtual 30, 3) := dk_182 0 30 (dk_at dksX5_parse_1 21 rfl rfl)
theorem dX5_parse_46 : decode cX5_parse 46 = .ok (.ifCond .ne 7, 3) := dk_154 0 7 (dk_at dksX5_parse_2 0 rfl rfl)
theorem dX5_parse_49 : decode cX5_parse 49 = .ok (.iconst 1, 1) := dk_4 (dk_at dksX5_parse_2 3 rfl rfl)
theorem dX5_parse_50 : decode cX5_parse 50 = .ok (.goto 4, 3) := dk_167 0 4 (dk_at dksX5_parse_2 4 rfl rfl)
theorem dX5_parse_53 : decode cX5_parse 53 = .ok (.iconst 0, 1) := dk_3 (dk_at dksX5_parse_2 7 rfl rfl)
theorem dX5_parse_54 : decode cX5_parse 54 = .ok (.ior, 1) := dk_128 (dk_at dksX5_parse_2 8 rfl rfl)
theorem dX5_parse_55 : decode cX5_parse 55 = .ok (.putfield 38, 3) := dk_181 0 38 (dk_at dksX5_parse_2 9 rfl rfl)
theorem dX5_parse_58 : decode cX5_parse 58 = .ok (.aload_n 0, 1) := dk_42 (dk_at dksX5_parse_2 12 rfl rfl)
theorem dX5_parse_59 : decode cX5_parse 59 = .ok (.getfield 38, 3) := dk_180 0 38 (dk_at dksX5_parse_2 13 rfl rfl)
theorem dX5_parse_62 : decode cX5_parse 62 = .ok (.ifCond .ne 7, 3) := dk_154 0 7 (dk_at dksX5_parse_2 16 rfl rfl)
theorem dX5_parse_65 : decode cX5_parse 65 = .ok (.iconst 1, 1) := dk_4 (dk_at dksX5_parse_2 19 rfl rfl)
theorem dX5_parse_66 : decode cX5_parse 66 = .ok (.goto 4, 3) := dk_167 0 4 (dk_at dksX5_parse_2 20 rfl rfl)
theorem dX5_parse_69 : decode cX5_parse 69 = .ok (.iconst 0, 1) := dk_3 (dk_at dksX5_parse_2 23 rfl rfl)
theorem dX5_parse_70 : decode cX5_parse 70 = .ok (.ireturn, 1) := dk_172 (dk_at dksX5_parse_3 0 rfl rfl)
abbrev cX5_parseOperation : ByteArray := prog_7_method_5_code
def yX5_parseOperation : MethodName := ⟨RX5, "parseOperation", "()V"⟩
def dkwX5_parseOperation_6 : List UInt8 := [187, 0, 56, 89, 28, 29, 21, 4, 183, 0, 58, 185, 0, 61, 2, 0, 87, 177]
abbrev dktX5_parseOperation_6 : List UInt8 := dkwX5_parseOperation_6 ++ []
def dkwX5_parseOperation_5 : List UInt8 := [153, 0, 14, 42, 16, 97, 16, 100, 182, 0, 52, 167, 0, 5, 16, 97, 54, 4, 42, 180, 0, 10]
abbrev dktX5_parseOperation_5 : List UInt8 := dkwX5_parseOperation_5 ++ dktX5_parseOperation_6
def dkwX5_parseOperation_4 : List UInt8 := [3, 167, 0, 4, 4, 96, 181, 0, 20, 42, 16, 49, 16, 53, 182, 0, 52, 16, 48, 100, 62, 27]
abbrev dktX5_parseOperation_4 : List UInt8 := dkwX5_parseOperation_4 ++ dktX5_parseOperation_5
def dkwX5_parseOperation_3 : List UInt8 := [42, 180, 0, 16, 42, 180, 0, 20, 182, 0, 34, 61, 42, 89, 180, 0, 20, 42, 180, 0, 38, 153, 0, 7]
abbrev dktX5_parseOperation_3 : List UInt8 := dkwX5_parseOperation_3 ++ dktX5_parseOperation_4
def dkwX5_parseOperation_2 : List UInt8 := [154, 0, 7, 4, 167, 0, 4, 3, 128, 181, 0, 38, 42, 180, 0, 38, 153, 0, 8, 16, 99, 167, 0, 14]
abbrev dktX5_parseOperation_2 : List UInt8 := dkwX5_parseOperation_2 ++ dktX5_parseOperation_3
def dkwX5_parseOperation_1 : List UInt8 := [42, 89, 180, 0, 38, 27, 154, 0, 25, 42, 16, 99, 182, 0, 48, 154, 0, 16, 42, 16, 120, 182, 0, 48]
abbrev dktX5_parseOperation_1 : List UInt8 := dkwX5_parseOperation_1 ++ dktX5_parseOperation_2
def dkwX5_parseOperation_0 : List UInt8 := [42, 16, 114, 182, 0, 48, 154, 0, 12, 42, 16, 119, 182, 0, 48, 153, 0, 7, 4, 167, 0, 4, 3, 60]
abbrev dktX5_parseOperation_0 : List UInt8 := dkwX5_parseOperation_0 ++ dktX5_parseOperation_1
theorem dksX5_parseOperation_0 : cX5_parseOperation.data.toList.drop 0 = dktX5_parseOperation_0 := by decide +kernel
theorem dksX5_parseOperation_1 : cX5_parseOperation.data.toList.drop 24 = dktX5_parseOperation_1 := dk_seg dksX5_parseOperation_0 24 rfl rfl
theorem dksX5_parseOperation_2 : cX5_parseOperation.data.toList.drop 48 = dktX5_parseOperation_2 := dk_seg dksX5_parseOperation_1 24 rfl rfl
theorem dksX5_parseOperation_3 : cX5_parseOperation.data.toList.drop 72 = dktX5_parseOperation_3 := dk_seg dksX5_parseOperation_2 24 rfl rfl
theorem dksX5_parseOperation_4 : cX5_parseOperation.data.toList.drop 96 = dktX5_parseOperation_4 := dk_seg dksX5_parseOperation_3 24 rfl rfl
theorem dksX5_parseOperation_5 : cX5_parseOperation.data.toList.drop 118 = dktX5_parseOperation_5 := dk_seg dksX5_parseOperation_4 22 rfl rfl
theorem dksX5_parseOperation_6 : cX5_parseOperation.data.toList.drop 140 = dktX5_parseOperation_6 := dk_seg dksX5_parseOperation_5 22 rfl rfl
theorem dX5_parseOperation_0 : decode cX5_parseOperation 0 = .ok (.aload_n 0, 1) := dk_42 (dk_at dksX5_parseOperation_0 0 rfl rfl)
theorem dX5_parseOperation_1 : decode cX5_parseOperation 1 = .ok (.bipush 114, 2) := dk_16 114 (dk_at dksX5_parseOperation_0 1 rfl rfl)
theorem dX5_parseOperation_3 : decode cX5_parseOperation 3 = .ok (.invokevirtual 48, 3) := dk_182 0 48 (dk_at dksX5_parseOperation_0 3 rfl rfl)
theorem dX5_parseOperation_6 : decode cX5_parseOperation 6 = .ok (.ifCond .ne 12, 3) := dk_154 0 12 (dk_at dksX5_parseOperation_0 6 rfl rfl)
theorem dX5_parseOperation_9 : decode cX5_parseOperation 9 = .ok (.aload_n 0, 1) := dk_42 (dk_at dksX5_parseOperation_0 9 rfl rfl)
theorem dX5_parseOperation_10 : decode cX5_parseOperation 10 = .ok (.bipush 119, 2) := dk_16 119 (dk_at dksX5_parseOperation_0 10 rfl rfl)
theorem dX5_parseOperation_12 : decode cX5_parseOperation 12 = .ok (.invokevirtual 48, 3) := dk_182 0 48 (dk_at dksX5_parseOperation_0 12 rfl rfl)
theorem dX5_parseOperation_15 : decode cX5_parseOperation 15 = .ok (.ifCond .eq 7, 3) := dk_153 0 7 (dk_at dksX5_parseOperation_0 15 rfl rfl)
theorem dX5_parseOperation_18 : decode cX5_parseOperation 18 = .ok (.iconst 1, 1) := dk_4 (dk_at dksX5_parseOperation_0 18 rfl rfl)
theorem dX5_parseOperation_19 : decode cX5_parseOperation 19 = .ok (.goto 4, 3) := dk_167 0 4 (dk_at dksX5_parseOperation_0 19 rfl rfl)
theorem dX5_parseOperation_22 : decode cX5_parseOperation 22 = .ok (.iconst 0, 1) := dk_3 (dk_at dksX5_parseOperation_0 22 rfl rfl)
theorem dX5_parseOperation_23 : decode cX5_parseOperation 23 = .ok (.istore_n 1, 1) := dk_60 (dk_at dksX5_parseOperation_0 23 rfl rfl)
theorem dX5_parseOperation_24 : decode cX5_parseOperation 24 = .ok (.aload_n 0, 1) := dk_42 (dk_at dksX5_parseOperation_1 0 rfl rfl)
theorem dX5_parseOperation_25 : decode cX5_parseOperation 25 = .ok (.dup, 1) := dk_89 (dk_at dksX5_parseOperation_1 1 rfl rfl)
theorem dX5_parseOperation_26 : decode cX5_parseOperation 26 = .ok (.getfield 38, 3) := dk_180 0 38 (dk_at dksX5_parseOperation_1 2 rfl rfl)
theorem dX5_parseOperation_29 : decode cX5_parseOperation 29 = .ok (.iload_n 1, 1) := dk_27 (dk_at dksX5_parseOperation_1 5 rfl rfl)
theorem dX5_parseOperation_30 : decode cX5_parseOperation 30 = .ok (.ifCond .ne 25, 3) := dk_154 0 25 (dk_at dksX5_parseOperation_1 6 rfl rfl)
theorem dX5_parseOperation_33 : decode cX5_parseOperation 33 = .ok (.aload_n 0, 1) := dk_42 (dk_at dksX5_parseOperation_1 9 rfl rfl)
theorem dX5_parseOperation_34 : decode cX5_parseOperation 34 = .ok (.bipush 99, 2) := dk_16 99 (dk_at dksX5_parseOperation_1 10 rfl rfl)
theorem dX5_parseOperation_36 : decode cX5_parseOperation 36 = .ok (.invokevirtual 48, 3) := dk_182 0 48 (dk_at dksX5_parseOperation_1 12 rfl rfl)
theorem dX5_parseOperation_39 : decode cX5_parseOperation 39 = .ok (.ifCond .ne 16, 3) := dk_154 0 16 (dk_at dksX5_parseOperation_1 15 rfl rfl)
theorem dX5_parseOperation_42 : decode cX5_parseOperation 42 = .ok (.aload_n 0, 1) := dk_42 (dk_at dksX5_parseOperation_1 18 rfl rfl)
theorem dX5_parseOperation_43 : decode cX5_parseOperation 43 = .ok (.bipush 120, 2) := dk_16 120 (dk_at dksX5_parseOperation_1 19 rfl rfl)
theorem dX5_parseOperation_45 : decode cX5_parseOperation 45 = .ok (.invokevirtual 48, 3) := dk_182 0 48 (dk_at dksX5_parseOperation_1 21 rfl rfl)
theorem dX5_parseOperation_48 : decode cX5_parseOperation 48 = .ok (.ifCond .ne 7, 3) := dk_154 0 7 (dk_at dksX5_parseOperation_2 0 rfl rfl)
theorem dX5_parseOperation_51 : decode cX5_parseOperation 51 = .ok (.iconst 1, 1) := dk_4 (dk_at dksX5_parseOperation_2 3 rfl rfl)
theorem dX5_parseOperation_52 : decode cX5_parseOperation 52 = .ok (.goto 4, 3) := dk_167 0 4 (dk_at dksX5_parseOperation_2 4 rfl rfl)
theorem dX5_parseOperation_55 : decode cX5_parseOperation 55 = .ok (.iconst 0, 1) := dk_3 (dk_at dksX5_parseOperation_2 7 rfl rfl)
theorem dX5_parseOperation_56 : decode cX5_parseOperation 56 = .ok (.ior, 1) := dk_128 (dk_at dksX5_parseOperation_2 8 rfl rfl)
theorem dX5_parseOperation_57 : decode cX5_parseOperation 57 = .ok (.putfield 38, 3) := dk_181 0 38 (dk_at dksX5_parseOperation_2 9 rfl rfl)
theorem dX5_parseOperation_60 : decode cX5_parseOperation 60 = .ok (.aload_n 0, 1) := dk_42 (dk_at dksX5_parseOperation_2 12 rfl rfl)
theorem dX5_parseOperation_61 : decode cX5_parseOperation 61 = .ok (.getfield 38, 3) := dk_180 0 38 (dk_at dksX5_parseOperation_2 13 rfl rfl)
theorem dX5_parseOperation_64 : decode cX5_parseOperation 64 = .ok (.ifCond .eq 8, 3) := dk_153 0 8 (dk_at dksX5_parseOperation_2 16 rfl rfl)
theorem dX5_parseOperation_67 : decode cX5_parseOperation 67 = .ok (.bipush 99, 2) := dk_16 99 (dk_at dksX5_parseOperation_2 19 rfl rfl)
theorem dX5_parseOperation_69 : decode cX5_parseOperation 69 = .ok (.goto 14, 3) := dk_167 0 14 (dk_at dksX5_parseOperation_2 21 rfl rfl)
theorem dX5_parseOperation_72 : decode cX5_parseOperation 72 = .ok (.aload_n 0, 1) := dk_42 (dk_at dksX5_parseOperation_3 0 rfl rfl)
theorem dX5_parseOperation_73 : decode cX5_parseOperation 73 = .ok (.getfield 16, 3) := dk_180 0 16 (dk_at dksX5_parseOperation_3 1 rfl rfl)
theorem dX5_parseOperation_76 : decode cX5_parseOperation 76 = .ok (.aload_n 0, 1) := dk_42 (dk_at dksX5_parseOperation_3 4 rfl rfl)
theorem dX5_parseOperation_77 : decode cX5_parseOperation 77 = .ok (.getfield 20, 3) := dk_180 0 20 (dk_at dksX5_parseOperation_3 5 rfl rfl)
theorem dX5_parseOperation_80 : decode cX5_parseOperation 80 = .ok (.invokevirtual 34, 3) := dk_182 0 34 (dk_at dksX5_parseOperation_3 8 rfl rfl)
theorem dX5_parseOperation_83 : decode cX5_parseOperation 83 = .ok (.istore_n 2, 1) := dk_61 (dk_at dksX5_parseOperation_3 11 rfl rfl)
theorem dX5_parseOperation_84 : decode cX5_parseOperation 84 = .ok (.aload_n 0, 1) := dk_42 (dk_at dksX5_parseOperation_3 12 rfl rfl)
theorem dX5_parseOperation_85 : decode cX5_parseOperation 85 = .ok (.dup, 1) := dk_89 (dk_at dksX5_parseOperation_3 13 rfl rfl)
theorem dX5_parseOperation_86 : decode cX5_parseOperation 86 = .ok (.getfield 20, 3) := dk_180 0 20 (dk_at dksX5_parseOperation_3 14 rfl rfl)
theorem dX5_parseOperation_89 : decode cX5_parseOperation 89 = .ok (.aload_n 0, 1) := dk_42 (dk_at dksX5_parseOperation_3 17 rfl rfl)
theorem dX5_parseOperation_90 : decode cX5_parseOperation 90 = .ok (.getfield 38, 3) := dk_180 0 38 (dk_at dksX5_parseOperation_3 18 rfl rfl)
theorem dX5_parseOperation_93 : decode cX5_parseOperation 93 = .ok (.ifCond .eq 7, 3) := dk_153 0 7 (dk_at dksX5_parseOperation_3 21 rfl rfl)
theorem dX5_parseOperation_96 : decode cX5_parseOperation 96 = .ok (.iconst 0, 1) := dk_3 (dk_at dksX5_parseOperation_4 0 rfl rfl)
theorem dX5_parseOperation_97 : decode cX5_parseOperation 97 = .ok (.goto 4, 3) := dk_167 0 4 (dk_at dksX5_parseOperation_4 1 rfl rfl)
theorem dX5_parseOperation_100 : decode cX5_parseOperation 100 = .ok (.iconst 1, 1) := dk_4 (dk_at dksX5_parseOperation_4 4 rfl rfl)
theorem dX5_parseOperation_101 : decode cX5_parseOperation 101 = .ok (.iadd, 1) := dk_96 (dk_at dksX5_parseOperation_4 5 rfl rfl)
theorem dX5_parseOperation_102 : decode cX5_parseOperation 102 = .ok (.putfield 20, 3) := dk_181 0 20 (dk_at dksX5_parseOperation_4 6 rfl rfl)
theorem dX5_parseOperation_105 : decode cX5_parseOperation 105 = .ok (.aload_n 0, 1) := dk_42 (dk_at dksX5_parseOperation_4 9 rfl rfl)
theorem dX5_parseOperation_106 : decode cX5_parseOperation 106 = .ok (.bipush 49, 2) := dk_16 49 (dk_at dksX5_parseOperation_4 10 rfl rfl)
theorem dX5_parseOperation_108 : decode cX5_parseOperation 108 = .ok (.bipush 53, 2) := dk_16 53 (dk_at dksX5_parseOperation_4 12 rfl rfl)
theorem dX5_parseOperation_110 : decode cX5_parseOperation 110 = .ok (.invokevirtual 52, 3) := dk_182 0 52 (dk_at dksX5_parseOperation_4 14 rfl rfl)
theorem dX5_parseOperation_113 : decode cX5_parseOperation 113 = .ok (.bipush 48, 2) := dk_16 48 (dk_at dksX5_parseOperation_4 17 rfl rfl)
theorem dX5_parseOperation_115 : decode cX5_parseOperation 115 = .ok (.isub, 1) := dk_100 (dk_at dksX5_parseOperation_4 19 rfl rfl)
theorem dX5_parseOperation_116 : decode cX5_parseOperation 116 = .ok (.istore_n 3, 1) := dk_62 (dk_at dksX5_parseOperation_4 20 rfl rfl)
theorem dX5_parseOperation_117 : decode cX5_parseOperation 117 = .ok (.iload_n 1, 1) := dk_27 (dk_at dksX5_parseOperation_4 21 rfl rfl)
theorem dX5_parseOperation_118 : decode cX5_parseOperation 118 = .ok (.ifCond .eq 14, 3) := dk_153 0 14 (dk_at dksX5_parseOperation_5 0 rfl rfl)
theorem dX5_parseOperation_121 : decode cX5_parseOperation 121 = .ok (.aload_n 0, 1) := dk_42 (dk_at dksX5_parseOperation_5 3 rfl rfl)
theorem dX5_parseOperation_122 : decode cX5_parseOperation 122 = .ok (.bipush 97, 2) := dk_16 97 (dk_at dksX5_parseOperation_5 4 rfl rfl)
theorem dX5_parseOperation_124 : decode cX5_parseOperation 124 = .ok (.bipush 100, 2) := dk_16 100 (dk_at dksX5_parseOperation_5 6 rfl rfl)
theorem dX5_parseOperation_126 : decode cX5_parseOperation 126 = .ok (.invokevirtual 52, 3) := dk_182 0 52 (dk_at dksX5_parseOperation_5 8 rfl rfl)
theorem dX5_parseOperation_129 : decode cX5_parseOperation 129 = .ok (.goto 5, 3) := dk_167 0 5 (dk_at dksX5_parseOperation_5 11 rfl rfl)
theorem dX5_parseOperation_132 : decode cX5_parseOperation 132 = .ok (.bipush 97, 2) := dk_16 97 (dk_at dksX5_parseOperation_5 14 rfl rfl)
theorem dX5_parseOperation_134 : decode cX5_parseOperation 134 = .ok (.istore 4, 2) := dk_54 4 (dk_at dksX5_parseOperation_5 16 rfl rfl)
theorem dX5_parseOperation_136 : decode cX5_parseOperation 136 = .ok (.aload_n 0, 1) := dk_42 (dk_at dksX5_parseOperation_5 18 rfl rfl)
theorem dX5_parseOperation_137 : decode cX5_parseOperation 137 = .ok (.getfield 10, 3) := dk_180 0 10 (dk_at dksX5_parseOperation_5 19 rfl rfl)
theorem dX5_parseOperation_140 : decode cX5_parseOperation 140 = .ok (.new 56, 3) := dk_187 0 56 (dk_at dksX5_parseOperation_6 0 rfl rfl)
theorem dX5_parseOperation_143 : decode cX5_parseOperation 143 = .ok (.dup, 1) := dk_89 (dk_at dksX5_parseOperation_6 3 rfl rfl)
theorem dX5_parseOperation_144 : decode cX5_parseOperation 144 = .ok (.iload_n 2, 1) := dk_28 (dk_at dksX5_parseOperation_6 4 rfl rfl)
theorem dX5_parseOperation_145 : decode cX5_parseOperation 145 = .ok (.iload_n 3, 1) := dk_29 (dk_at dksX5_parseOperation_6 5 rfl rfl)
theorem dX5_parseOperation_146 : decode cX5_parseOperation 146 = .ok (.iload 4, 2) := dk_21 4 (dk_at dksX5_parseOperation_6 6 rfl rfl)
theorem dX5_parseOperation_148 : decode cX5_parseOperation 148 = .ok (.invokespecial 58, 3) := dk_183 0 58 (dk_at dksX5_parseOperation_6 8 rfl rfl)
theorem dX5_parseOperation_151 : decode cX5_parseOperation 151 = .ok (.invokeinterface 61 2, 5) := by decide +kernel
theorem dX5_parseOperation_156 : decode cX5_parseOperation 156 = .ok (.pop, 1) := dk_87 (dk_at dksX5_parseOperation_6 16 rfl rfl)
theorem dX5_parseOperation_157 : decode cX5_parseOperation 157 = .ok (.return_, 1) := dk_177 (dk_at dksX5_parseOperation_6 17 rfl rfl)
abbrev cX5_isNext : ByteArray := prog_7_method_3_code
def yX5_isNext : MethodName := ⟨RX5, "isNext", "(C)Z"⟩
def dkwX5_isNext_1 : List UInt8 := [167, 0, 4, 3, 172]
abbrev dktX5_isNext_1 : List UInt8 := dkwX5_isNext_1 ++ []
def dkwX5_isNext_0 : List UInt8 := [42, 182, 0, 30, 154, 0, 22, 42, 180, 0, 16, 42, 180, 0, 20, 182, 0, 34, 27, 160, 0, 7, 4]
abbrev dktX5_isNext_0 : List UInt8 := dkwX5_isNext_0 ++ dktX5_isNext_1
theorem dksX5_isNext_0 : cX5_isNext.data.toList.drop 0 = dktX5_isNext_0 := by decide +kernel
theorem dksX5_isNext_1 : cX5_isNext.data.toList.drop 23 = dktX5_isNext_1 := dk_seg dksX5_isNext_0 23 rfl rfl
theorem dX5_isNext_0 : decode cX5_isNext 0 = .ok (.aload_n 0, 1) := dk_42 (dk_at dksX5_isNext_0 0 rfl rfl)
theorem dX5_isNext_1 : decode cX5_isNext 1 = .ok (.invokevirtual 30, 3) := dk_182 0 30 (dk_at dksX5_isNext_0 1 rfl rfl)
theorem dX5_isNext_4 : decode cX5_isNext 4 = .ok (.ifCond .ne 22, 3) := dk_154 0 22 (dk_at dksX5_isNext_0 4 rfl rfl)
theorem dX5_isNext_7 : decode cX5_isNext 7 = .ok (.aload_n 0, 1) := dk_42 (dk_at dksX5_isNext_0 7 rfl rfl)
theorem dX5_isNext_8 : decode cX5_isNext 8 = .ok (.getfield 16, 3) := dk_180 0 16 (dk_at dksX5_isNext_0 8 rfl rfl)
theorem dX5_isNext_11 : decode cX5_isNext 11 = .ok (.aload_n 0, 1) := dk_42 (dk_at dksX5_isNext_0 11 rfl rfl)
theorem dX5_isNext_12 : decode cX5_isNext 12 = .ok (.getfield 20, 3) := dk_180 0 20 (dk_at dksX5_isNext_0 12 rfl rfl)
theorem dX5_isNext_15 : decode cX5_isNext 15 = .ok (.invokevirtual 34, 3) := dk_182 0 34 (dk_at dksX5_isNext_0 15 rfl rfl)
theorem dX5_isNext_18 : decode cX5_isNext 18 = .ok (.iload_n 1, 1) := dk_27 (dk_at dksX5_isNext_0 18 rfl rfl)
theorem dX5_isNext_19 : decode cX5_isNext 19 = .ok (.if_icmp .ne 7, 3) := dk_160 0 7 (dk_at dksX5_isNext_0 19 rfl rfl)
theorem dX5_isNext_22 : decode cX5_isNext 22 = .ok (.iconst 1, 1) := dk_4 (dk_at dksX5_isNext_0 22 rfl rfl)
theorem dX5_isNext_23 : decode cX5_isNext 23 = .ok (.goto 4, 3) := dk_167 0 4 (dk_at dksX5_isNext_1 0 rfl rfl)
theorem dX5_isNext_26 : decode cX5_isNext 26 = .ok (.iconst 0, 1) := dk_3 (dk_at dksX5_isNext_1 3 rfl rfl)
theorem dX5_isNext_27 : decode cX5_isNext 27 = .ok (.ireturn, 1) := dk_172 (dk_at dksX5_isNext_1 4 rfl rfl)
abbrev cX5_isAtEnd : ByteArray := prog_7_method_2_code
def yX5_isAtEnd : MethodName := ⟨RX5, "isAtEnd", "()Z"⟩
def dkwX5_isAtEnd_0 : List UInt8 := [42, 180, 0, 20, 42, 180, 0, 16, 182, 0, 24, 160, 0, 7, 4, 167, 0, 4, 3, 172]
abbrev dktX5_isAtEnd_0 : List UInt8 := dkwX5_isAtEnd_0 ++ []
theorem dksX5_isAtEnd_0 : cX5_isAtEnd.data.toList.drop 0 = dktX5_isAtEnd_0 := by decide +kernel
theorem dX5_isAtEnd_0 : decode cX5_isAtEnd 0 = .ok (.aload_n 0, 1) := dk_42 (dk_at dksX5_isAtEnd_0 0 rfl rfl)
theorem dX5_isAtEnd_1 : decode cX5_isAtEnd 1 = .ok (.getfield 20, 3) := dk_180 0 20 (dk_at dksX5_isAtEnd_0 1 rfl rfl)
theorem dX5_isAtEnd_4 : decode cX5_isAtEnd 4 = .ok (.aload_n 0, 1) := dk_42 (dk_at dksX5_isAtEnd_0 4 rfl rfl)
theorem dX5_isAtEnd_5 : decode cX5_isAtEnd 5 = .ok (.getfield 16, 3) := dk_180 0 16 (dk_at dksX5_isAtEnd_0 5 rfl rfl)
theorem dX5_isAtEnd_8 : decode cX5_isAtEnd 8 = .ok (.invokevirtual 24, 3) := dk_182 0 24 (dk_at dksX5_isAtEnd_0 8 rfl rfl)
theorem dX5_isAtEnd_11 : decode cX5_isAtEnd 11 = .ok (.if_icmp .ne 7, 3) := dk_160 0 7 (dk_at dksX5_isAtEnd_0 11 rfl rfl)
theorem dX5_isAtEnd_14 : decode cX5_isAtEnd 14 = .ok (.iconst 1, 1) := dk_4 (dk_at dksX5_isAtEnd_0 14 rfl rfl)
theorem dX5_isAtEnd_15 : decode cX5_isAtEnd 15 = .ok (.goto 4, 3) := dk_167 0 4 (dk_at dksX5_isAtEnd_0 15 rfl rfl)
theorem dX5_isAtEnd_18 : decode cX5_isAtEnd 18 = .ok (.iconst 0, 1) := dk_3 (dk_at dksX5_isAtEnd_0 18 rfl rfl)
theorem dX5_isAtEnd_19 : decode cX5_isAtEnd 19 = .ok (.ireturn, 1) := dk_172 (dk_at dksX5_isAtEnd_0 19 rfl rfl)
abbrev cX5_parseBetween : ByteArray := prog_7_method_4_code
def yX5_parseBetween : MethodName := ⟨RX5, "parseBetween", "(CC)C"⟩
def dkwX5_parseBetween_3 : List UInt8 := [167, 0, 16, 42, 180, 0, 16, 42, 180, 0, 20, 4, 100, 182, 0, 34, 172]
abbrev dktX5_parseBetween_3 : List UInt8 := dkwX5_parseBetween_3 ++ []
def dkwX5_parseBetween_2 : List UInt8 := [180, 0, 38, 153, 0, 7, 3, 167, 0, 4, 4, 96, 181, 0, 20, 42, 180, 0, 38, 153, 0, 7, 27]
abbrev dktX5_parseBetween_2 : List UInt8 := dkwX5_parseBetween_2 ++ dktX5_parseBetween_3
def dkwX5_parseBetween_1 : List UInt8 := [28, 184, 0, 42, 154, 0, 7, 4, 167, 0, 4, 3, 128, 181, 0, 38, 42, 89, 180, 0, 20, 42]
abbrev dktX5_parseBetween_1 : List UInt8 := dkwX5_parseBetween_1 ++ dktX5_parseBetween_2
def dkwX5_parseBetween_0 : List UInt8 := [42, 89, 180, 0, 38, 42, 182, 0, 30, 154, 0, 22, 42, 180, 0, 16, 42, 180, 0, 20, 182, 0, 34, 27]
abbrev dktX5_parseBetween_0 : List UInt8 := dkwX5_parseBetween_0 ++ dktX5_parseBetween_1
theorem dksX5_parseBetween_0 : cX5_parseBetween.data.toList.drop 0 = dktX5_parseBetween_0 := by decide +kernel
theorem dksX5_parseBetween_1 : cX5_parseBetween.data.toList.drop 24 = dktX5_parseBetween_1 := dk_seg dksX5_parseBetween_0 24 rfl rfl
theorem dksX5_parseBetween_2 : cX5_parseBetween.data.toList.drop 46 = dktX5_parseBetween_2 := dk_seg dksX5_parseBetween_1 22 rfl rfl
theorem dksX5_parseBetween_3 : cX5_parseBetween.data.toList.drop 69 = dktX5_parseBetween_3 := dk_seg dksX5_parseBetween_2 23 rfl rfl
theorem dX5_parseBetween_0 : decode cX5_parseBetween 0 = .ok (.aload_n 0, 1) := dk_42 (dk_at dksX5_parseBetween_0 0 rfl rfl)
theorem dX5_parseBetween_1 : decode cX5_parseBetween 1 = .ok (.dup, 1) := dk_89 (dk_at dksX5_parseBetween_0 1 rfl rfl)
theorem dX5_parseBetween_2 : decode cX5_parseBetween 2 = .ok (.getfield 38, 3) := dk_180 0 38 (dk_at dksX5_parseBetween_0 2 rfl rfl)
theorem dX5_parseBetween_5 : decode cX5_parseBetween 5 = .ok (.aload_n 0, 1) := dk_42 (dk_at dksX5_parseBetween_0 5 rfl rfl)
theorem dX5_parseBetween_6 : decode cX5_parseBetween 6 = .ok (.invokevirtual 30, 3) := dk_182 0 30 (dk_at dksX5_parseBetween_0 6 rfl rfl)
theorem dX5_parseBetween_9 : decode cX5_parseBetween 9 = .ok (.ifCond .ne 22, 3) := dk_154 0 22 (dk_at dksX5_parseBetween_0 9 rfl rfl)
theorem dX5_parseBetween_12 : decode cX5_parseBetween 12 = .ok (.aload_n 0, 1) := dk_42 (dk_at dksX5_parseBetween_0 12 rfl rfl)
theorem dX5_parseBetween_13 : decode cX5_parseBetween 13 = .ok (.getfield 16, 3) := dk_180 0 16 (dk_at dksX5_parseBetween_0 13 rfl rfl)
theorem dX5_parseBetween_16 : decode cX5_parseBetween 16 = .ok (.aload_n 0, 1) := dk_42 (dk_at dksX5_parseBetween_0 16 rfl rfl)
theorem dX5_parseBetween_17 : decode cX5_parseBetween 17 = .ok (.getfield 20, 3) := dk_180 0 20 (dk_at dksX5_parseBetween_0 17 rfl rfl)
theorem dX5_parseBetween_20 : decode cX5_parseBetween 20 = .ok (.invokevirtual 34, 3) := dk_182 0 34 (dk_at dksX5_parseBetween_0 20 rfl rfl)
theorem dX5_parseBetween_23 : decode cX5_parseBetween 23 = .ok (.iload_n 1, 1) := dk_27 (dk_at dksX5_parseBetween_0 23 rfl rfl)
theorem dX5_parseBetween_24 : decode cX5_parseBetween 24 = .ok (.iload_n 2, 1) := dk_28 (dk_at dksX5_parseBetween_1 0 rfl rfl)
theorem dX5_parseBetween_25 : decode cX5_parseBetween 25 = .ok (.invokestatic 42, 3) := dk_184 0 42 (dk_at dksX5_parseBetween_1 1 rfl rfl)
theorem dX5_parseBetween_28 : decode cX5_parseBetween 28 = .ok (.ifCond .ne 7, 3) := dk_154 0 7 (dk_at dksX5_parseBetween_1 4 rfl rfl)
theorem dX5_parseBetween_31 : decode cX5_parseBetween 31 = .ok (.iconst 1, 1) := dk_4 (dk_at dksX5_parseBetween_1 7 rfl rfl)
theorem dX5_parseBetween_32 : decode cX5_parseBetween 32 = .ok (.goto 4, 3) := dk_167 0 4 (dk_at dksX5_parseBetween_1 8 rfl rfl)
theorem dX5_parseBetween_35 : decode cX5_parseBetween 35 = .ok (.iconst 0, 1) := dk_3 (dk_at dksX5_parseBetween_1 11 rfl rfl)
theorem dX5_parseBetween_36 : decode cX5_parseBetween 36 = .ok (.ior, 1) := dk_128 (dk_at dksX5_parseBetween_1 12 rfl rfl)
theorem dX5_parseBetween_37 : decode cX5_parseBetween 37 = .ok (.putfield 38, 3) := dk_181 0 38 (dk_at dksX5_parseBetween_1 13 rfl rfl)
theorem dX5_parseBetween_40 : decode cX5_parseBetween 40 = .ok (.aload_n 0, 1) := dk_42 (dk_at dksX5_parseBetween_1 16 rfl rfl)
theorem dX5_parseBetween_41 : decode cX5_parseBetween 41 = .ok (.dup, 1) := dk_89 (dk_at dksX5_parseBetween_1 17 rfl rfl)
theorem dX5_parseBetween_42 : decode cX5_parseBetween 42 = .ok (.getfield 20, 3) := dk_180 0 20 (dk_at dksX5_parseBetween_1 18 rfl rfl)
theorem dX5_parseBetween_45 : decode cX5_parseBetween 45 = .ok (.aload_n 0, 1) := dk_42 (dk_at dksX5_parseBetween_1 21 rfl rfl)
theorem dX5_parseBetween_46 : decode cX5_parseBetween 46 = .ok (.getfield 38, 3) := dk_180 0 38 (dk_at dksX5_parseBetween_2 0 rfl rfl)
theorem dX5_parseBetween_49 : decode cX5_parseBetween 49 = .ok (.ifCond .eq 7, 3) := dk_153 0 7 (dk_at dksX5_parseBetween_2 3 rfl rfl)
theorem dX5_parseBetween_52 : decode cX5_parseBetween 52 = .ok (.iconst 0, 1) := dk_3 (dk_at dksX5_parseBetween_2 6 rfl rfl)
theorem dX5_parseBetween_53 : decode cX5_parseBetween 53 = .ok (.goto 4, 3) := dk_167 0 4 (dk_at dksX5_parseBetween_2 7 rfl rfl)
theorem dX5_parseBetween_56 : decode cX5_parseBetween 56 = .ok (.iconst 1, 1) := dk_4 (dk_at dksX5_parseBetween_2 10 rfl rfl)
theorem dX5_parseBetween_57 : decode cX5_parseBetween 57 = .ok (.iadd, 1) := dk_96 (dk_at dksX5_parseBetween_2 11 rfl rfl)
theorem dX5_parseBetween_58 : decode cX5_parseBetween 58 = .ok (.putfield 20, 3) := dk_181 0 20 (dk_at dksX5_parseBetween_2 12 rfl rfl)
theorem dX5_parseBetween_61 : decode cX5_parseBetween 61 = .ok (.aload_n 0, 1) := dk_42 (dk_at dksX5_parseBetween_2 15 rfl rfl)
theorem dX5_parseBetween_62 : decode cX5_parseBetween 62 = .ok (.getfield 38, 3) := dk_180 0 38 (dk_at dksX5_parseBetween_2 16 rfl rfl)
theorem dX5_parseBetween_65 : decode cX5_parseBetween 65 = .ok (.ifCond .eq 7, 3) := dk_153 0 7 (dk_at dksX5_parseBetween_2 19 rfl rfl)
theorem dX5_parseBetween_68 : decode cX5_parseBetween 68 = .ok (.iload_n 1, 1) := dk_27 (dk_at dksX5_parseBetween_2 22 rfl rfl)
theorem dX5_parseBetween_69 : decode cX5_parseBetween 69 = .ok (.goto 16, 3) := dk_167 0 16 (dk_at dksX5_parseBetween_3 0 rfl rfl)
theorem dX5_parseBetween_72 : decode cX5_parseBetween 72 = .ok (.aload_n 0, 1) := dk_42 (dk_at dksX5_parseBetween_3 3 rfl rfl)
theorem dX5_parseBetween_73 : decode cX5_parseBetween 73 = .ok (.getfield 16, 3) := dk_180 0 16 (dk_at dksX5_parseBetween_3 4 rfl rfl)
theorem dX5_parseBetween_76 : decode cX5_parseBetween 76 = .ok (.aload_n 0, 1) := dk_42 (dk_at dksX5_parseBetween_3 7 rfl rfl)
theorem dX5_parseBetween_77 : decode cX5_parseBetween 77 = .ok (.getfield 20, 3) := dk_180 0 20 (dk_at dksX5_parseBetween_3 8 rfl rfl)
theorem dX5_parseBetween_80 : decode cX5_parseBetween 80 = .ok (.iconst 1, 1) := dk_4 (dk_at dksX5_parseBetween_3 11 rfl rfl)
theorem dX5_parseBetween_81 : decode cX5_parseBetween 81 = .ok (.isub, 1) := dk_100 (dk_at dksX5_parseBetween_3 12 rfl rfl)
theorem dX5_parseBetween_82 : decode cX5_parseBetween 82 = .ok (.invokevirtual 34, 3) := dk_182 0 34 (dk_at dksX5_parseBetween_3 13 rfl rfl)
theorem dX5_parseBetween_85 : decode cX5_parseBetween 85 = .ok (.ireturn, 1) := dk_172 (dk_at dksX5_parseBetween_3 16 rfl rfl)
theorem q147 : (Jvm.Cond.initialized "ScheduleAnalyzer$Parser") ∈ lw_all := lw_g (lw_at lw_m1 33 rfl) rfl
theorem q746 : (Jvm.Cond.selects "ScheduleAnalyzer$Parser" ({ cls := "java/lang/Object", name := "getClass", desc := "()Ljava/lang/Class;" } : Jvm.MethodName) ({ cls := "java/lang/Object", name := "getClass", desc := "()Ljava/lang/Class;" } : Jvm.MethodName)) ∈ lw_all := lw_g (lw_at lw_m3 152 rfl) rfl
theorem q1585 : (Jvm.Cond.instantiable "ScheduleAnalyzer$Parser" (4 : Nat)) ∈ lw_all := lw_g (lw_at lw_m7 31 rfl) rfl
theorem q1588 : (Jvm.Cond.instanceMethod ({ cls := "ScheduleAnalyzer$Parser", name := "<init>", desc := "(Ljava/lang/String;)V" } : Jvm.MethodName)) ∈ lw_all := lw_g (lw_at lw_m7 34 rfl) rfl
theorem q1589 : (Jvm.Cond.code ({ cls := "ScheduleAnalyzer$Parser", name := "<init>", desc := "(Ljava/lang/String;)V" } : Jvm.MethodName) prog_7_method_1_code (2 : Nat) (Option.none : Option Jvm.ClassFile.FieldType)) ∈ lw_all := lw_g (lw_at lw_m7 35 rfl) rfl
theorem q1590 : (Jvm.Cond.methodLink "ScheduleAnalyzer$Parser" (1 : Nat) ({ cls := "java/lang/Object", name := "<init>", desc := "()V" } : Jvm.MethodName)) ∈ lw_all := lw_g (lw_at lw_m7 36 rfl) rfl
theorem q1591 : (Jvm.Cond.classLink "ScheduleAnalyzer$Parser" (7 : Nat) "java/util/ArrayList") ∈ lw_all := lw_g (lw_at lw_m7 37 rfl) rfl
theorem q1592 : (Jvm.Cond.methodLink "ScheduleAnalyzer$Parser" (9 : Nat) ({ cls := "java/util/ArrayList", name := "<init>", desc := "()V" } : Jvm.MethodName)) ∈ lw_all := lw_g (lw_at lw_m7 38 rfl) rfl
theorem q1593 : (Jvm.Cond.fieldLink "ScheduleAnalyzer$Parser" (16 : Nat) "ScheduleAnalyzer$Parser" "text" "Ljava/lang/String;") ∈ lw_all := lw_g (lw_at lw_m7 39 rfl) rfl
theorem q1594 : (Jvm.Cond.fieldLink "ScheduleAnalyzer$Parser" (10 : Nat) "ScheduleAnalyzer$Parser" "operations" "Ljava/util/List;") ∈ lw_all := lw_g (lw_at lw_m7 40 rfl) rfl
theorem q1596 : (Jvm.Cond.fieldLink "ScheduleAnalyzer$Parser" (20 : Nat) "ScheduleAnalyzer$Parser" "position" "I") ∈ lw_all := lw_g (lw_at lw_m7 42 rfl) rfl
theorem q1598 : (Jvm.Cond.fieldLink "ScheduleAnalyzer$Parser" (38 : Nat) "ScheduleAnalyzer$Parser" "hasFailed" "Z") ∈ lw_all := lw_g (lw_at lw_m7 44 rfl) rfl
theorem q1599 : (Jvm.Cond.laysFinal "ScheduleAnalyzer$Parser" "ScheduleAnalyzer$Parser" "text" "Ljava/lang/String;") ∈ lw_all := lw_g (lw_at lw_m7 45 rfl) rfl
theorem q1600 : (Jvm.Cond.soleField "ScheduleAnalyzer$Parser" "text") ∈ lw_all := lw_g (lw_at lw_m7 46 rfl) rfl
theorem q1601 : (Jvm.Cond.laysFinal "ScheduleAnalyzer$Parser" "ScheduleAnalyzer$Parser" "operations" "Ljava/util/List;") ∈ lw_all := lw_g (lw_at lw_m7 47 rfl) rfl
theorem q1602 : (Jvm.Cond.soleField "ScheduleAnalyzer$Parser" "operations") ∈ lw_all := lw_g (lw_at lw_m7 48 rfl) rfl
theorem q1603 : (Jvm.Cond.lays "ScheduleAnalyzer$Parser" "ScheduleAnalyzer$Parser" "position" "I") ∈ lw_all := lw_g (lw_at lw_m7 49 rfl) rfl
theorem q1604 : (Jvm.Cond.soleField "ScheduleAnalyzer$Parser" "position") ∈ lw_all := lw_g (lw_at lw_m7 50 rfl) rfl
theorem q1605 : (Jvm.Cond.lays "ScheduleAnalyzer$Parser" "ScheduleAnalyzer$Parser" "hasFailed" "Z") ∈ lw_all := lw_g (lw_at lw_m7 51 rfl) rfl
theorem q1606 : (Jvm.Cond.soleField "ScheduleAnalyzer$Parser" "hasFailed") ∈ lw_all := lw_g (lw_at lw_m7 52 rfl) rfl
theorem q1607 : (Jvm.Cond.superclass "ScheduleAnalyzer$Parser" "java/lang/Object") ∈ lw_all := lw_g (lw_at lw_m7 53 rfl) rfl
theorem q1609 : (Jvm.Cond.instanceMethod ({ cls := "ScheduleAnalyzer$Parser", name := "parse", desc := "()Z" } : Jvm.MethodName)) ∈ lw_all := lw_g (lw_at lw_m7 55 rfl) rfl
theorem q1610 : (Jvm.Cond.selects "ScheduleAnalyzer$Parser" ({ cls := "ScheduleAnalyzer$Parser", name := "parse", desc := "()Z" } : Jvm.MethodName) ({ cls := "ScheduleAnalyzer$Parser", name := "parse", desc := "()Z" } : Jvm.MethodName)) ∈ lw_all := lw_g (lw_at lw_m7 56 rfl) rfl
theorem q1611 : (Jvm.Cond.code ({ cls := "ScheduleAnalyzer$Parser", name := "parse", desc := "()Z" } : Jvm.MethodName) prog_7_method_6_code (1 : Nat) (Option.some Jvm.ClassFile.FieldType.boolean)) ∈ lw_all := lw_g (lw_at lw_m7 57 rfl) rfl
theorem q1612 : (Jvm.Cond.methodLink "ScheduleAnalyzer$Parser" (67 : Nat) ({ cls := "ScheduleAnalyzer$Parser", name := "parseOperation", desc := "()V" } : Jvm.MethodName)) ∈ lw_all := lw_g (lw_at lw_m7 58 rfl) rfl
theorem q1613 : (Jvm.Cond.privateMethod ({ cls := "ScheduleAnalyzer$Parser", name := "parseOperation", desc := "()V" } : Jvm.MethodName)) ∈ lw_tbl := lw_at lw_m7 59 rfl
theorem q1614 : (Jvm.Cond.instanceMethod ({ cls := "ScheduleAnalyzer$Parser", name := "parseOperation", desc := "()V" } : Jvm.MethodName)) ∈ lw_all := lw_g (lw_at lw_m7 60 rfl) rfl
theorem q1615 : (Jvm.Cond.code ({ cls := "ScheduleAnalyzer$Parser", name := "parseOperation", desc := "()V" } : Jvm.MethodName) prog_7_method_5_code (5 : Nat) (Option.none : Option Jvm.ClassFile.FieldType)) ∈ lw_all := lw_g (lw_at lw_m7 61 rfl) rfl
theorem q1616 : (Jvm.Cond.methodLink "ScheduleAnalyzer$Parser" (48 : Nat) ({ cls := "ScheduleAnalyzer$Parser", name := "isNext", desc := "(C)Z" } : Jvm.MethodName)) ∈ lw_all := lw_g (lw_at lw_m7 62 rfl) rfl
theorem q1617 : (Jvm.Cond.privateMethod ({ cls := "ScheduleAnalyzer$Parser", name := "isNext", desc := "(C)Z" } : Jvm.MethodName)) ∈ lw_tbl := lw_at lw_m7 63 rfl
theorem q1618 : (Jvm.Cond.instanceMethod ({ cls := "ScheduleAnalyzer$Parser", name := "isNext", desc := "(C)Z" } : Jvm.MethodName)) ∈ lw_all := lw_g (lw_at lw_m7 64 rfl) rfl
theorem q1619 : (Jvm.Cond.code ({ cls := "ScheduleAnalyzer$Parser", name := "isNext", desc := "(C)Z" } : Jvm.MethodName) prog_7_method_3_code (2 : Nat) (Option.some Jvm.ClassFile.FieldType.boolean)) ∈ lw_all := lw_g (lw_at lw_m7 65 rfl) rfl
theorem q1620 : (Jvm.Cond.methodLink "ScheduleAnalyzer$Parser" (30 : Nat) ({ cls := "ScheduleAnalyzer$Parser", name := "isAtEnd", desc := "()Z" } : Jvm.MethodName)) ∈ lw_all := lw_g (lw_at lw_m7 66 rfl) rfl
theorem q1621 : (Jvm.Cond.privateMethod ({ cls := "ScheduleAnalyzer$Parser", name := "isAtEnd", desc := "()Z" } : Jvm.MethodName)) ∈ lw_tbl := lw_at lw_m7 67 rfl
theorem q1622 : (Jvm.Cond.instanceMethod ({ cls := "ScheduleAnalyzer$Parser", name := "isAtEnd", desc := "()Z" } : Jvm.MethodName)) ∈ lw_all := lw_g (lw_at lw_m7 68 rfl) rfl
theorem q1623 : (Jvm.Cond.code ({ cls := "ScheduleAnalyzer$Parser", name := "isAtEnd", desc := "()Z" } : Jvm.MethodName) prog_7_method_2_code (1 : Nat) (Option.some Jvm.ClassFile.FieldType.boolean)) ∈ lw_all := lw_g (lw_at lw_m7 69 rfl) rfl
theorem q1624 : (Jvm.Cond.methodLink "ScheduleAnalyzer$Parser" (24 : Nat) ({ cls := "java/lang/String", name := "length", desc := "()I" } : Jvm.MethodName)) ∈ lw_all := lw_g (lw_at lw_m7 70 rfl) rfl
theorem q1625 : (Jvm.Cond.methodLink "ScheduleAnalyzer$Parser" (34 : Nat) ({ cls := "java/lang/String", name := "charAt", desc := "(I)C" } : Jvm.MethodName)) ∈ lw_all := lw_g (lw_at lw_m7 71 rfl) rfl
theorem q1647 : (Jvm.Cond.methodLink "ScheduleAnalyzer$Parser" (52 : Nat) ({ cls := "ScheduleAnalyzer$Parser", name := "parseBetween", desc := "(CC)C" } : Jvm.MethodName)) ∈ lw_all := lw_g (lw_at lw_m7 93 rfl) rfl
theorem q1648 : (Jvm.Cond.privateMethod ({ cls := "ScheduleAnalyzer$Parser", name := "parseBetween", desc := "(CC)C" } : Jvm.MethodName)) ∈ lw_tbl := lw_at lw_m7 94 rfl
theorem q1649 : (Jvm.Cond.instanceMethod ({ cls := "ScheduleAnalyzer$Parser", name := "parseBetween", desc := "(CC)C" } : Jvm.MethodName)) ∈ lw_all := lw_g (lw_at lw_m7 95 rfl) rfl
theorem q1650 : (Jvm.Cond.code ({ cls := "ScheduleAnalyzer$Parser", name := "parseBetween", desc := "(CC)C" } : Jvm.MethodName) prog_7_method_4_code (3 : Nat) (Option.some Jvm.ClassFile.FieldType.char)) ∈ lw_all := lw_g (lw_at lw_m7 96 rfl) rfl
theorem q1651 : (Jvm.Cond.methodLinkNest "ScheduleAnalyzer$Parser" (42 : Nat) ({ cls := "ScheduleAnalyzer", name := "isBetween", desc := "(III)Z" } : Jvm.MethodName) "ScheduleAnalyzer") ∈ lw_tbl := lw_at lw_m7 97 rfl
theorem q1652 : (Jvm.Cond.classLink "ScheduleAnalyzer$Parser" (56 : Nat) "ScheduleAnalyzer$Operation") ∈ lw_all := lw_g (lw_at lw_m7 98 rfl) rfl
theorem q1654 : (Jvm.Cond.methodLink "ScheduleAnalyzer$Parser" (58 : Nat) ({ cls := "ScheduleAnalyzer$Operation", name := "<init>", desc := "(CIC)V" } : Jvm.MethodName)) ∈ lw_all := lw_g (lw_at lw_m7 100 rfl) rfl
theorem q1681 : (Jvm.Cond.interfaceEntry "ScheduleAnalyzer$Parser" (61 : Nat)) ∈ lw_tbl := lw_at lw_m7 127 rfl
theorem q1682 : (Jvm.Cond.methodLink "ScheduleAnalyzer$Parser" (61 : Nat) ({ cls := "java/util/List", name := "add", desc := "(Ljava/lang/Object;)Z" } : Jvm.MethodName)) ∈ lw_all := lw_g (lw_at lw_m7 128 rfl) rfl
theorem q1837 : (Jvm.Cond.selects "ScheduleAnalyzer$Parser" ({ cls := "java/lang/Object", name := "equals", desc := "(Ljava/lang/Object;)Z" } : Jvm.MethodName) ({ cls := "java/lang/Object", name := "equals", desc := "(Ljava/lang/Object;)Z" } : Jvm.MethodName)) ∈ lw_all := lw_g (lw_at lw_m8 43 rfl) rfl
theorem q2453 : (Jvm.Cond.selects "ScheduleAnalyzer$Parser" ({ cls := "java/lang/Object", name := "toString", desc := "()Ljava/lang/String;" } : Jvm.MethodName) ({ cls := "java/lang/Object", name := "toString", desc := "()Ljava/lang/String;" } : Jvm.MethodName)) ∈ lw_all := lw_g (lw_at lw_m10 179 rfl) rfl
theorem q3245 : (Jvm.Cond.castable "ScheduleAnalyzer$Parser" "java/lang/Object") ∈ lw_tbl := lw_at lw_m14 11 rfl
theorem in_X5 : ∀ w ∈ wsX50, w ∈ lw_all := lw_in wsX50 [1599, 1601, 1603, 1605] (by decide +kernel) (by decide +kernel)

/-! ScheduleAnalyzer$Operation -/
set_option maxRecDepth 100000
def RX6 : String := "ScheduleAnalyzer$Operation"
def TX6 : u_T := fun k => match k with
  | 0 => ("ScheduleAnalyzer$Operation", "kind", "C", true)
  | 1 => ("ScheduleAnalyzer$Operation", "transaction", "I", true)
  | _ => ("ScheduleAnalyzer$Operation", "item", "C", true)
def tyX6 : Nat → FieldType := fun k => match k with
  | 0 => .char
  | 1 => .int
  | _ => .char
abbrev wsX60 : List Cond := u_ws RX6 TX6 3
theorem nmX6 : ∀ a, a < 3 → ∀ b, b < 3 → a ≠ b → (TX6 a).2.1 ≠ (TX6 b).2.1 := by decide +kernel
theorem tyX6_ok : ∀ k, k < 3 → parseFieldDescriptor (TX6 k).2.2.1 = some (tyX6 k) := by decide +kernel
abbrev cX6_isOf : ByteArray := prog_5_method_5_code
def yX6_isOf : MethodName := ⟨RX6, "isOf", "(CI)Z"⟩
def dkwX6_isOf_0 : List UInt8 := [42, 180, 0, 7, 27, 160, 0, 15, 42, 180, 0, 13, 28, 160, 0, 7, 4, 167, 0, 4, 3, 172]
abbrev dktX6_isOf_0 : List UInt8 := dkwX6_isOf_0 ++ []
theorem dksX6_isOf_0 : cX6_isOf.data.toList.drop 0 = dktX6_isOf_0 := by decide +kernel
theorem dX6_isOf_0 : decode cX6_isOf 0 = .ok (.aload_n 0, 1) := dk_42 (dk_at dksX6_isOf_0 0 rfl rfl)
theorem dX6_isOf_1 : decode cX6_isOf 1 = .ok (.getfield 7, 3) := dk_180 0 7 (dk_at dksX6_isOf_0 1 rfl rfl)
theorem dX6_isOf_4 : decode cX6_isOf 4 = .ok (.iload_n 1, 1) := dk_27 (dk_at dksX6_isOf_0 4 rfl rfl)
theorem dX6_isOf_5 : decode cX6_isOf 5 = .ok (.if_icmp .ne 15, 3) := dk_160 0 15 (dk_at dksX6_isOf_0 5 rfl rfl)
theorem dX6_isOf_8 : decode cX6_isOf 8 = .ok (.aload_n 0, 1) := dk_42 (dk_at dksX6_isOf_0 8 rfl rfl)
theorem dX6_isOf_9 : decode cX6_isOf 9 = .ok (.getfield 13, 3) := dk_180 0 13 (dk_at dksX6_isOf_0 9 rfl rfl)
theorem dX6_isOf_12 : decode cX6_isOf 12 = .ok (.iload_n 2, 1) := dk_28 (dk_at dksX6_isOf_0 12 rfl rfl)
theorem dX6_isOf_13 : decode cX6_isOf 13 = .ok (.if_icmp .ne 7, 3) := dk_160 0 7 (dk_at dksX6_isOf_0 13 rfl rfl)
theorem dX6_isOf_16 : decode cX6_isOf 16 = .ok (.iconst 1, 1) := dk_4 (dk_at dksX6_isOf_0 16 rfl rfl)
theorem dX6_isOf_17 : decode cX6_isOf 17 = .ok (.goto 4, 3) := dk_167 0 4 (dk_at dksX6_isOf_0 17 rfl rfl)
theorem dX6_isOf_20 : decode cX6_isOf 20 = .ok (.iconst 0, 1) := dk_3 (dk_at dksX6_isOf_0 20 rfl rfl)
theorem dX6_isOf_21 : decode cX6_isOf 21 = .ok (.ireturn, 1) := dk_172 (dk_at dksX6_isOf_0 21 rfl rfl)
abbrev cX6_conflictsWith : ByteArray := prog_5_method_6_code
def yX6_conflictsWith : MethodName := ⟨RX6, "conflictsWith", "(LScheduleAnalyzer$Operation;)Z"⟩
def dkwX6_conflictsWith_2 : List UInt8 := [42, 180, 0, 7, 16, 119, 159, 0, 12, 43, 180, 0, 7, 16, 119, 160, 0, 7, 4, 167, 0, 4, 3, 172]
abbrev dktX6_conflictsWith_2 : List UInt8 := dkwX6_conflictsWith_2 ++ []
def dkwX6_conflictsWith_1 : List UInt8 := [160, 0, 7, 4, 167, 0, 4, 3, 61, 28, 153, 0, 36, 42, 180, 0, 13, 43, 180, 0, 13, 159, 0, 25]
abbrev dktX6_conflictsWith_1 : List UInt8 := dkwX6_conflictsWith_1 ++ dktX6_conflictsWith_2
def dkwX6_conflictsWith_0 : List UInt8 := [42, 182, 0, 20, 153, 0, 25, 43, 182, 0, 20, 153, 0, 18, 42, 180, 0, 17, 43, 180, 0, 17]
abbrev dktX6_conflictsWith_0 : List UInt8 := dkwX6_conflictsWith_0 ++ dktX6_conflictsWith_1
theorem dksX6_conflictsWith_0 : cX6_conflictsWith.data.toList.drop 0 = dktX6_conflictsWith_0 := by decide +kernel
theorem dksX6_conflictsWith_1 : cX6_conflictsWith.data.toList.drop 22 = dktX6_conflictsWith_1 := dk_seg dksX6_conflictsWith_0 22 rfl rfl
theorem dksX6_conflictsWith_2 : cX6_conflictsWith.data.toList.drop 46 = dktX6_conflictsWith_2 := dk_seg dksX6_conflictsWith_1 24 rfl rfl
theorem dX6_conflictsWith_0 : decode cX6_conflictsWith 0 = .ok (.aload_n 0, 1) := dk_42 (dk_at dksX6_conflictsWith_0 0 rfl rfl)
theorem dX6_conflictsWith_1 : decode cX6_conflictsWith 1 = .ok (.invokevirtual 20, 3) := dk_182 0 20 (dk_at dksX6_conflictsWith_0 1 rfl rfl)
theorem dX6_conflictsWith_4 : decode cX6_conflictsWith 4 = .ok (.ifCond .eq 25, 3) := dk_153 0 25 (dk_at dksX6_conflictsWith_0 4 rfl rfl)
theorem dX6_conflictsWith_7 : decode cX6_conflictsWith 7 = .ok (.aload_n 1, 1) := dk_43 (dk_at dksX6_conflictsWith_0 7 rfl rfl)
theorem dX6_conflictsWith_8 : decode cX6_conflictsWith 8 = .ok (.invokevirtual 20, 3) := dk_182 0 20 (dk_at dksX6_conflictsWith_0 8 rfl rfl)
theorem dX6_conflictsWith_11 : decode cX6_conflictsWith 11 = .ok (.ifCond .eq 18, 3) := dk_153 0 18 (dk_at dksX6_conflictsWith_0 11 rfl rfl)
theorem dX6_conflictsWith_14 : decode cX6_conflictsWith 14 = .ok (.aload_n 0, 1) := dk_42 (dk_at dksX6_conflictsWith_0 14 rfl rfl)
theorem dX6_conflictsWith_15 : decode cX6_conflictsWith 15 = .ok (.getfield 17, 3) := dk_180 0 17 (dk_at dksX6_conflictsWith_0 15 rfl rfl)
theorem dX6_conflictsWith_18 : decode cX6_conflictsWith 18 = .ok (.aload_n 1, 1) := dk_43 (dk_at dksX6_conflictsWith_0 18 rfl rfl)
theorem dX6_conflictsWith_19 : decode cX6_conflictsWith 19 = .ok (.getfield 17, 3) := dk_180 0 17 (dk_at dksX6_conflictsWith_0 19 rfl rfl)
theorem dX6_conflictsWith_22 : decode cX6_conflictsWith 22 = .ok (.if_icmp .ne 7, 3) := dk_160 0 7 (dk_at dksX6_conflictsWith_1 0 rfl rfl)
theorem dX6_conflictsWith_25 : decode cX6_conflictsWith 25 = .ok (.iconst 1, 1) := dk_4 (dk_at dksX6_conflictsWith_1 3 rfl rfl)
theorem dX6_conflictsWith_26 : decode cX6_conflictsWith 26 = .ok (.goto 4, 3) := dk_167 0 4 (dk_at dksX6_conflictsWith_1 4 rfl rfl)
theorem dX6_conflictsWith_29 : decode cX6_conflictsWith 29 = .ok (.iconst 0, 1) := dk_3 (dk_at dksX6_conflictsWith_1 7 rfl rfl)
theorem dX6_conflictsWith_30 : decode cX6_conflictsWith 30 = .ok (.istore_n 2, 1) := dk_61 (dk_at dksX6_conflictsWith_1 8 rfl rfl)
theorem dX6_conflictsWith_31 : decode cX6_conflictsWith 31 = .ok (.iload_n 2, 1) := dk_28 (dk_at dksX6_conflictsWith_1 9 rfl rfl)
theorem dX6_conflictsWith_32 : decode cX6_conflictsWith 32 = .ok (.ifCond .eq 36, 3) := dk_153 0 36 (dk_at dksX6_conflictsWith_1 10 rfl rfl)
theorem dX6_conflictsWith_35 : decode cX6_conflictsWith 35 = .ok (.aload_n 0, 1) := dk_42 (dk_at dksX6_conflictsWith_1 13 rfl rfl)
theorem dX6_conflictsWith_36 : decode cX6_conflictsWith 36 = .ok (.getfield 13, 3) := dk_180 0 13 (dk_at dksX6_conflictsWith_1 14 rfl rfl)
theorem dX6_conflictsWith_39 : decode cX6_conflictsWith 39 = .ok (.aload_n 1, 1) := dk_43 (dk_at dksX6_conflictsWith_1 17 rfl rfl)
theorem dX6_conflictsWith_40 : decode cX6_conflictsWith 40 = .ok (.getfield 13, 3) := dk_180 0 13 (dk_at dksX6_conflictsWith_1 18 rfl rfl)
theorem dX6_conflictsWith_43 : decode cX6_conflictsWith 43 = .ok (.if_icmp .eq 25, 3) := dk_159 0 25 (dk_at dksX6_conflictsWith_1 21 rfl rfl)
theorem dX6_conflictsWith_46 : decode cX6_conflictsWith 46 = .ok (.aload_n 0, 1) := dk_42 (dk_at dksX6_conflictsWith_2 0 rfl rfl)
theorem dX6_conflictsWith_47 : decode cX6_conflictsWith 47 = .ok (.getfield 7, 3) := dk_180 0 7 (dk_at dksX6_conflictsWith_2 1 rfl rfl)
theorem dX6_conflictsWith_50 : decode cX6_conflictsWith 50 = .ok (.bipush 119, 2) := dk_16 119 (dk_at dksX6_conflictsWith_2 4 rfl rfl)
theorem dX6_conflictsWith_52 : decode cX6_conflictsWith 52 = .ok (.if_icmp .eq 12, 3) := dk_159 0 12 (dk_at dksX6_conflictsWith_2 6 rfl rfl)
theorem dX6_conflictsWith_55 : decode cX6_conflictsWith 55 = .ok (.aload_n 1, 1) := dk_43 (dk_at dksX6_conflictsWith_2 9 rfl rfl)
theorem dX6_conflictsWith_56 : decode cX6_conflictsWith 56 = .ok (.getfield 7, 3) := dk_180 0 7 (dk_at dksX6_conflictsWith_2 10 rfl rfl)
theorem dX6_conflictsWith_59 : decode cX6_conflictsWith 59 = .ok (.bipush 119, 2) := dk_16 119 (dk_at dksX6_conflictsWith_2 13 rfl rfl)
theorem dX6_conflictsWith_61 : decode cX6_conflictsWith 61 = .ok (.if_icmp .ne 7, 3) := dk_160 0 7 (dk_at dksX6_conflictsWith_2 15 rfl rfl)
theorem dX6_conflictsWith_64 : decode cX6_conflictsWith 64 = .ok (.iconst 1, 1) := dk_4 (dk_at dksX6_conflictsWith_2 18 rfl rfl)
theorem dX6_conflictsWith_65 : decode cX6_conflictsWith 65 = .ok (.goto 4, 3) := dk_167 0 4 (dk_at dksX6_conflictsWith_2 19 rfl rfl)
theorem dX6_conflictsWith_68 : decode cX6_conflictsWith 68 = .ok (.iconst 0, 1) := dk_3 (dk_at dksX6_conflictsWith_2 22 rfl rfl)
theorem dX6_conflictsWith_69 : decode cX6_conflictsWith 69 = .ok (.ireturn, 1) := dk_172 (dk_at dksX6_conflictsWith_2 23 rfl rfl)
abbrev cX6_isAccess : ByteArray := prog_5_method_2_code
def yX6_isAccess : MethodName := ⟨RX6, "isAccess", "()Z"⟩
def dkwX6_isAccess_0 : List UInt8 := [42, 180, 0, 7, 16, 114, 159, 0, 12, 42, 180, 0, 7, 16, 119, 160, 0, 7, 4, 167, 0, 4, 3, 172]
abbrev dktX6_isAccess_0 : List UInt8 := dkwX6_isAccess_0 ++ []
theorem dksX6_isAccess_0 : cX6_isAccess.data.toList.drop 0 = dktX6_isAccess_0 := by decide +kernel
theorem dX6_isAccess_0 : decode cX6_isAccess 0 = .ok (.aload_n 0, 1) := dk_42 (dk_at dksX6_isAccess_0 0 rfl rfl)
theorem dX6_isAccess_1 : decode cX6_isAccess 1 = .ok (.getfield 7, 3) := dk_180 0 7 (dk_at dksX6_isAccess_0 1 rfl rfl)
theorem dX6_isAccess_4 : decode cX6_isAccess 4 = .ok (.bipush 114, 2) := dk_16 114 (dk_at dksX6_isAccess_0 4 rfl rfl)
theorem dX6_isAccess_6 : decode cX6_isAccess 6 = .ok (.if_icmp .eq 12, 3) := dk_159 0 12 (dk_at dksX6_isAccess_0 6 rfl rfl)
theorem dX6_isAccess_9 : decode cX6_isAccess 9 = .ok (.aload_n 0, 1) := dk_42 (dk_at dksX6_isAccess_0 9 rfl rfl)
theorem dX6_isAccess_10 : decode cX6_isAccess 10 = .ok (.getfield 7, 3) := dk_180 0 7 (dk_at dksX6_isAccess_0 10 rfl rfl)
theorem dX6_isAccess_13 : decode cX6_isAccess 13 = .ok (.bipush 119, 2) := dk_16 119 (dk_at dksX6_isAccess_0 13 rfl rfl)
theorem dX6_isAccess_15 : decode cX6_isAccess 15 = .ok (.if_icmp .ne 7, 3) := dk_160 0 7 (dk_at dksX6_isAccess_0 15 rfl rfl)
theorem dX6_isAccess_18 : decode cX6_isAccess 18 = .ok (.iconst 1, 1) := dk_4 (dk_at dksX6_isAccess_0 18 rfl rfl)
theorem dX6_isAccess_19 : decode cX6_isAccess 19 = .ok (.goto 4, 3) := dk_167 0 4 (dk_at dksX6_isAccess_0 19 rfl rfl)
theorem dX6_isAccess_22 : decode cX6_isAccess 22 = .ok (.iconst 0, 1) := dk_3 (dk_at dksX6_isAccess_0 22 rfl rfl)
theorem dX6_isAccess_23 : decode cX6_isAccess 23 = .ok (.ireturn, 1) := dk_172 (dk_at dksX6_isAccess_0 23 rfl rfl)
abbrev cX6_isWriteOf : ByteArray := prog_5_method_3_code
def yX6_isWriteOf : MethodName := ⟨RX6, "isWriteOf", "(C)Z"⟩
def dkwX6_isWriteOf_0 : List UInt8 := [42, 180, 0, 7, 16, 119, 160, 0, 15, 42, 180, 0, 17, 27, 160, 0, 7, 4, 167, 0, 4, 3, 172]
abbrev dktX6_isWriteOf_0 : List UInt8 := dkwX6_isWriteOf_0 ++ []
theorem dksX6_isWriteOf_0 : cX6_isWriteOf.data.toList.drop 0 = dktX6_isWriteOf_0 := by decide +kernel
theorem dX6_isWriteOf_0 : decode cX6_isWriteOf 0 = .ok (.aload_n 0, 1) := dk_42 (dk_at dksX6_isWriteOf_0 0 rfl rfl)
theorem dX6_isWriteOf_1 : decode cX6_isWriteOf 1 = .ok (.getfield 7, 3) := dk_180 0 7 (dk_at dksX6_isWriteOf_0 1 rfl rfl)
theorem dX6_isWriteOf_4 : decode cX6_isWriteOf 4 = .ok (.bipush 119, 2) := dk_16 119 (dk_at dksX6_isWriteOf_0 4 rfl rfl)
theorem dX6_isWriteOf_6 : decode cX6_isWriteOf 6 = .ok (.if_icmp .ne 15, 3) := dk_160 0 15 (dk_at dksX6_isWriteOf_0 6 rfl rfl)
theorem dX6_isWriteOf_9 : decode cX6_isWriteOf 9 = .ok (.aload_n 0, 1) := dk_42 (dk_at dksX6_isWriteOf_0 9 rfl rfl)
theorem dX6_isWriteOf_10 : decode cX6_isWriteOf 10 = .ok (.getfield 17, 3) := dk_180 0 17 (dk_at dksX6_isWriteOf_0 10 rfl rfl)
theorem dX6_isWriteOf_13 : decode cX6_isWriteOf 13 = .ok (.iload_n 1, 1) := dk_27 (dk_at dksX6_isWriteOf_0 13 rfl rfl)
theorem dX6_isWriteOf_14 : decode cX6_isWriteOf 14 = .ok (.if_icmp .ne 7, 3) := dk_160 0 7 (dk_at dksX6_isWriteOf_0 14 rfl rfl)
theorem dX6_isWriteOf_17 : decode cX6_isWriteOf 17 = .ok (.iconst 1, 1) := dk_4 (dk_at dksX6_isWriteOf_0 17 rfl rfl)
theorem dX6_isWriteOf_18 : decode cX6_isWriteOf 18 = .ok (.goto 4, 3) := dk_167 0 4 (dk_at dksX6_isWriteOf_0 18 rfl rfl)
theorem dX6_isWriteOf_21 : decode cX6_isWriteOf 21 = .ok (.iconst 0, 1) := dk_3 (dk_at dksX6_isWriteOf_0 21 rfl rfl)
theorem dX6_isWriteOf_22 : decode cX6_isWriteOf 22 = .ok (.ireturn, 1) := dk_172 (dk_at dksX6_isWriteOf_0 22 rfl rfl)
abbrev cX6_isEndOf : ByteArray := prog_5_method_4_code
def yX6_isEndOf : MethodName := ⟨RX6, "isEndOf", "(I)Z"⟩
def dkwX6_isEndOf_0 : List UInt8 := [42, 182, 0, 20, 154, 0, 15, 42, 180, 0, 13, 27, 160, 0, 7, 4, 167, 0, 4, 3, 172]
abbrev dktX6_isEndOf_0 : List UInt8 := dkwX6_isEndOf_0 ++ []
theorem dksX6_isEndOf_0 : cX6_isEndOf.data.toList.drop 0 = dktX6_isEndOf_0 := by decide +kernel
theorem dX6_isEndOf_0 : decode cX6_isEndOf 0 = .ok (.aload_n 0, 1) := dk_42 (dk_at dksX6_isEndOf_0 0 rfl rfl)
theorem dX6_isEndOf_1 : decode cX6_isEndOf 1 = .ok (.invokevirtual 20, 3) := dk_182 0 20 (dk_at dksX6_isEndOf_0 1 rfl rfl)
theorem dX6_isEndOf_4 : decode cX6_isEndOf 4 = .ok (.ifCond .ne 15, 3) := dk_154 0 15 (dk_at dksX6_isEndOf_0 4 rfl rfl)
theorem dX6_isEndOf_7 : decode cX6_isEndOf 7 = .ok (.aload_n 0, 1) := dk_42 (dk_at dksX6_isEndOf_0 7 rfl rfl)
theorem dX6_isEndOf_8 : decode cX6_isEndOf 8 = .ok (.getfield 13, 3) := dk_180 0 13 (dk_at dksX6_isEndOf_0 8 rfl rfl)
theorem dX6_isEndOf_11 : decode cX6_isEndOf 11 = .ok (.iload_n 1, 1) := dk_27 (dk_at dksX6_isEndOf_0 11 rfl rfl)
theorem dX6_isEndOf_12 : decode cX6_isEndOf 12 = .ok (.if_icmp .ne 7, 3) := dk_160 0 7 (dk_at dksX6_isEndOf_0 12 rfl rfl)
theorem dX6_isEndOf_15 : decode cX6_isEndOf 15 = .ok (.iconst 1, 1) := dk_4 (dk_at dksX6_isEndOf_0 15 rfl rfl)
theorem dX6_isEndOf_16 : decode cX6_isEndOf 16 = .ok (.goto 4, 3) := dk_167 0 4 (dk_at dksX6_isEndOf_0 16 rfl rfl)
theorem dX6_isEndOf_19 : decode cX6_isEndOf 19 = .ok (.iconst 0, 1) := dk_3 (dk_at dksX6_isEndOf_0 19 rfl rfl)
theorem dX6_isEndOf_20 : decode cX6_isEndOf 20 = .ok (.ireturn, 1) := dk_172 (dk_at dksX6_isEndOf_0 20 rfl rfl)
abbrev cX6_init : ByteArray := prog_5_method_1_code
def yX6_init : MethodName := ⟨RX6, "<init>", "(CIC)V"⟩
def dkwX6_init_0 : List UInt8 := [42, 183, 0, 1, 42, 27, 181, 0, 7, 42, 28, 181, 0, 13, 42, 29, 181, 0, 17, 177]
abbrev dktX6_init_0 : List UInt8 := dkwX6_init_0 ++ []
theorem dksX6_init_0 : cX6_init.data.toList.drop 0 = dktX6_init_0 := by decide +kernel
theorem dX6_init_0 : decode cX6_init 0 = .ok (.aload_n 0, 1) := dk_42 (dk_at dksX6_init_0 0 rfl rfl)
theorem dX6_init_1 : decode cX6_init 1 = .ok (.invokespecial 1, 3) := dk_183 0 1 (dk_at dksX6_init_0 1 rfl rfl)
theorem dX6_init_4 : decode cX6_init 4 = .ok (.aload_n 0, 1) := dk_42 (dk_at dksX6_init_0 4 rfl rfl)
theorem dX6_init_5 : decode cX6_init 5 = .ok (.iload_n 1, 1) := dk_27 (dk_at dksX6_init_0 5 rfl rfl)
theorem dX6_init_6 : decode cX6_init 6 = .ok (.putfield 7, 3) := dk_181 0 7 (dk_at dksX6_init_0 6 rfl rfl)
theorem dX6_init_9 : decode cX6_init 9 = .ok (.aload_n 0, 1) := dk_42 (dk_at dksX6_init_0 9 rfl rfl)
theorem dX6_init_10 : decode cX6_init 10 = .ok (.iload_n 2, 1) := dk_28 (dk_at dksX6_init_0 10 rfl rfl)
theorem dX6_init_11 : decode cX6_init 11 = .ok (.putfield 13, 3) := dk_181 0 13 (dk_at dksX6_init_0 11 rfl rfl)
theorem dX6_init_14 : decode cX6_init 14 = .ok (.aload_n 0, 1) := dk_42 (dk_at dksX6_init_0 14 rfl rfl)
theorem dX6_init_15 : decode cX6_init 15 = .ok (.iload_n 3, 1) := dk_29 (dk_at dksX6_init_0 15 rfl rfl)
theorem dX6_init_16 : decode cX6_init 16 = .ok (.putfield 17, 3) := dk_181 0 17 (dk_at dksX6_init_0 16 rfl rfl)
theorem dX6_init_19 : decode cX6_init 19 = .ok (.return_, 1) := dk_177 (dk_at dksX6_init_0 19 rfl rfl)
abbrev cX6_isEqual : ByteArray := prog_5_method_7_code
def yX6_isEqual : MethodName := ⟨RX6, "isEqual", "(LScheduleAnalyzer$Operation;)Z"⟩
def dkwX6_isEqual_1 : List UInt8 := [180, 0, 17, 43, 180, 0, 17, 160, 0, 7, 4, 167, 0, 4, 3, 172]
abbrev dktX6_isEqual_1 : List UInt8 := dkwX6_isEqual_1 ++ []
def dkwX6_isEqual_0 : List UInt8 := [42, 180, 0, 7, 43, 180, 0, 7, 160, 0, 29, 42, 180, 0, 13, 43, 180, 0, 13, 160, 0, 18, 42]
abbrev dktX6_isEqual_0 : List UInt8 := dkwX6_isEqual_0 ++ dktX6_isEqual_1
theorem dksX6_isEqual_0 : cX6_isEqual.data.toList.drop 0 = dktX6_isEqual_0 := by decide +kernel
theorem dksX6_isEqual_1 : cX6_isEqual.data.toList.drop 23 = dktX6_isEqual_1 := dk_seg dksX6_isEqual_0 23 rfl rfl
theorem dX6_isEqual_0 : decode cX6_isEqual 0 = .ok (.aload_n 0, 1) := dk_42 (dk_at dksX6_isEqual_0 0 rfl rfl)
theorem dX6_isEqual_1 : decode cX6_isEqual 1 = .ok (.getfield 7, 3) := dk_180 0 7 (dk_at dksX6_isEqual_0 1 rfl rfl)
theorem dX6_isEqual_4 : decode cX6_isEqual 4 = .ok (.aload_n 1, 1) := dk_43 (dk_at dksX6_isEqual_0 4 rfl rfl)
theorem dX6_isEqual_5 : decode cX6_isEqual 5 = .ok (.getfield 7, 3) := dk_180 0 7 (dk_at dksX6_isEqual_0 5 rfl rfl)
theorem dX6_isEqual_8 : decode cX6_isEqual 8 = .ok (.if_icmp .ne 29, 3) := dk_160 0 29 (dk_at dksX6_isEqual_0 8 rfl rfl)
theorem dX6_isEqual_11 : decode cX6_isEqual 11 = .ok (.aload_n 0, 1) := dk_42 (dk_at dksX6_isEqual_0 11 rfl rfl)
theorem dX6_isEqual_12 : decode cX6_isEqual 12 = .ok (.getfield 13, 3) := dk_180 0 13 (dk_at dksX6_isEqual_0 12 rfl rfl)
theorem dX6_isEqual_15 : decode cX6_isEqual 15 = .ok (.aload_n 1, 1) := dk_43 (dk_at dksX6_isEqual_0 15 rfl rfl)
theorem dX6_isEqual_16 : decode cX6_isEqual 16 = .ok (.getfield 13, 3) := dk_180 0 13 (dk_at dksX6_isEqual_0 16 rfl rfl)
theorem dX6_isEqual_19 : decode cX6_isEqual 19 = .ok (.if_icmp .ne 18, 3) := dk_160 0 18 (dk_at dksX6_isEqual_0 19 rfl rfl)
theorem dX6_isEqual_22 : decode cX6_isEqual 22 = .ok (.aload_n 0, 1) := dk_42 (dk_at dksX6_isEqual_0 22 rfl rfl)
theorem dX6_isEqual_23 : decode cX6_isEqual 23 = .ok (.getfield 17, 3) := dk_180 0 17 (dk_at dksX6_isEqual_1 0 rfl rfl)
theorem dX6_isEqual_26 : decode cX6_isEqual 26 = .ok (.aload_n 1, 1) := dk_43 (dk_at dksX6_isEqual_1 3 rfl rfl)
theorem dX6_isEqual_27 : decode cX6_isEqual 27 = .ok (.getfield 17, 3) := dk_180 0 17 (dk_at dksX6_isEqual_1 4 rfl rfl)
theorem dX6_isEqual_30 : decode cX6_isEqual 30 = .ok (.if_icmp .ne 7, 3) := dk_160 0 7 (dk_at dksX6_isEqual_1 7 rfl rfl)
theorem dX6_isEqual_33 : decode cX6_isEqual 33 = .ok (.iconst 1, 1) := dk_4 (dk_at dksX6_isEqual_1 10 rfl rfl)
theorem dX6_isEqual_34 : decode cX6_isEqual 34 = .ok (.goto 4, 3) := dk_167 0 4 (dk_at dksX6_isEqual_1 11 rfl rfl)
theorem dX6_isEqual_37 : decode cX6_isEqual 37 = .ok (.iconst 0, 1) := dk_3 (dk_at dksX6_isEqual_1 14 rfl rfl)
theorem dX6_isEqual_38 : decode cX6_isEqual 38 = .ok (.ireturn, 1) := dk_172 (dk_at dksX6_isEqual_1 15 rfl rfl)
abbrev cX6_toString : ByteArray := prog_5_method_8_code
def yX6_toString : MethodName := ⟨RX6, "toString", "()Ljava/lang/String;"⟩
def dkwX6_toString_2 : List UInt8 := [180, 0, 17, 182, 0, 33, 182, 0, 39, 167, 0, 5, 18, 27, 182, 0, 29, 182, 0, 39, 176]
abbrev dktX6_toString_2 : List UInt8 := dkwX6_toString_2 ++ []
def dkwX6_toString_1 : List UInt8 := [182, 0, 36, 42, 182, 0, 20, 153, 0, 28, 187, 0, 24, 89, 183, 0, 26, 18, 27, 182, 0, 29, 42]
abbrev dktX6_toString_1 : List UInt8 := dkwX6_toString_1 ++ dktX6_toString_2
def dkwX6_toString_0 : List UInt8 := [187, 0, 24, 89, 183, 0, 26, 18, 27, 182, 0, 29, 42, 180, 0, 7, 182, 0, 33, 42, 180, 0, 13]
abbrev dktX6_toString_0 : List UInt8 := dkwX6_toString_0 ++ dktX6_toString_1
theorem dksX6_toString_0 : cX6_toString.data.toList.drop 0 = dktX6_toString_0 := by decide +kernel
theorem dksX6_toString_1 : cX6_toString.data.toList.drop 23 = dktX6_toString_1 := dk_seg dksX6_toString_0 23 rfl rfl
theorem dksX6_toString_2 : cX6_toString.data.toList.drop 46 = dktX6_toString_2 := dk_seg dksX6_toString_1 23 rfl rfl
theorem dX6_toString_0 : decode cX6_toString 0 = .ok (.new 24, 3) := dk_187 0 24 (dk_at dksX6_toString_0 0 rfl rfl)
theorem dX6_toString_3 : decode cX6_toString 3 = .ok (.dup, 1) := dk_89 (dk_at dksX6_toString_0 3 rfl rfl)
theorem dX6_toString_4 : decode cX6_toString 4 = .ok (.invokespecial 26, 3) := dk_183 0 26 (dk_at dksX6_toString_0 4 rfl rfl)
theorem dX6_toString_7 : decode cX6_toString 7 = .ok (.ldc 27, 2) := dk_18 27 (dk_at dksX6_toString_0 7 rfl rfl)
theorem dX6_toString_9 : decode cX6_toString 9 = .ok (.invokevirtual 29, 3) := dk_182 0 29 (dk_at dksX6_toString_0 9 rfl rfl)
theorem dX6_toString_12 : decode cX6_toString 12 = .ok (.aload_n 0, 1) := dk_42 (dk_at dksX6_toString_0 12 rfl rfl)
theorem dX6_toString_13 : decode cX6_toString 13 = .ok (.getfield 7, 3) := dk_180 0 7 (dk_at dksX6_toString_0 13 rfl rfl)
theorem dX6_toString_16 : decode cX6_toString 16 = .ok (.invokevirtual 33, 3) := dk_182 0 33 (dk_at dksX6_toString_0 16 rfl rfl)
theorem dX6_toString_19 : decode cX6_toString 19 = .ok (.aload_n 0, 1) := dk_42 (dk_at dksX6_toString_0 19 rfl rfl)
theorem dX6_toString_20 : decode cX6_toString 20 = .ok (.getfield 13, 3) := dk_180 0 13 (dk_at dksX6_toString_0 20 rfl rfl)
theorem dX6_toString_23 : decode cX6_toString 23 = .ok (.invokevirtual 36, 3) := dk_182 0 36 (dk_at dksX6_toString_1 0 rfl rfl)
theorem dX6_toString_26 : decode cX6_toString 26 = .ok (.aload_n 0, 1) := dk_42 (dk_at dksX6_toString_1 3 rfl rfl)
theorem dX6_toString_27 : decode cX6_toString 27 = .ok (.invokevirtual 20, 3) := dk_182 0 20 (dk_at dksX6_toString_1 4 rfl rfl)
theorem dX6_toString_30 : decode cX6_toString 30 = .ok (.ifCond .eq 28, 3) := dk_153 0 28 (dk_at dksX6_toString_1 7 rfl rfl)
theorem dX6_toString_33 : decode cX6_toString 33 = .ok (.new 24, 3) := dk_187 0 24 (dk_at dksX6_toString_1 10 rfl rfl)
theorem dX6_toString_36 : decode cX6_toString 36 = .ok (.dup, 1) := dk_89 (dk_at dksX6_toString_1 13 rfl rfl)
theorem dX6_toString_37 : decode cX6_toString 37 = .ok (.invokespecial 26, 3) := dk_183 0 26 (dk_at dksX6_toString_1 14 rfl rfl)
theorem dX6_toString_40 : decode cX6_toString 40 = .ok (.ldc 27, 2) := dk_18 27 (dk_at dksX6_toString_1 17 rfl rfl)
theorem dX6_toString_42 : decode cX6_toString 42 = .ok (.invokevirtual 29, 3) := dk_182 0 29 (dk_at dksX6_toString_1 19 rfl rfl)
theorem dX6_toString_45 : decode cX6_toString 45 = .ok (.aload_n 0, 1) := dk_42 (dk_at dksX6_toString_1 22 rfl rfl)
theorem dX6_toString_46 : decode cX6_toString 46 = .ok (.getfield 17, 3) := dk_180 0 17 (dk_at dksX6_toString_2 0 rfl rfl)
theorem dX6_toString_49 : decode cX6_toString 49 = .ok (.invokevirtual 33, 3) := dk_182 0 33 (dk_at dksX6_toString_2 3 rfl rfl)
theorem dX6_toString_52 : decode cX6_toString 52 = .ok (.invokevirtual 39, 3) := dk_182 0 39 (dk_at dksX6_toString_2 6 rfl rfl)
theorem dX6_toString_55 : decode cX6_toString 55 = .ok (.goto 5, 3) := dk_167 0 5 (dk_at dksX6_toString_2 9 rfl rfl)
theorem dX6_toString_58 : decode cX6_toString 58 = .ok (.ldc 27, 2) := dk_18 27 (dk_at dksX6_toString_2 12 rfl rfl)
theorem dX6_toString_60 : decode cX6_toString 60 = .ok (.invokevirtual 29, 3) := dk_182 0 29 (dk_at dksX6_toString_2 14 rfl rfl)
theorem dX6_toString_63 : decode cX6_toString 63 = .ok (.invokevirtual 39, 3) := dk_182 0 39 (dk_at dksX6_toString_2 17 rfl rfl)
theorem dX6_toString_66 : decode cX6_toString 66 = .ok (.areturn, 1) := dk_176 (dk_at dksX6_toString_2 20 rfl rfl)
theorem q149 : (Jvm.Cond.initialized "ScheduleAnalyzer$Operation") ∈ lw_all := lw_g (lw_at lw_m1 35 rfl) rfl
theorem q745 : (Jvm.Cond.selects "ScheduleAnalyzer$Operation" ({ cls := "java/lang/Object", name := "getClass", desc := "()Ljava/lang/Class;" } : Jvm.MethodName) ({ cls := "java/lang/Object", name := "getClass", desc := "()Ljava/lang/Class;" } : Jvm.MethodName)) ∈ lw_all := lw_g (lw_at lw_m3 151 rfl) rfl
theorem q881 : (Jvm.Cond.instanceMethod ({ cls := "ScheduleAnalyzer$Operation", name := "isOf", desc := "(CI)Z" } : Jvm.MethodName)) ∈ lw_all := lw_g (lw_at lw_m4 47 rfl) rfl
theorem q882 : (Jvm.Cond.selects "ScheduleAnalyzer$Operation" ({ cls := "ScheduleAnalyzer$Operation", name := "isOf", desc := "(CI)Z" } : Jvm.MethodName) ({ cls := "ScheduleAnalyzer$Operation", name := "isOf", desc := "(CI)Z" } : Jvm.MethodName)) ∈ lw_all := lw_g (lw_at lw_m4 48 rfl) rfl
theorem q883 : (Jvm.Cond.code ({ cls := "ScheduleAnalyzer$Operation", name := "isOf", desc := "(CI)Z" } : Jvm.MethodName) prog_5_method_5_code (3 : Nat) (Option.some Jvm.ClassFile.FieldType.boolean)) ∈ lw_all := lw_g (lw_at lw_m4 49 rfl) rfl
theorem q1203 : (Jvm.Cond.instanceMethod ({ cls := "ScheduleAnalyzer$Operation", name := "conflictsWith", desc := "(LScheduleAnalyzer$Operation;)Z" } : Jvm.MethodName)) ∈ lw_all := lw_g (lw_at lw_m5 129 rfl) rfl
theorem q1204 : (Jvm.Cond.selects "ScheduleAnalyzer$Operation" ({ cls := "ScheduleAnalyzer$Operation", name := "conflictsWith", desc := "(LScheduleAnalyzer$Operation;)Z" } : Jvm.MethodName) ({ cls := "ScheduleAnalyzer$Operation", name := "conflictsWith", desc := "(LScheduleAnalyzer$Operation;)Z" } : Jvm.MethodName)) ∈ lw_all := lw_g (lw_at lw_m5 130 rfl) rfl
theorem q1205 : (Jvm.Cond.code ({ cls := "ScheduleAnalyzer$Operation", name := "conflictsWith", desc := "(LScheduleAnalyzer$Operation;)Z" } : Jvm.MethodName) prog_5_method_6_code (3 : Nat) (Option.some Jvm.ClassFile.FieldType.boolean)) ∈ lw_all := lw_g (lw_at lw_m5 131 rfl) rfl
theorem q1206 : (Jvm.Cond.methodLink "ScheduleAnalyzer$Operation" (20 : Nat) ({ cls := "ScheduleAnalyzer$Operation", name := "isAccess", desc := "()Z" } : Jvm.MethodName)) ∈ lw_all := lw_g (lw_at lw_m5 132 rfl) rfl
theorem q1207 : (Jvm.Cond.instanceMethod ({ cls := "ScheduleAnalyzer$Operation", name := "isAccess", desc := "()Z" } : Jvm.MethodName)) ∈ lw_all := lw_g (lw_at lw_m5 133 rfl) rfl
theorem q1208 : (Jvm.Cond.selects "ScheduleAnalyzer$Operation" ({ cls := "ScheduleAnalyzer$Operation", name := "isAccess", desc := "()Z" } : Jvm.MethodName) ({ cls := "ScheduleAnalyzer$Operation", name := "isAccess", desc := "()Z" } : Jvm.MethodName)) ∈ lw_all := lw_g (lw_at lw_m5 134 rfl) rfl
theorem q1209 : (Jvm.Cond.code ({ cls := "ScheduleAnalyzer$Operation", name := "isAccess", desc := "()Z" } : Jvm.MethodName) prog_5_method_2_code (1 : Nat) (Option.some Jvm.ClassFile.FieldType.boolean)) ∈ lw_all := lw_g (lw_at lw_m5 135 rfl) rfl
theorem q1242 : (Jvm.Cond.instanceMethod ({ cls := "ScheduleAnalyzer$Operation", name := "isWriteOf", desc := "(C)Z" } : Jvm.MethodName)) ∈ lw_all := lw_g (lw_at lw_m5 168 rfl) rfl
theorem q1243 : (Jvm.Cond.selects "ScheduleAnalyzer$Operation" ({ cls := "ScheduleAnalyzer$Operation", name := "isWriteOf", desc := "(C)Z" } : Jvm.MethodName) ({ cls := "ScheduleAnalyzer$Operation", name := "isWriteOf", desc := "(C)Z" } : Jvm.MethodName)) ∈ lw_all := lw_g (lw_at lw_m5 169 rfl) rfl
theorem q1244 : (Jvm.Cond.code ({ cls := "ScheduleAnalyzer$Operation", name := "isWriteOf", desc := "(C)Z" } : Jvm.MethodName) prog_5_method_3_code (2 : Nat) (Option.some Jvm.ClassFile.FieldType.boolean)) ∈ lw_all := lw_g (lw_at lw_m5 170 rfl) rfl
theorem q1391 : (Jvm.Cond.instanceMethod ({ cls := "ScheduleAnalyzer$Operation", name := "isEndOf", desc := "(I)Z" } : Jvm.MethodName)) ∈ lw_all := lw_g (lw_at lw_m6 77 rfl) rfl
theorem q1392 : (Jvm.Cond.selects "ScheduleAnalyzer$Operation" ({ cls := "ScheduleAnalyzer$Operation", name := "isEndOf", desc := "(I)Z" } : Jvm.MethodName) ({ cls := "ScheduleAnalyzer$Operation", name := "isEndOf", desc := "(I)Z" } : Jvm.MethodName)) ∈ lw_all := lw_g (lw_at lw_m6 78 rfl) rfl
theorem q1393 : (Jvm.Cond.code ({ cls := "ScheduleAnalyzer$Operation", name := "isEndOf", desc := "(I)Z" } : Jvm.MethodName) prog_5_method_4_code (2 : Nat) (Option.some Jvm.ClassFile.FieldType.boolean)) ∈ lw_all := lw_g (lw_at lw_m6 79 rfl) rfl
theorem q1653 : (Jvm.Cond.instantiable "ScheduleAnalyzer$Operation" (3 : Nat)) ∈ lw_all := lw_g (lw_at lw_m7 99 rfl) rfl
theorem q1655 : (Jvm.Cond.instanceMethod ({ cls := "ScheduleAnalyzer$Operation", name := "<init>", desc := "(CIC)V" } : Jvm.MethodName)) ∈ lw_all := lw_g (lw_at lw_m7 101 rfl) rfl
theorem q1656 : (Jvm.Cond.code ({ cls := "ScheduleAnalyzer$Operation", name := "<init>", desc := "(CIC)V" } : Jvm.MethodName) prog_5_method_1_code (4 : Nat) (Option.none : Option Jvm.ClassFile.FieldType)) ∈ lw_all := lw_g (lw_at lw_m7 102 rfl) rfl
theorem q1657 : (Jvm.Cond.methodLink "ScheduleAnalyzer$Operation" (1 : Nat) ({ cls := "java/lang/Object", name := "<init>", desc := "()V" } : Jvm.MethodName)) ∈ lw_all := lw_g (lw_at lw_m7 103 rfl) rfl
theorem q1658 : (Jvm.Cond.fieldLink "ScheduleAnalyzer$Operation" (7 : Nat) "ScheduleAnalyzer$Operation" "kind" "C") ∈ lw_all := lw_g (lw_at lw_m7 104 rfl) rfl
theorem q1663 : (Jvm.Cond.fieldLink "ScheduleAnalyzer$Operation" (13 : Nat) "ScheduleAnalyzer$Operation" "transaction" "I") ∈ lw_all := lw_g (lw_at lw_m7 109 rfl) rfl
theorem q1669 : (Jvm.Cond.fieldLink "ScheduleAnalyzer$Operation" (17 : Nat) "ScheduleAnalyzer$Operation" "item" "C") ∈ lw_all := lw_g (lw_at lw_m7 115 rfl) rfl
theorem q1674 : (Jvm.Cond.laysFinal "ScheduleAnalyzer$Operation" "ScheduleAnalyzer$Operation" "kind" "C") ∈ lw_all := lw_g (lw_at lw_m7 120 rfl) rfl
theorem q1675 : (Jvm.Cond.soleField "ScheduleAnalyzer$Operation" "kind") ∈ lw_all := lw_g (lw_at lw_m7 121 rfl) rfl
theorem q1676 : (Jvm.Cond.laysFinal "ScheduleAnalyzer$Operation" "ScheduleAnalyzer$Operation" "transaction" "I") ∈ lw_all := lw_g (lw_at lw_m7 122 rfl) rfl
theorem q1677 : (Jvm.Cond.soleField "ScheduleAnalyzer$Operation" "transaction") ∈ lw_all := lw_g (lw_at lw_m7 123 rfl) rfl
theorem q1678 : (Jvm.Cond.laysFinal "ScheduleAnalyzer$Operation" "ScheduleAnalyzer$Operation" "item" "C") ∈ lw_all := lw_g (lw_at lw_m7 124 rfl) rfl
theorem q1679 : (Jvm.Cond.soleField "ScheduleAnalyzer$Operation" "item") ∈ lw_all := lw_g (lw_at lw_m7 125 rfl) rfl
theorem q1680 : (Jvm.Cond.superclass "ScheduleAnalyzer$Operation" "java/lang/Object") ∈ lw_all := lw_g (lw_at lw_m7 126 rfl) rfl
theorem q1836 : (Jvm.Cond.selects "ScheduleAnalyzer$Operation" ({ cls := "java/lang/Object", name := "equals", desc := "(Ljava/lang/Object;)Z" } : Jvm.MethodName) ({ cls := "java/lang/Object", name := "equals", desc := "(Ljava/lang/Object;)Z" } : Jvm.MethodName)) ∈ lw_all := lw_g (lw_at lw_m8 42 rfl) rfl
theorem q2239 : (Jvm.Cond.instanceMethod ({ cls := "ScheduleAnalyzer$Operation", name := "isEqual", desc := "(LScheduleAnalyzer$Operation;)Z" } : Jvm.MethodName)) ∈ lw_all := lw_g (lw_at lw_m9 205 rfl) rfl
theorem q2240 : (Jvm.Cond.selects "ScheduleAnalyzer$Operation" ({ cls := "ScheduleAnalyzer$Operation", name := "isEqual", desc := "(LScheduleAnalyzer$Operation;)Z" } : Jvm.MethodName) ({ cls := "ScheduleAnalyzer$Operation", name := "isEqual", desc := "(LScheduleAnalyzer$Operation;)Z" } : Jvm.MethodName)) ∈ lw_all := lw_g (lw_at lw_m9 206 rfl) rfl
theorem q2241 : (Jvm.Cond.code ({ cls := "ScheduleAnalyzer$Operation", name := "isEqual", desc := "(LScheduleAnalyzer$Operation;)Z" } : Jvm.MethodName) prog_5_method_7_code (2 : Nat) (Option.some Jvm.ClassFile.FieldType.boolean)) ∈ lw_all := lw_g (lw_at lw_m9 207 rfl) rfl
theorem q2431 : (Jvm.Cond.selects "ScheduleAnalyzer$Operation" ({ cls := "java/lang/Object", name := "toString", desc := "()Ljava/lang/String;" } : Jvm.MethodName) ({ cls := "ScheduleAnalyzer$Operation", name := "toString", desc := "()Ljava/lang/String;" } : Jvm.MethodName)) ∈ lw_all := lw_g (lw_at lw_m10 157 rfl) rfl
theorem q2432 : (Jvm.Cond.instanceMethod ({ cls := "ScheduleAnalyzer$Operation", name := "toString", desc := "()Ljava/lang/String;" } : Jvm.MethodName)) ∈ lw_all := lw_g (lw_at lw_m10 158 rfl) rfl
theorem q2433 : (Jvm.Cond.code ({ cls := "ScheduleAnalyzer$Operation", name := "toString", desc := "()Ljava/lang/String;" } : Jvm.MethodName) prog_5_method_8_code (1 : Nat) (Option.some (Jvm.ClassFile.FieldType.object "java/lang/String"))) ∈ lw_all := lw_g (lw_at lw_m10 159 rfl) rfl
theorem q2434 : (Jvm.Cond.classLink "ScheduleAnalyzer$Operation" (24 : Nat) "java/lang/StringBuilder") ∈ lw_all := lw_g (lw_at lw_m10 160 rfl) rfl
theorem q2435 : (Jvm.Cond.methodLink "ScheduleAnalyzer$Operation" (26 : Nat) ({ cls := "java/lang/StringBuilder", name := "<init>", desc := "()V" } : Jvm.MethodName)) ∈ lw_all := lw_g (lw_at lw_m10 161 rfl) rfl
theorem q2436 : (Jvm.Cond.stringRef "ScheduleAnalyzer$Operation" (27 : Nat) "") ∈ lw_tbl := lw_at lw_m10 162 rfl
theorem q2437 : (Jvm.Cond.methodLink "ScheduleAnalyzer$Operation" (29 : Nat) ({ cls := "java/lang/StringBuilder", name := "append", desc := "(Ljava/lang/String;)Ljava/lang/StringBuilder;" } : Jvm.MethodName)) ∈ lw_all := lw_g (lw_at lw_m10 163 rfl) rfl
theorem q2438 : (Jvm.Cond.methodLink "ScheduleAnalyzer$Operation" (33 : Nat) ({ cls := "java/lang/StringBuilder", name := "append", desc := "(C)Ljava/lang/StringBuilder;" } : Jvm.MethodName)) ∈ lw_all := lw_g (lw_at lw_m10 164 rfl) rfl
theorem q2451 : (Jvm.Cond.methodLink "ScheduleAnalyzer$Operation" (36 : Nat) ({ cls := "java/lang/StringBuilder", name := "append", desc := "(I)Ljava/lang/StringBuilder;" } : Jvm.MethodName)) ∈ lw_all := lw_g (lw_at lw_m10 177 rfl) rfl
theorem q2452 : (Jvm.Cond.methodLink "ScheduleAnalyzer$Operation" (39 : Nat) ({ cls := "java/lang/StringBuilder", name := "toString", desc := "()Ljava/lang/String;" } : Jvm.MethodName)) ∈ lw_all := lw_g (lw_at lw_m10 178 rfl) rfl
theorem q3249 : (Jvm.Cond.castable "ScheduleAnalyzer$Operation" "java/lang/Object") ∈ lw_tbl := lw_at lw_m14 15 rfl
theorem in_X6 : ∀ w ∈ wsX60, w ∈ lw_all := lw_in wsX60 [1674, 1676, 1678] (by decide +kernel) (by decide +kernel)

/-! ScheduleAnalyzer$Graph -/
set_option maxRecDepth 100000
def RX7 : String := "ScheduleAnalyzer$Graph"
def TX7 : u_T := fun k => match k with
  | 0 => ("ScheduleAnalyzer$Graph", "nodes", "Ljava/util/List;", true)
  | _ => ("ScheduleAnalyzer$Graph", "before", "[I", true)
def tyX7 : Nat → FieldType := fun k => match k with
  | 0 => .object "java/util/List"
  | _ => .array .int
abbrev wsX70 : List Cond := u_ws RX7 TX7 2
theorem nmX7 : ∀ a, a < 2 → ∀ b, b < 2 → a ≠ b → (TX7 a).2.1 ≠ (TX7 b).2.1 := by decide +kernel
theorem tyX7_ok : ∀ k, k < 2 → parseFieldDescriptor (TX7 k).2.2.1 = some (tyX7 k) := by decide +kernel
abbrev cX7_init : ByteArray := prog_3_method_1_code
def yX7_init : MethodName := ⟨RX7, "<init>", "(Ljava/util/List;)V"⟩
def dkwX7_init_6 : List UInt8 := [185, 0, 52, 3, 0, 167, 255, 142, 177]
abbrev dktX7_init_6 : List UInt8 := dkwX7_init_6 ++ []
def dkwX7_init_5 : List UInt8 := [185, 0, 44, 2, 0, 192, 0, 38, 45, 185, 0, 48, 2, 0, 153, 0, 15, 42, 180, 0, 12, 21, 4, 45]
abbrev dktX7_init_5 : List UInt8 := dkwX7_init_5 ++ dktX7_init_6
def dkwX7_init_4 : List UInt8 := [21, 4, 42, 180, 0, 12, 185, 0, 40, 1, 0, 159, 0, 26, 42, 180, 0, 12, 21, 4]
abbrev dktX7_init_4 : List UInt8 := dkwX7_init_4 ++ dktX7_init_5
def dkwX7_init_3 : List UInt8 := [185, 0, 44, 2, 0, 192, 0, 38, 45, 185, 0, 48, 2, 0, 156, 0, 9, 132, 4, 1, 167, 255, 216]
abbrev dktX7_init_3 : List UInt8 := dkwX7_init_3 ++ dktX7_init_4
def dkwX7_init_2 : List UInt8 := [78, 3, 54, 4, 21, 4, 42, 180, 0, 12, 185, 0, 40, 1, 0, 162, 0, 32, 42, 180, 0, 12, 21, 4]
abbrev dktX7_init_2 : List UInt8 := dkwX7_init_2 ++ dktX7_init_3
def dkwX7_init_1 : List UInt8 := [185, 0, 22, 1, 0, 77, 44, 185, 0, 28, 1, 0, 153, 0, 111, 44, 185, 0, 34, 1, 0, 192, 0, 38]
abbrev dktX7_init_1 : List UInt8 := dkwX7_init_1 ++ dktX7_init_2
def dkwX7_init_0 : List UInt8 := [42, 183, 0, 3, 42, 187, 0, 9, 89, 183, 0, 11, 181, 0, 12, 42, 8, 188, 10, 181, 0, 18, 43]
abbrev dktX7_init_0 : List UInt8 := dkwX7_init_0 ++ dktX7_init_1
theorem dksX7_init_0 : cX7_init.data.toList.drop 0 = dktX7_init_0 := by decide +kernel
theorem dksX7_init_1 : cX7_init.data.toList.drop 23 = dktX7_init_1 := dk_seg dksX7_init_0 23 rfl rfl
theorem dksX7_init_2 : cX7_init.data.toList.drop 47 = dktX7_init_2 := dk_seg dksX7_init_1 24 rfl rfl
theorem dksX7_init_3 : cX7_init.data.toList.drop 71 = dktX7_init_3 := dk_seg dksX7_init_2 24 rfl rfl
theorem dksX7_init_4 : cX7_init.data.toList.drop 94 = dktX7_init_4 := dk_seg dksX7_init_3 23 rfl rfl
theorem dksX7_init_5 : cX7_init.data.toList.drop 114 = dktX7_init_5 := dk_seg dksX7_init_4 20 rfl rfl
theorem dksX7_init_6 : cX7_init.data.toList.drop 138 = dktX7_init_6 := dk_seg dksX7_init_5 24 rfl rfl
theorem dX7_init_0 : decode cX7_init 0 = .ok (.aload_n 0, 1) := dk_42 (dk_at dksX7_init_0 0 rfl rfl)
theorem dX7_init_1 : decode cX7_init 1 = .ok (.invokespecial 3, 3) := dk_183 0 3 (dk_at dksX7_init_0 1 rfl rfl)
theorem dX7_init_4 : decode cX7_init 4 = .ok (.aload_n 0, 1) := dk_42 (dk_at dksX7_init_0 4 rfl rfl)
theorem dX7_init_5 : decode cX7_init 5 = .ok (.new 9, 3) := dk_187 0 9 (dk_at dksX7_init_0 5 rfl rfl)
theorem dX7_init_8 : decode cX7_init 8 = .ok (.dup, 1) := dk_89 (dk_at dksX7_init_0 8 rfl rfl)
theorem dX7_init_9 : decode cX7_init 9 = .ok (.invokespecial 11, 3) := dk_183 0 11 (dk_at dksX7_init_0 9 rfl rfl)
theorem dX7_init_12 : decode cX7_init 12 = .ok (.putfield 12, 3) := dk_181 0 12 (dk_at dksX7_init_0 12 rfl rfl)
theorem dX7_init_15 : decode cX7_init 15 = .ok (.aload_n 0, 1) := dk_42 (dk_at dksX7_init_0 15 rfl rfl)
theorem dX7_init_16 : decode cX7_init 16 = .ok (.iconst 5, 1) := dk_8 (dk_at dksX7_init_0 16 rfl rfl)
theorem dX7_init_17 : decode cX7_init 17 = .ok (.newarray .int, 2) := dk_188_10 (dk_at dksX7_init_0 17 rfl rfl)
theorem dX7_init_19 : decode cX7_init 19 = .ok (.putfield 18, 3) := dk_181 0 18 (dk_at dksX7_init_0 19 rfl rfl)
theorem dX7_init_22 : decode cX7_init 22 = .ok (.aload_n 1, 1) := dk_43 (dk_at dksX7_init_0 22 rfl rfl)
theorem dX7_init_23 : decode cX7_init 23 = .ok (.invokeinterface 22 1, 5) := by decide +kernel
theorem dX7_init_28 : decode cX7_init 28 = .ok (.astore_n 2, 1) := dk_77 (dk_at dksX7_init_1 5 rfl rfl)
theorem dX7_init_29 : decode cX7_init 29 = .ok (.aload_n 2, 1) := dk_44 (dk_at dksX7_init_1 6 rfl rfl)
theorem dX7_init_30 : decode cX7_init 30 = .ok (.invokeinterface 28 1, 5) := by decide +kernel
theorem dX7_init_35 : decode cX7_init 35 = .ok (.ifCond .eq 111, 3) := dk_153 0 111 (dk_at dksX7_init_1 12 rfl rfl)
theorem dX7_init_38 : decode cX7_init 38 = .ok (.aload_n 2, 1) := dk_44 (dk_at dksX7_init_1 15 rfl rfl)
theorem dX7_init_39 : decode cX7_init 39 = .ok (.invokeinterface 34 1, 5) := by decide +kernel
theorem dX7_init_44 : decode cX7_init 44 = .ok (.checkcast 38, 3) := dk_192 0 38 (dk_at dksX7_init_1 21 rfl rfl)
theorem dX7_init_47 : decode cX7_init 47 = .ok (.astore_n 3, 1) := dk_78 (dk_at dksX7_init_2 0 rfl rfl)
theorem dX7_init_48 : decode cX7_init 48 = .ok (.iconst 0, 1) := dk_3 (dk_at dksX7_init_2 1 rfl rfl)
theorem dX7_init_49 : decode cX7_init 49 = .ok (.istore 4, 2) := dk_54 4 (dk_at dksX7_init_2 2 rfl rfl)
theorem dX7_init_51 : decode cX7_init 51 = .ok (.iload 4, 2) := dk_21 4 (dk_at dksX7_init_2 4 rfl rfl)
theorem dX7_init_53 : decode cX7_init 53 = .ok (.aload_n 0, 1) := dk_42 (dk_at dksX7_init_2 6 rfl rfl)
theorem dX7_init_54 : decode cX7_init 54 = .ok (.getfield 12, 3) := dk_180 0 12 (dk_at dksX7_init_2 7 rfl rfl)
theorem dX7_init_57 : decode cX7_init 57 = .ok (.invokeinterface 40 1, 5) := by decide +kernel
theorem dX7_init_62 : decode cX7_init 62 = .ok (.if_icmp .ge 32, 3) := dk_162 0 32 (dk_at dksX7_init_2 15 rfl rfl)
theorem dX7_init_65 : decode cX7_init 65 = .ok (.aload_n 0, 1) := dk_42 (dk_at dksX7_init_2 18 rfl rfl)
theorem dX7_init_66 : decode cX7_init 66 = .ok (.getfield 12, 3) := dk_180 0 12 (dk_at dksX7_init_2 19 rfl rfl)
theorem dX7_init_69 : decode cX7_init 69 = .ok (.iload 4, 2) := dk_21 4 (dk_at dksX7_init_2 22 rfl rfl)
theorem dX7_init_71 : decode cX7_init 71 = .ok (.invokeinterface 44 2, 5) := by decide +kernel
theorem dX7_init_76 : decode cX7_init 76 = .ok (.checkcast 38, 3) := dk_192 0 38 (dk_at dksX7_init_3 5 rfl rfl)
theorem dX7_init_79 : decode cX7_init 79 = .ok (.aload_n 3, 1) := dk_45 (dk_at dksX7_init_3 8 rfl rfl)
theorem dX7_init_80 : decode cX7_init 80 = .ok (.invokeinterface 48 2, 5) := by decide +kernel
theorem dX7_init_85 : decode cX7_init 85 = .ok (.ifCond .ge 9, 3) := dk_156 0 9 (dk_at dksX7_init_3 14 rfl rfl)
theorem dX7_init_88 : decode cX7_init 88 = .ok (.iinc 4 1, 3) := dk_132 4 1 (dk_at dksX7_init_3 17 rfl rfl)
theorem dX7_init_91 : decode cX7_init 91 = .ok (.goto (-40), 3) := dk_167 255 216 (dk_at dksX7_init_3 20 rfl rfl)
theorem dX7_init_94 : decode cX7_init 94 = .ok (.iload 4, 2) := dk_21 4 (dk_at dksX7_init_4 0 rfl rfl)
theorem dX7_init_96 : decode cX7_init 96 = .ok (.aload_n 0, 1) := dk_42 (dk_at dksX7_init_4 2 rfl rfl)
theorem dX7_init_97 : decode cX7_init 97 = .ok (.getfield 12, 3) := dk_180 0 12 (dk_at dksX7_init_4 3 rfl rfl)
theorem dX7_init_100 : decode cX7_init 100 = .ok (.invokeinterface 40 1, 5) := by decide +kernel
theorem dX7_init_105 : decode cX7_init 105 = .ok (.if_icmp .eq 26, 3) := dk_159 0 26 (dk_at dksX7_init_4 11 rfl rfl)
theorem dX7_init_108 : decode cX7_init 108 = .ok (.aload_n 0, 1) := dk_42 (dk_at dksX7_init_4 14 rfl rfl)
theorem dX7_init_109 : decode cX7_init 109 = .ok (.getfield 12, 3) := dk_180 0 12 (dk_at dksX7_init_4 15 rfl rfl)
theorem dX7_init_112 : decode cX7_init 112 = .ok (.iload 4, 2) := dk_21 4 (dk_at dksX7_init_4 18 rfl rfl)
theorem dX7_init_114 : decode cX7_init 114 = .ok (.invokeinterface 44 2, 5) := by decide +kernel
theorem dX7_init_119 : decode cX7_init 119 = .ok (.checkcast 38, 3) := dk_192 0 38 (dk_at dksX7_init_5 5 rfl rfl)
theorem dX7_init_122 : decode cX7_init 122 = .ok (.aload_n 3, 1) := dk_45 (dk_at dksX7_init_5 8 rfl rfl)
theorem dX7_init_123 : decode cX7_init 123 = .ok (.invokeinterface 48 2, 5) := by decide +kernel
theorem dX7_init_128 : decode cX7_init 128 = .ok (.ifCond .eq 15, 3) := dk_153 0 15 (dk_at dksX7_init_5 14 rfl rfl)
theorem dX7_init_131 : decode cX7_init 131 = .ok (.aload_n 0, 1) := dk_42 (dk_at dksX7_init_5 17 rfl rfl)
theorem dX7_init_132 : decode cX7_init 132 = .ok (.getfield 12, 3) := dk_180 0 12 (dk_at dksX7_init_5 18 rfl rfl)
theorem dX7_init_135 : decode cX7_init 135 = .ok (.iload 4, 2) := dk_21 4 (dk_at dksX7_init_5 21 rfl rfl)
theorem dX7_init_137 : decode cX7_init 137 = .ok (.aload_n 3, 1) := dk_45 (dk_at dksX7_init_5 23 rfl rfl)
theorem dX7_init_138 : decode cX7_init 138 = .ok (.invokeinterface 52 3, 5) := by decide +kernel
theorem dX7_init_143 : decode cX7_init 143 = .ok (.goto (-114), 3) := dk_167 255 142 (dk_at dksX7_init_6 5 rfl rfl)
theorem dX7_init_146 : decode cX7_init 146 = .ok (.return_, 1) := dk_177 (dk_at dksX7_init_6 8 rfl rfl)
abbrev cX7_connect : ByteArray := prog_3_method_5_code
def yX7_connect : MethodName := ⟨RX7, "connect", "(Ljava/lang/Comparable;Ljava/lang/Comparable;)V"⟩
def dkwX7_connect_0 : List UInt8 := [42, 180, 0, 18, 42, 44, 182, 0, 57, 92, 46, 4, 42, 43, 182, 0, 57, 120, 128, 79, 177]
abbrev dktX7_connect_0 : List UInt8 := dkwX7_connect_0 ++ []
theorem dksX7_connect_0 : cX7_connect.data.toList.drop 0 = dktX7_connect_0 := by decide +kernel
theorem dX7_connect_0 : decode cX7_connect 0 = .ok (.aload_n 0, 1) := dk_42 (dk_at dksX7_connect_0 0 rfl rfl)
theorem dX7_connect_1 : decode cX7_connect 1 = .ok (.getfield 18, 3) := dk_180 0 18 (dk_at dksX7_connect_0 1 rfl rfl)
theorem dX7_connect_4 : decode cX7_connect 4 = .ok (.aload_n 0, 1) := dk_42 (dk_at dksX7_connect_0 4 rfl rfl)
theorem dX7_connect_5 : decode cX7_connect 5 = .ok (.aload_n 2, 1) := dk_44 (dk_at dksX7_connect_0 5 rfl rfl)
theorem dX7_connect_6 : decode cX7_connect 6 = .ok (.invokevirtual 57, 3) := dk_182 0 57 (dk_at dksX7_connect_0 6 rfl rfl)
theorem dX7_connect_9 : decode cX7_connect 9 = .ok (.dup2, 1) := dk_92 (dk_at dksX7_connect_0 9 rfl rfl)
theorem dX7_connect_10 : decode cX7_connect 10 = .ok (.iaload, 1) := dk_46 (dk_at dksX7_connect_0 10 rfl rfl)
theorem dX7_connect_11 : decode cX7_connect 11 = .ok (.iconst 1, 1) := dk_4 (dk_at dksX7_connect_0 11 rfl rfl)
theorem dX7_connect_12 : decode cX7_connect 12 = .ok (.aload_n 0, 1) := dk_42 (dk_at dksX7_connect_0 12 rfl rfl)
theorem dX7_connect_13 : decode cX7_connect 13 = .ok (.aload_n 1, 1) := dk_43 (dk_at dksX7_connect_0 13 rfl rfl)
theorem dX7_connect_14 : decode cX7_connect 14 = .ok (.invokevirtual 57, 3) := dk_182 0 57 (dk_at dksX7_connect_0 14 rfl rfl)
theorem dX7_connect_17 : decode cX7_connect 17 = .ok (.ishl, 1) := dk_120 (dk_at dksX7_connect_0 17 rfl rfl)
theorem dX7_connect_18 : decode cX7_connect 18 = .ok (.ior, 1) := dk_128 (dk_at dksX7_connect_0 18 rfl rfl)
theorem dX7_connect_19 : decode cX7_connect 19 = .ok (.iastore, 1) := dk_79 (dk_at dksX7_connect_0 19 rfl rfl)
theorem dX7_connect_20 : decode cX7_connect 20 = .ok (.return_, 1) := dk_177 (dk_at dksX7_connect_0 20 rfl rfl)
abbrev cX7_indexOf : ByteArray := prog_3_method_4_code
def yX7_indexOf : MethodName := ⟨RX7, "indexOf", "(Ljava/lang/Comparable;)I"⟩
def dkwX7_indexOf_2 : List UInt8 := [167, 0, 4, 2, 172]
abbrev dktX7_indexOf_2 : List UInt8 := dkwX7_indexOf_2 ++ []
def dkwX7_indexOf_1 : List UInt8 := [185, 0, 48, 2, 0, 153, 0, 9, 132, 2, 1, 167, 255, 223, 28, 42, 182, 0, 56, 162, 0, 7, 28]
abbrev dktX7_indexOf_1 : List UInt8 := dkwX7_indexOf_1 ++ dktX7_indexOf_2
def dkwX7_indexOf_0 : List UInt8 := [3, 61, 28, 42, 182, 0, 56, 162, 0, 31, 42, 180, 0, 12, 28, 185, 0, 44, 2, 0, 192, 0, 38, 43]
abbrev dktX7_indexOf_0 : List UInt8 := dkwX7_indexOf_0 ++ dktX7_indexOf_1
theorem dksX7_indexOf_0 : cX7_indexOf.data.toList.drop 0 = dktX7_indexOf_0 := by decide +kernel
theorem dksX7_indexOf_1 : cX7_indexOf.data.toList.drop 24 = dktX7_indexOf_1 := dk_seg dksX7_indexOf_0 24 rfl rfl
theorem dksX7_indexOf_2 : cX7_indexOf.data.toList.drop 47 = dktX7_indexOf_2 := dk_seg dksX7_indexOf_1 23 rfl rfl
theorem dX7_indexOf_0 : decode cX7_indexOf 0 = .ok (.iconst 0, 1) := dk_3 (dk_at dksX7_indexOf_0 0 rfl rfl)
theorem dX7_indexOf_1 : decode cX7_indexOf 1 = .ok (.istore_n 2, 1) := dk_61 (dk_at dksX7_indexOf_0 1 rfl rfl)
theorem dX7_indexOf_2 : decode cX7_indexOf 2 = .ok (.iload_n 2, 1) := dk_28 (dk_at dksX7_indexOf_0 2 rfl rfl)
theorem dX7_indexOf_3 : decode cX7_indexOf 3 = .ok (.aload_n 0, 1) := dk_42 (dk_at dksX7_indexOf_0 3 rfl rfl)
theorem dX7_indexOf_4 : decode cX7_indexOf 4 = .ok (.invokevirtual 56, 3) := dk_182 0 56 (dk_at dksX7_indexOf_0 4 rfl rfl)
theorem dX7_indexOf_7 : decode cX7_indexOf 7 = .ok (.if_icmp .ge 31, 3) := dk_162 0 31 (dk_at dksX7_indexOf_0 7 rfl rfl)
theorem dX7_indexOf_10 : decode cX7_indexOf 10 = .ok (.aload_n 0, 1) := dk_42 (dk_at dksX7_indexOf_0 10 rfl rfl)
theorem dX7_indexOf_11 : decode cX7_indexOf 11 = .ok (.getfield 12, 3) := dk_180 0 12 (dk_at dksX7_indexOf_0 11 rfl rfl)
theorem dX7_indexOf_14 : decode cX7_indexOf 14 = .ok (.iload_n 2, 1) := dk_28 (dk_at dksX7_indexOf_0 14 rfl rfl)
theorem dX7_indexOf_15 : decode cX7_indexOf 15 = .ok (.invokeinterface 44 2, 5) := by decide +kernel
theorem dX7_indexOf_20 : decode cX7_indexOf 20 = .ok (.checkcast 38, 3) := dk_192 0 38 (dk_at dksX7_indexOf_0 20 rfl rfl)
theorem dX7_indexOf_23 : decode cX7_indexOf 23 = .ok (.aload_n 1, 1) := dk_43 (dk_at dksX7_indexOf_0 23 rfl rfl)
theorem dX7_indexOf_24 : decode cX7_indexOf 24 = .ok (.invokeinterface 48 2, 5) := by decide +kernel
theorem dX7_indexOf_29 : decode cX7_indexOf 29 = .ok (.ifCond .eq 9, 3) := dk_153 0 9 (dk_at dksX7_indexOf_1 5 rfl rfl)
theorem dX7_indexOf_32 : decode cX7_indexOf 32 = .ok (.iinc 2 1, 3) := dk_132 2 1 (dk_at dksX7_indexOf_1 8 rfl rfl)
theorem dX7_indexOf_35 : decode cX7_indexOf 35 = .ok (.goto (-33), 3) := dk_167 255 223 (dk_at dksX7_indexOf_1 11 rfl rfl)
theorem dX7_indexOf_38 : decode cX7_indexOf 38 = .ok (.iload_n 2, 1) := dk_28 (dk_at dksX7_indexOf_1 14 rfl rfl)
theorem dX7_indexOf_39 : decode cX7_indexOf 39 = .ok (.aload_n 0, 1) := dk_42 (dk_at dksX7_indexOf_1 15 rfl rfl)
theorem dX7_indexOf_40 : decode cX7_indexOf 40 = .ok (.invokevirtual 56, 3) := dk_182 0 56 (dk_at dksX7_indexOf_1 16 rfl rfl)
theorem dX7_indexOf_43 : decode cX7_indexOf 43 = .ok (.if_icmp .ge 7, 3) := dk_162 0 7 (dk_at dksX7_indexOf_1 19 rfl rfl)
theorem dX7_indexOf_46 : decode cX7_indexOf 46 = .ok (.iload_n 2, 1) := dk_28 (dk_at dksX7_indexOf_1 22 rfl rfl)
theorem dX7_indexOf_47 : decode cX7_indexOf 47 = .ok (.goto 4, 3) := dk_167 0 4 (dk_at dksX7_indexOf_2 0 rfl rfl)
theorem dX7_indexOf_50 : decode cX7_indexOf 50 = .ok (.iconst (-1), 1) := dk_2 (dk_at dksX7_indexOf_2 3 rfl rfl)
theorem dX7_indexOf_51 : decode cX7_indexOf 51 = .ok (.ireturn, 1) := dk_172 (dk_at dksX7_indexOf_2 4 rfl rfl)
abbrev cX7_size : ByteArray := prog_3_method_2_code
def yX7_size : MethodName := ⟨RX7, "size", "()I"⟩
def dkwX7_size_0 : List UInt8 := [42, 180, 0, 12, 185, 0, 40, 1, 0, 172]
abbrev dktX7_size_0 : List UInt8 := dkwX7_size_0 ++ []
theorem dksX7_size_0 : cX7_size.data.toList.drop 0 = dktX7_size_0 := by decide +kernel
theorem dX7_size_0 : decode cX7_size 0 = .ok (.aload_n 0, 1) := dk_42 (dk_at dksX7_size_0 0 rfl rfl)
theorem dX7_size_1 : decode cX7_size 1 = .ok (.getfield 12, 3) := dk_180 0 12 (dk_at dksX7_size_0 1 rfl rfl)
theorem dX7_size_4 : decode cX7_size 4 = .ok (.invokeinterface 40 1, 5) := by decide +kernel
theorem dX7_size_9 : decode cX7_size 9 = .ok (.ireturn, 1) := dk_172 (dk_at dksX7_size_0 9 rfl rfl)
abbrev cX7_isAcyclic : ByteArray := prog_3_method_7_code
def yX7_isAcyclic : MethodName := ⟨RX7, "isAcyclic", "()Z"⟩
def dkwX7_isAcyclic_2 : List UInt8 := [4, 61, 132, 3, 1, 167, 255, 218, 167, 255, 207, 27, 154, 0, 7, 4, 167, 0, 4, 3, 172]
abbrev dktX7_isAcyclic_2 : List UInt8 := dkwX7_isAcyclic_2 ++ []
def dkwX7_isAcyclic_1 : List UInt8 := [27, 184, 0, 61, 153, 0, 22, 42, 180, 0, 18, 29, 46, 27, 126, 154, 0, 11, 27, 4, 29, 120, 130, 60]
abbrev dktX7_isAcyclic_1 : List UInt8 := dkwX7_isAcyclic_1 ++ dktX7_isAcyclic_2
def dkwX7_isAcyclic_0 : List UInt8 := [42, 182, 0, 65, 60, 4, 61, 28, 153, 0, 51, 3, 61, 3, 62, 29, 42, 182, 0, 56, 162, 0, 36, 29]
abbrev dktX7_isAcyclic_0 : List UInt8 := dkwX7_isAcyclic_0 ++ dktX7_isAcyclic_1
theorem dksX7_isAcyclic_0 : cX7_isAcyclic.data.toList.drop 0 = dktX7_isAcyclic_0 := by decide +kernel
theorem dksX7_isAcyclic_1 : cX7_isAcyclic.data.toList.drop 24 = dktX7_isAcyclic_1 := dk_seg dksX7_isAcyclic_0 24 rfl rfl
theorem dksX7_isAcyclic_2 : cX7_isAcyclic.data.toList.drop 48 = dktX7_isAcyclic_2 := dk_seg dksX7_isAcyclic_1 24 rfl rfl
theorem dX7_isAcyclic_0 : decode cX7_isAcyclic 0 = .ok (.aload_n 0, 1) := dk_42 (dk_at dksX7_isAcyclic_0 0 rfl rfl)
theorem dX7_isAcyclic_1 : decode cX7_isAcyclic 1 = .ok (.invokevirtual 65, 3) := dk_182 0 65 (dk_at dksX7_isAcyclic_0 1 rfl rfl)
theorem dX7_isAcyclic_4 : decode cX7_isAcyclic 4 = .ok (.istore_n 1, 1) := dk_60 (dk_at dksX7_isAcyclic_0 4 rfl rfl)
theorem dX7_isAcyclic_5 : decode cX7_isAcyclic 5 = .ok (.iconst 1, 1) := dk_4 (dk_at dksX7_isAcyclic_0 5 rfl rfl)
theorem dX7_isAcyclic_6 : decode cX7_isAcyclic 6 = .ok (.istore_n 2, 1) := dk_61 (dk_at dksX7_isAcyclic_0 6 rfl rfl)
theorem dX7_isAcyclic_7 : decode cX7_isAcyclic 7 = .ok (.iload_n 2, 1) := dk_28 (dk_at dksX7_isAcyclic_0 7 rfl rfl)
theorem dX7_isAcyclic_8 : decode cX7_isAcyclic 8 = .ok (.ifCond .eq 51, 3) := dk_153 0 51 (dk_at dksX7_isAcyclic_0 8 rfl rfl)
theorem dX7_isAcyclic_11 : decode cX7_isAcyclic 11 = .ok (.iconst 0, 1) := dk_3 (dk_at dksX7_isAcyclic_0 11 rfl rfl)
theorem dX7_isAcyclic_12 : decode cX7_isAcyclic 12 = .ok (.istore_n 2, 1) := dk_61 (dk_at dksX7_isAcyclic_0 12 rfl rfl)
theorem dX7_isAcyclic_13 : decode cX7_isAcyclic 13 = .ok (.iconst 0, 1) := dk_3 (dk_at dksX7_isAcyclic_0 13 rfl rfl)
theorem dX7_isAcyclic_14 : decode cX7_isAcyclic 14 = .ok (.istore_n 3, 1) := dk_62 (dk_at dksX7_isAcyclic_0 14 rfl rfl)
theorem dX7_isAcyclic_15 : decode cX7_isAcyclic 15 = .ok (.iload_n 3, 1) := dk_29 (dk_at dksX7_isAcyclic_0 15 rfl rfl)
theorem dX7_isAcyclic_16 : decode cX7_isAcyclic 16 = .ok (.aload_n 0, 1) := dk_42 (dk_at dksX7_isAcyclic_0 16 rfl rfl)
theorem dX7_isAcyclic_17 : decode cX7_isAcyclic 17 = .ok (.invokevirtual 56, 3) := dk_182 0 56 (dk_at dksX7_isAcyclic_0 17 rfl rfl)
theorem dX7_isAcyclic_20 : decode cX7_isAcyclic 20 = .ok (.if_icmp .ge 36, 3) := dk_162 0 36 (dk_at dksX7_isAcyclic_0 20 rfl rfl)
theorem dX7_isAcyclic_23 : decode cX7_isAcyclic 23 = .ok (.iload_n 3, 1) := dk_29 (dk_at dksX7_isAcyclic_0 23 rfl rfl)
theorem dX7_isAcyclic_24 : decode cX7_isAcyclic 24 = .ok (.iload_n 1, 1) := dk_27 (dk_at dksX7_isAcyclic_1 0 rfl rfl)
theorem dX7_isAcyclic_25 : decode cX7_isAcyclic 25 = .ok (.invokestatic 61, 3) := dk_184 0 61 (dk_at dksX7_isAcyclic_1 1 rfl rfl)
theorem dX7_isAcyclic_28 : decode cX7_isAcyclic 28 = .ok (.ifCond .eq 22, 3) := dk_153 0 22 (dk_at dksX7_isAcyclic_1 4 rfl rfl)
theorem dX7_isAcyclic_31 : decode cX7_isAcyclic 31 = .ok (.aload_n 0, 1) := dk_42 (dk_at dksX7_isAcyclic_1 7 rfl rfl)
theorem dX7_isAcyclic_32 : decode cX7_isAcyclic 32 = .ok (.getfield 18, 3) := dk_180 0 18 (dk_at dksX7_isAcyclic_1 8 rfl rfl)
theorem dX7_isAcyclic_35 : decode cX7_isAcyclic 35 = .ok (.iload_n 3, 1) := dk_29 (dk_at dksX7_isAcyclic_1 11 rfl rfl)
theorem dX7_isAcyclic_36 : decode cX7_isAcyclic 36 = .ok (.iaload, 1) := dk_46 (dk_at dksX7_isAcyclic_1 12 rfl rfl)
theorem dX7_isAcyclic_37 : decode cX7_isAcyclic 37 = .ok (.iload_n 1, 1) := dk_27 (dk_at dksX7_isAcyclic_1 13 rfl rfl)
theorem dX7_isAcyclic_38 : decode cX7_isAcyclic 38 = .ok (.iand, 1) := dk_126 (dk_at dksX7_isAcyclic_1 14 rfl rfl)
theorem dX7_isAcyclic_39 : decode cX7_isAcyclic 39 = .ok (.ifCond .ne 11, 3) := dk_154 0 11 (dk_at dksX7_isAcyclic_1 15 rfl rfl)
theorem dX7_isAcyclic_42 : decode cX7_isAcyclic 42 = .ok (.iload_n 1, 1) := dk_27 (dk_at dksX7_isAcyclic_1 18 rfl rfl)
theorem dX7_isAcyclic_43 : decode cX7_isAcyclic 43 = .ok (.iconst 1, 1) := dk_4 (dk_at dksX7_isAcyclic_1 19 rfl rfl)
theorem dX7_isAcyclic_44 : decode cX7_isAcyclic 44 = .ok (.iload_n 3, 1) := dk_29 (dk_at dksX7_isAcyclic_1 20 rfl rfl)
theorem dX7_isAcyclic_45 : decode cX7_isAcyclic 45 = .ok (.ishl, 1) := dk_120 (dk_at dksX7_isAcyclic_1 21 rfl rfl)
theorem dX7_isAcyclic_46 : decode cX7_isAcyclic 46 = .ok (.ixor, 1) := dk_130 (dk_at dksX7_isAcyclic_1 22 rfl rfl)
theorem dX7_isAcyclic_47 : decode cX7_isAcyclic 47 = .ok (.istore_n 1, 1) := dk_60 (dk_at dksX7_isAcyclic_1 23 rfl rfl)
theorem dX7_isAcyclic_48 : decode cX7_isAcyclic 48 = .ok (.iconst 1, 1) := dk_4 (dk_at dksX7_isAcyclic_2 0 rfl rfl)
theorem dX7_isAcyclic_49 : decode cX7_isAcyclic 49 = .ok (.istore_n 2, 1) := dk_61 (dk_at dksX7_isAcyclic_2 1 rfl rfl)
theorem dX7_isAcyclic_50 : decode cX7_isAcyclic 50 = .ok (.iinc 3 1, 3) := dk_132 3 1 (dk_at dksX7_isAcyclic_2 2 rfl rfl)
theorem dX7_isAcyclic_53 : decode cX7_isAcyclic 53 = .ok (.goto (-38), 3) := dk_167 255 218 (dk_at dksX7_isAcyclic_2 5 rfl rfl)
theorem dX7_isAcyclic_56 : decode cX7_isAcyclic 56 = .ok (.goto (-49), 3) := dk_167 255 207 (dk_at dksX7_isAcyclic_2 8 rfl rfl)
theorem dX7_isAcyclic_59 : decode cX7_isAcyclic 59 = .ok (.iload_n 1, 1) := dk_27 (dk_at dksX7_isAcyclic_2 11 rfl rfl)
theorem dX7_isAcyclic_60 : decode cX7_isAcyclic 60 = .ok (.ifCond .ne 7, 3) := dk_154 0 7 (dk_at dksX7_isAcyclic_2 12 rfl rfl)
theorem dX7_isAcyclic_63 : decode cX7_isAcyclic 63 = .ok (.iconst 1, 1) := dk_4 (dk_at dksX7_isAcyclic_2 15 rfl rfl)
theorem dX7_isAcyclic_64 : decode cX7_isAcyclic 64 = .ok (.goto 4, 3) := dk_167 0 4 (dk_at dksX7_isAcyclic_2 16 rfl rfl)
theorem dX7_isAcyclic_67 : decode cX7_isAcyclic 67 = .ok (.iconst 0, 1) := dk_3 (dk_at dksX7_isAcyclic_2 19 rfl rfl)
theorem dX7_isAcyclic_68 : decode cX7_isAcyclic 68 = .ok (.ireturn, 1) := dk_172 (dk_at dksX7_isAcyclic_2 20 rfl rfl)
abbrev cX7_all : ByteArray := prog_3_method_3_code
def yX7_all : MethodName := ⟨RX7, "all", "()I"⟩
def dkwX7_all_0 : List UInt8 := [4, 42, 182, 0, 56, 120, 4, 100, 172]
abbrev dktX7_all_0 : List UInt8 := dkwX7_all_0 ++ []
theorem dksX7_all_0 : cX7_all.data.toList.drop 0 = dktX7_all_0 := by decide +kernel
theorem dX7_all_0 : decode cX7_all 0 = .ok (.iconst 1, 1) := dk_4 (dk_at dksX7_all_0 0 rfl rfl)
theorem dX7_all_1 : decode cX7_all 1 = .ok (.aload_n 0, 1) := dk_42 (dk_at dksX7_all_0 1 rfl rfl)
theorem dX7_all_2 : decode cX7_all 2 = .ok (.invokevirtual 56, 3) := dk_182 0 56 (dk_at dksX7_all_0 2 rfl rfl)
theorem dX7_all_5 : decode cX7_all 5 = .ok (.ishl, 1) := dk_120 (dk_at dksX7_all_0 5 rfl rfl)
theorem dX7_all_6 : decode cX7_all 6 = .ok (.iconst 1, 1) := dk_4 (dk_at dksX7_all_0 6 rfl rfl)
theorem dX7_all_7 : decode cX7_all 7 = .ok (.isub, 1) := dk_100 (dk_at dksX7_all_0 7 rfl rfl)
theorem dX7_all_8 : decode cX7_all 8 = .ok (.ireturn, 1) := dk_172 (dk_at dksX7_all_0 8 rfl rfl)
abbrev cX7_isAcyclicByWalks : ByteArray := prog_3_method_9_code
def yX7_isAcyclicByWalks : MethodName := ⟨RX7, "isAcyclicByWalks", "()Z"⟩
def dkwX7_isAcyclicByWalks_0 : List UInt8 := [42, 182, 0, 68, 199, 0, 7, 4, 167, 0, 4, 3, 172]
abbrev dktX7_isAcyclicByWalks_0 : List UInt8 := dkwX7_isAcyclicByWalks_0 ++ []
theorem dksX7_isAcyclicByWalks_0 : cX7_isAcyclicByWalks.data.toList.drop 0 = dktX7_isAcyclicByWalks_0 := by decide +kernel
theorem dX7_isAcyclicByWalks_0 : decode cX7_isAcyclicByWalks 0 = .ok (.aload_n 0, 1) := dk_42 (dk_at dksX7_isAcyclicByWalks_0 0 rfl rfl)
theorem dX7_isAcyclicByWalks_1 : decode cX7_isAcyclicByWalks 1 = .ok (.invokevirtual 68, 3) := dk_182 0 68 (dk_at dksX7_isAcyclicByWalks_0 1 rfl rfl)
theorem dX7_isAcyclicByWalks_4 : decode cX7_isAcyclicByWalks 4 = .ok (.ifnonnull 7, 3) := dk_199 0 7 (dk_at dksX7_isAcyclicByWalks_0 4 rfl rfl)
theorem dX7_isAcyclicByWalks_7 : decode cX7_isAcyclicByWalks 7 = .ok (.iconst 1, 1) := dk_4 (dk_at dksX7_isAcyclicByWalks_0 7 rfl rfl)
theorem dX7_isAcyclicByWalks_8 : decode cX7_isAcyclicByWalks 8 = .ok (.goto 4, 3) := dk_167 0 4 (dk_at dksX7_isAcyclicByWalks_0 8 rfl rfl)
theorem dX7_isAcyclicByWalks_11 : decode cX7_isAcyclicByWalks 11 = .ok (.iconst 0, 1) := dk_3 (dk_at dksX7_isAcyclicByWalks_0 11 rfl rfl)
theorem dX7_isAcyclicByWalks_12 : decode cX7_isAcyclicByWalks 12 = .ok (.ireturn, 1) := dk_172 (dk_at dksX7_isAcyclicByWalks_0 12 rfl rfl)
abbrev cX7_greatestInCycle : ByteArray := prog_3_method_10_code
def yX7_greatestInCycle : MethodName := ⟨RX7, "greatestInCycle", "()Ljava/lang/Comparable;"⟩
def dkwX7_greatestInCycle_2 : List UInt8 := [43, 176]
abbrev dktX7_greatestInCycle_2 : List UInt8 := dkwX7_greatestInCycle_2 ++ []
def dkwX7_greatestInCycle_1 : List UInt8 := [42, 180, 0, 12, 28, 185, 0, 44, 2, 0, 192, 0, 38, 167, 0, 4, 43, 76, 132, 2, 1, 167, 255, 215]
abbrev dktX7_greatestInCycle_1 : List UInt8 := dkwX7_greatestInCycle_1 ++ dktX7_greatestInCycle_2
def dkwX7_greatestInCycle_0 : List UInt8 := [1, 76, 3, 61, 28, 42, 182, 0, 56, 162, 0, 39, 28, 42, 28, 182, 0, 72, 184, 0, 61, 153, 0, 19]
abbrev dktX7_greatestInCycle_0 : List UInt8 := dkwX7_greatestInCycle_0 ++ dktX7_greatestInCycle_1
theorem dksX7_greatestInCycle_0 : cX7_greatestInCycle.data.toList.drop 0 = dktX7_greatestInCycle_0 := by decide +kernel
theorem dksX7_greatestInCycle_1 : cX7_greatestInCycle.data.toList.drop 24 = dktX7_greatestInCycle_1 := dk_seg dksX7_greatestInCycle_0 24 rfl rfl
theorem dksX7_greatestInCycle_2 : cX7_greatestInCycle.data.toList.drop 48 = dktX7_greatestInCycle_2 := dk_seg dksX7_greatestInCycle_1 24 rfl rfl
theorem dX7_greatestInCycle_0 : decode cX7_greatestInCycle 0 = .ok (.aconst_null, 1) := dk_1 (dk_at dksX7_greatestInCycle_0 0 rfl rfl)
theorem dX7_greatestInCycle_1 : decode cX7_greatestInCycle 1 = .ok (.astore_n 1, 1) := dk_76 (dk_at dksX7_greatestInCycle_0 1 rfl rfl)
theorem dX7_greatestInCycle_2 : decode cX7_greatestInCycle 2 = .ok (.iconst 0, 1) := dk_3 (dk_at dksX7_greatestInCycle_0 2 rfl rfl)
theorem dX7_greatestInCycle_3 : decode cX7_greatestInCycle 3 = .ok (.istore_n 2, 1) := dk_61 (dk_at dksX7_greatestInCycle_0 3 rfl rfl)
theorem dX7_greatestInCycle_4 : decode cX7_greatestInCycle 4 = .ok (.iload_n 2, 1) := dk_28 (dk_at dksX7_greatestInCycle_0 4 rfl rfl)
theorem dX7_greatestInCycle_5 : decode cX7_greatestInCycle 5 = .ok (.aload_n 0, 1) := dk_42 (dk_at dksX7_greatestInCycle_0 5 rfl rfl)
theorem dX7_greatestInCycle_6 : decode cX7_greatestInCycle 6 = .ok (.invokevirtual 56, 3) := dk_182 0 56 (dk_at dksX7_greatestInCycle_0 6 rfl rfl)
theorem dX7_greatestInCycle_9 : decode cX7_greatestInCycle 9 = .ok (.if_icmp .ge 39, 3) := dk_162 0 39 (dk_at dksX7_greatestInCycle_0 9 rfl rfl)
theorem dX7_greatestInCycle_12 : decode cX7_greatestInCycle 12 = .ok (.iload_n 2, 1) := dk_28 (dk_at dksX7_greatestInCycle_0 12 rfl rfl)
theorem dX7_greatestInCycle_13 : decode cX7_greatestInCycle 13 = .ok (.aload_n 0, 1) := dk_42 (dk_at dksX7_greatestInCycle_0 13 rfl rfl)
theorem dX7_greatestInCycle_14 : decode cX7_greatestInCycle 14 = .ok (.iload_n 2, 1) := dk_28 (dk_at dksX7_greatestInCycle_0 14 rfl rfl)
theorem dX7_greatestInCycle_15 : decode cX7_greatestInCycle 15 = .ok (.invokevirtual 72, 3) := dk_182 0 72 (dk_at dksX7_greatestInCycle_0 15 rfl rfl)
theorem dX7_greatestInCycle_18 : decode cX7_greatestInCycle 18 = .ok (.invokestatic 61, 3) := dk_184 0 61 (dk_at dksX7_greatestInCycle_0 18 rfl rfl)
theorem dX7_greatestInCycle_21 : decode cX7_greatestInCycle 21 = .ok (.ifCond .eq 19, 3) := dk_153 0 19 (dk_at dksX7_greatestInCycle_0 21 rfl rfl)
theorem dX7_greatestInCycle_24 : decode cX7_greatestInCycle 24 = .ok (.aload_n 0, 1) := dk_42 (dk_at dksX7_greatestInCycle_1 0 rfl rfl)
theorem dX7_greatestInCycle_25 : decode cX7_greatestInCycle 25 = .ok (.getfield 12, 3) := dk_180 0 12 (dk_at dksX7_greatestInCycle_1 1 rfl rfl)
theorem dX7_greatestInCycle_28 : decode cX7_greatestInCycle 28 = .ok (.iload_n 2, 1) := dk_28 (dk_at dksX7_greatestInCycle_1 4 rfl rfl)
theorem dX7_greatestInCycle_29 : decode cX7_greatestInCycle 29 = .ok (.invokeinterface 44 2, 5) := by decide +kernel
theorem dX7_greatestInCycle_34 : decode cX7_greatestInCycle 34 = .ok (.checkcast 38, 3) := dk_192 0 38 (dk_at dksX7_greatestInCycle_1 10 rfl rfl)
theorem dX7_greatestInCycle_37 : decode cX7_greatestInCycle 37 = .ok (.goto 4, 3) := dk_167 0 4 (dk_at dksX7_greatestInCycle_1 13 rfl rfl)
theorem dX7_greatestInCycle_40 : decode cX7_greatestInCycle 40 = .ok (.aload_n 1, 1) := dk_43 (dk_at dksX7_greatestInCycle_1 16 rfl rfl)
theorem dX7_greatestInCycle_41 : decode cX7_greatestInCycle 41 = .ok (.astore_n 1, 1) := dk_76 (dk_at dksX7_greatestInCycle_1 17 rfl rfl)
theorem dX7_greatestInCycle_42 : decode cX7_greatestInCycle 42 = .ok (.iinc 2 1, 3) := dk_132 2 1 (dk_at dksX7_greatestInCycle_1 18 rfl rfl)
theorem dX7_greatestInCycle_45 : decode cX7_greatestInCycle 45 = .ok (.goto (-41), 3) := dk_167 255 215 (dk_at dksX7_greatestInCycle_1 21 rfl rfl)
theorem dX7_greatestInCycle_48 : decode cX7_greatestInCycle 48 = .ok (.aload_n 1, 1) := dk_43 (dk_at dksX7_greatestInCycle_2 0 rfl rfl)
theorem dX7_greatestInCycle_49 : decode cX7_greatestInCycle 49 = .ok (.areturn, 1) := dk_176 (dk_at dksX7_greatestInCycle_2 1 rfl rfl)
abbrev cX7_allBefore : ByteArray := prog_3_method_8_code
def yX7_allBefore : MethodName := ⟨RX7, "allBefore", "(I)I"⟩
def dkwX7_allBefore_2 : List UInt8 := [167, 0, 4, 3, 128, 61, 132, 4, 1, 167, 255, 221, 167, 255, 208, 28, 172]
abbrev dktX7_allBefore_2 : List UInt8 := dkwX7_allBefore_2 ++ []
def dkwX7_allBefore_1 : List UInt8 := [182, 0, 56, 162, 0, 32, 28, 21, 4, 29, 184, 0, 61, 153, 0, 13, 42, 180, 0, 18, 21, 4, 46]
abbrev dktX7_allBefore_1 : List UInt8 := dkwX7_allBefore_1 ++ dktX7_allBefore_2
def dkwX7_allBefore_0 : List UInt8 := [42, 180, 0, 18, 27, 46, 61, 3, 62, 28, 29, 159, 0, 49, 28, 62, 3, 54, 4, 21, 4, 42]
abbrev dktX7_allBefore_0 : List UInt8 := dkwX7_allBefore_0 ++ dktX7_allBefore_1
theorem dksX7_allBefore_0 : cX7_allBefore.data.toList.drop 0 = dktX7_allBefore_0 := by decide +kernel
theorem dksX7_allBefore_1 : cX7_allBefore.data.toList.drop 22 = dktX7_allBefore_1 := dk_seg dksX7_allBefore_0 22 rfl rfl
theorem dksX7_allBefore_2 : cX7_allBefore.data.toList.drop 45 = dktX7_allBefore_2 := dk_seg dksX7_allBefore_1 23 rfl rfl
theorem dX7_allBefore_0 : decode cX7_allBefore 0 = .ok (.aload_n 0, 1) := dk_42 (dk_at dksX7_allBefore_0 0 rfl rfl)
theorem dX7_allBefore_1 : decode cX7_allBefore 1 = .ok (.getfield 18, 3) := dk_180 0 18 (dk_at dksX7_allBefore_0 1 rfl rfl)
theorem dX7_allBefore_4 : decode cX7_allBefore 4 = .ok (.iload_n 1, 1) := dk_27 (dk_at dksX7_allBefore_0 4 rfl rfl)
theorem dX7_allBefore_5 : decode cX7_allBefore 5 = .ok (.iaload, 1) := dk_46 (dk_at dksX7_allBefore_0 5 rfl rfl)
theorem dX7_allBefore_6 : decode cX7_allBefore 6 = .ok (.istore_n 2, 1) := dk_61 (dk_at dksX7_allBefore_0 6 rfl rfl)
theorem dX7_allBefore_7 : decode cX7_allBefore 7 = .ok (.iconst 0, 1) := dk_3 (dk_at dksX7_allBefore_0 7 rfl rfl)
theorem dX7_allBefore_8 : decode cX7_allBefore 8 = .ok (.istore_n 3, 1) := dk_62 (dk_at dksX7_allBefore_0 8 rfl rfl)
theorem dX7_allBefore_9 : decode cX7_allBefore 9 = .ok (.iload_n 2, 1) := dk_28 (dk_at dksX7_allBefore_0 9 rfl rfl)
theorem dX7_allBefore_10 : decode cX7_allBefore 10 = .ok (.iload_n 3, 1) := dk_29 (dk_at dksX7_allBefore_0 10 rfl rfl)
theorem dX7_allBefore_11 : decode cX7_allBefore 11 = .ok (.if_icmp .eq 49, 3) := dk_159 0 49 (dk_at dksX7_allBefore_0 11 rfl rfl)
theorem dX7_allBefore_14 : decode cX7_allBefore 14 = .ok (.iload_n 2, 1) := dk_28 (dk_at dksX7_allBefore_0 14 rfl rfl)
theorem dX7_allBefore_15 : decode cX7_allBefore 15 = .ok (.istore_n 3, 1) := dk_62 (dk_at dksX7_allBefore_0 15 rfl rfl)
theorem dX7_allBefore_16 : decode cX7_allBefore 16 = .ok (.iconst 0, 1) := dk_3 (dk_at dksX7_allBefore_0 16 rfl rfl)
theorem dX7_allBefore_17 : decode cX7_allBefore 17 = .ok (.istore 4, 2) := dk_54 4 (dk_at dksX7_allBefore_0 17 rfl rfl)
theorem dX7_allBefore_19 : decode cX7_allBefore 19 = .ok (.iload 4, 2) := dk_21 4 (dk_at dksX7_allBefore_0 19 rfl rfl)
theorem dX7_allBefore_21 : decode cX7_allBefore 21 = .ok (.aload_n 0, 1) := dk_42 (dk_at dksX7_allBefore_0 21 rfl rfl)
theorem dX7_allBefore_22 : decode cX7_allBefore 22 = .ok (.invokevirtual 56, 3) := dk_182 0 56 (dk_at dksX7_allBefore_1 0 rfl rfl)
theorem dX7_allBefore_25 : decode cX7_allBefore 25 = .ok (.if_icmp .ge 32, 3) := dk_162 0 32 (dk_at dksX7_allBefore_1 3 rfl rfl)
theorem dX7_allBefore_28 : decode cX7_allBefore 28 = .ok (.iload_n 2, 1) := dk_28 (dk_at dksX7_allBefore_1 6 rfl rfl)
theorem dX7_allBefore_29 : decode cX7_allBefore 29 = .ok (.iload 4, 2) := dk_21 4 (dk_at dksX7_allBefore_1 7 rfl rfl)
theorem dX7_allBefore_31 : decode cX7_allBefore 31 = .ok (.iload_n 3, 1) := dk_29 (dk_at dksX7_allBefore_1 9 rfl rfl)
theorem dX7_allBefore_32 : decode cX7_allBefore 32 = .ok (.invokestatic 61, 3) := dk_184 0 61 (dk_at dksX7_allBefore_1 10 rfl rfl)
theorem dX7_allBefore_35 : decode cX7_allBefore 35 = .ok (.ifCond .eq 13, 3) := dk_153 0 13 (dk_at dksX7_allBefore_1 13 rfl rfl)
theorem dX7_allBefore_38 : decode cX7_allBefore 38 = .ok (.aload_n 0, 1) := dk_42 (dk_at dksX7_allBefore_1 16 rfl rfl)
theorem dX7_allBefore_39 : decode cX7_allBefore 39 = .ok (.getfield 18, 3) := dk_180 0 18 (dk_at dksX7_allBefore_1 17 rfl rfl)
theorem dX7_allBefore_42 : decode cX7_allBefore 42 = .ok (.iload 4, 2) := dk_21 4 (dk_at dksX7_allBefore_1 20 rfl rfl)
theorem dX7_allBefore_44 : decode cX7_allBefore 44 = .ok (.iaload, 1) := dk_46 (dk_at dksX7_allBefore_1 22 rfl rfl)
theorem dX7_allBefore_45 : decode cX7_allBefore 45 = .ok (.goto 4, 3) := dk_167 0 4 (dk_at dksX7_allBefore_2 0 rfl rfl)
theorem dX7_allBefore_48 : decode cX7_allBefore 48 = .ok (.iconst 0, 1) := dk_3 (dk_at dksX7_allBefore_2 3 rfl rfl)
theorem dX7_allBefore_49 : decode cX7_allBefore 49 = .ok (.ior, 1) := dk_128 (dk_at dksX7_allBefore_2 4 rfl rfl)
theorem dX7_allBefore_50 : decode cX7_allBefore 50 = .ok (.istore_n 2, 1) := dk_61 (dk_at dksX7_allBefore_2 5 rfl rfl)
theorem dX7_allBefore_51 : decode cX7_allBefore 51 = .ok (.iinc 4 1, 3) := dk_132 4 1 (dk_at dksX7_allBefore_2 6 rfl rfl)
theorem dX7_allBefore_54 : decode cX7_allBefore 54 = .ok (.goto (-35), 3) := dk_167 255 221 (dk_at dksX7_allBefore_2 9 rfl rfl)
theorem dX7_allBefore_57 : decode cX7_allBefore 57 = .ok (.goto (-48), 3) := dk_167 255 208 (dk_at dksX7_allBefore_2 12 rfl rfl)
theorem dX7_allBefore_60 : decode cX7_allBefore 60 = .ok (.iload_n 2, 1) := dk_28 (dk_at dksX7_allBefore_2 15 rfl rfl)
theorem dX7_allBefore_61 : decode cX7_allBefore 61 = .ok (.ireturn, 1) := dk_172 (dk_at dksX7_allBefore_2 16 rfl rfl)
abbrev cX7_countOrders : ByteArray := prog_3_method_11_code
def yX7_countOrders : MethodName := ⟨RX7, "countOrders", "()I"⟩
def dkwX7_countOrders_4 : List UInt8 := [172]
abbrev dktX7_countOrders_4 : List UInt8 := dkwX7_countOrders_4 ++ []
def dkwX7_countOrders_3 : List UInt8 := [167, 0, 4, 3, 96, 79, 132, 3, 1, 167, 255, 202, 132, 2, 1, 167, 255, 186, 43, 42, 182, 0, 65, 46]
abbrev dktX7_countOrders_3 : List UInt8 := dkwX7_countOrders_3 ++ dktX7_countOrders_4
def dkwX7_countOrders_2 : List UInt8 := [184, 0, 61, 153, 0, 24, 42, 180, 0, 18, 29, 46, 21, 4, 2, 130, 126, 154, 0, 10, 43, 21, 4, 46]
abbrev dktX7_countOrders_2 : List UInt8 := dkwX7_countOrders_2 ++ dktX7_countOrders_3
def dkwX7_countOrders_1 : List UInt8 := [62, 29, 42, 182, 0, 56, 162, 0, 52, 28, 4, 29, 120, 130, 54, 4, 43, 28, 92, 46, 29, 28]
abbrev dktX7_countOrders_1 : List UInt8 := dkwX7_countOrders_1 ++ dktX7_countOrders_2
def dkwX7_countOrders_0 : List UInt8 := [42, 182, 0, 65, 4, 96, 188, 10, 76, 43, 3, 4, 79, 4, 61, 28, 42, 182, 0, 65, 163, 0, 68, 3]
abbrev dktX7_countOrders_0 : List UInt8 := dkwX7_countOrders_0 ++ dktX7_countOrders_1
theorem dksX7_countOrders_0 : cX7_countOrders.data.toList.drop 0 = dktX7_countOrders_0 := by decide +kernel
theorem dksX7_countOrders_1 : cX7_countOrders.data.toList.drop 24 = dktX7_countOrders_1 := dk_seg dksX7_countOrders_0 24 rfl rfl
theorem dksX7_countOrders_2 : cX7_countOrders.data.toList.drop 46 = dktX7_countOrders_2 := dk_seg dksX7_countOrders_1 22 rfl rfl
theorem dksX7_countOrders_3 : cX7_countOrders.data.toList.drop 70 = dktX7_countOrders_3 := dk_seg dksX7_countOrders_2 24 rfl rfl
theorem dksX7_countOrders_4 : cX7_countOrders.data.toList.drop 94 = dktX7_countOrders_4 := dk_seg dksX7_countOrders_3 24 rfl rfl
theorem dX7_countOrders_0 : decode cX7_countOrders 0 = .ok (.aload_n 0, 1) := dk_42 (dk_at dksX7_countOrders_0 0 rfl rfl)
theorem dX7_countOrders_1 : decode cX7_countOrders 1 = .ok (.invokevirtual 65, 3) := dk_182 0 65 (dk_at dksX7_countOrders_0 1 rfl rfl)
theorem dX7_countOrders_4 : decode cX7_countOrders 4 = .ok (.iconst 1, 1) := dk_4 (dk_at dksX7_countOrders_0 4 rfl rfl)
theorem dX7_countOrders_5 : decode cX7_countOrders 5 = .ok (.iadd, 1) := dk_96 (dk_at dksX7_countOrders_0 5 rfl rfl)
theorem dX7_countOrders_6 : decode cX7_countOrders 6 = .ok (.newarray .int, 2) := dk_188_10 (dk_at dksX7_countOrders_0 6 rfl rfl)
theorem dX7_countOrders_8 : decode cX7_countOrders 8 = .ok (.astore_n 1, 1) := dk_76 (dk_at dksX7_countOrders_0 8 rfl rfl)
theorem dX7_countOrders_9 : decode cX7_countOrders 9 = .ok (.aload_n 1, 1) := dk_43 (dk_at dksX7_countOrders_0 9 rfl rfl)
theorem dX7_countOrders_10 : decode cX7_countOrders 10 = .ok (.iconst 0, 1) := dk_3 (dk_at dksX7_countOrders_0 10 rfl rfl)
theorem dX7_countOrders_11 : decode cX7_countOrders 11 = .ok (.iconst 1, 1) := dk_4 (dk_at dksX7_countOrders_0 11 rfl rfl)
theorem dX7_countOrders_12 : decode cX7_countOrders 12 = .ok (.iastore, 1) := dk_79 (dk_at dksX7_countOrders_0 12 rfl rfl)
theorem dX7_countOrders_13 : decode cX7_countOrders 13 = .ok (.iconst 1, 1) := dk_4 (dk_at dksX7_countOrders_0 13 rfl rfl)
theorem dX7_countOrders_14 : decode cX7_countOrders 14 = .ok (.istore_n 2, 1) := dk_61 (dk_at dksX7_countOrders_0 14 rfl rfl)
theorem dX7_countOrders_15 : decode cX7_countOrders 15 = .ok (.iload_n 2, 1) := dk_28 (dk_at dksX7_countOrders_0 15 rfl rfl)
theorem dX7_countOrders_16 : decode cX7_countOrders 16 = .ok (.aload_n 0, 1) := dk_42 (dk_at dksX7_countOrders_0 16 rfl rfl)
theorem dX7_countOrders_17 : decode cX7_countOrders 17 = .ok (.invokevirtual 65, 3) := dk_182 0 65 (dk_at dksX7_countOrders_0 17 rfl rfl)
theorem dX7_countOrders_20 : decode cX7_countOrders 20 = .ok (.if_icmp .gt 68, 3) := dk_163 0 68 (dk_at dksX7_countOrders_0 20 rfl rfl)
theorem dX7_countOrders_23 : decode cX7_countOrders 23 = .ok (.iconst 0, 1) := dk_3 (dk_at dksX7_countOrders_0 23 rfl rfl)
theorem dX7_countOrders_24 : decode cX7_countOrders 24 = .ok (.istore_n 3, 1) := dk_62 (dk_at dksX7_countOrders_1 0 rfl rfl)
theorem dX7_countOrders_25 : decode cX7_countOrders 25 = .ok (.iload_n 3, 1) := dk_29 (dk_at dksX7_countOrders_1 1 rfl rfl)
theorem dX7_countOrders_26 : decode cX7_countOrders 26 = .ok (.aload_n 0, 1) := dk_42 (dk_at dksX7_countOrders_1 2 rfl rfl)
theorem dX7_countOrders_27 : decode cX7_countOrders 27 = .ok (.invokevirtual 56, 3) := dk_182 0 56 (dk_at dksX7_countOrders_1 3 rfl rfl)
theorem dX7_countOrders_30 : decode cX7_countOrders 30 = .ok (.if_icmp .ge 52, 3) := dk_162 0 52 (dk_at dksX7_countOrders_1 6 rfl rfl)
theorem dX7_countOrders_33 : decode cX7_countOrders 33 = .ok (.iload_n 2, 1) := dk_28 (dk_at dksX7_countOrders_1 9 rfl rfl)
theorem dX7_countOrders_34 : decode cX7_countOrders 34 = .ok (.iconst 1, 1) := dk_4 (dk_at dksX7_countOrders_1 10 rfl rfl)
theorem dX7_countOrders_35 : decode cX7_countOrders 35 = .ok (.iload_n 3, 1) := dk_29 (dk_at dksX7_countOrders_1 11 rfl rfl)
theorem dX7_countOrders_36 : decode cX7_countOrders 36 = .ok (.ishl, 1) := dk_120 (dk_at dksX7_countOrders_1 12 rfl rfl)
theorem dX7_countOrders_37 : decode cX7_countOrders 37 = .ok (.ixor, 1) := dk_130 (dk_at dksX7_countOrders_1 13 rfl rfl)
theorem dX7_countOrders_38 : decode cX7_countOrders 38 = .ok (.istore 4, 2) := dk_54 4 (dk_at dksX7_countOrders_1 14 rfl rfl)
theorem dX7_countOrders_40 : decode cX7_countOrders 40 = .ok (.aload_n 1, 1) := dk_43 (dk_at dksX7_countOrders_1 16 rfl rfl)
theorem dX7_countOrders_41 : decode cX7_countOrders 41 = .ok (.iload_n 2, 1) := dk_28 (dk_at dksX7_countOrders_1 17 rfl rfl)
theorem dX7_countOrders_42 : decode cX7_countOrders 42 = .ok (.dup2, 1) := dk_92 (dk_at dksX7_countOrders_1 18 rfl rfl)
theorem dX7_countOrders_43 : decode cX7_countOrders 43 = .ok (.iaload, 1) := dk_46 (dk_at dksX7_countOrders_1 19 rfl rfl)
theorem dX7_countOrders_44 : decode cX7_countOrders 44 = .ok (.iload_n 3, 1) := dk_29 (dk_at dksX7_countOrders_1 20 rfl rfl)
theorem dX7_countOrders_45 : decode cX7_countOrders 45 = .ok (.iload_n 2, 1) := dk_28 (dk_at dksX7_countOrders_1 21 rfl rfl)
theorem dX7_countOrders_46 : decode cX7_countOrders 46 = .ok (.invokestatic 61, 3) := dk_184 0 61 (dk_at dksX7_countOrders_2 0 rfl rfl)
theorem dX7_countOrders_49 : decode cX7_countOrders 49 = .ok (.ifCond .eq 24, 3) := dk_153 0 24 (dk_at dksX7_countOrders_2 3 rfl rfl)
theorem dX7_countOrders_52 : decode cX7_countOrders 52 = .ok (.aload_n 0, 1) := dk_42 (dk_at dksX7_countOrders_2 6 rfl rfl)
theorem dX7_countOrders_53 : decode cX7_countOrders 53 = .ok (.getfield 18, 3) := dk_180 0 18 (dk_at dksX7_countOrders_2 7 rfl rfl)
theorem dX7_countOrders_56 : decode cX7_countOrders 56 = .ok (.iload_n 3, 1) := dk_29 (dk_at dksX7_countOrders_2 10 rfl rfl)
theorem dX7_countOrders_57 : decode cX7_countOrders 57 = .ok (.iaload, 1) := dk_46 (dk_at dksX7_countOrders_2 11 rfl rfl)
theorem dX7_countOrders_58 : decode cX7_countOrders 58 = .ok (.iload 4, 2) := dk_21 4 (dk_at dksX7_countOrders_2 12 rfl rfl)
theorem dX7_countOrders_60 : decode cX7_countOrders 60 = .ok (.iconst (-1), 1) := dk_2 (dk_at dksX7_countOrders_2 14 rfl rfl)
theorem dX7_countOrders_61 : decode cX7_countOrders 61 = .ok (.ixor, 1) := dk_130 (dk_at dksX7_countOrders_2 15 rfl rfl)
theorem dX7_countOrders_62 : decode cX7_countOrders 62 = .ok (.iand, 1) := dk_126 (dk_at dksX7_countOrders_2 16 rfl rfl)
theorem dX7_countOrders_63 : decode cX7_countOrders 63 = .ok (.ifCond .ne 10, 3) := dk_154 0 10 (dk_at dksX7_countOrders_2 17 rfl rfl)
theorem dX7_countOrders_66 : decode cX7_countOrders 66 = .ok (.aload_n 1, 1) := dk_43 (dk_at dksX7_countOrders_2 20 rfl rfl)
theorem dX7_countOrders_67 : decode cX7_countOrders 67 = .ok (.iload 4, 2) := dk_21 4 (dk_at dksX7_countOrders_2 21 rfl rfl)
theorem dX7_countOrders_69 : decode cX7_countOrders 69 = .ok (.iaload, 1) := dk_46 (dk_at dksX7_countOrders_2 23 rfl rfl)
theorem dX7_countOrders_70 : decode cX7_countOrders 70 = .ok (.goto 4, 3) := dk_167 0 4 (dk_at dksX7_countOrders_3 0 rfl rfl)
theorem dX7_countOrders_73 : decode cX7_countOrders 73 = .ok (.iconst 0, 1) := dk_3 (dk_at dksX7_countOrders_3 3 rfl rfl)
theorem dX7_countOrders_74 : decode cX7_countOrders 74 = .ok (.iadd, 1) := dk_96 (dk_at dksX7_countOrders_3 4 rfl rfl)
theorem dX7_countOrders_75 : decode cX7_countOrders 75 = .ok (.iastore, 1) := dk_79 (dk_at dksX7_countOrders_3 5 rfl rfl)
theorem dX7_countOrders_76 : decode cX7_countOrders 76 = .ok (.iinc 3 1, 3) := dk_132 3 1 (dk_at dksX7_countOrders_3 6 rfl rfl)
theorem dX7_countOrders_79 : decode cX7_countOrders 79 = .ok (.goto (-54), 3) := dk_167 255 202 (dk_at dksX7_countOrders_3 9 rfl rfl)
theorem dX7_countOrders_82 : decode cX7_countOrders 82 = .ok (.iinc 2 1, 3) := dk_132 2 1 (dk_at dksX7_countOrders_3 12 rfl rfl)
theorem dX7_countOrders_85 : decode cX7_countOrders 85 = .ok (.goto (-70), 3) := dk_167 255 186 (dk_at dksX7_countOrders_3 15 rfl rfl)
theorem dX7_countOrders_88 : decode cX7_countOrders 88 = .ok (.aload_n 1, 1) := dk_43 (dk_at dksX7_countOrders_3 18 rfl rfl)
theorem dX7_countOrders_89 : decode cX7_countOrders 89 = .ok (.aload_n 0, 1) := dk_42 (dk_at dksX7_countOrders_3 19 rfl rfl)
theorem dX7_countOrders_90 : decode cX7_countOrders 90 = .ok (.invokevirtual 65, 3) := dk_182 0 65 (dk_at dksX7_countOrders_3 20 rfl rfl)
theorem dX7_countOrders_93 : decode cX7_countOrders 93 = .ok (.iaload, 1) := dk_46 (dk_at dksX7_countOrders_3 23 rfl rfl)
theorem dX7_countOrders_94 : decode cX7_countOrders 94 = .ok (.ireturn, 1) := dk_172 (dk_at dksX7_countOrders_4 0 rfl rfl)
abbrev cX7_countOrdersFrom : ByteArray := prog_3_method_12_code
def yX7_countOrdersFrom : MethodName := ⟨RX7, "countOrdersFrom", "(I)I"⟩
def dkwX7_countOrdersFrom_2 : List UInt8 := [61, 132, 3, 1, 167, 255, 220, 28, 172]
abbrev dktX7_countOrdersFrom_2 : List UInt8 := dkwX7_countOrdersFrom_2 ++ []
def dkwX7_countOrdersFrom_1 : List UInt8 := [28, 42, 29, 27, 182, 0, 76, 153, 0, 15, 42, 27, 4, 29, 120, 128, 182, 0, 79, 167, 0, 4, 3, 96]
abbrev dktX7_countOrdersFrom_1 : List UInt8 := dkwX7_countOrdersFrom_1 ++ dktX7_countOrdersFrom_2
def dkwX7_countOrdersFrom_0 : List UInt8 := [27, 42, 182, 0, 65, 160, 0, 7, 4, 167, 0, 4, 3, 61, 3, 62, 29, 42, 182, 0, 56, 162, 0, 34]
abbrev dktX7_countOrdersFrom_0 : List UInt8 := dkwX7_countOrdersFrom_0 ++ dktX7_countOrdersFrom_1
theorem dksX7_countOrdersFrom_0 : cX7_countOrdersFrom.data.toList.drop 0 = dktX7_countOrdersFrom_0 := by decide +kernel
theorem dksX7_countOrdersFrom_1 : cX7_countOrdersFrom.data.toList.drop 24 = dktX7_countOrdersFrom_1 := dk_seg dksX7_countOrdersFrom_0 24 rfl rfl
theorem dksX7_countOrdersFrom_2 : cX7_countOrdersFrom.data.toList.drop 48 = dktX7_countOrdersFrom_2 := dk_seg dksX7_countOrdersFrom_1 24 rfl rfl
theorem dX7_countOrdersFrom_0 : decode cX7_countOrdersFrom 0 = .ok (.iload_n 1, 1) := dk_27 (dk_at dksX7_countOrdersFrom_0 0 rfl rfl)
theorem dX7_countOrdersFrom_1 : decode cX7_countOrdersFrom 1 = .ok (.aload_n 0, 1) := dk_42 (dk_at dksX7_countOrdersFrom_0 1 rfl rfl)
theorem dX7_countOrdersFrom_2 : decode cX7_countOrdersFrom 2 = .ok (.invokevirtual 65, 3) := dk_182 0 65 (dk_at dksX7_countOrdersFrom_0 2 rfl rfl)
theorem dX7_countOrdersFrom_5 : decode cX7_countOrdersFrom 5 = .ok (.if_icmp .ne 7, 3) := dk_160 0 7 (dk_at dksX7_countOrdersFrom_0 5 rfl rfl)
theorem dX7_countOrdersFrom_8 : decode cX7_countOrdersFrom 8 = .ok (.iconst 1, 1) := dk_4 (dk_at dksX7_countOrdersFrom_0 8 rfl rfl)
theorem dX7_countOrdersFrom_9 : decode cX7_countOrdersFrom 9 = .ok (.goto 4, 3) := dk_167 0 4 (dk_at dksX7_countOrdersFrom_0 9 rfl rfl)
theorem dX7_countOrdersFrom_12 : decode cX7_countOrdersFrom 12 = .ok (.iconst 0, 1) := dk_3 (dk_at dksX7_countOrdersFrom_0 12 rfl rfl)
theorem dX7_countOrdersFrom_13 : decode cX7_countOrdersFrom 13 = .ok (.istore_n 2, 1) := dk_61 (dk_at dksX7_countOrdersFrom_0 13 rfl rfl)
theorem dX7_countOrdersFrom_14 : decode cX7_countOrdersFrom 14 = .ok (.iconst 0, 1) := dk_3 (dk_at dksX7_countOrdersFrom_0 14 rfl rfl)
theorem dX7_countOrdersFrom_15 : decode cX7_countOrdersFrom 15 = .ok (.istore_n 3, 1) := dk_62 (dk_at dksX7_countOrdersFrom_0 15 rfl rfl)
theorem dX7_countOrdersFrom_16 : decode cX7_countOrdersFrom 16 = .ok (.iload_n 3, 1) := dk_29 (dk_at dksX7_countOrdersFrom_0 16 rfl rfl)
theorem dX7_countOrdersFrom_17 : decode cX7_countOrdersFrom 17 = .ok (.aload_n 0, 1) := dk_42 (dk_at dksX7_countOrdersFrom_0 17 rfl rfl)
theorem dX7_countOrdersFrom_18 : decode cX7_countOrdersFrom 18 = .ok (.invokevirtual 56, 3) := dk_182 0 56 (dk_at dksX7_countOrdersFrom_0 18 rfl rfl)
theorem dX7_countOrdersFrom_21 : decode cX7_countOrdersFrom 21 = .ok (.if_icmp .ge 34, 3) := dk_162 0 34 (dk_at dksX7_countOrdersFrom_0 21 rfl rfl)
theorem dX7_countOrdersFrom_24 : decode cX7_countOrdersFrom 24 = .ok (.iload_n 2, 1) := dk_28 (dk_at dksX7_countOrdersFrom_1 0 rfl rfl)
theorem dX7_countOrdersFrom_25 : decode cX7_countOrdersFrom 25 = .ok (.aload_n 0, 1) := dk_42 (dk_at dksX7_countOrdersFrom_1 1 rfl rfl)
theorem dX7_countOrdersFrom_26 : decode cX7_countOrdersFrom 26 = .ok (.iload_n 3, 1) := dk_29 (dk_at dksX7_countOrdersFrom_1 2 rfl rfl)
theorem dX7_countOrdersFrom_27 : decode cX7_countOrdersFrom 27 = .ok (.iload_n 1, 1) := dk_27 (dk_at dksX7_countOrdersFrom_1 3 rfl rfl)
theorem dX7_countOrdersFrom_28 : decode cX7_countOrdersFrom 28 = .ok (.invokevirtual 76, 3) := dk_182 0 76 (dk_at dksX7_countOrdersFrom_1 4 rfl rfl)
theorem dX7_countOrdersFrom_31 : decode cX7_countOrdersFrom 31 = .ok (.ifCond .eq 15, 3) := dk_153 0 15 (dk_at dksX7_countOrdersFrom_1 7 rfl rfl)
theorem dX7_countOrdersFrom_34 : decode cX7_countOrdersFrom 34 = .ok (.aload_n 0, 1) := dk_42 (dk_at dksX7_countOrdersFrom_1 10 rfl rfl)
theorem dX7_countOrdersFrom_35 : decode cX7_countOrdersFrom 35 = .ok (.iload_n 1, 1) := dk_27 (dk_at dksX7_countOrdersFrom_1 11 rfl rfl)
theorem dX7_countOrdersFrom_36 : decode cX7_countOrdersFrom 36 = .ok (.iconst 1, 1) := dk_4 (dk_at dksX7_countOrdersFrom_1 12 rfl rfl)
theorem dX7_countOrdersFrom_37 : decode cX7_countOrdersFrom 37 = .ok (.iload_n 3, 1) := dk_29 (dk_at dksX7_countOrdersFrom_1 13 rfl rfl)
theorem dX7_countOrdersFrom_38 : decode cX7_countOrdersFrom 38 = .ok (.ishl, 1) := dk_120 (dk_at dksX7_countOrdersFrom_1 14 rfl rfl)
theorem dX7_countOrdersFrom_39 : decode cX7_countOrdersFrom 39 = .ok (.ior, 1) := dk_128 (dk_at dksX7_countOrdersFrom_1 15 rfl rfl)
theorem dX7_countOrdersFrom_40 : decode cX7_countOrdersFrom 40 = .ok (.invokevirtual 79, 3) := dk_182 0 79 (dk_at dksX7_countOrdersFrom_1 16 rfl rfl)
theorem dX7_countOrdersFrom_43 : decode cX7_countOrdersFrom 43 = .ok (.goto 4, 3) := dk_167 0 4 (dk_at dksX7_countOrdersFrom_1 19 rfl rfl)
theorem dX7_countOrdersFrom_46 : decode cX7_countOrdersFrom 46 = .ok (.iconst 0, 1) := dk_3 (dk_at dksX7_countOrdersFrom_1 22 rfl rfl)
theorem dX7_countOrdersFrom_47 : decode cX7_countOrdersFrom 47 = .ok (.iadd, 1) := dk_96 (dk_at dksX7_countOrdersFrom_1 23 rfl rfl)
theorem dX7_countOrdersFrom_48 : decode cX7_countOrdersFrom 48 = .ok (.istore_n 2, 1) := dk_61 (dk_at dksX7_countOrdersFrom_2 0 rfl rfl)
theorem dX7_countOrdersFrom_49 : decode cX7_countOrdersFrom 49 = .ok (.iinc 3 1, 3) := dk_132 3 1 (dk_at dksX7_countOrdersFrom_2 1 rfl rfl)
theorem dX7_countOrdersFrom_52 : decode cX7_countOrdersFrom 52 = .ok (.goto (-36), 3) := dk_167 255 220 (dk_at dksX7_countOrdersFrom_2 4 rfl rfl)
theorem dX7_countOrdersFrom_55 : decode cX7_countOrdersFrom 55 = .ok (.iload_n 2, 1) := dk_28 (dk_at dksX7_countOrdersFrom_2 7 rfl rfl)
theorem dX7_countOrdersFrom_56 : decode cX7_countOrdersFrom 56 = .ok (.ireturn, 1) := dk_172 (dk_at dksX7_countOrdersFrom_2 8 rfl rfl)
abbrev cX7_canFollow : ByteArray := prog_3_method_13_code
def yX7_canFollow : MethodName := ⟨RX7, "canFollow", "(II)Z"⟩
def dkwX7_canFollow_1 : List UInt8 := [167, 0, 4, 3, 172]
abbrev dktX7_canFollow_1 : List UInt8 := dkwX7_canFollow_1 ++ []
def dkwX7_canFollow_0 : List UInt8 := [27, 28, 184, 0, 61, 154, 0, 20, 42, 180, 0, 18, 27, 46, 28, 2, 130, 126, 154, 0, 7, 4]
abbrev dktX7_canFollow_0 : List UInt8 := dkwX7_canFollow_0 ++ dktX7_canFollow_1
theorem dksX7_canFollow_0 : cX7_canFollow.data.toList.drop 0 = dktX7_canFollow_0 := by decide +kernel
theorem dksX7_canFollow_1 : cX7_canFollow.data.toList.drop 22 = dktX7_canFollow_1 := dk_seg dksX7_canFollow_0 22 rfl rfl
theorem dX7_canFollow_0 : decode cX7_canFollow 0 = .ok (.iload_n 1, 1) := dk_27 (dk_at dksX7_canFollow_0 0 rfl rfl)
theorem dX7_canFollow_1 : decode cX7_canFollow 1 = .ok (.iload_n 2, 1) := dk_28 (dk_at dksX7_canFollow_0 1 rfl rfl)
theorem dX7_canFollow_2 : decode cX7_canFollow 2 = .ok (.invokestatic 61, 3) := dk_184 0 61 (dk_at dksX7_canFollow_0 2 rfl rfl)
theorem dX7_canFollow_5 : decode cX7_canFollow 5 = .ok (.ifCond .ne 20, 3) := dk_154 0 20 (dk_at dksX7_canFollow_0 5 rfl rfl)
theorem dX7_canFollow_8 : decode cX7_canFollow 8 = .ok (.aload_n 0, 1) := dk_42 (dk_at dksX7_canFollow_0 8 rfl rfl)
theorem dX7_canFollow_9 : decode cX7_canFollow 9 = .ok (.getfield 18, 3) := dk_180 0 18 (dk_at dksX7_canFollow_0 9 rfl rfl)
theorem dX7_canFollow_12 : decode cX7_canFollow 12 = .ok (.iload_n 1, 1) := dk_27 (dk_at dksX7_canFollow_0 12 rfl rfl)
theorem dX7_canFollow_13 : decode cX7_canFollow 13 = .ok (.iaload, 1) := dk_46 (dk_at dksX7_canFollow_0 13 rfl rfl)
theorem dX7_canFollow_14 : decode cX7_canFollow 14 = .ok (.iload_n 2, 1) := dk_28 (dk_at dksX7_canFollow_0 14 rfl rfl)
theorem dX7_canFollow_15 : decode cX7_canFollow 15 = .ok (.iconst (-1), 1) := dk_2 (dk_at dksX7_canFollow_0 15 rfl rfl)
theorem dX7_canFollow_16 : decode cX7_canFollow 16 = .ok (.ixor, 1) := dk_130 (dk_at dksX7_canFollow_0 16 rfl rfl)
theorem dX7_canFollow_17 : decode cX7_canFollow 17 = .ok (.iand, 1) := dk_126 (dk_at dksX7_canFollow_0 17 rfl rfl)
theorem dX7_canFollow_18 : decode cX7_canFollow 18 = .ok (.ifCond .ne 7, 3) := dk_154 0 7 (dk_at dksX7_canFollow_0 18 rfl rfl)
theorem dX7_canFollow_21 : decode cX7_canFollow 21 = .ok (.iconst 1, 1) := dk_4 (dk_at dksX7_canFollow_0 21 rfl rfl)
theorem dX7_canFollow_22 : decode cX7_canFollow 22 = .ok (.goto 4, 3) := dk_167 0 4 (dk_at dksX7_canFollow_1 0 rfl rfl)
theorem dX7_canFollow_25 : decode cX7_canFollow 25 = .ok (.iconst 0, 1) := dk_3 (dk_at dksX7_canFollow_1 3 rfl rfl)
theorem dX7_canFollow_26 : decode cX7_canFollow 26 = .ok (.ireturn, 1) := dk_172 (dk_at dksX7_canFollow_1 4 rfl rfl)
abbrev cX7_firstOrder : ByteArray := prog_3_method_14_code
def yX7_firstOrder : MethodName := ⟨RX7, "firstOrder", "()Ljava/util/List;"⟩
def dkwX7_firstOrder_2 : List UInt8 := [185, 0, 82, 2, 0, 87, 28, 4, 29, 120, 128, 61, 2, 62, 132, 3, 1, 167, 255, 208, 43, 176]
abbrev dktX7_firstOrder_2 : List UInt8 := dkwX7_firstOrder_2 ++ []
def dkwX7_firstOrder_1 : List UInt8 := [182, 0, 76, 153, 0, 31, 43, 42, 180, 0, 12, 29, 185, 0, 44, 2, 0, 192, 0, 38]
abbrev dktX7_firstOrder_1 : List UInt8 := dkwX7_firstOrder_1 ++ dktX7_firstOrder_2
def dkwX7_firstOrder_0 : List UInt8 := [187, 0, 9, 89, 183, 0, 11, 76, 3, 61, 3, 62, 29, 42, 182, 0, 56, 162, 0, 46, 42, 29, 28]
abbrev dktX7_firstOrder_0 : List UInt8 := dkwX7_firstOrder_0 ++ dktX7_firstOrder_1
theorem dksX7_firstOrder_0 : cX7_firstOrder.data.toList.drop 0 = dktX7_firstOrder_0 := by decide +kernel
theorem dksX7_firstOrder_1 : cX7_firstOrder.data.toList.drop 23 = dktX7_firstOrder_1 := dk_seg dksX7_firstOrder_0 23 rfl rfl
theorem dksX7_firstOrder_2 : cX7_firstOrder.data.toList.drop 43 = dktX7_firstOrder_2 := dk_seg dksX7_firstOrder_1 20 rfl rfl
theorem dX7_firstOrder_0 : decode cX7_firstOrder 0 = .ok (.new 9, 3) := dk_187 0 9 (dk_at dksX7_firstOrder_0 0 rfl rfl)
theorem dX7_firstOrder_3 : decode cX7_firstOrder 3 = .ok (.dup, 1) := dk_89 (dk_at dksX7_firstOrder_0 3 rfl rfl)
theorem dX7_firstOrder_4 : decode cX7_firstOrder 4 = .ok (.invokespecial 11, 3) := dk_183 0 11 (dk_at dksX7_firstOrder_0 4 rfl rfl)
theorem dX7_firstOrder_7 : decode cX7_firstOrder 7 = .ok (.astore_n 1, 1) := dk_76 (dk_at dksX7_firstOrder_0 7 rfl rfl)
theorem dX7_firstOrder_8 : decode cX7_firstOrder 8 = .ok (.iconst 0, 1) := dk_3 (dk_at dksX7_firstOrder_0 8 rfl rfl)
theorem dX7_firstOrder_9 : decode cX7_firstOrder 9 = .ok (.istore_n 2, 1) := dk_61 (dk_at dksX7_firstOrder_0 9 rfl rfl)
theorem dX7_firstOrder_10 : decode cX7_firstOrder 10 = .ok (.iconst 0, 1) := dk_3 (dk_at dksX7_firstOrder_0 10 rfl rfl)
theorem dX7_firstOrder_11 : decode cX7_firstOrder 11 = .ok (.istore_n 3, 1) := dk_62 (dk_at dksX7_firstOrder_0 11 rfl rfl)
theorem dX7_firstOrder_12 : decode cX7_firstOrder 12 = .ok (.iload_n 3, 1) := dk_29 (dk_at dksX7_firstOrder_0 12 rfl rfl)
theorem dX7_firstOrder_13 : decode cX7_firstOrder 13 = .ok (.aload_n 0, 1) := dk_42 (dk_at dksX7_firstOrder_0 13 rfl rfl)
theorem dX7_firstOrder_14 : decode cX7_firstOrder 14 = .ok (.invokevirtual 56, 3) := dk_182 0 56 (dk_at dksX7_firstOrder_0 14 rfl rfl)
theorem dX7_firstOrder_17 : decode cX7_firstOrder 17 = .ok (.if_icmp .ge 46, 3) := dk_162 0 46 (dk_at dksX7_firstOrder_0 17 rfl rfl)
theorem dX7_firstOrder_20 : decode cX7_firstOrder 20 = .ok (.aload_n 0, 1) := dk_42 (dk_at dksX7_firstOrder_0 20 rfl rfl)
theorem dX7_firstOrder_21 : decode cX7_firstOrder 21 = .ok (.iload_n 3, 1) := dk_29 (dk_at dksX7_firstOrder_0 21 rfl rfl)
theorem dX7_firstOrder_22 : decode cX7_firstOrder 22 = .ok (.iload_n 2, 1) := dk_28 (dk_at dksX7_firstOrder_0 22 rfl rfl)
theorem dX7_firstOrder_23 : decode cX7_firstOrder 23 = .ok (.invokevirtual 76, 3) := dk_182 0 76 (dk_at dksX7_firstOrder_1 0 rfl rfl)
theorem dX7_firstOrder_26 : decode cX7_firstOrder 26 = .ok (.ifCond .eq 31, 3) := dk_153 0 31 (dk_at dksX7_firstOrder_1 3 rfl rfl)
theorem dX7_firstOrder_29 : decode cX7_firstOrder 29 = .ok (.aload_n 1, 1) := dk_43 (dk_at dksX7_firstOrder_1 6 rfl rfl)
theorem dX7_firstOrder_30 : decode cX7_firstOrder 30 = .ok (.aload_n 0, 1) := dk_42 (dk_at dksX7_firstOrder_1 7 rfl rfl)
theorem dX7_firstOrder_31 : decode cX7_firstOrder 31 = .ok (.getfield 12, 3) := dk_180 0 12 (dk_at dksX7_firstOrder_1 8 rfl rfl)
theorem dX7_firstOrder_34 : decode cX7_firstOrder 34 = .ok (.iload_n 3, 1) := dk_29 (dk_at dksX7_firstOrder_1 11 rfl rfl)
theorem dX7_firstOrder_35 : decode cX7_firstOrder 35 = .ok (.invokeinterface 44 2, 5) := by decide +kernel
theorem dX7_firstOrder_40 : decode cX7_firstOrder 40 = .ok (.checkcast 38, 3) := dk_192 0 38 (dk_at dksX7_firstOrder_1 17 rfl rfl)
theorem dX7_firstOrder_43 : decode cX7_firstOrder 43 = .ok (.invokeinterface 82 2, 5) := by decide +kernel
theorem dX7_firstOrder_48 : decode cX7_firstOrder 48 = .ok (.pop, 1) := dk_87 (dk_at dksX7_firstOrder_2 5 rfl rfl)
theorem dX7_firstOrder_49 : decode cX7_firstOrder 49 = .ok (.iload_n 2, 1) := dk_28 (dk_at dksX7_firstOrder_2 6 rfl rfl)
theorem dX7_firstOrder_50 : decode cX7_firstOrder 50 = .ok (.iconst 1, 1) := dk_4 (dk_at dksX7_firstOrder_2 7 rfl rfl)
theorem dX7_firstOrder_51 : decode cX7_firstOrder 51 = .ok (.iload_n 3, 1) := dk_29 (dk_at dksX7_firstOrder_2 8 rfl rfl)
theorem dX7_firstOrder_52 : decode cX7_firstOrder 52 = .ok (.ishl, 1) := dk_120 (dk_at dksX7_firstOrder_2 9 rfl rfl)
theorem dX7_firstOrder_53 : decode cX7_firstOrder 53 = .ok (.ior, 1) := dk_128 (dk_at dksX7_firstOrder_2 10 rfl rfl)
theorem dX7_firstOrder_54 : decode cX7_firstOrder 54 = .ok (.istore_n 2, 1) := dk_61 (dk_at dksX7_firstOrder_2 11 rfl rfl)
theorem dX7_firstOrder_55 : decode cX7_firstOrder 55 = .ok (.iconst (-1), 1) := dk_2 (dk_at dksX7_firstOrder_2 12 rfl rfl)
theorem dX7_firstOrder_56 : decode cX7_firstOrder 56 = .ok (.istore_n 3, 1) := dk_62 (dk_at dksX7_firstOrder_2 13 rfl rfl)
theorem dX7_firstOrder_57 : decode cX7_firstOrder 57 = .ok (.iinc 3 1, 3) := dk_132 3 1 (dk_at dksX7_firstOrder_2 14 rfl rfl)
theorem dX7_firstOrder_60 : decode cX7_firstOrder 60 = .ok (.goto (-48), 3) := dk_167 255 208 (dk_at dksX7_firstOrder_2 17 rfl rfl)
theorem dX7_firstOrder_63 : decode cX7_firstOrder 63 = .ok (.aload_n 1, 1) := dk_43 (dk_at dksX7_firstOrder_2 20 rfl rfl)
theorem dX7_firstOrder_64 : decode cX7_firstOrder 64 = .ok (.areturn, 1) := dk_176 (dk_at dksX7_firstOrder_2 21 rfl rfl)
abbrev cX7_isConnected : ByteArray := prog_3_method_6_code
def yX7_isConnected : MethodName := ⟨RX7, "isConnected", "(Ljava/lang/Comparable;Ljava/lang/Comparable;)Z"⟩
def dkwX7_isConnected_1 : List UInt8 := [29, 42, 180, 0, 18, 21, 4, 46, 184, 0, 61, 153, 0, 7, 4, 167, 0, 4, 3, 172]
abbrev dktX7_isConnected_1 : List UInt8 := dkwX7_isConnected_1 ++ []
def dkwX7_isConnected_0 : List UInt8 := [42, 43, 182, 0, 57, 62, 42, 44, 182, 0, 57, 54, 4, 29, 2, 159, 0, 27, 21, 4, 2, 159, 0, 21]
abbrev dktX7_isConnected_0 : List UInt8 := dkwX7_isConnected_0 ++ dktX7_isConnected_1
theorem dksX7_isConnected_0 : cX7_isConnected.data.toList.drop 0 = dktX7_isConnected_0 := by decide +kernel
theorem dksX7_isConnected_1 : cX7_isConnected.data.toList.drop 24 = dktX7_isConnected_1 := dk_seg dksX7_isConnected_0 24 rfl rfl
theorem dX7_isConnected_0 : decode cX7_isConnected 0 = .ok (.aload_n 0, 1) := dk_42 (dk_at dksX7_isConnected_0 0 rfl rfl)
theorem dX7_isConnected_1 : decode cX7_isConnected 1 = .ok (.aload_n 1, 1) := dk_43 (dk_at dksX7_isConnected_0 1 rfl rfl)
theorem dX7_isConnected_2 : decode cX7_isConnected 2 = .ok (.invokevirtual 57, 3) := dk_182 0 57 (dk_at dksX7_isConnected_0 2 rfl rfl)
theorem dX7_isConnected_5 : decode cX7_isConnected 5 = .ok (.istore_n 3, 1) := dk_62 (dk_at dksX7_isConnected_0 5 rfl rfl)
theorem dX7_isConnected_6 : decode cX7_isConnected 6 = .ok (.aload_n 0, 1) := dk_42 (dk_at dksX7_isConnected_0 6 rfl rfl)
theorem dX7_isConnected_7 : decode cX7_isConnected 7 = .ok (.aload_n 2, 1) := dk_44 (dk_at dksX7_isConnected_0 7 rfl rfl)
theorem dX7_isConnected_8 : decode cX7_isConnected 8 = .ok (.invokevirtual 57, 3) := dk_182 0 57 (dk_at dksX7_isConnected_0 8 rfl rfl)
theorem dX7_isConnected_11 : decode cX7_isConnected 11 = .ok (.istore 4, 2) := dk_54 4 (dk_at dksX7_isConnected_0 11 rfl rfl)
theorem dX7_isConnected_13 : decode cX7_isConnected 13 = .ok (.iload_n 3, 1) := dk_29 (dk_at dksX7_isConnected_0 13 rfl rfl)
theorem dX7_isConnected_14 : decode cX7_isConnected 14 = .ok (.iconst (-1), 1) := dk_2 (dk_at dksX7_isConnected_0 14 rfl rfl)
theorem dX7_isConnected_15 : decode cX7_isConnected 15 = .ok (.if_icmp .eq 27, 3) := dk_159 0 27 (dk_at dksX7_isConnected_0 15 rfl rfl)
theorem dX7_isConnected_18 : decode cX7_isConnected 18 = .ok (.iload 4, 2) := dk_21 4 (dk_at dksX7_isConnected_0 18 rfl rfl)
theorem dX7_isConnected_20 : decode cX7_isConnected 20 = .ok (.iconst (-1), 1) := dk_2 (dk_at dksX7_isConnected_0 20 rfl rfl)
theorem dX7_isConnected_21 : decode cX7_isConnected 21 = .ok (.if_icmp .eq 21, 3) := dk_159 0 21 (dk_at dksX7_isConnected_0 21 rfl rfl)
theorem dX7_isConnected_24 : decode cX7_isConnected 24 = .ok (.iload_n 3, 1) := dk_29 (dk_at dksX7_isConnected_1 0 rfl rfl)
theorem dX7_isConnected_25 : decode cX7_isConnected 25 = .ok (.aload_n 0, 1) := dk_42 (dk_at dksX7_isConnected_1 1 rfl rfl)
theorem dX7_isConnected_26 : decode cX7_isConnected 26 = .ok (.getfield 18, 3) := dk_180 0 18 (dk_at dksX7_isConnected_1 2 rfl rfl)
theorem dX7_isConnected_29 : decode cX7_isConnected 29 = .ok (.iload 4, 2) := dk_21 4 (dk_at dksX7_isConnected_1 5 rfl rfl)
theorem dX7_isConnected_31 : decode cX7_isConnected 31 = .ok (.iaload, 1) := dk_46 (dk_at dksX7_isConnected_1 7 rfl rfl)
theorem dX7_isConnected_32 : decode cX7_isConnected 32 = .ok (.invokestatic 61, 3) := dk_184 0 61 (dk_at dksX7_isConnected_1 8 rfl rfl)
theorem dX7_isConnected_35 : decode cX7_isConnected 35 = .ok (.ifCond .eq 7, 3) := dk_153 0 7 (dk_at dksX7_isConnected_1 11 rfl rfl)
theorem dX7_isConnected_38 : decode cX7_isConnected 38 = .ok (.iconst 1, 1) := dk_4 (dk_at dksX7_isConnected_1 14 rfl rfl)
theorem dX7_isConnected_39 : decode cX7_isConnected 39 = .ok (.goto 4, 3) := dk_167 0 4 (dk_at dksX7_isConnected_1 15 rfl rfl)
theorem dX7_isConnected_42 : decode cX7_isConnected 42 = .ok (.iconst 0, 1) := dk_3 (dk_at dksX7_isConnected_1 18 rfl rfl)
theorem dX7_isConnected_43 : decode cX7_isConnected 43 = .ok (.ireturn, 1) := dk_172 (dk_at dksX7_isConnected_1 19 rfl rfl)
theorem q151 : (Jvm.Cond.initialized "ScheduleAnalyzer$Graph") ∈ lw_all := lw_g (lw_at lw_m1 37 rfl) rfl
theorem q743 : (Jvm.Cond.selects "ScheduleAnalyzer$Graph" ({ cls := "java/lang/Object", name := "getClass", desc := "()Ljava/lang/Class;" } : Jvm.MethodName) ({ cls := "java/lang/Object", name := "getClass", desc := "()Ljava/lang/Class;" } : Jvm.MethodName)) ∈ lw_all := lw_g (lw_at lw_m3 149 rfl) rfl
theorem q920 : (Jvm.Cond.instantiable "ScheduleAnalyzer$Graph" (2 : Nat)) ∈ lw_all := lw_g (lw_at lw_m4 86 rfl) rfl
theorem q946 : (Jvm.Cond.instanceMethod ({ cls := "ScheduleAnalyzer$Graph", name := "<init>", desc := "(Ljava/util/List;)V" } : Jvm.MethodName)) ∈ lw_all := lw_g (lw_at lw_m4 112 rfl) rfl
theorem q947 : (Jvm.Cond.code ({ cls := "ScheduleAnalyzer$Graph", name := "<init>", desc := "(Ljava/util/List;)V" } : Jvm.MethodName) prog_3_method_1_code (5 : Nat) (Option.none : Option Jvm.ClassFile.FieldType)) ∈ lw_all := lw_g (lw_at lw_m4 113 rfl) rfl
theorem q948 : (Jvm.Cond.methodLink "ScheduleAnalyzer$Graph" (3 : Nat) ({ cls := "java/lang/Object", name := "<init>", desc := "()V" } : Jvm.MethodName)) ∈ lw_all := lw_g (lw_at lw_m4 114 rfl) rfl
theorem q949 : (Jvm.Cond.classLink "ScheduleAnalyzer$Graph" (9 : Nat) "java/util/ArrayList") ∈ lw_all := lw_g (lw_at lw_m4 115 rfl) rfl
theorem q950 : (Jvm.Cond.methodLink "ScheduleAnalyzer$Graph" (11 : Nat) ({ cls := "java/util/ArrayList", name := "<init>", desc := "()V" } : Jvm.MethodName)) ∈ lw_all := lw_g (lw_at lw_m4 116 rfl) rfl
theorem q951 : (Jvm.Cond.interfaceEntry "ScheduleAnalyzer$Graph" (22 : Nat)) ∈ lw_tbl := lw_at lw_m4 117 rfl
theorem q952 : (Jvm.Cond.methodLink "ScheduleAnalyzer$Graph" (22 : Nat) ({ cls := "java/util/List", name := "iterator", desc := "()Ljava/util/Iterator;" } : Jvm.MethodName)) ∈ lw_all := lw_g (lw_at lw_m4 118 rfl) rfl
theorem q953 : (Jvm.Cond.interfaceEntry "ScheduleAnalyzer$Graph" (28 : Nat)) ∈ lw_tbl := lw_at lw_m4 119 rfl
theorem q954 : (Jvm.Cond.methodLink "ScheduleAnalyzer$Graph" (28 : Nat) ({ cls := "java/util/Iterator", name := "hasNext", desc := "()Z" } : Jvm.MethodName)) ∈ lw_all := lw_g (lw_at lw_m4 120 rfl) rfl
theorem q955 : (Jvm.Cond.interfaceEntry "ScheduleAnalyzer$Graph" (34 : Nat)) ∈ lw_tbl := lw_at lw_m4 121 rfl
theorem q956 : (Jvm.Cond.methodLink "ScheduleAnalyzer$Graph" (34 : Nat) ({ cls := "java/util/Iterator", name := "next", desc := "()Ljava/lang/Object;" } : Jvm.MethodName)) ∈ lw_all := lw_g (lw_at lw_m4 122 rfl) rfl
theorem q957 : (Jvm.Cond.classLink "ScheduleAnalyzer$Graph" (38 : Nat) "java/lang/Comparable") ∈ lw_all := lw_g (lw_at lw_m4 123 rfl) rfl
theorem q958 : (Jvm.Cond.interfaceEntry "ScheduleAnalyzer$Graph" (40 : Nat)) ∈ lw_tbl := lw_at lw_m4 124 rfl
theorem q959 : (Jvm.Cond.methodLink "ScheduleAnalyzer$Graph" (40 : Nat) ({ cls := "java/util/List", name := "size", desc := "()I" } : Jvm.MethodName)) ∈ lw_all := lw_g (lw_at lw_m4 125 rfl) rfl
theorem q960 : (Jvm.Cond.interfaceEntry "ScheduleAnalyzer$Graph" (44 : Nat)) ∈ lw_tbl := lw_at lw_m4 126 rfl
theorem q961 : (Jvm.Cond.methodLink "ScheduleAnalyzer$Graph" (44 : Nat) ({ cls := "java/util/List", name := "get", desc := "(I)Ljava/lang/Object;" } : Jvm.MethodName)) ∈ lw_all := lw_g (lw_at lw_m4 127 rfl) rfl
theorem q962 : (Jvm.Cond.interfaceEntry "ScheduleAnalyzer$Graph" (48 : Nat)) ∈ lw_tbl := lw_at lw_m4 128 rfl
theorem q963 : (Jvm.Cond.methodLink "ScheduleAnalyzer$Graph" (48 : Nat) ({ cls := "java/lang/Comparable", name := "compareTo", desc := "(Ljava/lang/Object;)I" } : Jvm.MethodName)) ∈ lw_all := lw_g (lw_at lw_m4 129 rfl) rfl
theorem q1158 : (Jvm.Cond.interfaceEntry "ScheduleAnalyzer$Graph" (52 : Nat)) ∈ lw_tbl := lw_at lw_m5 84 rfl
theorem q1159 : (Jvm.Cond.methodLink "ScheduleAnalyzer$Graph" (52 : Nat) ({ cls := "java/util/List", name := "add", desc := "(ILjava/lang/Object;)V" } : Jvm.MethodName)) ∈ lw_all := lw_g (lw_at lw_m5 85 rfl) rfl
theorem q1193 : (Jvm.Cond.fieldLink "ScheduleAnalyzer$Graph" (12 : Nat) "ScheduleAnalyzer$Graph" "nodes" "Ljava/util/List;") ∈ lw_all := lw_g (lw_at lw_m5 119 rfl) rfl
theorem q1194 : (Jvm.Cond.fieldLink "ScheduleAnalyzer$Graph" (18 : Nat) "ScheduleAnalyzer$Graph" "before" "[I") ∈ lw_all := lw_g (lw_at lw_m5 120 rfl) rfl
theorem q1195 : (Jvm.Cond.laysFinal "ScheduleAnalyzer$Graph" "ScheduleAnalyzer$Graph" "nodes" "Ljava/util/List;") ∈ lw_all := lw_g (lw_at lw_m5 121 rfl) rfl
theorem q1196 : (Jvm.Cond.soleField "ScheduleAnalyzer$Graph" "nodes") ∈ lw_all := lw_g (lw_at lw_m5 122 rfl) rfl
theorem q1197 : (Jvm.Cond.laysFinal "ScheduleAnalyzer$Graph" "ScheduleAnalyzer$Graph" "before" "[I") ∈ lw_all := lw_g (lw_at lw_m5 123 rfl) rfl
theorem q1198 : (Jvm.Cond.soleField "ScheduleAnalyzer$Graph" "before") ∈ lw_all := lw_g (lw_at lw_m5 124 rfl) rfl
theorem q1199 : (Jvm.Cond.superclass "ScheduleAnalyzer$Graph" "java/lang/Object") ∈ lw_all := lw_g (lw_at lw_m5 125 rfl) rfl
theorem q1211 : (Jvm.Cond.instanceMethod ({ cls := "ScheduleAnalyzer$Graph", name := "connect", desc := "(Ljava/lang/Comparable;Ljava/lang/Comparable;)V" } : Jvm.MethodName)) ∈ lw_all := lw_g (lw_at lw_m5 137 rfl) rfl
theorem q1212 : (Jvm.Cond.selects "ScheduleAnalyzer$Graph" ({ cls := "ScheduleAnalyzer$Graph", name := "connect", desc := "(Ljava/lang/Comparable;Ljava/lang/Comparable;)V" } : Jvm.MethodName) ({ cls := "ScheduleAnalyzer$Graph", name := "connect", desc := "(Ljava/lang/Comparable;Ljava/lang/Comparable;)V" } : Jvm.MethodName)) ∈ lw_all := lw_g (lw_at lw_m5 138 rfl) rfl
theorem q1213 : (Jvm.Cond.code ({ cls := "ScheduleAnalyzer$Graph", name := "connect", desc := "(Ljava/lang/Comparable;Ljava/lang/Comparable;)V" } : Jvm.MethodName) prog_3_method_5_code (3 : Nat) (Option.none : Option Jvm.ClassFile.FieldType)) ∈ lw_all := lw_g (lw_at lw_m5 139 rfl) rfl
theorem q1214 : (Jvm.Cond.methodLink "ScheduleAnalyzer$Graph" (57 : Nat) ({ cls := "ScheduleAnalyzer$Graph", name := "indexOf", desc := "(Ljava/lang/Comparable;)I" } : Jvm.MethodName)) ∈ lw_all := lw_g (lw_at lw_m5 140 rfl) rfl
theorem q1215 : (Jvm.Cond.privateMethod ({ cls := "ScheduleAnalyzer$Graph", name := "indexOf", desc := "(Ljava/lang/Comparable;)I" } : Jvm.MethodName)) ∈ lw_tbl := lw_at lw_m5 141 rfl
theorem q1216 : (Jvm.Cond.instanceMethod ({ cls := "ScheduleAnalyzer$Graph", name := "indexOf", desc := "(Ljava/lang/Comparable;)I" } : Jvm.MethodName)) ∈ lw_all := lw_g (lw_at lw_m5 142 rfl) rfl
theorem q1217 : (Jvm.Cond.code ({ cls := "ScheduleAnalyzer$Graph", name := "indexOf", desc := "(Ljava/lang/Comparable;)I" } : Jvm.MethodName) prog_3_method_4_code (3 : Nat) (Option.some Jvm.ClassFile.FieldType.int)) ∈ lw_all := lw_g (lw_at lw_m5 143 rfl) rfl
theorem q1218 : (Jvm.Cond.methodLink "ScheduleAnalyzer$Graph" (56 : Nat) ({ cls := "ScheduleAnalyzer$Graph", name := "size", desc := "()I" } : Jvm.MethodName)) ∈ lw_all := lw_g (lw_at lw_m5 144 rfl) rfl
theorem q1219 : (Jvm.Cond.instanceMethod ({ cls := "ScheduleAnalyzer$Graph", name := "size", desc := "()I" } : Jvm.MethodName)) ∈ lw_all := lw_g (lw_at lw_m5 145 rfl) rfl
theorem q1220 : (Jvm.Cond.selects "ScheduleAnalyzer$Graph" ({ cls := "ScheduleAnalyzer$Graph", name := "size", desc := "()I" } : Jvm.MethodName) ({ cls := "ScheduleAnalyzer$Graph", name := "size", desc := "()I" } : Jvm.MethodName)) ∈ lw_all := lw_g (lw_at lw_m5 146 rfl) rfl
theorem q1221 : (Jvm.Cond.code ({ cls := "ScheduleAnalyzer$Graph", name := "size", desc := "()I" } : Jvm.MethodName) prog_3_method_2_code (1 : Nat) (Option.some Jvm.ClassFile.FieldType.int)) ∈ lw_all := lw_g (lw_at lw_m5 147 rfl) rfl
theorem q1282 : (Jvm.Cond.instanceMethod ({ cls := "ScheduleAnalyzer$Graph", name := "isAcyclic", desc := "()Z" } : Jvm.MethodName)) ∈ lw_all := lw_g (lw_at lw_m5 208 rfl) rfl
theorem q1283 : (Jvm.Cond.selects "ScheduleAnalyzer$Graph" ({ cls := "ScheduleAnalyzer$Graph", name := "isAcyclic", desc := "()Z" } : Jvm.MethodName) ({ cls := "ScheduleAnalyzer$Graph", name := "isAcyclic", desc := "()Z" } : Jvm.MethodName)) ∈ lw_all := lw_g (lw_at lw_m5 209 rfl) rfl
theorem q1284 : (Jvm.Cond.code ({ cls := "ScheduleAnalyzer$Graph", name := "isAcyclic", desc := "()Z" } : Jvm.MethodName) prog_3_method_7_code (4 : Nat) (Option.some Jvm.ClassFile.FieldType.boolean)) ∈ lw_all := lw_g (lw_at lw_m5 210 rfl) rfl
theorem q1285 : (Jvm.Cond.methodLink "ScheduleAnalyzer$Graph" (65 : Nat) ({ cls := "ScheduleAnalyzer$Graph", name := "all", desc := "()I" } : Jvm.MethodName)) ∈ lw_all := lw_g (lw_at lw_m5 211 rfl) rfl
theorem q1286 : (Jvm.Cond.privateMethod ({ cls := "ScheduleAnalyzer$Graph", name := "all", desc := "()I" } : Jvm.MethodName)) ∈ lw_tbl := lw_at lw_m5 212 rfl
theorem q1287 : (Jvm.Cond.instanceMethod ({ cls := "ScheduleAnalyzer$Graph", name := "all", desc := "()I" } : Jvm.MethodName)) ∈ lw_all := lw_g (lw_at lw_m5 213 rfl) rfl
theorem q1288 : (Jvm.Cond.code ({ cls := "ScheduleAnalyzer$Graph", name := "all", desc := "()I" } : Jvm.MethodName) prog_3_method_3_code (1 : Nat) (Option.some Jvm.ClassFile.FieldType.int)) ∈ lw_all := lw_g (lw_at lw_m5 214 rfl) rfl
theorem q1289 : (Jvm.Cond.methodLinkNest "ScheduleAnalyzer$Graph" (61 : Nat) ({ cls := "ScheduleAnalyzer", name := "isIn", desc := "(II)Z" } : Jvm.MethodName) "ScheduleAnalyzer") ∈ lw_tbl := lw_at lw_m5 215 rfl
theorem q1293 : (Jvm.Cond.instanceMethod ({ cls := "ScheduleAnalyzer$Graph", name := "isAcyclicByWalks", desc := "()Z" } : Jvm.MethodName)) ∈ lw_all := lw_g (lw_at lw_m5 219 rfl) rfl
theorem q1294 : (Jvm.Cond.selects "ScheduleAnalyzer$Graph" ({ cls := "ScheduleAnalyzer$Graph", name := "isAcyclicByWalks", desc := "()Z" } : Jvm.MethodName) ({ cls := "ScheduleAnalyzer$Graph", name := "isAcyclicByWalks", desc := "()Z" } : Jvm.MethodName)) ∈ lw_all := lw_g (lw_at lw_m5 220 rfl) rfl
theorem q1295 : (Jvm.Cond.code ({ cls := "ScheduleAnalyzer$Graph", name := "isAcyclicByWalks", desc := "()Z" } : Jvm.MethodName) prog_3_method_9_code (1 : Nat) (Option.some Jvm.ClassFile.FieldType.boolean)) ∈ lw_all := lw_g (lw_at lw_m5 221 rfl) rfl
theorem q1296 : (Jvm.Cond.methodLink "ScheduleAnalyzer$Graph" (68 : Nat) ({ cls := "ScheduleAnalyzer$Graph", name := "greatestInCycle", desc := "()Ljava/lang/Comparable;" } : Jvm.MethodName)) ∈ lw_all := lw_g (lw_at lw_m5 222 rfl) rfl
theorem q1297 : (Jvm.Cond.instanceMethod ({ cls := "ScheduleAnalyzer$Graph", name := "greatestInCycle", desc := "()Ljava/lang/Comparable;" } : Jvm.MethodName)) ∈ lw_all := lw_g (lw_at lw_m5 223 rfl) rfl
theorem q1298 : (Jvm.Cond.selects "ScheduleAnalyzer$Graph" ({ cls := "ScheduleAnalyzer$Graph", name := "greatestInCycle", desc := "()Ljava/lang/Comparable;" } : Jvm.MethodName) ({ cls := "ScheduleAnalyzer$Graph", name := "greatestInCycle", desc := "()Ljava/lang/Comparable;" } : Jvm.MethodName)) ∈ lw_all := lw_g (lw_at lw_m5 224 rfl) rfl
theorem q1299 : (Jvm.Cond.code ({ cls := "ScheduleAnalyzer$Graph", name := "greatestInCycle", desc := "()Ljava/lang/Comparable;" } : Jvm.MethodName) prog_3_method_10_code (3 : Nat) (Option.some (Jvm.ClassFile.FieldType.object "java/lang/Comparable"))) ∈ lw_all := lw_g (lw_at lw_m5 225 rfl) rfl
theorem q1300 : (Jvm.Cond.methodLink "ScheduleAnalyzer$Graph" (72 : Nat) ({ cls := "ScheduleAnalyzer$Graph", name := "allBefore", desc := "(I)I" } : Jvm.MethodName)) ∈ lw_all := lw_g (lw_at lw_m5 226 rfl) rfl
theorem q1301 : (Jvm.Cond.privateMethod ({ cls := "ScheduleAnalyzer$Graph", name := "allBefore", desc := "(I)I" } : Jvm.MethodName)) ∈ lw_tbl := lw_at lw_m5 227 rfl
theorem q1302 : (Jvm.Cond.instanceMethod ({ cls := "ScheduleAnalyzer$Graph", name := "allBefore", desc := "(I)I" } : Jvm.MethodName)) ∈ lw_all := lw_g (lw_at lw_m5 228 rfl) rfl
theorem q1303 : (Jvm.Cond.code ({ cls := "ScheduleAnalyzer$Graph", name := "allBefore", desc := "(I)I" } : Jvm.MethodName) prog_3_method_8_code (5 : Nat) (Option.some Jvm.ClassFile.FieldType.int)) ∈ lw_all := lw_g (lw_at lw_m5 229 rfl) rfl
theorem q1305 : (Jvm.Cond.instanceMethod ({ cls := "ScheduleAnalyzer$Graph", name := "countOrders", desc := "()I" } : Jvm.MethodName)) ∈ lw_all := lw_g (lw_at lw_m5 231 rfl) rfl
theorem q1306 : (Jvm.Cond.selects "ScheduleAnalyzer$Graph" ({ cls := "ScheduleAnalyzer$Graph", name := "countOrders", desc := "()I" } : Jvm.MethodName) ({ cls := "ScheduleAnalyzer$Graph", name := "countOrders", desc := "()I" } : Jvm.MethodName)) ∈ lw_all := lw_g (lw_at lw_m5 232 rfl) rfl
theorem q1307 : (Jvm.Cond.code ({ cls := "ScheduleAnalyzer$Graph", name := "countOrders", desc := "()I" } : Jvm.MethodName) prog_3_method_11_code (5 : Nat) (Option.some Jvm.ClassFile.FieldType.int)) ∈ lw_all := lw_g (lw_at lw_m5 233 rfl) rfl
theorem q1309 : (Jvm.Cond.instanceMethod ({ cls := "ScheduleAnalyzer$Graph", name := "countOrdersFrom", desc := "(I)I" } : Jvm.MethodName)) ∈ lw_all := lw_g (lw_at lw_m5 235 rfl) rfl
theorem q1310 : (Jvm.Cond.selects "ScheduleAnalyzer$Graph" ({ cls := "ScheduleAnalyzer$Graph", name := "countOrdersFrom", desc := "(I)I" } : Jvm.MethodName) ({ cls := "ScheduleAnalyzer$Graph", name := "countOrdersFrom", desc := "(I)I" } : Jvm.MethodName)) ∈ lw_all := lw_g (lw_at lw_m5 236 rfl) rfl
theorem q1311 : (Jvm.Cond.code ({ cls := "ScheduleAnalyzer$Graph", name := "countOrdersFrom", desc := "(I)I" } : Jvm.MethodName) prog_3_method_12_code (4 : Nat) (Option.some Jvm.ClassFile.FieldType.int)) ∈ lw_all := lw_g (lw_at lw_m5 237 rfl) rfl
theorem q1312 : (Jvm.Cond.methodLink "ScheduleAnalyzer$Graph" (76 : Nat) ({ cls := "ScheduleAnalyzer$Graph", name := "canFollow", desc := "(II)Z" } : Jvm.MethodName)) ∈ lw_all := lw_g (lw_at lw_m5 238 rfl) rfl
theorem q1313 : (Jvm.Cond.privateMethod ({ cls := "ScheduleAnalyzer$Graph", name := "canFollow", desc := "(II)Z" } : Jvm.MethodName)) ∈ lw_tbl := lw_at lw_m5 239 rfl
theorem q1314 : (Jvm.Cond.instanceMethod ({ cls := "ScheduleAnalyzer$Graph", name := "canFollow", desc := "(II)Z" } : Jvm.MethodName)) ∈ lw_all := lw_g (lw_at lw_m6 0 rfl) rfl
theorem q1315 : (Jvm.Cond.code ({ cls := "ScheduleAnalyzer$Graph", name := "canFollow", desc := "(II)Z" } : Jvm.MethodName) prog_3_method_13_code (3 : Nat) (Option.some Jvm.ClassFile.FieldType.boolean)) ∈ lw_all := lw_g (lw_at lw_m6 1 rfl) rfl
theorem q1316 : (Jvm.Cond.methodLink "ScheduleAnalyzer$Graph" (79 : Nat) ({ cls := "ScheduleAnalyzer$Graph", name := "countOrdersFrom", desc := "(I)I" } : Jvm.MethodName)) ∈ lw_all := lw_g (lw_at lw_m6 2 rfl) rfl
theorem q1834 : (Jvm.Cond.selects "ScheduleAnalyzer$Graph" ({ cls := "java/lang/Object", name := "equals", desc := "(Ljava/lang/Object;)Z" } : Jvm.MethodName) ({ cls := "java/lang/Object", name := "equals", desc := "(Ljava/lang/Object;)Z" } : Jvm.MethodName)) ∈ lw_all := lw_g (lw_at lw_m8 40 rfl) rfl
theorem q1934 : (Jvm.Cond.instanceMethod ({ cls := "ScheduleAnalyzer$Graph", name := "firstOrder", desc := "()Ljava/util/List;" } : Jvm.MethodName)) ∈ lw_all := lw_g (lw_at lw_m8 140 rfl) rfl
theorem q1935 : (Jvm.Cond.selects "ScheduleAnalyzer$Graph" ({ cls := "ScheduleAnalyzer$Graph", name := "firstOrder", desc := "()Ljava/util/List;" } : Jvm.MethodName) ({ cls := "ScheduleAnalyzer$Graph", name := "firstOrder", desc := "()Ljava/util/List;" } : Jvm.MethodName)) ∈ lw_all := lw_g (lw_at lw_m8 141 rfl) rfl
theorem q1936 : (Jvm.Cond.code ({ cls := "ScheduleAnalyzer$Graph", name := "firstOrder", desc := "()Ljava/util/List;" } : Jvm.MethodName) prog_3_method_14_code (4 : Nat) (Option.some (Jvm.ClassFile.FieldType.object "java/util/List"))) ∈ lw_all := lw_g (lw_at lw_m8 142 rfl) rfl
theorem q1937 : (Jvm.Cond.interfaceEntry "ScheduleAnalyzer$Graph" (82 : Nat)) ∈ lw_tbl := lw_at lw_m8 143 rfl
theorem q1938 : (Jvm.Cond.methodLink "ScheduleAnalyzer$Graph" (82 : Nat) ({ cls := "java/util/List", name := "add", desc := "(Ljava/lang/Object;)Z" } : Jvm.MethodName)) ∈ lw_all := lw_g (lw_at lw_m8 144 rfl) rfl
theorem q2178 : (Jvm.Cond.instanceMethod ({ cls := "ScheduleAnalyzer$Graph", name := "isConnected", desc := "(Ljava/lang/Comparable;Ljava/lang/Comparable;)Z" } : Jvm.MethodName)) ∈ lw_all := lw_g (lw_at lw_m9 144 rfl) rfl
theorem q2179 : (Jvm.Cond.selects "ScheduleAnalyzer$Graph" ({ cls := "ScheduleAnalyzer$Graph", name := "isConnected", desc := "(Ljava/lang/Comparable;Ljava/lang/Comparable;)Z" } : Jvm.MethodName) ({ cls := "ScheduleAnalyzer$Graph", name := "isConnected", desc := "(Ljava/lang/Comparable;Ljava/lang/Comparable;)Z" } : Jvm.MethodName)) ∈ lw_all := lw_g (lw_at lw_m9 145 rfl) rfl
theorem q2180 : (Jvm.Cond.code ({ cls := "ScheduleAnalyzer$Graph", name := "isConnected", desc := "(Ljava/lang/Comparable;Ljava/lang/Comparable;)Z" } : Jvm.MethodName) prog_3_method_6_code (5 : Nat) (Option.some Jvm.ClassFile.FieldType.boolean)) ∈ lw_all := lw_g (lw_at lw_m9 146 rfl) rfl
theorem q2429 : (Jvm.Cond.selects "ScheduleAnalyzer$Graph" ({ cls := "java/lang/Object", name := "toString", desc := "()Ljava/lang/String;" } : Jvm.MethodName) ({ cls := "java/lang/Object", name := "toString", desc := "()Ljava/lang/String;" } : Jvm.MethodName)) ∈ lw_all := lw_g (lw_at lw_m10 155 rfl) rfl
theorem q3251 : (Jvm.Cond.castable "ScheduleAnalyzer$Graph" "java/lang/Object") ∈ lw_tbl := lw_at lw_m14 17 rfl
theorem in_X7 : ∀ w ∈ wsX70, w ∈ lw_all := lw_in wsX70 [1195, 1197] (by decide +kernel) (by decide +kernel)

/-! ScheduleAnalyzer$Locking -/
set_option maxRecDepth 100000
def RX8 : String := "ScheduleAnalyzer$Locking"
def TX8 : u_T := fun k => match k with
  | 0 => ("ScheduleAnalyzer$Locking", "executed", "Ljava/util/List;", true)
  | 1 => ("ScheduleAnalyzer$Locking", "waiting", "Ljava/util/List;", true)
  | 2 => ("ScheduleAnalyzer$Locking", "victims", "I", false)
  | _ => ("ScheduleAnalyzer$Locking", "waited", "I", false)
def tyX8 : Nat → FieldType := fun k => match k with
  | 0 => .object "java/util/List"
  | 1 => .object "java/util/List"
  | 2 => .int
  | _ => .int
abbrev wsX80 : List Cond := u_ws RX8 TX8 4
theorem nmX8 : ∀ a, a < 4 → ∀ b, b < 4 → a ≠ b → (TX8 a).2.1 ≠ (TX8 b).2.1 := by decide +kernel
theorem tyX8_ok : ∀ k, k < 4 → parseFieldDescriptor (TX8 k).2.2.1 = some (tyX8 k) := by decide +kernel
abbrev cX8_init : ByteArray := prog_4_method_1_code
def yX8_init : MethodName := ⟨RX8, "<init>", "(LScheduleAnalyzer$Schedule;)V"⟩
def dkwX8_init_3 : List UInt8 := [45, 182, 0, 55, 167, 255, 218, 177]
abbrev dktX8_init_3 : List UInt8 := dkwX8_init_3 ++ []
def dkwX8_init_2 : List UInt8 := [185, 0, 38, 1, 0, 192, 0, 42, 78, 45, 180, 0, 44, 42, 180, 0, 48, 184, 0, 51, 154, 0, 8, 42]
abbrev dktX8_init_2 : List UInt8 := dkwX8_init_2 ++ dktX8_init_3
def dkwX8_init_1 : List UInt8 := [181, 0, 18, 43, 180, 0, 21, 185, 0, 26, 1, 0, 77, 44, 185, 0, 32, 1, 0, 153, 0, 35, 44]
abbrev dktX8_init_1 : List UInt8 := dkwX8_init_1 ++ dktX8_init_2
def dkwX8_init_0 : List UInt8 := [42, 183, 0, 3, 42, 187, 0, 9, 89, 183, 0, 11, 181, 0, 12, 42, 187, 0, 9, 89, 183, 0, 11]
abbrev dktX8_init_0 : List UInt8 := dkwX8_init_0 ++ dktX8_init_1
theorem dksX8_init_0 : cX8_init.data.toList.drop 0 = dktX8_init_0 := by decide +kernel
theorem dksX8_init_1 : cX8_init.data.toList.drop 23 = dktX8_init_1 := dk_seg dksX8_init_0 23 rfl rfl
theorem dksX8_init_2 : cX8_init.data.toList.drop 46 = dktX8_init_2 := dk_seg dksX8_init_1 23 rfl rfl
theorem dksX8_init_3 : cX8_init.data.toList.drop 70 = dktX8_init_3 := dk_seg dksX8_init_2 24 rfl rfl
theorem dX8_init_0 : decode cX8_init 0 = .ok (.aload_n 0, 1) := dk_42 (dk_at dksX8_init_0 0 rfl rfl)
theorem dX8_init_1 : decode cX8_init 1 = .ok (.invokespecial 3, 3) := dk_183 0 3 (dk_at dksX8_init_0 1 rfl rfl)
theorem dX8_init_4 : decode cX8_init 4 = .ok (.aload_n 0, 1) := dk_42 (dk_at dksX8_init_0 4 rfl rfl)
theorem dX8_init_5 : decode cX8_init 5 = .ok (.new 9, 3) := dk_187 0 9 (dk_at dksX8_init_0 5 rfl rfl)
theorem dX8_init_8 : decode cX8_init 8 = .ok (.dup, 1) := dk_89 (dk_at dksX8_init_0 8 rfl rfl)
theorem dX8_init_9 : decode cX8_init 9 = .ok (.invokespecial 11, 3) := dk_183 0 11 (dk_at dksX8_init_0 9 rfl rfl)
theorem dX8_init_12 : decode cX8_init 12 = .ok (.putfield 12, 3) := dk_181 0 12 (dk_at dksX8_init_0 12 rfl rfl)
theorem dX8_init_15 : decode cX8_init 15 = .ok (.aload_n 0, 1) := dk_42 (dk_at dksX8_init_0 15 rfl rfl)
theorem dX8_init_16 : decode cX8_init 16 = .ok (.new 9, 3) := dk_187 0 9 (dk_at dksX8_init_0 16 rfl rfl)
theorem dX8_init_19 : decode cX8_init 19 = .ok (.dup, 1) := dk_89 (dk_at dksX8_init_0 19 rfl rfl)
theorem dX8_init_20 : decode cX8_init 20 = .ok (.invokespecial 11, 3) := dk_183 0 11 (dk_at dksX8_init_0 20 rfl rfl)
theorem dX8_init_23 : decode cX8_init 23 = .ok (.putfield 18, 3) := dk_181 0 18 (dk_at dksX8_init_1 0 rfl rfl)
theorem dX8_init_26 : decode cX8_init 26 = .ok (.aload_n 1, 1) := dk_43 (dk_at dksX8_init_1 3 rfl rfl)
theorem dX8_init_27 : decode cX8_init 27 = .ok (.getfield 21, 3) := dk_180 0 21 (dk_at dksX8_init_1 4 rfl rfl)
theorem dX8_init_30 : decode cX8_init 30 = .ok (.invokeinterface 26 1, 5) := by decide +kernel
theorem dX8_init_35 : decode cX8_init 35 = .ok (.astore_n 2, 1) := dk_77 (dk_at dksX8_init_1 12 rfl rfl)
theorem dX8_init_36 : decode cX8_init 36 = .ok (.aload_n 2, 1) := dk_44 (dk_at dksX8_init_1 13 rfl rfl)
theorem dX8_init_37 : decode cX8_init 37 = .ok (.invokeinterface 32 1, 5) := by decide +kernel
theorem dX8_init_42 : decode cX8_init 42 = .ok (.ifCond .eq 35, 3) := dk_153 0 35 (dk_at dksX8_init_1 19 rfl rfl)
theorem dX8_init_45 : decode cX8_init 45 = .ok (.aload_n 2, 1) := dk_44 (dk_at dksX8_init_1 22 rfl rfl)
theorem dX8_init_46 : decode cX8_init 46 = .ok (.invokeinterface 38 1, 5) := by decide +kernel
theorem dX8_init_51 : decode cX8_init 51 = .ok (.checkcast 42, 3) := dk_192 0 42 (dk_at dksX8_init_2 5 rfl rfl)
theorem dX8_init_54 : decode cX8_init 54 = .ok (.astore_n 3, 1) := dk_78 (dk_at dksX8_init_2 8 rfl rfl)
theorem dX8_init_55 : decode cX8_init 55 = .ok (.aload_n 3, 1) := dk_45 (dk_at dksX8_init_2 9 rfl rfl)
theorem dX8_init_56 : decode cX8_init 56 = .ok (.getfield 44, 3) := dk_180 0 44 (dk_at dksX8_init_2 10 rfl rfl)
theorem dX8_init_59 : decode cX8_init 59 = .ok (.aload_n 0, 1) := dk_42 (dk_at dksX8_init_2 13 rfl rfl)
theorem dX8_init_60 : decode cX8_init 60 = .ok (.getfield 48, 3) := dk_180 0 48 (dk_at dksX8_init_2 14 rfl rfl)
theorem dX8_init_63 : decode cX8_init 63 = .ok (.invokestatic 51, 3) := dk_184 0 51 (dk_at dksX8_init_2 17 rfl rfl)
theorem dX8_init_66 : decode cX8_init 66 = .ok (.ifCond .ne 8, 3) := dk_154 0 8 (dk_at dksX8_init_2 20 rfl rfl)
theorem dX8_init_69 : decode cX8_init 69 = .ok (.aload_n 0, 1) := dk_42 (dk_at dksX8_init_2 23 rfl rfl)
theorem dX8_init_70 : decode cX8_init 70 = .ok (.aload_n 3, 1) := dk_45 (dk_at dksX8_init_3 0 rfl rfl)
theorem dX8_init_71 : decode cX8_init 71 = .ok (.invokevirtual 55, 3) := dk_182 0 55 (dk_at dksX8_init_3 1 rfl rfl)
theorem dX8_init_74 : decode cX8_init 74 = .ok (.goto (-38), 3) := dk_167 255 218 (dk_at dksX8_init_3 4 rfl rfl)
theorem dX8_init_77 : decode cX8_init 77 = .ok (.return_, 1) := dk_177 (dk_at dksX8_init_3 7 rfl rfl)
abbrev cX8_attempt : ByteArray := prog_4_method_5_code
def yX8_attempt : MethodName := ⟨RX8, "attempt", "(LScheduleAnalyzer$Operation;)V"⟩
def dkwX8_attempt_3 : List UInt8 := [182, 0, 93, 182, 0, 97, 192, 0, 103, 77, 167, 255, 233, 177]
abbrev dktX8_attempt_3 : List UInt8 := dkwX8_attempt_3 ++ []
def dkwX8_attempt_2 : List UInt8 := [182, 0, 93, 182, 0, 97, 192, 0, 103, 77, 44, 198, 0, 25, 42, 44, 182, 0, 105, 182, 0, 109, 42]
abbrev dktX8_attempt_2 : List UInt8 := dkwX8_attempt_2 ++ dktX8_attempt_3
def dkwX8_attempt_1 : List UInt8 := [177, 42, 180, 0, 18, 43, 185, 0, 86, 2, 0, 87, 42, 89, 180, 0, 90, 4, 96, 181, 0, 90, 42]
abbrev dktX8_attempt_1 : List UInt8 := dkwX8_attempt_1 ++ dktX8_attempt_2
def dkwX8_attempt_0 : List UInt8 := [42, 43, 180, 0, 44, 182, 0, 75, 154, 0, 17, 42, 43, 182, 0, 79, 153, 0, 9, 42, 43, 182, 0, 83]
abbrev dktX8_attempt_0 : List UInt8 := dkwX8_attempt_0 ++ dktX8_attempt_1
theorem dksX8_attempt_0 : cX8_attempt.data.toList.drop 0 = dktX8_attempt_0 := by decide +kernel
theorem dksX8_attempt_1 : cX8_attempt.data.toList.drop 24 = dktX8_attempt_1 := dk_seg dksX8_attempt_0 24 rfl rfl
theorem dksX8_attempt_2 : cX8_attempt.data.toList.drop 47 = dktX8_attempt_2 := dk_seg dksX8_attempt_1 23 rfl rfl
theorem dksX8_attempt_3 : cX8_attempt.data.toList.drop 70 = dktX8_attempt_3 := dk_seg dksX8_attempt_2 23 rfl rfl
theorem dX8_attempt_0 : decode cX8_attempt 0 = .ok (.aload_n 0, 1) := dk_42 (dk_at dksX8_attempt_0 0 rfl rfl)
theorem dX8_attempt_1 : decode cX8_attempt 1 = .ok (.aload_n 1, 1) := dk_43 (dk_at dksX8_attempt_0 1 rfl rfl)
theorem dX8_attempt_2 : decode cX8_attempt 2 = .ok (.getfield 44, 3) := dk_180 0 44 (dk_at dksX8_attempt_0 2 rfl rfl)
theorem dX8_attempt_5 : decode cX8_attempt 5 = .ok (.invokevirtual 75, 3) := dk_182 0 75 (dk_at dksX8_attempt_0 5 rfl rfl)
theorem dX8_attempt_8 : decode cX8_attempt 8 = .ok (.ifCond .ne 17, 3) := dk_154 0 17 (dk_at dksX8_attempt_0 8 rfl rfl)
theorem dX8_attempt_11 : decode cX8_attempt 11 = .ok (.aload_n 0, 1) := dk_42 (dk_at dksX8_attempt_0 11 rfl rfl)
theorem dX8_attempt_12 : decode cX8_attempt 12 = .ok (.aload_n 1, 1) := dk_43 (dk_at dksX8_attempt_0 12 rfl rfl)
theorem dX8_attempt_13 : decode cX8_attempt 13 = .ok (.invokevirtual 79, 3) := dk_182 0 79 (dk_at dksX8_attempt_0 13 rfl rfl)
theorem dX8_attempt_16 : decode cX8_attempt 16 = .ok (.ifCond .eq 9, 3) := dk_153 0 9 (dk_at dksX8_attempt_0 16 rfl rfl)
theorem dX8_attempt_19 : decode cX8_attempt 19 = .ok (.aload_n 0, 1) := dk_42 (dk_at dksX8_attempt_0 19 rfl rfl)
theorem dX8_attempt_20 : decode cX8_attempt 20 = .ok (.aload_n 1, 1) := dk_43 (dk_at dksX8_attempt_0 20 rfl rfl)
theorem dX8_attempt_21 : decode cX8_attempt 21 = .ok (.invokevirtual 83, 3) := dk_182 0 83 (dk_at dksX8_attempt_0 21 rfl rfl)
theorem dX8_attempt_24 : decode cX8_attempt 24 = .ok (.return_, 1) := dk_177 (dk_at dksX8_attempt_1 0 rfl rfl)
theorem dX8_attempt_25 : decode cX8_attempt 25 = .ok (.aload_n 0, 1) := dk_42 (dk_at dksX8_attempt_1 1 rfl rfl)
theorem dX8_attempt_26 : decode cX8_attempt 26 = .ok (.getfield 18, 3) := dk_180 0 18 (dk_at dksX8_attempt_1 2 rfl rfl)
theorem dX8_attempt_29 : decode cX8_attempt 29 = .ok (.aload_n 1, 1) := dk_43 (dk_at dksX8_attempt_1 5 rfl rfl)
theorem dX8_attempt_30 : decode cX8_attempt 30 = .ok (.invokeinterface 86 2, 5) := by decide +kernel
theorem dX8_attempt_35 : decode cX8_attempt 35 = .ok (.pop, 1) := dk_87 (dk_at dksX8_attempt_1 11 rfl rfl)
theorem dX8_attempt_36 : decode cX8_attempt 36 = .ok (.aload_n 0, 1) := dk_42 (dk_at dksX8_attempt_1 12 rfl rfl)
theorem dX8_attempt_37 : decode cX8_attempt 37 = .ok (.dup, 1) := dk_89 (dk_at dksX8_attempt_1 13 rfl rfl)
theorem dX8_attempt_38 : decode cX8_attempt 38 = .ok (.getfield 90, 3) := dk_180 0 90 (dk_at dksX8_attempt_1 14 rfl rfl)
theorem dX8_attempt_41 : decode cX8_attempt 41 = .ok (.iconst 1, 1) := dk_4 (dk_at dksX8_attempt_1 17 rfl rfl)
theorem dX8_attempt_42 : decode cX8_attempt 42 = .ok (.iadd, 1) := dk_96 (dk_at dksX8_attempt_1 18 rfl rfl)
theorem dX8_attempt_43 : decode cX8_attempt 43 = .ok (.putfield 90, 3) := dk_181 0 90 (dk_at dksX8_attempt_1 19 rfl rfl)
theorem dX8_attempt_46 : decode cX8_attempt 46 = .ok (.aload_n 0, 1) := dk_42 (dk_at dksX8_attempt_1 22 rfl rfl)
theorem dX8_attempt_47 : decode cX8_attempt 47 = .ok (.invokevirtual 93, 3) := dk_182 0 93 (dk_at dksX8_attempt_2 0 rfl rfl)
theorem dX8_attempt_50 : decode cX8_attempt 50 = .ok (.invokevirtual 97, 3) := dk_182 0 97 (dk_at dksX8_attempt_2 3 rfl rfl)
theorem dX8_attempt_53 : decode cX8_attempt 53 = .ok (.checkcast 103, 3) := dk_192 0 103 (dk_at dksX8_attempt_2 6 rfl rfl)
theorem dX8_attempt_56 : decode cX8_attempt 56 = .ok (.astore_n 2, 1) := dk_77 (dk_at dksX8_attempt_2 9 rfl rfl)
theorem dX8_attempt_57 : decode cX8_attempt 57 = .ok (.aload_n 2, 1) := dk_44 (dk_at dksX8_attempt_2 10 rfl rfl)
theorem dX8_attempt_58 : decode cX8_attempt 58 = .ok (.ifnull 25, 3) := dk_198 0 25 (dk_at dksX8_attempt_2 11 rfl rfl)
theorem dX8_attempt_61 : decode cX8_attempt 61 = .ok (.aload_n 0, 1) := dk_42 (dk_at dksX8_attempt_2 14 rfl rfl)
theorem dX8_attempt_62 : decode cX8_attempt 62 = .ok (.aload_n 2, 1) := dk_44 (dk_at dksX8_attempt_2 15 rfl rfl)
theorem dX8_attempt_63 : decode cX8_attempt 63 = .ok (.invokevirtual 105, 3) := dk_182 0 105 (dk_at dksX8_attempt_2 16 rfl rfl)
theorem dX8_attempt_66 : decode cX8_attempt 66 = .ok (.invokevirtual 109, 3) := dk_182 0 109 (dk_at dksX8_attempt_2 19 rfl rfl)
theorem dX8_attempt_69 : decode cX8_attempt 69 = .ok (.aload_n 0, 1) := dk_42 (dk_at dksX8_attempt_2 22 rfl rfl)
theorem dX8_attempt_70 : decode cX8_attempt 70 = .ok (.invokevirtual 93, 3) := dk_182 0 93 (dk_at dksX8_attempt_3 0 rfl rfl)
theorem dX8_attempt_73 : decode cX8_attempt 73 = .ok (.invokevirtual 97, 3) := dk_182 0 97 (dk_at dksX8_attempt_3 3 rfl rfl)
theorem dX8_attempt_76 : decode cX8_attempt 76 = .ok (.checkcast 103, 3) := dk_192 0 103 (dk_at dksX8_attempt_3 6 rfl rfl)
theorem dX8_attempt_79 : decode cX8_attempt 79 = .ok (.astore_n 2, 1) := dk_77 (dk_at dksX8_attempt_3 9 rfl rfl)
theorem dX8_attempt_80 : decode cX8_attempt 80 = .ok (.goto (-23), 3) := dk_167 255 233 (dk_at dksX8_attempt_3 10 rfl rfl)
theorem dX8_attempt_83 : decode cX8_attempt 83 = .ok (.return_, 1) := dk_177 (dk_at dksX8_attempt_3 13 rfl rfl)
abbrev cX8_isWaiting : ByteArray := prog_4_method_2_code
def yX8_isWaiting : MethodName := ⟨RX8, "isWaiting", "(I)Z"⟩
def dkwX8_isWaiting_0 : List UInt8 := [42, 180, 0, 18, 27, 186, 0, 59, 0, 0, 184, 0, 63, 158, 0, 7, 4, 167, 0, 4, 3, 172]
abbrev dktX8_isWaiting_0 : List UInt8 := dkwX8_isWaiting_0 ++ []
theorem dksX8_isWaiting_0 : cX8_isWaiting.data.toList.drop 0 = dktX8_isWaiting_0 := by decide +kernel
theorem dX8_isWaiting_0 : decode cX8_isWaiting 0 = .ok (.aload_n 0, 1) := dk_42 (dk_at dksX8_isWaiting_0 0 rfl rfl)
theorem dX8_isWaiting_1 : decode cX8_isWaiting 1 = .ok (.getfield 18, 3) := dk_180 0 18 (dk_at dksX8_isWaiting_0 1 rfl rfl)
theorem dX8_isWaiting_4 : decode cX8_isWaiting 4 = .ok (.iload_n 1, 1) := dk_27 (dk_at dksX8_isWaiting_0 4 rfl rfl)
theorem dX8_isWaiting_5 : decode cX8_isWaiting 5 = .ok (.invokedynamic 59, 5) := by decide +kernel
theorem dX8_isWaiting_10 : decode cX8_isWaiting 10 = .ok (.invokestatic 63, 3) := dk_184 0 63 (dk_at dksX8_isWaiting_0 10 rfl rfl)
theorem dX8_isWaiting_13 : decode cX8_isWaiting 13 = .ok (.ifCond .le 7, 3) := dk_158 0 7 (dk_at dksX8_isWaiting_0 13 rfl rfl)
theorem dX8_isWaiting_16 : decode cX8_isWaiting 16 = .ok (.iconst 1, 1) := dk_4 (dk_at dksX8_isWaiting_0 16 rfl rfl)
theorem dX8_isWaiting_17 : decode cX8_isWaiting 17 = .ok (.goto 4, 3) := dk_167 0 4 (dk_at dksX8_isWaiting_0 17 rfl rfl)
theorem dX8_isWaiting_20 : decode cX8_isWaiting 20 = .ok (.iconst 0, 1) := dk_3 (dk_at dksX8_isWaiting_0 20 rfl rfl)
theorem dX8_isWaiting_21 : decode cX8_isWaiting 21 = .ok (.ireturn, 1) := dk_172 (dk_at dksX8_isWaiting_0 21 rfl rfl)
abbrev cX8_lambda_isWaiting_0 : ByteArray := prog_4_method_13_code
def yX8_lambda_isWaiting_0 : MethodName := ⟨RX8, "lambda$isWaiting$0", "(ILScheduleAnalyzer$Operation;)Z"⟩
def dkwX8_lambda_isWaiting_0_0 : List UInt8 := [43, 180, 0, 44, 26, 160, 0, 7, 4, 167, 0, 4, 3, 172]
abbrev dktX8_lambda_isWaiting_0_0 : List UInt8 := dkwX8_lambda_isWaiting_0_0 ++ []
theorem dksX8_lambda_isWaiting_0_0 : cX8_lambda_isWaiting_0.data.toList.drop 0 = dktX8_lambda_isWaiting_0_0 := by decide +kernel
theorem dX8_lambda_isWaiting_0_0 : decode cX8_lambda_isWaiting_0 0 = .ok (.aload_n 1, 1) := dk_43 (dk_at dksX8_lambda_isWaiting_0_0 0 rfl rfl)
theorem dX8_lambda_isWaiting_0_1 : decode cX8_lambda_isWaiting_0 1 = .ok (.getfield 44, 3) := dk_180 0 44 (dk_at dksX8_lambda_isWaiting_0_0 1 rfl rfl)
theorem dX8_lambda_isWaiting_0_4 : decode cX8_lambda_isWaiting_0 4 = .ok (.iload_n 0, 1) := dk_26 (dk_at dksX8_lambda_isWaiting_0_0 4 rfl rfl)
theorem dX8_lambda_isWaiting_0_5 : decode cX8_lambda_isWaiting_0 5 = .ok (.if_icmp .ne 7, 3) := dk_160 0 7 (dk_at dksX8_lambda_isWaiting_0_0 5 rfl rfl)
theorem dX8_lambda_isWaiting_0_8 : decode cX8_lambda_isWaiting_0 8 = .ok (.iconst 1, 1) := dk_4 (dk_at dksX8_lambda_isWaiting_0_0 8 rfl rfl)
theorem dX8_lambda_isWaiting_0_9 : decode cX8_lambda_isWaiting_0 9 = .ok (.goto 4, 3) := dk_167 0 4 (dk_at dksX8_lambda_isWaiting_0_0 9 rfl rfl)
theorem dX8_lambda_isWaiting_0_12 : decode cX8_lambda_isWaiting_0 12 = .ok (.iconst 0, 1) := dk_3 (dk_at dksX8_lambda_isWaiting_0_0 12 rfl rfl)
theorem dX8_lambda_isWaiting_0_13 : decode cX8_lambda_isWaiting_0 13 = .ok (.ireturn, 1) := dk_172 (dk_at dksX8_lambda_isWaiting_0_0 13 rfl rfl)
abbrev cX8_isPossible : ByteArray := prog_4_method_4_code
def yX8_isPossible : MethodName := ⟨RX8, "isPossible", "(LScheduleAnalyzer$Operation;)Z"⟩
def dkwX8_isPossible_1 : List UInt8 := [126, 61, 132, 3, 1, 167, 255, 231, 28, 172]
abbrev dktX8_isPossible_1 : List UInt8 := dkwX8_isPossible_1 ++ []
def dkwX8_isPossible_0 : List UInt8 := [4, 61, 4, 62, 29, 8, 163, 0, 26, 28, 42, 43, 29, 182, 0, 71, 154, 0, 7, 4, 167, 0, 4, 3]
abbrev dktX8_isPossible_0 : List UInt8 := dkwX8_isPossible_0 ++ dktX8_isPossible_1
theorem dksX8_isPossible_0 : cX8_isPossible.data.toList.drop 0 = dktX8_isPossible_0 := by decide +kernel
theorem dksX8_isPossible_1 : cX8_isPossible.data.toList.drop 24 = dktX8_isPossible_1 := dk_seg dksX8_isPossible_0 24 rfl rfl
theorem dX8_isPossible_0 : decode cX8_isPossible 0 = .ok (.iconst 1, 1) := dk_4 (dk_at dksX8_isPossible_0 0 rfl rfl)
theorem dX8_isPossible_1 : decode cX8_isPossible 1 = .ok (.istore_n 2, 1) := dk_61 (dk_at dksX8_isPossible_0 1 rfl rfl)
theorem dX8_isPossible_2 : decode cX8_isPossible 2 = .ok (.iconst 1, 1) := dk_4 (dk_at dksX8_isPossible_0 2 rfl rfl)
theorem dX8_isPossible_3 : decode cX8_isPossible 3 = .ok (.istore_n 3, 1) := dk_62 (dk_at dksX8_isPossible_0 3 rfl rfl)
theorem dX8_isPossible_4 : decode cX8_isPossible 4 = .ok (.iload_n 3, 1) := dk_29 (dk_at dksX8_isPossible_0 4 rfl rfl)
theorem dX8_isPossible_5 : decode cX8_isPossible 5 = .ok (.iconst 5, 1) := dk_8 (dk_at dksX8_isPossible_0 5 rfl rfl)
theorem dX8_isPossible_6 : decode cX8_isPossible 6 = .ok (.if_icmp .gt 26, 3) := dk_163 0 26 (dk_at dksX8_isPossible_0 6 rfl rfl)
theorem dX8_isPossible_9 : decode cX8_isPossible 9 = .ok (.iload_n 2, 1) := dk_28 (dk_at dksX8_isPossible_0 9 rfl rfl)
theorem dX8_isPossible_10 : decode cX8_isPossible 10 = .ok (.aload_n 0, 1) := dk_42 (dk_at dksX8_isPossible_0 10 rfl rfl)
theorem dX8_isPossible_11 : decode cX8_isPossible 11 = .ok (.aload_n 1, 1) := dk_43 (dk_at dksX8_isPossible_0 11 rfl rfl)
theorem dX8_isPossible_12 : decode cX8_isPossible 12 = .ok (.iload_n 3, 1) := dk_29 (dk_at dksX8_isPossible_0 12 rfl rfl)
theorem dX8_isPossible_13 : decode cX8_isPossible 13 = .ok (.invokevirtual 71, 3) := dk_182 0 71 (dk_at dksX8_isPossible_0 13 rfl rfl)
theorem dX8_isPossible_16 : decode cX8_isPossible 16 = .ok (.ifCond .ne 7, 3) := dk_154 0 7 (dk_at dksX8_isPossible_0 16 rfl rfl)
theorem dX8_isPossible_19 : decode cX8_isPossible 19 = .ok (.iconst 1, 1) := dk_4 (dk_at dksX8_isPossible_0 19 rfl rfl)
theorem dX8_isPossible_20 : decode cX8_isPossible 20 = .ok (.goto 4, 3) := dk_167 0 4 (dk_at dksX8_isPossible_0 20 rfl rfl)
theorem dX8_isPossible_23 : decode cX8_isPossible 23 = .ok (.iconst 0, 1) := dk_3 (dk_at dksX8_isPossible_0 23 rfl rfl)
theorem dX8_isPossible_24 : decode cX8_isPossible 24 = .ok (.iand, 1) := dk_126 (dk_at dksX8_isPossible_1 0 rfl rfl)
theorem dX8_isPossible_25 : decode cX8_isPossible 25 = .ok (.istore_n 2, 1) := dk_61 (dk_at dksX8_isPossible_1 1 rfl rfl)
theorem dX8_isPossible_26 : decode cX8_isPossible 26 = .ok (.iinc 3 1, 3) := dk_132 3 1 (dk_at dksX8_isPossible_1 2 rfl rfl)
theorem dX8_isPossible_29 : decode cX8_isPossible 29 = .ok (.goto (-25), 3) := dk_167 255 231 (dk_at dksX8_isPossible_1 5 rfl rfl)
theorem dX8_isPossible_32 : decode cX8_isPossible 32 = .ok (.iload_n 2, 1) := dk_28 (dk_at dksX8_isPossible_1 8 rfl rfl)
theorem dX8_isPossible_33 : decode cX8_isPossible 33 = .ok (.ireturn, 1) := dk_172 (dk_at dksX8_isPossible_1 9 rfl rfl)
abbrev cX8_isPreventedBy : ByteArray := prog_4_method_3_code
def yX8_isPreventedBy : MethodName := ⟨RX8, "isPreventedBy", "(LScheduleAnalyzer$Operation;I)Z"⟩
def dkwX8_isPreventedBy_2 : List UInt8 := [3, 172]
abbrev dktX8_isPreventedBy_2 : List UInt8 := dkwX8_isPreventedBy_2 ++ []
def dkwX8_isPreventedBy_1 : List UInt8 := [154, 0, 24, 42, 180, 0, 12, 28, 43, 186, 0, 68, 0, 0, 184, 0, 63, 158, 0, 7, 4, 167, 0, 4]
abbrev dktX8_isPreventedBy_1 : List UInt8 := dkwX8_isPreventedBy_1 ++ dktX8_isPreventedBy_2
def dkwX8_isPreventedBy_0 : List UInt8 := [42, 180, 0, 12, 28, 186, 0, 67, 0, 0, 184, 0, 63, 158, 0, 7, 4, 167, 0, 4, 3, 62, 29]
abbrev dktX8_isPreventedBy_0 : List UInt8 := dkwX8_isPreventedBy_0 ++ dktX8_isPreventedBy_1
theorem dksX8_isPreventedBy_0 : cX8_isPreventedBy.data.toList.drop 0 = dktX8_isPreventedBy_0 := by decide +kernel
theorem dksX8_isPreventedBy_1 : cX8_isPreventedBy.data.toList.drop 23 = dktX8_isPreventedBy_1 := dk_seg dksX8_isPreventedBy_0 23 rfl rfl
theorem dksX8_isPreventedBy_2 : cX8_isPreventedBy.data.toList.drop 47 = dktX8_isPreventedBy_2 := dk_seg dksX8_isPreventedBy_1 24 rfl rfl
theorem dX8_isPreventedBy_0 : decode cX8_isPreventedBy 0 = .ok (.aload_n 0, 1) := dk_42 (dk_at dksX8_isPreventedBy_0 0 rfl rfl)
theorem dX8_isPreventedBy_1 : decode cX8_isPreventedBy 1 = .ok (.getfield 12, 3) := dk_180 0 12 (dk_at dksX8_isPreventedBy_0 1 rfl rfl)
theorem dX8_isPreventedBy_4 : decode cX8_isPreventedBy 4 = .ok (.iload_n 2, 1) := dk_28 (dk_at dksX8_isPreventedBy_0 4 rfl rfl)
theorem dX8_isPreventedBy_5 : decode cX8_isPreventedBy 5 = .ok (.invokedynamic 67, 5) := by decide +kernel
theorem dX8_isPreventedBy_10 : decode cX8_isPreventedBy 10 = .ok (.invokestatic 63, 3) := dk_184 0 63 (dk_at dksX8_isPreventedBy_0 10 rfl rfl)
theorem dX8_isPreventedBy_13 : decode cX8_isPreventedBy 13 = .ok (.ifCond .le 7, 3) := dk_158 0 7 (dk_at dksX8_isPreventedBy_0 13 rfl rfl)
theorem dX8_isPreventedBy_16 : decode cX8_isPreventedBy 16 = .ok (.iconst 1, 1) := dk_4 (dk_at dksX8_isPreventedBy_0 16 rfl rfl)
theorem dX8_isPreventedBy_17 : decode cX8_isPreventedBy 17 = .ok (.goto 4, 3) := dk_167 0 4 (dk_at dksX8_isPreventedBy_0 17 rfl rfl)
theorem dX8_isPreventedBy_20 : decode cX8_isPreventedBy 20 = .ok (.iconst 0, 1) := dk_3 (dk_at dksX8_isPreventedBy_0 20 rfl rfl)
theorem dX8_isPreventedBy_21 : decode cX8_isPreventedBy 21 = .ok (.istore_n 3, 1) := dk_62 (dk_at dksX8_isPreventedBy_0 21 rfl rfl)
theorem dX8_isPreventedBy_22 : decode cX8_isPreventedBy 22 = .ok (.iload_n 3, 1) := dk_29 (dk_at dksX8_isPreventedBy_0 22 rfl rfl)
theorem dX8_isPreventedBy_23 : decode cX8_isPreventedBy 23 = .ok (.ifCond .ne 24, 3) := dk_154 0 24 (dk_at dksX8_isPreventedBy_1 0 rfl rfl)
theorem dX8_isPreventedBy_26 : decode cX8_isPreventedBy 26 = .ok (.aload_n 0, 1) := dk_42 (dk_at dksX8_isPreventedBy_1 3 rfl rfl)
theorem dX8_isPreventedBy_27 : decode cX8_isPreventedBy 27 = .ok (.getfield 12, 3) := dk_180 0 12 (dk_at dksX8_isPreventedBy_1 4 rfl rfl)
theorem dX8_isPreventedBy_30 : decode cX8_isPreventedBy 30 = .ok (.iload_n 2, 1) := dk_28 (dk_at dksX8_isPreventedBy_1 7 rfl rfl)
theorem dX8_isPreventedBy_31 : decode cX8_isPreventedBy 31 = .ok (.aload_n 1, 1) := dk_43 (dk_at dksX8_isPreventedBy_1 8 rfl rfl)
theorem dX8_isPreventedBy_32 : decode cX8_isPreventedBy 32 = .ok (.invokedynamic 68, 5) := by decide +kernel
theorem dX8_isPreventedBy_37 : decode cX8_isPreventedBy 37 = .ok (.invokestatic 63, 3) := dk_184 0 63 (dk_at dksX8_isPreventedBy_1 14 rfl rfl)
theorem dX8_isPreventedBy_40 : decode cX8_isPreventedBy 40 = .ok (.ifCond .le 7, 3) := dk_158 0 7 (dk_at dksX8_isPreventedBy_1 17 rfl rfl)
theorem dX8_isPreventedBy_43 : decode cX8_isPreventedBy 43 = .ok (.iconst 1, 1) := dk_4 (dk_at dksX8_isPreventedBy_1 20 rfl rfl)
theorem dX8_isPreventedBy_44 : decode cX8_isPreventedBy 44 = .ok (.goto 4, 3) := dk_167 0 4 (dk_at dksX8_isPreventedBy_1 21 rfl rfl)
theorem dX8_isPreventedBy_47 : decode cX8_isPreventedBy 47 = .ok (.iconst 0, 1) := dk_3 (dk_at dksX8_isPreventedBy_2 0 rfl rfl)
theorem dX8_isPreventedBy_48 : decode cX8_isPreventedBy 48 = .ok (.ireturn, 1) := dk_172 (dk_at dksX8_isPreventedBy_2 1 rfl rfl)
abbrev cX8_lambda_isPreventedBy_1 : ByteArray := prog_4_method_12_code
def yX8_lambda_isPreventedBy_1 : MethodName := ⟨RX8, "lambda$isPreventedBy$1", "(ILScheduleAnalyzer$Operation;)Z"⟩
def dkwX8_lambda_isPreventedBy_1_0 : List UInt8 := [43, 26, 182, 0, 155, 172]
abbrev dktX8_lambda_isPreventedBy_1_0 : List UInt8 := dkwX8_lambda_isPreventedBy_1_0 ++ []
theorem dksX8_lambda_isPreventedBy_1_0 : cX8_lambda_isPreventedBy_1.data.toList.drop 0 = dktX8_lambda_isPreventedBy_1_0 := by decide +kernel
theorem dX8_lambda_isPreventedBy_1_0 : decode cX8_lambda_isPreventedBy_1 0 = .ok (.aload_n 1, 1) := dk_43 (dk_at dksX8_lambda_isPreventedBy_1_0 0 rfl rfl)
theorem dX8_lambda_isPreventedBy_1_1 : decode cX8_lambda_isPreventedBy_1 1 = .ok (.iload_n 0, 1) := dk_26 (dk_at dksX8_lambda_isPreventedBy_1_0 1 rfl rfl)
theorem dX8_lambda_isPreventedBy_1_2 : decode cX8_lambda_isPreventedBy_1 2 = .ok (.invokevirtual 155, 3) := dk_182 0 155 (dk_at dksX8_lambda_isPreventedBy_1_0 2 rfl rfl)
theorem dX8_lambda_isPreventedBy_1_5 : decode cX8_lambda_isPreventedBy_1 5 = .ok (.ireturn, 1) := dk_172 (dk_at dksX8_lambda_isPreventedBy_1_0 5 rfl rfl)
abbrev cX8_lambda_isPreventedBy_2 : ByteArray := prog_4_method_11_code
def yX8_lambda_isPreventedBy_2 : MethodName := ⟨RX8, "lambda$isPreventedBy$2", "(ILScheduleAnalyzer$Operation;LScheduleAnalyzer$Operation;)Z"⟩
def dkwX8_lambda_isPreventedBy_2_0 : List UInt8 := [44, 180, 0, 44, 26, 160, 0, 15, 44, 43, 182, 0, 152, 153, 0, 7, 4, 167, 0, 4, 3, 172]
abbrev dktX8_lambda_isPreventedBy_2_0 : List UInt8 := dkwX8_lambda_isPreventedBy_2_0 ++ []
theorem dksX8_lambda_isPreventedBy_2_0 : cX8_lambda_isPreventedBy_2.data.toList.drop 0 = dktX8_lambda_isPreventedBy_2_0 := by decide +kernel
theorem dX8_lambda_isPreventedBy_2_0 : decode cX8_lambda_isPreventedBy_2 0 = .ok (.aload_n 2, 1) := dk_44 (dk_at dksX8_lambda_isPreventedBy_2_0 0 rfl rfl)
theorem dX8_lambda_isPreventedBy_2_1 : decode cX8_lambda_isPreventedBy_2 1 = .ok (.getfield 44, 3) := dk_180 0 44 (dk_at dksX8_lambda_isPreventedBy_2_0 1 rfl rfl)
theorem dX8_lambda_isPreventedBy_2_4 : decode cX8_lambda_isPreventedBy_2 4 = .ok (.iload_n 0, 1) := dk_26 (dk_at dksX8_lambda_isPreventedBy_2_0 4 rfl rfl)
theorem dX8_lambda_isPreventedBy_2_5 : decode cX8_lambda_isPreventedBy_2 5 = .ok (.if_icmp .ne 15, 3) := dk_160 0 15 (dk_at dksX8_lambda_isPreventedBy_2_0 5 rfl rfl)
theorem dX8_lambda_isPreventedBy_2_8 : decode cX8_lambda_isPreventedBy_2 8 = .ok (.aload_n 2, 1) := dk_44 (dk_at dksX8_lambda_isPreventedBy_2_0 8 rfl rfl)
theorem dX8_lambda_isPreventedBy_2_9 : decode cX8_lambda_isPreventedBy_2 9 = .ok (.aload_n 1, 1) := dk_43 (dk_at dksX8_lambda_isPreventedBy_2_0 9 rfl rfl)
theorem dX8_lambda_isPreventedBy_2_10 : decode cX8_lambda_isPreventedBy_2 10 = .ok (.invokevirtual 152, 3) := dk_182 0 152 (dk_at dksX8_lambda_isPreventedBy_2_0 10 rfl rfl)
theorem dX8_lambda_isPreventedBy_2_13 : decode cX8_lambda_isPreventedBy_2 13 = .ok (.ifCond .eq 7, 3) := dk_153 0 7 (dk_at dksX8_lambda_isPreventedBy_2_0 13 rfl rfl)
theorem dX8_lambda_isPreventedBy_2_16 : decode cX8_lambda_isPreventedBy_2 16 = .ok (.iconst 1, 1) := dk_4 (dk_at dksX8_lambda_isPreventedBy_2_0 16 rfl rfl)
theorem dX8_lambda_isPreventedBy_2_17 : decode cX8_lambda_isPreventedBy_2 17 = .ok (.goto 4, 3) := dk_167 0 4 (dk_at dksX8_lambda_isPreventedBy_2_0 17 rfl rfl)
theorem dX8_lambda_isPreventedBy_2_20 : decode cX8_lambda_isPreventedBy_2 20 = .ok (.iconst 0, 1) := dk_3 (dk_at dksX8_lambda_isPreventedBy_2_0 20 rfl rfl)
theorem dX8_lambda_isPreventedBy_2_21 : decode cX8_lambda_isPreventedBy_2 21 = .ok (.ireturn, 1) := dk_172 (dk_at dksX8_lambda_isPreventedBy_2_0 21 rfl rfl)
abbrev cX8_execute : ByteArray := prog_4_method_6_code
def yX8_execute : MethodName := ⟨RX8, "execute", "(LScheduleAnalyzer$Operation;)V"⟩
def dkwX8_execute_2 : List UInt8 := [185, 0, 86, 2, 0, 87, 42, 182, 0, 116, 77, 167, 255, 225, 177]
abbrev dktX8_execute_2 : List UInt8 := dkwX8_execute_2 ++ []
def dkwX8_execute_1 : List UInt8 := [182, 0, 116, 77, 44, 198, 0, 33, 42, 180, 0, 18, 44, 185, 0, 120, 2, 0, 87, 42, 180, 0, 12, 44]
abbrev dktX8_execute_1 : List UInt8 := dkwX8_execute_1 ++ dktX8_execute_2
def dkwX8_execute_0 : List UInt8 := [42, 180, 0, 12, 43, 185, 0, 86, 2, 0, 87, 43, 182, 0, 113, 153, 0, 7, 1, 167, 0, 7, 42]
abbrev dktX8_execute_0 : List UInt8 := dkwX8_execute_0 ++ dktX8_execute_1
theorem dksX8_execute_0 : cX8_execute.data.toList.drop 0 = dktX8_execute_0 := by decide +kernel
theorem dksX8_execute_1 : cX8_execute.data.toList.drop 23 = dktX8_execute_1 := dk_seg dksX8_execute_0 23 rfl rfl
theorem dksX8_execute_2 : cX8_execute.data.toList.drop 47 = dktX8_execute_2 := dk_seg dksX8_execute_1 24 rfl rfl
theorem dX8_execute_0 : decode cX8_execute 0 = .ok (.aload_n 0, 1) := dk_42 (dk_at dksX8_execute_0 0 rfl rfl)
theorem dX8_execute_1 : decode cX8_execute 1 = .ok (.getfield 12, 3) := dk_180 0 12 (dk_at dksX8_execute_0 1 rfl rfl)
theorem dX8_execute_4 : decode cX8_execute 4 = .ok (.aload_n 1, 1) := dk_43 (dk_at dksX8_execute_0 4 rfl rfl)
theorem dX8_execute_5 : decode cX8_execute 5 = .ok (.invokeinterface 86 2, 5) := by decide +kernel
theorem dX8_execute_10 : decode cX8_execute 10 = .ok (.pop, 1) := dk_87 (dk_at dksX8_execute_0 10 rfl rfl)
theorem dX8_execute_11 : decode cX8_execute 11 = .ok (.aload_n 1, 1) := dk_43 (dk_at dksX8_execute_0 11 rfl rfl)
theorem dX8_execute_12 : decode cX8_execute 12 = .ok (.invokevirtual 113, 3) := dk_182 0 113 (dk_at dksX8_execute_0 12 rfl rfl)
theorem dX8_execute_15 : decode cX8_execute 15 = .ok (.ifCond .eq 7, 3) := dk_153 0 7 (dk_at dksX8_execute_0 15 rfl rfl)
theorem dX8_execute_18 : decode cX8_execute 18 = .ok (.aconst_null, 1) := dk_1 (dk_at dksX8_execute_0 18 rfl rfl)
theorem dX8_execute_19 : decode cX8_execute 19 = .ok (.goto 7, 3) := dk_167 0 7 (dk_at dksX8_execute_0 19 rfl rfl)
theorem dX8_execute_22 : decode cX8_execute 22 = .ok (.aload_n 0, 1) := dk_42 (dk_at dksX8_execute_0 22 rfl rfl)
theorem dX8_execute_23 : decode cX8_execute 23 = .ok (.invokevirtual 116, 3) := dk_182 0 116 (dk_at dksX8_execute_1 0 rfl rfl)
theorem dX8_execute_26 : decode cX8_execute 26 = .ok (.astore_n 2, 1) := dk_77 (dk_at dksX8_execute_1 3 rfl rfl)
theorem dX8_execute_27 : decode cX8_execute 27 = .ok (.aload_n 2, 1) := dk_44 (dk_at dksX8_execute_1 4 rfl rfl)
theorem dX8_execute_28 : decode cX8_execute 28 = .ok (.ifnull 33, 3) := dk_198 0 33 (dk_at dksX8_execute_1 5 rfl rfl)
theorem dX8_execute_31 : decode cX8_execute 31 = .ok (.aload_n 0, 1) := dk_42 (dk_at dksX8_execute_1 8 rfl rfl)
theorem dX8_execute_32 : decode cX8_execute 32 = .ok (.getfield 18, 3) := dk_180 0 18 (dk_at dksX8_execute_1 9 rfl rfl)
theorem dX8_execute_35 : decode cX8_execute 35 = .ok (.aload_n 2, 1) := dk_44 (dk_at dksX8_execute_1 12 rfl rfl)
theorem dX8_execute_36 : decode cX8_execute 36 = .ok (.invokeinterface 120 2, 5) := by decide +kernel
theorem dX8_execute_41 : decode cX8_execute 41 = .ok (.pop, 1) := dk_87 (dk_at dksX8_execute_1 18 rfl rfl)
theorem dX8_execute_42 : decode cX8_execute 42 = .ok (.aload_n 0, 1) := dk_42 (dk_at dksX8_execute_1 19 rfl rfl)
theorem dX8_execute_43 : decode cX8_execute 43 = .ok (.getfield 12, 3) := dk_180 0 12 (dk_at dksX8_execute_1 20 rfl rfl)
theorem dX8_execute_46 : decode cX8_execute 46 = .ok (.aload_n 2, 1) := dk_44 (dk_at dksX8_execute_1 23 rfl rfl)
theorem dX8_execute_47 : decode cX8_execute 47 = .ok (.invokeinterface 86 2, 5) := by decide +kernel
theorem dX8_execute_52 : decode cX8_execute 52 = .ok (.pop, 1) := dk_87 (dk_at dksX8_execute_2 5 rfl rfl)
theorem dX8_execute_53 : decode cX8_execute 53 = .ok (.aload_n 0, 1) := dk_42 (dk_at dksX8_execute_2 6 rfl rfl)
theorem dX8_execute_54 : decode cX8_execute 54 = .ok (.invokevirtual 116, 3) := dk_182 0 116 (dk_at dksX8_execute_2 7 rfl rfl)
theorem dX8_execute_57 : decode cX8_execute 57 = .ok (.astore_n 2, 1) := dk_77 (dk_at dksX8_execute_2 10 rfl rfl)
theorem dX8_execute_58 : decode cX8_execute 58 = .ok (.goto (-31), 3) := dk_167 255 225 (dk_at dksX8_execute_2 11 rfl rfl)
theorem dX8_execute_61 : decode cX8_execute 61 = .ok (.return_, 1) := dk_177 (dk_at dksX8_execute_2 14 rfl rfl)
abbrev cX8_nextPossible : ByteArray := prog_4_method_8_code
def yX8_nextPossible : MethodName := ⟨RX8, "nextPossible", "()LScheduleAnalyzer$Operation;"⟩
def dkwX8_nextPossible_1 : List UInt8 := [153, 0, 5, 44, 176, 132, 1, 1, 167, 255, 228, 1, 176]
abbrev dktX8_nextPossible_1 : List UInt8 := dkwX8_nextPossible_1 ++ []
def dkwX8_nextPossible_0 : List UInt8 := [4, 60, 27, 8, 163, 0, 29, 42, 27, 182, 0, 123, 77, 44, 198, 0, 13, 42, 44, 182, 0, 79]
abbrev dktX8_nextPossible_0 : List UInt8 := dkwX8_nextPossible_0 ++ dktX8_nextPossible_1
theorem dksX8_nextPossible_0 : cX8_nextPossible.data.toList.drop 0 = dktX8_nextPossible_0 := by decide +kernel
theorem dksX8_nextPossible_1 : cX8_nextPossible.data.toList.drop 22 = dktX8_nextPossible_1 := dk_seg dksX8_nextPossible_0 22 rfl rfl
theorem dX8_nextPossible_0 : decode cX8_nextPossible 0 = .ok (.iconst 1, 1) := dk_4 (dk_at dksX8_nextPossible_0 0 rfl rfl)
theorem dX8_nextPossible_1 : decode cX8_nextPossible 1 = .ok (.istore_n 1, 1) := dk_60 (dk_at dksX8_nextPossible_0 1 rfl rfl)
theorem dX8_nextPossible_2 : decode cX8_nextPossible 2 = .ok (.iload_n 1, 1) := dk_27 (dk_at dksX8_nextPossible_0 2 rfl rfl)
theorem dX8_nextPossible_3 : decode cX8_nextPossible 3 = .ok (.iconst 5, 1) := dk_8 (dk_at dksX8_nextPossible_0 3 rfl rfl)
theorem dX8_nextPossible_4 : decode cX8_nextPossible 4 = .ok (.if_icmp .gt 29, 3) := dk_163 0 29 (dk_at dksX8_nextPossible_0 4 rfl rfl)
theorem dX8_nextPossible_7 : decode cX8_nextPossible 7 = .ok (.aload_n 0, 1) := dk_42 (dk_at dksX8_nextPossible_0 7 rfl rfl)
theorem dX8_nextPossible_8 : decode cX8_nextPossible 8 = .ok (.iload_n 1, 1) := dk_27 (dk_at dksX8_nextPossible_0 8 rfl rfl)
theorem dX8_nextPossible_9 : decode cX8_nextPossible 9 = .ok (.invokevirtual 123, 3) := dk_182 0 123 (dk_at dksX8_nextPossible_0 9 rfl rfl)
theorem dX8_nextPossible_12 : decode cX8_nextPossible 12 = .ok (.astore_n 2, 1) := dk_77 (dk_at dksX8_nextPossible_0 12 rfl rfl)
theorem dX8_nextPossible_13 : decode cX8_nextPossible 13 = .ok (.aload_n 2, 1) := dk_44 (dk_at dksX8_nextPossible_0 13 rfl rfl)
theorem dX8_nextPossible_14 : decode cX8_nextPossible 14 = .ok (.ifnull 13, 3) := dk_198 0 13 (dk_at dksX8_nextPossible_0 14 rfl rfl)
theorem dX8_nextPossible_17 : decode cX8_nextPossible 17 = .ok (.aload_n 0, 1) := dk_42 (dk_at dksX8_nextPossible_0 17 rfl rfl)
theorem dX8_nextPossible_18 : decode cX8_nextPossible 18 = .ok (.aload_n 2, 1) := dk_44 (dk_at dksX8_nextPossible_0 18 rfl rfl)
theorem dX8_nextPossible_19 : decode cX8_nextPossible 19 = .ok (.invokevirtual 79, 3) := dk_182 0 79 (dk_at dksX8_nextPossible_0 19 rfl rfl)
theorem dX8_nextPossible_22 : decode cX8_nextPossible 22 = .ok (.ifCond .eq 5, 3) := dk_153 0 5 (dk_at dksX8_nextPossible_1 0 rfl rfl)
theorem dX8_nextPossible_25 : decode cX8_nextPossible 25 = .ok (.aload_n 2, 1) := dk_44 (dk_at dksX8_nextPossible_1 3 rfl rfl)
theorem dX8_nextPossible_26 : decode cX8_nextPossible 26 = .ok (.areturn, 1) := dk_176 (dk_at dksX8_nextPossible_1 4 rfl rfl)
theorem dX8_nextPossible_27 : decode cX8_nextPossible 27 = .ok (.iinc 1 1, 3) := dk_132 1 1 (dk_at dksX8_nextPossible_1 5 rfl rfl)
theorem dX8_nextPossible_30 : decode cX8_nextPossible 30 = .ok (.goto (-28), 3) := dk_167 255 228 (dk_at dksX8_nextPossible_1 8 rfl rfl)
theorem dX8_nextPossible_33 : decode cX8_nextPossible 33 = .ok (.aconst_null, 1) := dk_1 (dk_at dksX8_nextPossible_1 11 rfl rfl)
theorem dX8_nextPossible_34 : decode cX8_nextPossible 34 = .ok (.areturn, 1) := dk_176 (dk_at dksX8_nextPossible_1 12 rfl rfl)
abbrev cX8_firstWaitingOf : ByteArray := prog_4_method_7_code
def yX8_firstWaitingOf : MethodName := ⟨RX8, "firstWaitingOf", "(I)LScheduleAnalyzer$Operation;"⟩
def dkwX8_firstWaitingOf_1 : List UInt8 := [185, 0, 38, 1, 0, 192, 0, 42, 78, 45, 180, 0, 44, 27, 160, 0, 5, 45, 176, 167, 255, 227, 1, 176]
abbrev dktX8_firstWaitingOf_1 : List UInt8 := dkwX8_firstWaitingOf_1 ++ []
def dkwX8_firstWaitingOf_0 : List UInt8 := [42, 180, 0, 18, 185, 0, 26, 1, 0, 77, 44, 185, 0, 32, 1, 0, 153, 0, 26, 44]
abbrev dktX8_firstWaitingOf_0 : List UInt8 := dkwX8_firstWaitingOf_0 ++ dktX8_firstWaitingOf_1
theorem dksX8_firstWaitingOf_0 : cX8_firstWaitingOf.data.toList.drop 0 = dktX8_firstWaitingOf_0 := by decide +kernel
theorem dksX8_firstWaitingOf_1 : cX8_firstWaitingOf.data.toList.drop 20 = dktX8_firstWaitingOf_1 := dk_seg dksX8_firstWaitingOf_0 20 rfl rfl
theorem dX8_firstWaitingOf_0 : decode cX8_firstWaitingOf 0 = .ok (.aload_n 0, 1) := dk_42 (dk_at dksX8_firstWaitingOf_0 0 rfl rfl)
theorem dX8_firstWaitingOf_1 : decode cX8_firstWaitingOf 1 = .ok (.getfield 18, 3) := dk_180 0 18 (dk_at dksX8_firstWaitingOf_0 1 rfl rfl)
theorem dX8_firstWaitingOf_4 : decode cX8_firstWaitingOf 4 = .ok (.invokeinterface 26 1, 5) := by decide +kernel
theorem dX8_firstWaitingOf_9 : decode cX8_firstWaitingOf 9 = .ok (.astore_n 2, 1) := dk_77 (dk_at dksX8_firstWaitingOf_0 9 rfl rfl)
theorem dX8_firstWaitingOf_10 : decode cX8_firstWaitingOf 10 = .ok (.aload_n 2, 1) := dk_44 (dk_at dksX8_firstWaitingOf_0 10 rfl rfl)
theorem dX8_firstWaitingOf_11 : decode cX8_firstWaitingOf 11 = .ok (.invokeinterface 32 1, 5) := by decide +kernel
theorem dX8_firstWaitingOf_16 : decode cX8_firstWaitingOf 16 = .ok (.ifCond .eq 26, 3) := dk_153 0 26 (dk_at dksX8_firstWaitingOf_0 16 rfl rfl)
theorem dX8_firstWaitingOf_19 : decode cX8_firstWaitingOf 19 = .ok (.aload_n 2, 1) := dk_44 (dk_at dksX8_firstWaitingOf_0 19 rfl rfl)
theorem dX8_firstWaitingOf_20 : decode cX8_firstWaitingOf 20 = .ok (.invokeinterface 38 1, 5) := by decide +kernel
theorem dX8_firstWaitingOf_25 : decode cX8_firstWaitingOf 25 = .ok (.checkcast 42, 3) := dk_192 0 42 (dk_at dksX8_firstWaitingOf_1 5 rfl rfl)
theorem dX8_firstWaitingOf_28 : decode cX8_firstWaitingOf 28 = .ok (.astore_n 3, 1) := dk_78 (dk_at dksX8_firstWaitingOf_1 8 rfl rfl)
theorem dX8_firstWaitingOf_29 : decode cX8_firstWaitingOf 29 = .ok (.aload_n 3, 1) := dk_45 (dk_at dksX8_firstWaitingOf_1 9 rfl rfl)
theorem dX8_firstWaitingOf_30 : decode cX8_firstWaitingOf 30 = .ok (.getfield 44, 3) := dk_180 0 44 (dk_at dksX8_firstWaitingOf_1 10 rfl rfl)
theorem dX8_firstWaitingOf_33 : decode cX8_firstWaitingOf 33 = .ok (.iload_n 1, 1) := dk_27 (dk_at dksX8_firstWaitingOf_1 13 rfl rfl)
theorem dX8_firstWaitingOf_34 : decode cX8_firstWaitingOf 34 = .ok (.if_icmp .ne 5, 3) := dk_160 0 5 (dk_at dksX8_firstWaitingOf_1 14 rfl rfl)
theorem dX8_firstWaitingOf_37 : decode cX8_firstWaitingOf 37 = .ok (.aload_n 3, 1) := dk_45 (dk_at dksX8_firstWaitingOf_1 17 rfl rfl)
theorem dX8_firstWaitingOf_38 : decode cX8_firstWaitingOf 38 = .ok (.areturn, 1) := dk_176 (dk_at dksX8_firstWaitingOf_1 18 rfl rfl)
theorem dX8_firstWaitingOf_39 : decode cX8_firstWaitingOf 39 = .ok (.goto (-29), 3) := dk_167 255 227 (dk_at dksX8_firstWaitingOf_1 19 rfl rfl)
theorem dX8_firstWaitingOf_42 : decode cX8_firstWaitingOf 42 = .ok (.aconst_null, 1) := dk_1 (dk_at dksX8_firstWaitingOf_1 22 rfl rfl)
theorem dX8_firstWaitingOf_43 : decode cX8_firstWaitingOf 43 = .ok (.areturn, 1) := dk_176 (dk_at dksX8_firstWaitingOf_1 23 rfl rfl)
abbrev cX8_waitingGraph : ByteArray := prog_4_method_9_code
def yX8_waitingGraph : MethodName := ⟨RX8, "waitingGraph", "()LScheduleAnalyzer$Graph;"⟩
def dkwX8_waitingGraph_6 : List UInt8 := [167, 255, 159, 44, 176]
abbrev dktX8_waitingGraph_6 : List UInt8 := dkwX8_waitingGraph_6 ++ []
def dkwX8_waitingGraph_5 : List UInt8 := [182, 0, 71, 153, 0, 17, 44, 21, 7, 184, 0, 127, 21, 4, 184, 0, 127, 182, 0, 138, 167, 255, 201]
abbrev dktX8_waitingGraph_5 : List UInt8 := dkwX8_waitingGraph_5 ++ dktX8_waitingGraph_6
def dkwX8_waitingGraph_4 : List UInt8 := [185, 0, 38, 1, 0, 192, 0, 103, 182, 0, 105, 54, 7, 25, 5, 198, 0, 28, 42, 25, 5, 21, 7]
abbrev dktX8_waitingGraph_4 : List UInt8 := dkwX8_waitingGraph_4 ++ dktX8_waitingGraph_5
def dkwX8_waitingGraph_3 : List UInt8 := [58, 5, 43, 185, 0, 26, 1, 0, 58, 6, 25, 6, 185, 0, 32, 1, 0, 153, 0, 51, 25, 6]
abbrev dktX8_waitingGraph_3 : List UInt8 := dkwX8_waitingGraph_3 ++ dktX8_waitingGraph_4
def dkwX8_waitingGraph_2 : List UInt8 := [153, 0, 94, 45, 185, 0, 38, 1, 0, 192, 0, 103, 182, 0, 105, 54, 4, 42, 21, 4, 182, 0, 123]
abbrev dktX8_waitingGraph_2 : List UInt8 := dkwX8_waitingGraph_2 ++ dktX8_waitingGraph_3
def dkwX8_waitingGraph_1 : List UInt8 := [187, 0, 98, 89, 43, 183, 0, 135, 77, 43, 185, 0, 26, 1, 0, 78, 45, 185, 0, 32, 1, 0]
abbrev dktX8_waitingGraph_1 : List UInt8 := dkwX8_waitingGraph_1 ++ dktX8_waitingGraph_2
def dkwX8_waitingGraph_0 : List UInt8 := [4, 184, 0, 127, 5, 184, 0, 127, 6, 184, 0, 127, 7, 184, 0, 127, 8, 184, 0, 127, 184, 0, 131, 76]
abbrev dktX8_waitingGraph_0 : List UInt8 := dkwX8_waitingGraph_0 ++ dktX8_waitingGraph_1
theorem dksX8_waitingGraph_0 : cX8_waitingGraph.data.toList.drop 0 = dktX8_waitingGraph_0 := by decide +kernel
theorem dksX8_waitingGraph_1 : cX8_waitingGraph.data.toList.drop 24 = dktX8_waitingGraph_1 := dk_seg dksX8_waitingGraph_0 24 rfl rfl
theorem dksX8_waitingGraph_2 : cX8_waitingGraph.data.toList.drop 46 = dktX8_waitingGraph_2 := dk_seg dksX8_waitingGraph_1 22 rfl rfl
theorem dksX8_waitingGraph_3 : cX8_waitingGraph.data.toList.drop 69 = dktX8_waitingGraph_3 := dk_seg dksX8_waitingGraph_2 23 rfl rfl
theorem dksX8_waitingGraph_4 : cX8_waitingGraph.data.toList.drop 91 = dktX8_waitingGraph_4 := dk_seg dksX8_waitingGraph_3 22 rfl rfl
theorem dksX8_waitingGraph_5 : cX8_waitingGraph.data.toList.drop 114 = dktX8_waitingGraph_5 := dk_seg dksX8_waitingGraph_4 23 rfl rfl
theorem dksX8_waitingGraph_6 : cX8_waitingGraph.data.toList.drop 137 = dktX8_waitingGraph_6 := dk_seg dksX8_waitingGraph_5 23 rfl rfl
theorem dX8_waitingGraph_0 : decode cX8_waitingGraph 0 = .ok (.iconst 1, 1) := dk_4 (dk_at dksX8_waitingGraph_0 0 rfl rfl)
theorem dX8_waitingGraph_1 : decode cX8_waitingGraph 1 = .ok (.invokestatic 127, 3) := dk_184 0 127 (dk_at dksX8_waitingGraph_0 1 rfl rfl)
theorem dX8_waitingGraph_4 : decode cX8_waitingGraph 4 = .ok (.iconst 2, 1) := dk_5 (dk_at dksX8_waitingGraph_0 4 rfl rfl)
theorem dX8_waitingGraph_5 : decode cX8_waitingGraph 5 = .ok (.invokestatic 127, 3) := dk_184 0 127 (dk_at dksX8_waitingGraph_0 5 rfl rfl)
theorem dX8_waitingGraph_8 : decode cX8_waitingGraph 8 = .ok (.iconst 3, 1) := dk_6 (dk_at dksX8_waitingGraph_0 8 rfl rfl)
theorem dX8_waitingGraph_9 : decode cX8_waitingGraph 9 = .ok (.invokestatic 127, 3) := dk_184 0 127 (dk_at dksX8_waitingGraph_0 9 rfl rfl)
theorem dX8_waitingGraph_12 : decode cX8_waitingGraph 12 = .ok (.iconst 4, 1) := dk_7 (dk_at dksX8_waitingGraph_0 12 rfl rfl)
theorem dX8_waitingGraph_13 : decode cX8_waitingGraph 13 = .ok (.invokestatic 127, 3) := dk_184 0 127 (dk_at dksX8_waitingGraph_0 13 rfl rfl)
theorem dX8_waitingGraph_16 : decode cX8_waitingGraph 16 = .ok (.iconst 5, 1) := dk_8 (dk_at dksX8_waitingGraph_0 16 rfl rfl)
theorem dX8_waitingGraph_17 : decode cX8_waitingGraph 17 = .ok (.invokestatic 127, 3) := dk_184 0 127 (dk_at dksX8_waitingGraph_0 17 rfl rfl)
theorem dX8_waitingGraph_20 : decode cX8_waitingGraph 20 = .ok (.invokestatic 131, 3) := dk_184 0 131 (dk_at dksX8_waitingGraph_0 20 rfl rfl)
theorem dX8_waitingGraph_23 : decode cX8_waitingGraph 23 = .ok (.astore_n 1, 1) := dk_76 (dk_at dksX8_waitingGraph_0 23 rfl rfl)
theorem dX8_waitingGraph_24 : decode cX8_waitingGraph 24 = .ok (.new 98, 3) := dk_187 0 98 (dk_at dksX8_waitingGraph_1 0 rfl rfl)
theorem dX8_waitingGraph_27 : decode cX8_waitingGraph 27 = .ok (.dup, 1) := dk_89 (dk_at dksX8_waitingGraph_1 3 rfl rfl)
theorem dX8_waitingGraph_28 : decode cX8_waitingGraph 28 = .ok (.aload_n 1, 1) := dk_43 (dk_at dksX8_waitingGraph_1 4 rfl rfl)
theorem dX8_waitingGraph_29 : decode cX8_waitingGraph 29 = .ok (.invokespecial 135, 3) := dk_183 0 135 (dk_at dksX8_waitingGraph_1 5 rfl rfl)
theorem dX8_waitingGraph_32 : decode cX8_waitingGraph 32 = .ok (.astore_n 2, 1) := dk_77 (dk_at dksX8_waitingGraph_1 8 rfl rfl)
theorem dX8_waitingGraph_33 : decode cX8_waitingGraph 33 = .ok (.aload_n 1, 1) := dk_43 (dk_at dksX8_waitingGraph_1 9 rfl rfl)
theorem dX8_waitingGraph_34 : decode cX8_waitingGraph 34 = .ok (.invokeinterface 26 1, 5) := by decide +kernel
theorem dX8_waitingGraph_39 : decode cX8_waitingGraph 39 = .ok (.astore_n 3, 1) := dk_78 (dk_at dksX8_waitingGraph_1 15 rfl rfl)
theorem dX8_waitingGraph_40 : decode cX8_waitingGraph 40 = .ok (.aload_n 3, 1) := dk_45 (dk_at dksX8_waitingGraph_1 16 rfl rfl)
theorem dX8_waitingGraph_41 : decode cX8_waitingGraph 41 = .ok (.invokeinterface 32 1, 5) := by decide +kernel
theorem dX8_waitingGraph_46 : decode cX8_waitingGraph 46 = .ok (.ifCond .eq 94, 3) := dk_153 0 94 (dk_at dksX8_waitingGraph_2 0 rfl rfl)
theorem dX8_waitingGraph_49 : decode cX8_waitingGraph 49 = .ok (.aload_n 3, 1) := dk_45 (dk_at dksX8_waitingGraph_2 3 rfl rfl)
theorem dX8_waitingGraph_50 : decode cX8_waitingGraph 50 = .ok (.invokeinterface 38 1, 5) := by decide +kernel
theorem dX8_waitingGraph_55 : decode cX8_waitingGraph 55 = .ok (.checkcast 103, 3) := dk_192 0 103 (dk_at dksX8_waitingGraph_2 9 rfl rfl)
theorem dX8_waitingGraph_58 : decode cX8_waitingGraph 58 = .ok (.invokevirtual 105, 3) := dk_182 0 105 (dk_at dksX8_waitingGraph_2 12 rfl rfl)
theorem dX8_waitingGraph_61 : decode cX8_waitingGraph 61 = .ok (.istore 4, 2) := dk_54 4 (dk_at dksX8_waitingGraph_2 15 rfl rfl)
theorem dX8_waitingGraph_63 : decode cX8_waitingGraph 63 = .ok (.aload_n 0, 1) := dk_42 (dk_at dksX8_waitingGraph_2 17 rfl rfl)
theorem dX8_waitingGraph_64 : decode cX8_waitingGraph 64 = .ok (.iload 4, 2) := dk_21 4 (dk_at dksX8_waitingGraph_2 18 rfl rfl)
theorem dX8_waitingGraph_66 : decode cX8_waitingGraph 66 = .ok (.invokevirtual 123, 3) := dk_182 0 123 (dk_at dksX8_waitingGraph_2 20 rfl rfl)
theorem dX8_waitingGraph_69 : decode cX8_waitingGraph 69 = .ok (.astore 5, 2) := dk_58 5 (dk_at dksX8_waitingGraph_3 0 rfl rfl)
theorem dX8_waitingGraph_71 : decode cX8_waitingGraph 71 = .ok (.aload_n 1, 1) := dk_43 (dk_at dksX8_waitingGraph_3 2 rfl rfl)
theorem dX8_waitingGraph_72 : decode cX8_waitingGraph 72 = .ok (.invokeinterface 26 1, 5) := by decide +kernel
theorem dX8_waitingGraph_77 : decode cX8_waitingGraph 77 = .ok (.astore 6, 2) := dk_58 6 (dk_at dksX8_waitingGraph_3 8 rfl rfl)
theorem dX8_waitingGraph_79 : decode cX8_waitingGraph 79 = .ok (.aload 6, 2) := dk_25 6 (dk_at dksX8_waitingGraph_3 10 rfl rfl)
theorem dX8_waitingGraph_81 : decode cX8_waitingGraph 81 = .ok (.invokeinterface 32 1, 5) := by decide +kernel
theorem dX8_waitingGraph_86 : decode cX8_waitingGraph 86 = .ok (.ifCond .eq 51, 3) := dk_153 0 51 (dk_at dksX8_waitingGraph_3 17 rfl rfl)
theorem dX8_waitingGraph_89 : decode cX8_waitingGraph 89 = .ok (.aload 6, 2) := dk_25 6 (dk_at dksX8_waitingGraph_3 20 rfl rfl)
theorem dX8_waitingGraph_91 : decode cX8_waitingGraph 91 = .ok (.invokeinterface 38 1, 5) := by decide +kernel
theorem dX8_waitingGraph_96 : decode cX8_waitingGraph 96 = .ok (.checkcast 103, 3) := dk_192 0 103 (dk_at dksX8_waitingGraph_4 5 rfl rfl)
theorem dX8_waitingGraph_99 : decode cX8_waitingGraph 99 = .ok (.invokevirtual 105, 3) := dk_182 0 105 (dk_at dksX8_waitingGraph_4 8 rfl rfl)
theorem dX8_waitingGraph_102 : decode cX8_waitingGraph 102 = .ok (.istore 7, 2) := dk_54 7 (dk_at dksX8_waitingGraph_4 11 rfl rfl)
theorem dX8_waitingGraph_104 : decode cX8_waitingGraph 104 = .ok (.aload 5, 2) := dk_25 5 (dk_at dksX8_waitingGraph_4 13 rfl rfl)
theorem dX8_waitingGraph_106 : decode cX8_waitingGraph 106 = .ok (.ifnull 28, 3) := dk_198 0 28 (dk_at dksX8_waitingGraph_4 15 rfl rfl)
theorem dX8_waitingGraph_109 : decode cX8_waitingGraph 109 = .ok (.aload_n 0, 1) := dk_42 (dk_at dksX8_waitingGraph_4 18 rfl rfl)
theorem dX8_waitingGraph_110 : decode cX8_waitingGraph 110 = .ok (.aload 5, 2) := dk_25 5 (dk_at dksX8_waitingGraph_4 19 rfl rfl)
theorem dX8_waitingGraph_112 : decode cX8_waitingGraph 112 = .ok (.iload 7, 2) := dk_21 7 (dk_at dksX8_waitingGraph_4 21 rfl rfl)
theorem dX8_waitingGraph_114 : decode cX8_waitingGraph 114 = .ok (.invokevirtual 71, 3) := dk_182 0 71 (dk_at dksX8_waitingGraph_5 0 rfl rfl)
theorem dX8_waitingGraph_117 : decode cX8_waitingGraph 117 = .ok (.ifCond .eq 17, 3) := dk_153 0 17 (dk_at dksX8_waitingGraph_5 3 rfl rfl)
theorem dX8_waitingGraph_120 : decode cX8_waitingGraph 120 = .ok (.aload_n 2, 1) := dk_44 (dk_at dksX8_waitingGraph_5 6 rfl rfl)
theorem dX8_waitingGraph_121 : decode cX8_waitingGraph 121 = .ok (.iload 7, 2) := dk_21 7 (dk_at dksX8_waitingGraph_5 7 rfl rfl)
theorem dX8_waitingGraph_123 : decode cX8_waitingGraph 123 = .ok (.invokestatic 127, 3) := dk_184 0 127 (dk_at dksX8_waitingGraph_5 9 rfl rfl)
theorem dX8_waitingGraph_126 : decode cX8_waitingGraph 126 = .ok (.iload 4, 2) := dk_21 4 (dk_at dksX8_waitingGraph_5 12 rfl rfl)
theorem dX8_waitingGraph_128 : decode cX8_waitingGraph 128 = .ok (.invokestatic 127, 3) := dk_184 0 127 (dk_at dksX8_waitingGraph_5 14 rfl rfl)
theorem dX8_waitingGraph_131 : decode cX8_waitingGraph 131 = .ok (.invokevirtual 138, 3) := dk_182 0 138 (dk_at dksX8_waitingGraph_5 17 rfl rfl)
theorem dX8_waitingGraph_134 : decode cX8_waitingGraph 134 = .ok (.goto (-55), 3) := dk_167 255 201 (dk_at dksX8_waitingGraph_5 20 rfl rfl)
theorem dX8_waitingGraph_137 : decode cX8_waitingGraph 137 = .ok (.goto (-97), 3) := dk_167 255 159 (dk_at dksX8_waitingGraph_6 0 rfl rfl)
theorem dX8_waitingGraph_140 : decode cX8_waitingGraph 140 = .ok (.aload_n 2, 1) := dk_44 (dk_at dksX8_waitingGraph_6 3 rfl rfl)
theorem dX8_waitingGraph_141 : decode cX8_waitingGraph 141 = .ok (.areturn, 1) := dk_176 (dk_at dksX8_waitingGraph_6 4 rfl rfl)
abbrev cX8_sacrifice : ByteArray := prog_4_method_10_code
def yX8_sacrifice : MethodName := ⟨RX8, "sacrifice", "(I)V"⟩
def dkwX8_sacrifice_3 : List UInt8 := [167, 255, 209, 42, 187, 0, 42, 89, 16, 120, 27, 16, 97, 183, 0, 149, 182, 0, 83, 177]
abbrev dktX8_sacrifice_3 : List UInt8 := dkwX8_sacrifice_3 ++ []
def dkwX8_sacrifice_2 : List UInt8 := [42, 180, 0, 18, 42, 180, 0, 18, 28, 185, 0, 145, 2, 0, 185, 0, 120, 2, 0, 87, 132, 2, 255]
abbrev dktX8_sacrifice_2 : List UInt8 := dkwX8_sacrifice_2 ++ dktX8_sacrifice_3
def dkwX8_sacrifice_1 : List UInt8 := [28, 155, 0, 49, 42, 180, 0, 18, 28, 185, 0, 145, 2, 0, 192, 0, 42, 180, 0, 44, 27, 160, 0, 23]
abbrev dktX8_sacrifice_1 : List UInt8 := dkwX8_sacrifice_1 ++ dktX8_sacrifice_2
def dkwX8_sacrifice_0 : List UInt8 := [42, 89, 180, 0, 48, 4, 27, 120, 128, 181, 0, 48, 42, 180, 0, 18, 185, 0, 142, 1, 0, 4, 100, 61]
abbrev dktX8_sacrifice_0 : List UInt8 := dkwX8_sacrifice_0 ++ dktX8_sacrifice_1
theorem dksX8_sacrifice_0 : cX8_sacrifice.data.toList.drop 0 = dktX8_sacrifice_0 := by decide +kernel
theorem dksX8_sacrifice_1 : cX8_sacrifice.data.toList.drop 24 = dktX8_sacrifice_1 := dk_seg dksX8_sacrifice_0 24 rfl rfl
theorem dksX8_sacrifice_2 : cX8_sacrifice.data.toList.drop 48 = dktX8_sacrifice_2 := dk_seg dksX8_sacrifice_1 24 rfl rfl
theorem dksX8_sacrifice_3 : cX8_sacrifice.data.toList.drop 71 = dktX8_sacrifice_3 := dk_seg dksX8_sacrifice_2 23 rfl rfl
theorem dX8_sacrifice_0 : decode cX8_sacrifice 0 = .ok (.aload_n 0, 1) := dk_42 (dk_at dksX8_sacrifice_0 0 rfl rfl)
theorem dX8_sacrifice_1 : decode cX8_sacrifice 1 = .ok (.dup, 1) := dk_89 (dk_at dksX8_sacrifice_0 1 rfl rfl)
theorem dX8_sacrifice_2 : decode cX8_sacrifice 2 = .ok (.getfield 48, 3) := dk_180 0 48 (dk_at dksX8_sacrifice_0 2 rfl rfl)
theorem dX8_sacrifice_5 : decode cX8_sacrifice 5 = .ok (.iconst 1, 1) := dk_4 (dk_at dksX8_sacrifice_0 5 rfl rfl)
theorem dX8_sacrifice_6 : decode cX8_sacrifice 6 = .ok (.iload_n 1, 1) := dk_27 (dk_at dksX8_sacrifice_0 6 rfl rfl)
theorem dX8_sacrifice_7 : decode cX8_sacrifice 7 = .ok (.ishl, 1) := dk_120 (dk_at dksX8_sacrifice_0 7 rfl rfl)
theorem dX8_sacrifice_8 : decode cX8_sacrifice 8 = .ok (.ior, 1) := dk_128 (dk_at dksX8_sacrifice_0 8 rfl rfl)
theorem dX8_sacrifice_9 : decode cX8_sacrifice 9 = .ok (.putfield 48, 3) := dk_181 0 48 (dk_at dksX8_sacrifice_0 9 rfl rfl)
theorem dX8_sacrifice_12 : decode cX8_sacrifice 12 = .ok (.aload_n 0, 1) := dk_42 (dk_at dksX8_sacrifice_0 12 rfl rfl)
theorem dX8_sacrifice_13 : decode cX8_sacrifice 13 = .ok (.getfield 18, 3) := dk_180 0 18 (dk_at dksX8_sacrifice_0 13 rfl rfl)
theorem dX8_sacrifice_16 : decode cX8_sacrifice 16 = .ok (.invokeinterface 142 1, 5) := by decide +kernel
theorem dX8_sacrifice_21 : decode cX8_sacrifice 21 = .ok (.iconst 1, 1) := dk_4 (dk_at dksX8_sacrifice_0 21 rfl rfl)
theorem dX8_sacrifice_22 : decode cX8_sacrifice 22 = .ok (.isub, 1) := dk_100 (dk_at dksX8_sacrifice_0 22 rfl rfl)
theorem dX8_sacrifice_23 : decode cX8_sacrifice 23 = .ok (.istore_n 2, 1) := dk_61 (dk_at dksX8_sacrifice_0 23 rfl rfl)
theorem dX8_sacrifice_24 : decode cX8_sacrifice 24 = .ok (.iload_n 2, 1) := dk_28 (dk_at dksX8_sacrifice_1 0 rfl rfl)
theorem dX8_sacrifice_25 : decode cX8_sacrifice 25 = .ok (.ifCond .lt 49, 3) := dk_155 0 49 (dk_at dksX8_sacrifice_1 1 rfl rfl)
theorem dX8_sacrifice_28 : decode cX8_sacrifice 28 = .ok (.aload_n 0, 1) := dk_42 (dk_at dksX8_sacrifice_1 4 rfl rfl)
theorem dX8_sacrifice_29 : decode cX8_sacrifice 29 = .ok (.getfield 18, 3) := dk_180 0 18 (dk_at dksX8_sacrifice_1 5 rfl rfl)
theorem dX8_sacrifice_32 : decode cX8_sacrifice 32 = .ok (.iload_n 2, 1) := dk_28 (dk_at dksX8_sacrifice_1 8 rfl rfl)
theorem dX8_sacrifice_33 : decode cX8_sacrifice 33 = .ok (.invokeinterface 145 2, 5) := by decide +kernel
theorem dX8_sacrifice_38 : decode cX8_sacrifice 38 = .ok (.checkcast 42, 3) := dk_192 0 42 (dk_at dksX8_sacrifice_1 14 rfl rfl)
theorem dX8_sacrifice_41 : decode cX8_sacrifice 41 = .ok (.getfield 44, 3) := dk_180 0 44 (dk_at dksX8_sacrifice_1 17 rfl rfl)
theorem dX8_sacrifice_44 : decode cX8_sacrifice 44 = .ok (.iload_n 1, 1) := dk_27 (dk_at dksX8_sacrifice_1 20 rfl rfl)
theorem dX8_sacrifice_45 : decode cX8_sacrifice 45 = .ok (.if_icmp .ne 23, 3) := dk_160 0 23 (dk_at dksX8_sacrifice_1 21 rfl rfl)
theorem dX8_sacrifice_48 : decode cX8_sacrifice 48 = .ok (.aload_n 0, 1) := dk_42 (dk_at dksX8_sacrifice_2 0 rfl rfl)
theorem dX8_sacrifice_49 : decode cX8_sacrifice 49 = .ok (.getfield 18, 3) := dk_180 0 18 (dk_at dksX8_sacrifice_2 1 rfl rfl)
theorem dX8_sacrifice_52 : decode cX8_sacrifice 52 = .ok (.aload_n 0, 1) := dk_42 (dk_at dksX8_sacrifice_2 4 rfl rfl)
theorem dX8_sacrifice_53 : decode cX8_sacrifice 53 = .ok (.getfield 18, 3) := dk_180 0 18 (dk_at dksX8_sacrifice_2 5 rfl rfl)
theorem dX8_sacrifice_56 : decode cX8_sacrifice 56 = .ok (.iload_n 2, 1) := dk_28 (dk_at dksX8_sacrifice_2 8 rfl rfl)
theorem dX8_sacrifice_57 : decode cX8_sacrifice 57 = .ok (.invokeinterface 145 2, 5) := by decide +kernel
theorem dX8_sacrifice_62 : decode cX8_sacrifice 62 = .ok (.invokeinterface 120 2, 5) := by decide +kernel
theorem dX8_sacrifice_67 : decode cX8_sacrifice 67 = .ok (.pop, 1) := dk_87 (dk_at dksX8_sacrifice_2 19 rfl rfl)
theorem dX8_sacrifice_68 : decode cX8_sacrifice 68 = .ok (.iinc 2 (-1), 3) := dk_132 2 255 (dk_at dksX8_sacrifice_2 20 rfl rfl)
theorem dX8_sacrifice_71 : decode cX8_sacrifice 71 = .ok (.goto (-47), 3) := dk_167 255 209 (dk_at dksX8_sacrifice_3 0 rfl rfl)
theorem dX8_sacrifice_74 : decode cX8_sacrifice 74 = .ok (.aload_n 0, 1) := dk_42 (dk_at dksX8_sacrifice_3 3 rfl rfl)
theorem dX8_sacrifice_75 : decode cX8_sacrifice 75 = .ok (.new 42, 3) := dk_187 0 42 (dk_at dksX8_sacrifice_3 4 rfl rfl)
theorem dX8_sacrifice_78 : decode cX8_sacrifice 78 = .ok (.dup, 1) := dk_89 (dk_at dksX8_sacrifice_3 7 rfl rfl)
theorem dX8_sacrifice_79 : decode cX8_sacrifice 79 = .ok (.bipush 120, 2) := dk_16 120 (dk_at dksX8_sacrifice_3 8 rfl rfl)
theorem dX8_sacrifice_81 : decode cX8_sacrifice 81 = .ok (.iload_n 1, 1) := dk_27 (dk_at dksX8_sacrifice_3 10 rfl rfl)
theorem dX8_sacrifice_82 : decode cX8_sacrifice 82 = .ok (.bipush 97, 2) := dk_16 97 (dk_at dksX8_sacrifice_3 11 rfl rfl)
theorem dX8_sacrifice_84 : decode cX8_sacrifice 84 = .ok (.invokespecial 149, 3) := dk_183 0 149 (dk_at dksX8_sacrifice_3 13 rfl rfl)
theorem dX8_sacrifice_87 : decode cX8_sacrifice 87 = .ok (.invokevirtual 83, 3) := dk_182 0 83 (dk_at dksX8_sacrifice_3 16 rfl rfl)
theorem dX8_sacrifice_90 : decode cX8_sacrifice 90 = .ok (.return_, 1) := dk_177 (dk_at dksX8_sacrifice_3 19 rfl rfl)
theorem q156 : (Jvm.Cond.initialized "ScheduleAnalyzer$Locking") ∈ lw_all := lw_g (lw_at lw_m1 42 rfl) rfl
theorem q744 : (Jvm.Cond.selects "ScheduleAnalyzer$Locking" ({ cls := "java/lang/Object", name := "getClass", desc := "()Ljava/lang/Class;" } : Jvm.MethodName) ({ cls := "java/lang/Object", name := "getClass", desc := "()Ljava/lang/Class;" } : Jvm.MethodName)) ∈ lw_all := lw_g (lw_at lw_m3 150 rfl) rfl
theorem q805 : (Jvm.Cond.fieldLinkNest "ScheduleAnalyzer$Locking" (21 : Nat) "ScheduleAnalyzer$Schedule" "operations" "Ljava/util/List;" "ScheduleAnalyzer") ∈ lw_tbl := lw_at lw_m3 211 rfl
theorem q1664 : (Jvm.Cond.fieldLinkNest "ScheduleAnalyzer$Locking" (44 : Nat) "ScheduleAnalyzer$Operation" "transaction" "I" "ScheduleAnalyzer") ∈ lw_tbl := lw_at lw_m7 110 rfl
theorem q1835 : (Jvm.Cond.selects "ScheduleAnalyzer$Locking" ({ cls := "java/lang/Object", name := "equals", desc := "(Ljava/lang/Object;)Z" } : Jvm.MethodName) ({ cls := "java/lang/Object", name := "equals", desc := "(Ljava/lang/Object;)Z" } : Jvm.MethodName)) ∈ lw_all := lw_g (lw_at lw_m8 41 rfl) rfl
theorem q1953 : (Jvm.Cond.instantiable "ScheduleAnalyzer$Locking" (4 : Nat)) ∈ lw_all := lw_g (lw_at lw_m8 159 rfl) rfl
theorem q1955 : (Jvm.Cond.instanceMethod ({ cls := "ScheduleAnalyzer$Locking", name := "<init>", desc := "(LScheduleAnalyzer$Schedule;)V" } : Jvm.MethodName)) ∈ lw_all := lw_g (lw_at lw_m8 161 rfl) rfl
theorem q1956 : (Jvm.Cond.code ({ cls := "ScheduleAnalyzer$Locking", name := "<init>", desc := "(LScheduleAnalyzer$Schedule;)V" } : Jvm.MethodName) prog_4_method_1_code (4 : Nat) (Option.none : Option Jvm.ClassFile.FieldType)) ∈ lw_all := lw_g (lw_at lw_m8 162 rfl) rfl
theorem q1957 : (Jvm.Cond.methodLink "ScheduleAnalyzer$Locking" (3 : Nat) ({ cls := "java/lang/Object", name := "<init>", desc := "()V" } : Jvm.MethodName)) ∈ lw_all := lw_g (lw_at lw_m8 163 rfl) rfl
theorem q1958 : (Jvm.Cond.classLink "ScheduleAnalyzer$Locking" (9 : Nat) "java/util/ArrayList") ∈ lw_all := lw_g (lw_at lw_m8 164 rfl) rfl
theorem q1959 : (Jvm.Cond.methodLink "ScheduleAnalyzer$Locking" (11 : Nat) ({ cls := "java/util/ArrayList", name := "<init>", desc := "()V" } : Jvm.MethodName)) ∈ lw_all := lw_g (lw_at lw_m8 165 rfl) rfl
theorem q1960 : (Jvm.Cond.interfaceEntry "ScheduleAnalyzer$Locking" (26 : Nat)) ∈ lw_tbl := lw_at lw_m8 166 rfl
theorem q1961 : (Jvm.Cond.methodLink "ScheduleAnalyzer$Locking" (26 : Nat) ({ cls := "java/util/List", name := "iterator", desc := "()Ljava/util/Iterator;" } : Jvm.MethodName)) ∈ lw_all := lw_g (lw_at lw_m8 167 rfl) rfl
theorem q1962 : (Jvm.Cond.interfaceEntry "ScheduleAnalyzer$Locking" (32 : Nat)) ∈ lw_tbl := lw_at lw_m8 168 rfl
theorem q1963 : (Jvm.Cond.methodLink "ScheduleAnalyzer$Locking" (32 : Nat) ({ cls := "java/util/Iterator", name := "hasNext", desc := "()Z" } : Jvm.MethodName)) ∈ lw_all := lw_g (lw_at lw_m8 169 rfl) rfl
theorem q1964 : (Jvm.Cond.interfaceEntry "ScheduleAnalyzer$Locking" (38 : Nat)) ∈ lw_tbl := lw_at lw_m8 170 rfl
theorem q1965 : (Jvm.Cond.methodLink "ScheduleAnalyzer$Locking" (38 : Nat) ({ cls := "java/util/Iterator", name := "next", desc := "()Ljava/lang/Object;" } : Jvm.MethodName)) ∈ lw_all := lw_g (lw_at lw_m8 171 rfl) rfl
theorem q1966 : (Jvm.Cond.classLink "ScheduleAnalyzer$Locking" (42 : Nat) "ScheduleAnalyzer$Operation") ∈ lw_all := lw_g (lw_at lw_m8 172 rfl) rfl
theorem q1967 : (Jvm.Cond.methodLinkNest "ScheduleAnalyzer$Locking" (51 : Nat) ({ cls := "ScheduleAnalyzer", name := "isIn", desc := "(II)Z" } : Jvm.MethodName) "ScheduleAnalyzer") ∈ lw_tbl := lw_at lw_m8 173 rfl
theorem q1968 : (Jvm.Cond.methodLink "ScheduleAnalyzer$Locking" (55 : Nat) ({ cls := "ScheduleAnalyzer$Locking", name := "attempt", desc := "(LScheduleAnalyzer$Operation;)V" } : Jvm.MethodName)) ∈ lw_all := lw_g (lw_at lw_m8 174 rfl) rfl
theorem q1969 : (Jvm.Cond.privateMethod ({ cls := "ScheduleAnalyzer$Locking", name := "attempt", desc := "(LScheduleAnalyzer$Operation;)V" } : Jvm.MethodName)) ∈ lw_tbl := lw_at lw_m8 175 rfl
theorem q1970 : (Jvm.Cond.instanceMethod ({ cls := "ScheduleAnalyzer$Locking", name := "attempt", desc := "(LScheduleAnalyzer$Operation;)V" } : Jvm.MethodName)) ∈ lw_all := lw_g (lw_at lw_m8 176 rfl) rfl
theorem q1971 : (Jvm.Cond.code ({ cls := "ScheduleAnalyzer$Locking", name := "attempt", desc := "(LScheduleAnalyzer$Operation;)V" } : Jvm.MethodName) prog_4_method_5_code (3 : Nat) (Option.none : Option Jvm.ClassFile.FieldType)) ∈ lw_all := lw_g (lw_at lw_m8 177 rfl) rfl
theorem q1972 : (Jvm.Cond.methodLink "ScheduleAnalyzer$Locking" (75 : Nat) ({ cls := "ScheduleAnalyzer$Locking", name := "isWaiting", desc := "(I)Z" } : Jvm.MethodName)) ∈ lw_all := lw_g (lw_at lw_m8 178 rfl) rfl
theorem q1973 : (Jvm.Cond.privateMethod ({ cls := "ScheduleAnalyzer$Locking", name := "isWaiting", desc := "(I)Z" } : Jvm.MethodName)) ∈ lw_tbl := lw_at lw_m8 179 rfl
theorem q1974 : (Jvm.Cond.instanceMethod ({ cls := "ScheduleAnalyzer$Locking", name := "isWaiting", desc := "(I)Z" } : Jvm.MethodName)) ∈ lw_all := lw_g (lw_at lw_m8 180 rfl) rfl
theorem q1975 : (Jvm.Cond.code ({ cls := "ScheduleAnalyzer$Locking", name := "isWaiting", desc := "(I)Z" } : Jvm.MethodName) prog_4_method_2_code (2 : Nat) (Option.some Jvm.ClassFile.FieldType.boolean)) ∈ lw_all := lw_g (lw_at lw_m8 181 rfl) rfl
theorem q1976 : (Jvm.Cond.static ({ cls := "ScheduleAnalyzer$Locking", name := "lambda$isWaiting$0", desc := "(ILScheduleAnalyzer$Operation;)Z" } : Jvm.MethodName)) ∈ lw_all := lw_g (lw_at lw_m8 182 rfl) rfl
theorem q1977 : (Jvm.Cond.code ({ cls := "ScheduleAnalyzer$Locking", name := "lambda$isWaiting$0", desc := "(ILScheduleAnalyzer$Operation;)Z" } : Jvm.MethodName) prog_4_method_13_code (2 : Nat) (Option.some Jvm.ClassFile.FieldType.boolean)) ∈ lw_all := lw_g (lw_at lw_m8 183 rfl) rfl
theorem q1978 : (Jvm.Cond.methodLinkNest "ScheduleAnalyzer$Locking" (63 : Nat) ({ cls := "ScheduleAnalyzer", name := "count", desc := "(Ljava/util/List;LScheduleAnalyzer$OperationTest;)I" } : Jvm.MethodName) "ScheduleAnalyzer") ∈ lw_tbl := lw_at lw_m8 184 rfl
theorem q1979 : (Jvm.Cond.methodLink "ScheduleAnalyzer$Locking" (79 : Nat) ({ cls := "ScheduleAnalyzer$Locking", name := "isPossible", desc := "(LScheduleAnalyzer$Operation;)Z" } : Jvm.MethodName)) ∈ lw_all := lw_g (lw_at lw_m8 185 rfl) rfl
theorem q1980 : (Jvm.Cond.privateMethod ({ cls := "ScheduleAnalyzer$Locking", name := "isPossible", desc := "(LScheduleAnalyzer$Operation;)Z" } : Jvm.MethodName)) ∈ lw_tbl := lw_at lw_m8 186 rfl
theorem q1981 : (Jvm.Cond.instanceMethod ({ cls := "ScheduleAnalyzer$Locking", name := "isPossible", desc := "(LScheduleAnalyzer$Operation;)Z" } : Jvm.MethodName)) ∈ lw_all := lw_g (lw_at lw_m8 187 rfl) rfl
theorem q1982 : (Jvm.Cond.code ({ cls := "ScheduleAnalyzer$Locking", name := "isPossible", desc := "(LScheduleAnalyzer$Operation;)Z" } : Jvm.MethodName) prog_4_method_4_code (4 : Nat) (Option.some Jvm.ClassFile.FieldType.boolean)) ∈ lw_all := lw_g (lw_at lw_m8 188 rfl) rfl
theorem q1983 : (Jvm.Cond.methodLink "ScheduleAnalyzer$Locking" (71 : Nat) ({ cls := "ScheduleAnalyzer$Locking", name := "isPreventedBy", desc := "(LScheduleAnalyzer$Operation;I)Z" } : Jvm.MethodName)) ∈ lw_all := lw_g (lw_at lw_m8 189 rfl) rfl
theorem q1984 : (Jvm.Cond.privateMethod ({ cls := "ScheduleAnalyzer$Locking", name := "isPreventedBy", desc := "(LScheduleAnalyzer$Operation;I)Z" } : Jvm.MethodName)) ∈ lw_tbl := lw_at lw_m8 190 rfl
theorem q1985 : (Jvm.Cond.instanceMethod ({ cls := "ScheduleAnalyzer$Locking", name := "isPreventedBy", desc := "(LScheduleAnalyzer$Operation;I)Z" } : Jvm.MethodName)) ∈ lw_all := lw_g (lw_at lw_m8 191 rfl) rfl
theorem q1986 : (Jvm.Cond.code ({ cls := "ScheduleAnalyzer$Locking", name := "isPreventedBy", desc := "(LScheduleAnalyzer$Operation;I)Z" } : Jvm.MethodName) prog_4_method_3_code (4 : Nat) (Option.some Jvm.ClassFile.FieldType.boolean)) ∈ lw_all := lw_g (lw_at lw_m8 192 rfl) rfl
theorem q1987 : (Jvm.Cond.static ({ cls := "ScheduleAnalyzer$Locking", name := "lambda$isPreventedBy$1", desc := "(ILScheduleAnalyzer$Operation;)Z" } : Jvm.MethodName)) ∈ lw_all := lw_g (lw_at lw_m8 193 rfl) rfl
theorem q1988 : (Jvm.Cond.code ({ cls := "ScheduleAnalyzer$Locking", name := "lambda$isPreventedBy$1", desc := "(ILScheduleAnalyzer$Operation;)Z" } : Jvm.MethodName) prog_4_method_12_code (2 : Nat) (Option.some Jvm.ClassFile.FieldType.boolean)) ∈ lw_all := lw_g (lw_at lw_m8 194 rfl) rfl
theorem q1989 : (Jvm.Cond.methodLink "ScheduleAnalyzer$Locking" (155 : Nat) ({ cls := "ScheduleAnalyzer$Operation", name := "isEndOf", desc := "(I)Z" } : Jvm.MethodName)) ∈ lw_all := lw_g (lw_at lw_m8 195 rfl) rfl
theorem q1990 : (Jvm.Cond.static ({ cls := "ScheduleAnalyzer$Locking", name := "lambda$isPreventedBy$2", desc := "(ILScheduleAnalyzer$Operation;LScheduleAnalyzer$Operation;)Z" } : Jvm.MethodName)) ∈ lw_all := lw_g (lw_at lw_m8 196 rfl) rfl
theorem q1991 : (Jvm.Cond.code ({ cls := "ScheduleAnalyzer$Locking", name := "lambda$isPreventedBy$2", desc := "(ILScheduleAnalyzer$Operation;LScheduleAnalyzer$Operation;)Z" } : Jvm.MethodName) prog_4_method_11_code (3 : Nat) (Option.some Jvm.ClassFile.FieldType.boolean)) ∈ lw_all := lw_g (lw_at lw_m8 197 rfl) rfl
theorem q1992 : (Jvm.Cond.methodLink "ScheduleAnalyzer$Locking" (152 : Nat) ({ cls := "ScheduleAnalyzer$Operation", name := "conflictsWith", desc := "(LScheduleAnalyzer$Operation;)Z" } : Jvm.MethodName)) ∈ lw_all := lw_g (lw_at lw_m8 198 rfl) rfl
theorem q1993 : (Jvm.Cond.methodLink "ScheduleAnalyzer$Locking" (83 : Nat) ({ cls := "ScheduleAnalyzer$Locking", name := "execute", desc := "(LScheduleAnalyzer$Operation;)V" } : Jvm.MethodName)) ∈ lw_all := lw_g (lw_at lw_m8 199 rfl) rfl
theorem q1994 : (Jvm.Cond.privateMethod ({ cls := "ScheduleAnalyzer$Locking", name := "execute", desc := "(LScheduleAnalyzer$Operation;)V" } : Jvm.MethodName)) ∈ lw_tbl := lw_at lw_m8 200 rfl
theorem q1995 : (Jvm.Cond.instanceMethod ({ cls := "ScheduleAnalyzer$Locking", name := "execute", desc := "(LScheduleAnalyzer$Operation;)V" } : Jvm.MethodName)) ∈ lw_all := lw_g (lw_at lw_m8 201 rfl) rfl
theorem q1996 : (Jvm.Cond.code ({ cls := "ScheduleAnalyzer$Locking", name := "execute", desc := "(LScheduleAnalyzer$Operation;)V" } : Jvm.MethodName) prog_4_method_6_code (3 : Nat) (Option.none : Option Jvm.ClassFile.FieldType)) ∈ lw_all := lw_g (lw_at lw_m8 202 rfl) rfl
theorem q1997 : (Jvm.Cond.interfaceEntry "ScheduleAnalyzer$Locking" (86 : Nat)) ∈ lw_tbl := lw_at lw_m8 203 rfl
theorem q1998 : (Jvm.Cond.methodLink "ScheduleAnalyzer$Locking" (86 : Nat) ({ cls := "java/util/List", name := "add", desc := "(Ljava/lang/Object;)Z" } : Jvm.MethodName)) ∈ lw_all := lw_g (lw_at lw_m8 204 rfl) rfl
theorem q1999 : (Jvm.Cond.methodLink "ScheduleAnalyzer$Locking" (113 : Nat) ({ cls := "ScheduleAnalyzer$Operation", name := "isAccess", desc := "()Z" } : Jvm.MethodName)) ∈ lw_all := lw_g (lw_at lw_m8 205 rfl) rfl
theorem q2000 : (Jvm.Cond.methodLink "ScheduleAnalyzer$Locking" (116 : Nat) ({ cls := "ScheduleAnalyzer$Locking", name := "nextPossible", desc := "()LScheduleAnalyzer$Operation;" } : Jvm.MethodName)) ∈ lw_all := lw_g (lw_at lw_m8 206 rfl) rfl
theorem q2001 : (Jvm.Cond.privateMethod ({ cls := "ScheduleAnalyzer$Locking", name := "nextPossible", desc := "()LScheduleAnalyzer$Operation;" } : Jvm.MethodName)) ∈ lw_tbl := lw_at lw_m8 207 rfl
theorem q2002 : (Jvm.Cond.instanceMethod ({ cls := "ScheduleAnalyzer$Locking", name := "nextPossible", desc := "()LScheduleAnalyzer$Operation;" } : Jvm.MethodName)) ∈ lw_all := lw_g (lw_at lw_m8 208 rfl) rfl
theorem q2003 : (Jvm.Cond.code ({ cls := "ScheduleAnalyzer$Locking", name := "nextPossible", desc := "()LScheduleAnalyzer$Operation;" } : Jvm.MethodName) prog_4_method_8_code (3 : Nat) (Option.some (Jvm.ClassFile.FieldType.object "ScheduleAnalyzer$Operation"))) ∈ lw_all := lw_g (lw_at lw_m8 209 rfl) rfl
theorem q2004 : (Jvm.Cond.methodLink "ScheduleAnalyzer$Locking" (123 : Nat) ({ cls := "ScheduleAnalyzer$Locking", name := "firstWaitingOf", desc := "(I)LScheduleAnalyzer$Operation;" } : Jvm.MethodName)) ∈ lw_all := lw_g (lw_at lw_m8 210 rfl) rfl
theorem q2005 : (Jvm.Cond.privateMethod ({ cls := "ScheduleAnalyzer$Locking", name := "firstWaitingOf", desc := "(I)LScheduleAnalyzer$Operation;" } : Jvm.MethodName)) ∈ lw_tbl := lw_at lw_m8 211 rfl
theorem q2006 : (Jvm.Cond.instanceMethod ({ cls := "ScheduleAnalyzer$Locking", name := "firstWaitingOf", desc := "(I)LScheduleAnalyzer$Operation;" } : Jvm.MethodName)) ∈ lw_all := lw_g (lw_at lw_m8 212 rfl) rfl
theorem q2007 : (Jvm.Cond.code ({ cls := "ScheduleAnalyzer$Locking", name := "firstWaitingOf", desc := "(I)LScheduleAnalyzer$Operation;" } : Jvm.MethodName) prog_4_method_7_code (4 : Nat) (Option.some (Jvm.ClassFile.FieldType.object "ScheduleAnalyzer$Operation"))) ∈ lw_all := lw_g (lw_at lw_m8 213 rfl) rfl
theorem q2008 : (Jvm.Cond.interfaceEntry "ScheduleAnalyzer$Locking" (120 : Nat)) ∈ lw_tbl := lw_at lw_m8 214 rfl
theorem q2009 : (Jvm.Cond.methodLink "ScheduleAnalyzer$Locking" (120 : Nat) ({ cls := "java/util/List", name := "remove", desc := "(Ljava/lang/Object;)Z" } : Jvm.MethodName)) ∈ lw_all := lw_g (lw_at lw_m8 215 rfl) rfl
theorem q2010 : (Jvm.Cond.methodLink "ScheduleAnalyzer$Locking" (93 : Nat) ({ cls := "ScheduleAnalyzer$Locking", name := "waitingGraph", desc := "()LScheduleAnalyzer$Graph;" } : Jvm.MethodName)) ∈ lw_all := lw_g (lw_at lw_m8 216 rfl) rfl
theorem q2011 : (Jvm.Cond.privateMethod ({ cls := "ScheduleAnalyzer$Locking", name := "waitingGraph", desc := "()LScheduleAnalyzer$Graph;" } : Jvm.MethodName)) ∈ lw_tbl := lw_at lw_m8 217 rfl
theorem q2012 : (Jvm.Cond.instanceMethod ({ cls := "ScheduleAnalyzer$Locking", name := "waitingGraph", desc := "()LScheduleAnalyzer$Graph;" } : Jvm.MethodName)) ∈ lw_all := lw_g (lw_at lw_m8 218 rfl) rfl
theorem q2013 : (Jvm.Cond.code ({ cls := "ScheduleAnalyzer$Locking", name := "waitingGraph", desc := "()LScheduleAnalyzer$Graph;" } : Jvm.MethodName) prog_4_method_9_code (8 : Nat) (Option.some (Jvm.ClassFile.FieldType.object "ScheduleAnalyzer$Graph"))) ∈ lw_all := lw_g (lw_at lw_m8 219 rfl) rfl
theorem q2014 : (Jvm.Cond.methodLink "ScheduleAnalyzer$Locking" (127 : Nat) ({ cls := "java/lang/Integer", name := "valueOf", desc := "(I)Ljava/lang/Integer;" } : Jvm.MethodName)) ∈ lw_all := lw_g (lw_at lw_m8 220 rfl) rfl
theorem q2015 : (Jvm.Cond.methodLink "ScheduleAnalyzer$Locking" (131 : Nat) ({ cls := "java/util/List", name := "of", desc := "(Ljava/lang/Object;Ljava/lang/Object;Ljava/lang/Object;Ljava/lang/Object;Ljava/lang/Object;)Ljava/util/List;" } : Jvm.MethodName)) ∈ lw_all := lw_g (lw_at lw_m8 221 rfl) rfl
theorem q2067 : (Jvm.Cond.classLink "ScheduleAnalyzer$Locking" (98 : Nat) "ScheduleAnalyzer$Graph") ∈ lw_all := lw_g (lw_at lw_m9 33 rfl) rfl
theorem q2068 : (Jvm.Cond.methodLink "ScheduleAnalyzer$Locking" (135 : Nat) ({ cls := "ScheduleAnalyzer$Graph", name := "<init>", desc := "(Ljava/util/List;)V" } : Jvm.MethodName)) ∈ lw_all := lw_g (lw_at lw_m9 34 rfl) rfl
theorem q2069 : (Jvm.Cond.classLink "ScheduleAnalyzer$Locking" (103 : Nat) "java/lang/Integer") ∈ lw_all := lw_g (lw_at lw_m9 35 rfl) rfl
theorem q2070 : (Jvm.Cond.methodLink "ScheduleAnalyzer$Locking" (105 : Nat) ({ cls := "java/lang/Integer", name := "intValue", desc := "()I" } : Jvm.MethodName)) ∈ lw_all := lw_g (lw_at lw_m9 36 rfl) rfl
theorem q2071 : (Jvm.Cond.methodLink "ScheduleAnalyzer$Locking" (138 : Nat) ({ cls := "ScheduleAnalyzer$Graph", name := "connect", desc := "(Ljava/lang/Comparable;Ljava/lang/Comparable;)V" } : Jvm.MethodName)) ∈ lw_all := lw_g (lw_at lw_m9 37 rfl) rfl
theorem q2072 : (Jvm.Cond.methodLink "ScheduleAnalyzer$Locking" (97 : Nat) ({ cls := "ScheduleAnalyzer$Graph", name := "greatestInCycle", desc := "()Ljava/lang/Comparable;" } : Jvm.MethodName)) ∈ lw_all := lw_g (lw_at lw_m9 38 rfl) rfl
theorem q2073 : (Jvm.Cond.methodLink "ScheduleAnalyzer$Locking" (109 : Nat) ({ cls := "ScheduleAnalyzer$Locking", name := "sacrifice", desc := "(I)V" } : Jvm.MethodName)) ∈ lw_all := lw_g (lw_at lw_m9 39 rfl) rfl
theorem q2074 : (Jvm.Cond.privateMethod ({ cls := "ScheduleAnalyzer$Locking", name := "sacrifice", desc := "(I)V" } : Jvm.MethodName)) ∈ lw_tbl := lw_at lw_m9 40 rfl
theorem q2075 : (Jvm.Cond.instanceMethod ({ cls := "ScheduleAnalyzer$Locking", name := "sacrifice", desc := "(I)V" } : Jvm.MethodName)) ∈ lw_all := lw_g (lw_at lw_m9 41 rfl) rfl
theorem q2076 : (Jvm.Cond.code ({ cls := "ScheduleAnalyzer$Locking", name := "sacrifice", desc := "(I)V" } : Jvm.MethodName) prog_4_method_10_code (3 : Nat) (Option.none : Option Jvm.ClassFile.FieldType)) ∈ lw_all := lw_g (lw_at lw_m9 42 rfl) rfl
theorem q2077 : (Jvm.Cond.interfaceEntry "ScheduleAnalyzer$Locking" (142 : Nat)) ∈ lw_tbl := lw_at lw_m9 43 rfl
theorem q2078 : (Jvm.Cond.methodLink "ScheduleAnalyzer$Locking" (142 : Nat) ({ cls := "java/util/List", name := "size", desc := "()I" } : Jvm.MethodName)) ∈ lw_all := lw_g (lw_at lw_m9 44 rfl) rfl
theorem q2079 : (Jvm.Cond.interfaceEntry "ScheduleAnalyzer$Locking" (145 : Nat)) ∈ lw_tbl := lw_at lw_m9 45 rfl
theorem q2080 : (Jvm.Cond.methodLink "ScheduleAnalyzer$Locking" (145 : Nat) ({ cls := "java/util/List", name := "get", desc := "(I)Ljava/lang/Object;" } : Jvm.MethodName)) ∈ lw_all := lw_g (lw_at lw_m9 46 rfl) rfl
theorem q2081 : (Jvm.Cond.methodLink "ScheduleAnalyzer$Locking" (149 : Nat) ({ cls := "ScheduleAnalyzer$Operation", name := "<init>", desc := "(CIC)V" } : Jvm.MethodName)) ∈ lw_all := lw_g (lw_at lw_m9 47 rfl) rfl
theorem q2082 : (Jvm.Cond.fieldLink "ScheduleAnalyzer$Locking" (12 : Nat) "ScheduleAnalyzer$Locking" "executed" "Ljava/util/List;") ∈ lw_all := lw_g (lw_at lw_m9 48 rfl) rfl
theorem q2084 : (Jvm.Cond.fieldLink "ScheduleAnalyzer$Locking" (18 : Nat) "ScheduleAnalyzer$Locking" "waiting" "Ljava/util/List;") ∈ lw_all := lw_g (lw_at lw_m9 50 rfl) rfl
theorem q2085 : (Jvm.Cond.fieldLink "ScheduleAnalyzer$Locking" (48 : Nat) "ScheduleAnalyzer$Locking" "victims" "I") ∈ lw_all := lw_g (lw_at lw_m9 51 rfl) rfl
theorem q2087 : (Jvm.Cond.fieldLink "ScheduleAnalyzer$Locking" (90 : Nat) "ScheduleAnalyzer$Locking" "waited" "I") ∈ lw_all := lw_g (lw_at lw_m9 53 rfl) rfl
theorem q2089 : (Jvm.Cond.laysFinal "ScheduleAnalyzer$Locking" "ScheduleAnalyzer$Locking" "executed" "Ljava/util/List;") ∈ lw_all := lw_g (lw_at lw_m9 55 rfl) rfl
theorem q2090 : (Jvm.Cond.soleField "ScheduleAnalyzer$Locking" "executed") ∈ lw_all := lw_g (lw_at lw_m9 56 rfl) rfl
theorem q2091 : (Jvm.Cond.laysFinal "ScheduleAnalyzer$Locking" "ScheduleAnalyzer$Locking" "waiting" "Ljava/util/List;") ∈ lw_all := lw_g (lw_at lw_m9 57 rfl) rfl
theorem q2092 : (Jvm.Cond.soleField "ScheduleAnalyzer$Locking" "waiting") ∈ lw_all := lw_g (lw_at lw_m9 58 rfl) rfl
theorem q2093 : (Jvm.Cond.lays "ScheduleAnalyzer$Locking" "ScheduleAnalyzer$Locking" "victims" "I") ∈ lw_all := lw_g (lw_at lw_m9 59 rfl) rfl
theorem q2094 : (Jvm.Cond.soleField "ScheduleAnalyzer$Locking" "victims") ∈ lw_all := lw_g (lw_at lw_m9 60 rfl) rfl
theorem q2095 : (Jvm.Cond.lays "ScheduleAnalyzer$Locking" "ScheduleAnalyzer$Locking" "waited" "I") ∈ lw_all := lw_g (lw_at lw_m9 61 rfl) rfl
theorem q2096 : (Jvm.Cond.soleField "ScheduleAnalyzer$Locking" "waited") ∈ lw_all := lw_g (lw_at lw_m9 62 rfl) rfl
theorem q2097 : (Jvm.Cond.superclass "ScheduleAnalyzer$Locking" "java/lang/Object") ∈ lw_all := lw_g (lw_at lw_m9 63 rfl) rfl
theorem q2430 : (Jvm.Cond.selects "ScheduleAnalyzer$Locking" ({ cls := "java/lang/Object", name := "toString", desc := "()Ljava/lang/String;" } : Jvm.MethodName) ({ cls := "java/lang/Object", name := "toString", desc := "()Ljava/lang/String;" } : Jvm.MethodName)) ∈ lw_all := lw_g (lw_at lw_m10 156 rfl) rfl
theorem q3255 : (Jvm.Cond.castable "ScheduleAnalyzer$Locking" "java/lang/Object") ∈ lw_tbl := lw_at lw_m14 21 rfl
theorem in_X8 : ∀ w ∈ wsX80, w ∈ lw_all := lw_in wsX80 [2089, 2091, 2093, 2095] (by decide +kernel) (by decide +kernel)

/-! ScheduleAnalyzer$ViewSearch -/
set_option maxRecDepth 100000
def RX9 : String := "ScheduleAnalyzer$ViewSearch"
def TX9 : u_T := fun k => match k with
  | 0 => ("ScheduleAnalyzer$ViewSearch", "operations", "Ljava/util/List;", true)
  | 1 => ("ScheduleAnalyzer$ViewSearch", "sources", "[I", true)
  | 2 => ("ScheduleAnalyzer$ViewSearch", "lastWrites", "[I", true)
  | 3 => ("ScheduleAnalyzer$ViewSearch", "arranged", "[I", true)
  | _ => ("ScheduleAnalyzer$ViewSearch", "latest", "[I", true)
def tyX9 : Nat → FieldType := fun k => match k with
  | 0 => .object "java/util/List"
  | 1 => .array .int
  | 2 => .array .int
  | 3 => .array .int
  | _ => .array .int
abbrev wsX90 : List Cond := u_ws RX9 TX9 5
theorem nmX9 : ∀ a, a < 5 → ∀ b, b < 5 → a ≠ b → (TX9 a).2.1 ≠ (TX9 b).2.1 := by decide +kernel
theorem tyX9_ok : ∀ k, k < 5 → parseFieldDescriptor (TX9 k).2.2.1 = some (tyX9 k) := by decide +kernel
abbrev cX9_init : ByteArray := prog_10_method_1_code
def yX9_init : MethodName := ⟨RX9, "<init>", "(LScheduleAnalyzer$Schedule;)V"⟩
def dkwX9_init_5 : List UInt8 := [181, 0, 46, 177]
abbrev dktX9_init_5 : List UInt8 := dkwX9_init_5 ++ []
def dkwX9_init_4 : List UInt8 := [28, 182, 0, 37, 79, 132, 2, 1, 167, 255, 233, 42, 42, 180, 0, 9, 182, 0, 41, 192, 0, 42]
abbrev dktX9_init_4 : List UInt8 := dkwX9_init_4 ++ dktX9_init_5
def dkwX9_init_3 : List UInt8 := [167, 255, 237, 42, 182, 0, 34, 3, 61, 28, 42, 180, 0, 31, 190, 162, 0, 20, 42, 180, 0, 28, 28, 42]
abbrev dktX9_init_3 : List UInt8 := dkwX9_init_3 ++ dktX9_init_4
def dkwX9_init_2 : List UInt8 := [181, 0, 31, 3, 61, 28, 42, 180, 0, 31, 190, 162, 0, 16, 42, 180, 0, 31, 28, 28, 79, 132, 2, 1]
abbrev dktX9_init_2 : List UInt8 := dkwX9_init_2 ++ dktX9_init_3
def dkwX9_init_1 : List UInt8 := [185, 0, 22, 1, 0, 188, 10, 181, 0, 28, 42, 42, 180, 0, 21, 185, 0, 22, 1, 0, 188, 10]
abbrev dktX9_init_1 : List UInt8 := dkwX9_init_1 ++ dktX9_init_2
def dkwX9_init_0 : List UInt8 := [42, 183, 0, 3, 42, 7, 188, 10, 181, 0, 9, 42, 43, 180, 0, 15, 181, 0, 21, 42, 42, 180, 0, 21]
abbrev dktX9_init_0 : List UInt8 := dkwX9_init_0 ++ dktX9_init_1
theorem dksX9_init_0 : cX9_init.data.toList.drop 0 = dktX9_init_0 := by decide +kernel
theorem dksX9_init_1 : cX9_init.data.toList.drop 24 = dktX9_init_1 := dk_seg dksX9_init_0 24 rfl rfl
theorem dksX9_init_2 : cX9_init.data.toList.drop 46 = dktX9_init_2 := dk_seg dksX9_init_1 22 rfl rfl
theorem dksX9_init_3 : cX9_init.data.toList.drop 70 = dktX9_init_3 := dk_seg dksX9_init_2 24 rfl rfl
theorem dksX9_init_4 : cX9_init.data.toList.drop 94 = dktX9_init_4 := dk_seg dksX9_init_3 24 rfl rfl
theorem dksX9_init_5 : cX9_init.data.toList.drop 116 = dktX9_init_5 := dk_seg dksX9_init_4 22 rfl rfl
theorem dX9_init_0 : decode cX9_init 0 = .ok (.aload_n 0, 1) := dk_42 (dk_at dksX9_init_0 0 rfl rfl)
theorem dX9_init_1 : decode cX9_init 1 = .ok (.invokespecial 3, 3) := dk_183 0 3 (dk_at dksX9_init_0 1 rfl rfl)
theorem dX9_init_4 : decode cX9_init 4 = .ok (.aload_n 0, 1) := dk_42 (dk_at dksX9_init_0 4 rfl rfl)
theorem dX9_init_5 : decode cX9_init 5 = .ok (.iconst 4, 1) := dk_7 (dk_at dksX9_init_0 5 rfl rfl)
theorem dX9_init_6 : decode cX9_init 6 = .ok (.newarray .int, 2) := dk_188_10 (dk_at dksX9_init_0 6 rfl rfl)
theorem dX9_init_8 : decode cX9_init 8 = .ok (.putfield 9, 3) := dk_181 0 9 (dk_at dksX9_init_0 8 rfl rfl)
theorem dX9_init_11 : decode cX9_init 11 = .ok (.aload_n 0, 1) := dk_42 (dk_at dksX9_init_0 11 rfl rfl)
theorem dX9_init_12 : decode cX9_init 12 = .ok (.aload_n 1, 1) := dk_43 (dk_at dksX9_init_0 12 rfl rfl)
theorem dX9_init_13 : decode cX9_init 13 = .ok (.getfield 15, 3) := dk_180 0 15 (dk_at dksX9_init_0 13 rfl rfl)
theorem dX9_init_16 : decode cX9_init 16 = .ok (.putfield 21, 3) := dk_181 0 21 (dk_at dksX9_init_0 16 rfl rfl)
theorem dX9_init_19 : decode cX9_init 19 = .ok (.aload_n 0, 1) := dk_42 (dk_at dksX9_init_0 19 rfl rfl)
theorem dX9_init_20 : decode cX9_init 20 = .ok (.aload_n 0, 1) := dk_42 (dk_at dksX9_init_0 20 rfl rfl)
theorem dX9_init_21 : decode cX9_init 21 = .ok (.getfield 21, 3) := dk_180 0 21 (dk_at dksX9_init_0 21 rfl rfl)
theorem dX9_init_24 : decode cX9_init 24 = .ok (.invokeinterface 22 1, 5) := by decide +kernel
theorem dX9_init_29 : decode cX9_init 29 = .ok (.newarray .int, 2) := dk_188_10 (dk_at dksX9_init_1 5 rfl rfl)
theorem dX9_init_31 : decode cX9_init 31 = .ok (.putfield 28, 3) := dk_181 0 28 (dk_at dksX9_init_1 7 rfl rfl)
theorem dX9_init_34 : decode cX9_init 34 = .ok (.aload_n 0, 1) := dk_42 (dk_at dksX9_init_1 10 rfl rfl)
theorem dX9_init_35 : decode cX9_init 35 = .ok (.aload_n 0, 1) := dk_42 (dk_at dksX9_init_1 11 rfl rfl)
theorem dX9_init_36 : decode cX9_init 36 = .ok (.getfield 21, 3) := dk_180 0 21 (dk_at dksX9_init_1 12 rfl rfl)
theorem dX9_init_39 : decode cX9_init 39 = .ok (.invokeinterface 22 1, 5) := by decide +kernel
theorem dX9_init_44 : decode cX9_init 44 = .ok (.newarray .int, 2) := dk_188_10 (dk_at dksX9_init_1 20 rfl rfl)
theorem dX9_init_46 : decode cX9_init 46 = .ok (.putfield 31, 3) := dk_181 0 31 (dk_at dksX9_init_2 0 rfl rfl)
theorem dX9_init_49 : decode cX9_init 49 = .ok (.iconst 0, 1) := dk_3 (dk_at dksX9_init_2 3 rfl rfl)
theorem dX9_init_50 : decode cX9_init 50 = .ok (.istore_n 2, 1) := dk_61 (dk_at dksX9_init_2 4 rfl rfl)
theorem dX9_init_51 : decode cX9_init 51 = .ok (.iload_n 2, 1) := dk_28 (dk_at dksX9_init_2 5 rfl rfl)
theorem dX9_init_52 : decode cX9_init 52 = .ok (.aload_n 0, 1) := dk_42 (dk_at dksX9_init_2 6 rfl rfl)
theorem dX9_init_53 : decode cX9_init 53 = .ok (.getfield 31, 3) := dk_180 0 31 (dk_at dksX9_init_2 7 rfl rfl)
theorem dX9_init_56 : decode cX9_init 56 = .ok (.arraylength, 1) := dk_190 (dk_at dksX9_init_2 10 rfl rfl)
theorem dX9_init_57 : decode cX9_init 57 = .ok (.if_icmp .ge 16, 3) := dk_162 0 16 (dk_at dksX9_init_2 11 rfl rfl)
theorem dX9_init_60 : decode cX9_init 60 = .ok (.aload_n 0, 1) := dk_42 (dk_at dksX9_init_2 14 rfl rfl)
theorem dX9_init_61 : decode cX9_init 61 = .ok (.getfield 31, 3) := dk_180 0 31 (dk_at dksX9_init_2 15 rfl rfl)
theorem dX9_init_64 : decode cX9_init 64 = .ok (.iload_n 2, 1) := dk_28 (dk_at dksX9_init_2 18 rfl rfl)
theorem dX9_init_65 : decode cX9_init 65 = .ok (.iload_n 2, 1) := dk_28 (dk_at dksX9_init_2 19 rfl rfl)
theorem dX9_init_66 : decode cX9_init 66 = .ok (.iastore, 1) := dk_79 (dk_at dksX9_init_2 20 rfl rfl)
theorem dX9_init_67 : decode cX9_init 67 = .ok (.iinc 2 1, 3) := dk_132 2 1 (dk_at dksX9_init_2 21 rfl rfl)
theorem dX9_init_70 : decode cX9_init 70 = .ok (.goto (-19), 3) := dk_167 255 237 (dk_at dksX9_init_3 0 rfl rfl)
theorem dX9_init_73 : decode cX9_init 73 = .ok (.aload_n 0, 1) := dk_42 (dk_at dksX9_init_3 3 rfl rfl)
theorem dX9_init_74 : decode cX9_init 74 = .ok (.invokevirtual 34, 3) := dk_182 0 34 (dk_at dksX9_init_3 4 rfl rfl)
theorem dX9_init_77 : decode cX9_init 77 = .ok (.iconst 0, 1) := dk_3 (dk_at dksX9_init_3 7 rfl rfl)
theorem dX9_init_78 : decode cX9_init 78 = .ok (.istore_n 2, 1) := dk_61 (dk_at dksX9_init_3 8 rfl rfl)
theorem dX9_init_79 : decode cX9_init 79 = .ok (.iload_n 2, 1) := dk_28 (dk_at dksX9_init_3 9 rfl rfl)
theorem dX9_init_80 : decode cX9_init 80 = .ok (.aload_n 0, 1) := dk_42 (dk_at dksX9_init_3 10 rfl rfl)
theorem dX9_init_81 : decode cX9_init 81 = .ok (.getfield 31, 3) := dk_180 0 31 (dk_at dksX9_init_3 11 rfl rfl)
theorem dX9_init_84 : decode cX9_init 84 = .ok (.arraylength, 1) := dk_190 (dk_at dksX9_init_3 14 rfl rfl)
theorem dX9_init_85 : decode cX9_init 85 = .ok (.if_icmp .ge 20, 3) := dk_162 0 20 (dk_at dksX9_init_3 15 rfl rfl)
theorem dX9_init_88 : decode cX9_init 88 = .ok (.aload_n 0, 1) := dk_42 (dk_at dksX9_init_3 18 rfl rfl)
theorem dX9_init_89 : decode cX9_init 89 = .ok (.getfield 28, 3) := dk_180 0 28 (dk_at dksX9_init_3 19 rfl rfl)
theorem dX9_init_92 : decode cX9_init 92 = .ok (.iload_n 2, 1) := dk_28 (dk_at dksX9_init_3 22 rfl rfl)
theorem dX9_init_93 : decode cX9_init 93 = .ok (.aload_n 0, 1) := dk_42 (dk_at dksX9_init_3 23 rfl rfl)
theorem dX9_init_94 : decode cX9_init 94 = .ok (.iload_n 2, 1) := dk_28 (dk_at dksX9_init_4 0 rfl rfl)
theorem dX9_init_95 : decode cX9_init 95 = .ok (.invokevirtual 37, 3) := dk_182 0 37 (dk_at dksX9_init_4 1 rfl rfl)
theorem dX9_init_98 : decode cX9_init 98 = .ok (.iastore, 1) := dk_79 (dk_at dksX9_init_4 4 rfl rfl)
theorem dX9_init_99 : decode cX9_init 99 = .ok (.iinc 2 1, 3) := dk_132 2 1 (dk_at dksX9_init_4 5 rfl rfl)
theorem dX9_init_102 : decode cX9_init 102 = .ok (.goto (-23), 3) := dk_167 255 233 (dk_at dksX9_init_4 8 rfl rfl)
theorem dX9_init_105 : decode cX9_init 105 = .ok (.aload_n 0, 1) := dk_42 (dk_at dksX9_init_4 11 rfl rfl)
theorem dX9_init_106 : decode cX9_init 106 = .ok (.aload_n 0, 1) := dk_42 (dk_at dksX9_init_4 12 rfl rfl)
theorem dX9_init_107 : decode cX9_init 107 = .ok (.getfield 9, 3) := dk_180 0 9 (dk_at dksX9_init_4 13 rfl rfl)
theorem dX9_init_110 : decode cX9_init 110 = .ok (.invokevirtual 41, 3) := dk_182 0 41 (dk_at dksX9_init_4 16 rfl rfl)
theorem dX9_init_113 : decode cX9_init 113 = .ok (.checkcast 42, 3) := dk_192 0 42 (dk_at dksX9_init_4 19 rfl rfl)
theorem dX9_init_116 : decode cX9_init 116 = .ok (.putfield 46, 3) := dk_181 0 46 (dk_at dksX9_init_5 0 rfl rfl)
theorem dX9_init_119 : decode cX9_init 119 = .ok (.return_, 1) := dk_177 (dk_at dksX9_init_5 3 rfl rfl)
abbrev cX9_forget : ByteArray := prog_10_method_2_code
def yX9_forget : MethodName := ⟨RX9, "forget", "()V"⟩
def dkwX9_forget_0 : List UInt8 := [3, 60, 27, 7, 162, 0, 16, 42, 180, 0, 9, 27, 2, 79, 132, 1, 1, 167, 255, 241, 177]
abbrev dktX9_forget_0 : List UInt8 := dkwX9_forget_0 ++ []
theorem dksX9_forget_0 : cX9_forget.data.toList.drop 0 = dktX9_forget_0 := by decide +kernel
theorem dX9_forget_0 : decode cX9_forget 0 = .ok (.iconst 0, 1) := dk_3 (dk_at dksX9_forget_0 0 rfl rfl)
theorem dX9_forget_1 : decode cX9_forget 1 = .ok (.istore_n 1, 1) := dk_60 (dk_at dksX9_forget_0 1 rfl rfl)
theorem dX9_forget_2 : decode cX9_forget 2 = .ok (.iload_n 1, 1) := dk_27 (dk_at dksX9_forget_0 2 rfl rfl)
theorem dX9_forget_3 : decode cX9_forget 3 = .ok (.iconst 4, 1) := dk_7 (dk_at dksX9_forget_0 3 rfl rfl)
theorem dX9_forget_4 : decode cX9_forget 4 = .ok (.if_icmp .ge 16, 3) := dk_162 0 16 (dk_at dksX9_forget_0 4 rfl rfl)
theorem dX9_forget_7 : decode cX9_forget 7 = .ok (.aload_n 0, 1) := dk_42 (dk_at dksX9_forget_0 7 rfl rfl)
theorem dX9_forget_8 : decode cX9_forget 8 = .ok (.getfield 9, 3) := dk_180 0 9 (dk_at dksX9_forget_0 8 rfl rfl)
theorem dX9_forget_11 : decode cX9_forget 11 = .ok (.iload_n 1, 1) := dk_27 (dk_at dksX9_forget_0 11 rfl rfl)
theorem dX9_forget_12 : decode cX9_forget 12 = .ok (.iconst (-1), 1) := dk_2 (dk_at dksX9_forget_0 12 rfl rfl)
theorem dX9_forget_13 : decode cX9_forget 13 = .ok (.iastore, 1) := dk_79 (dk_at dksX9_forget_0 13 rfl rfl)
theorem dX9_forget_14 : decode cX9_forget 14 = .ok (.iinc 1 1, 3) := dk_132 1 1 (dk_at dksX9_forget_0 14 rfl rfl)
theorem dX9_forget_17 : decode cX9_forget 17 = .ok (.goto (-15), 3) := dk_167 255 241 (dk_at dksX9_forget_0 17 rfl rfl)
theorem dX9_forget_20 : decode cX9_forget 20 = .ok (.return_, 1) := dk_177 (dk_at dksX9_forget_0 20 rfl rfl)
abbrev cX9_follow : ByteArray := prog_10_method_3_code
def yX9_follow : MethodName := ⟨RX9, "follow", "(I)I"⟩
def dkwX9_follow_2 : List UInt8 := [29, 44, 180, 0, 59, 16, 119, 160, 0, 7, 27, 167, 0, 9, 42, 180, 0, 9, 29, 46, 79, 21, 4, 172]
abbrev dktX9_follow_2 : List UInt8 := dkwX9_follow_2 ++ []
def dkwX9_follow_1 : List UInt8 := [180, 0, 59, 16, 114, 160, 0, 12, 42, 180, 0, 9, 29, 46, 167, 0, 4, 2, 54, 4, 42, 180, 0, 9]
abbrev dktX9_follow_1 : List UInt8 := dkwX9_follow_1 ++ dktX9_follow_2
def dkwX9_follow_0 : List UInt8 := [42, 180, 0, 21, 27, 185, 0, 49, 2, 0, 192, 0, 53, 77, 44, 180, 0, 55, 16, 97, 100, 62, 44]
abbrev dktX9_follow_0 : List UInt8 := dkwX9_follow_0 ++ dktX9_follow_1
theorem dksX9_follow_0 : cX9_follow.data.toList.drop 0 = dktX9_follow_0 := by decide +kernel
theorem dksX9_follow_1 : cX9_follow.data.toList.drop 23 = dktX9_follow_1 := dk_seg dksX9_follow_0 23 rfl rfl
theorem dksX9_follow_2 : cX9_follow.data.toList.drop 47 = dktX9_follow_2 := dk_seg dksX9_follow_1 24 rfl rfl
theorem dX9_follow_0 : decode cX9_follow 0 = .ok (.aload_n 0, 1) := dk_42 (dk_at dksX9_follow_0 0 rfl rfl)
theorem dX9_follow_1 : decode cX9_follow 1 = .ok (.getfield 21, 3) := dk_180 0 21 (dk_at dksX9_follow_0 1 rfl rfl)
theorem dX9_follow_4 : decode cX9_follow 4 = .ok (.iload_n 1, 1) := dk_27 (dk_at dksX9_follow_0 4 rfl rfl)
theorem dX9_follow_5 : decode cX9_follow 5 = .ok (.invokeinterface 49 2, 5) := by decide +kernel
theorem dX9_follow_10 : decode cX9_follow 10 = .ok (.checkcast 53, 3) := dk_192 0 53 (dk_at dksX9_follow_0 10 rfl rfl)
theorem dX9_follow_13 : decode cX9_follow 13 = .ok (.astore_n 2, 1) := dk_77 (dk_at dksX9_follow_0 13 rfl rfl)
theorem dX9_follow_14 : decode cX9_follow 14 = .ok (.aload_n 2, 1) := dk_44 (dk_at dksX9_follow_0 14 rfl rfl)
theorem dX9_follow_15 : decode cX9_follow 15 = .ok (.getfield 55, 3) := dk_180 0 55 (dk_at dksX9_follow_0 15 rfl rfl)
theorem dX9_follow_18 : decode cX9_follow 18 = .ok (.bipush 97, 2) := dk_16 97 (dk_at dksX9_follow_0 18 rfl rfl)
theorem dX9_follow_20 : decode cX9_follow 20 = .ok (.isub, 1) := dk_100 (dk_at dksX9_follow_0 20 rfl rfl)
theorem dX9_follow_21 : decode cX9_follow 21 = .ok (.istore_n 3, 1) := dk_62 (dk_at dksX9_follow_0 21 rfl rfl)
theorem dX9_follow_22 : decode cX9_follow 22 = .ok (.aload_n 2, 1) := dk_44 (dk_at dksX9_follow_0 22 rfl rfl)
theorem dX9_follow_23 : decode cX9_follow 23 = .ok (.getfield 59, 3) := dk_180 0 59 (dk_at dksX9_follow_1 0 rfl rfl)
theorem dX9_follow_26 : decode cX9_follow 26 = .ok (.bipush 114, 2) := dk_16 114 (dk_at dksX9_follow_1 3 rfl rfl)
theorem dX9_follow_28 : decode cX9_follow 28 = .ok (.if_icmp .ne 12, 3) := dk_160 0 12 (dk_at dksX9_follow_1 5 rfl rfl)
theorem dX9_follow_31 : decode cX9_follow 31 = .ok (.aload_n 0, 1) := dk_42 (dk_at dksX9_follow_1 8 rfl rfl)
theorem dX9_follow_32 : decode cX9_follow 32 = .ok (.getfield 9, 3) := dk_180 0 9 (dk_at dksX9_follow_1 9 rfl rfl)
theorem dX9_follow_35 : decode cX9_follow 35 = .ok (.iload_n 3, 1) := dk_29 (dk_at dksX9_follow_1 12 rfl rfl)
theorem dX9_follow_36 : decode cX9_follow 36 = .ok (.iaload, 1) := dk_46 (dk_at dksX9_follow_1 13 rfl rfl)
theorem dX9_follow_37 : decode cX9_follow 37 = .ok (.goto 4, 3) := dk_167 0 4 (dk_at dksX9_follow_1 14 rfl rfl)
theorem dX9_follow_40 : decode cX9_follow 40 = .ok (.iconst (-1), 1) := dk_2 (dk_at dksX9_follow_1 17 rfl rfl)
theorem dX9_follow_41 : decode cX9_follow 41 = .ok (.istore 4, 2) := dk_54 4 (dk_at dksX9_follow_1 18 rfl rfl)
theorem dX9_follow_43 : decode cX9_follow 43 = .ok (.aload_n 0, 1) := dk_42 (dk_at dksX9_follow_1 20 rfl rfl)
theorem dX9_follow_44 : decode cX9_follow 44 = .ok (.getfield 9, 3) := dk_180 0 9 (dk_at dksX9_follow_1 21 rfl rfl)
theorem dX9_follow_47 : decode cX9_follow 47 = .ok (.iload_n 3, 1) := dk_29 (dk_at dksX9_follow_2 0 rfl rfl)
theorem dX9_follow_48 : decode cX9_follow 48 = .ok (.aload_n 2, 1) := dk_44 (dk_at dksX9_follow_2 1 rfl rfl)
theorem dX9_follow_49 : decode cX9_follow 49 = .ok (.getfield 59, 3) := dk_180 0 59 (dk_at dksX9_follow_2 2 rfl rfl)
theorem dX9_follow_52 : decode cX9_follow 52 = .ok (.bipush 119, 2) := dk_16 119 (dk_at dksX9_follow_2 5 rfl rfl)
theorem dX9_follow_54 : decode cX9_follow 54 = .ok (.if_icmp .ne 7, 3) := dk_160 0 7 (dk_at dksX9_follow_2 7 rfl rfl)
theorem dX9_follow_57 : decode cX9_follow 57 = .ok (.iload_n 1, 1) := dk_27 (dk_at dksX9_follow_2 10 rfl rfl)
theorem dX9_follow_58 : decode cX9_follow 58 = .ok (.goto 9, 3) := dk_167 0 9 (dk_at dksX9_follow_2 11 rfl rfl)
theorem dX9_follow_61 : decode cX9_follow 61 = .ok (.aload_n 0, 1) := dk_42 (dk_at dksX9_follow_2 14 rfl rfl)
theorem dX9_follow_62 : decode cX9_follow 62 = .ok (.getfield 9, 3) := dk_180 0 9 (dk_at dksX9_follow_2 15 rfl rfl)
theorem dX9_follow_65 : decode cX9_follow 65 = .ok (.iload_n 3, 1) := dk_29 (dk_at dksX9_follow_2 18 rfl rfl)
theorem dX9_follow_66 : decode cX9_follow 66 = .ok (.iaload, 1) := dk_46 (dk_at dksX9_follow_2 19 rfl rfl)
theorem dX9_follow_67 : decode cX9_follow 67 = .ok (.iastore, 1) := dk_79 (dk_at dksX9_follow_2 20 rfl rfl)
theorem dX9_follow_68 : decode cX9_follow 68 = .ok (.iload 4, 2) := dk_21 4 (dk_at dksX9_follow_2 21 rfl rfl)
theorem dX9_follow_70 : decode cX9_follow 70 = .ok (.ireturn, 1) := dk_172 (dk_at dksX9_follow_2 23 rfl rfl)
abbrev cX9_search : ByteArray := prog_10_method_6_code
def yX9_search : MethodName := ⟨RX9, "search", "(II)Z"⟩
def dkwX9_search_3 : List UInt8 := [182, 0, 78, 153, 0, 7, 4, 167, 0, 4, 3, 62, 132, 4, 1, 167, 255, 194, 29, 172]
abbrev dktX9_search_3 : List UInt8 := dkwX9_search_3 ++ []
def dkwX9_search_2 : List UInt8 := [21, 4, 28, 182, 0, 74, 54, 5, 21, 5, 28, 164, 0, 22, 42, 27, 4, 21, 4, 120, 128, 21, 5]
abbrev dktX9_search_2 : List UInt8 := dkwX9_search_2 ++ dktX9_search_3
def dkwX9_search_1 : List UInt8 := [154, 0, 64, 21, 4, 8, 163, 0, 58, 21, 4, 27, 184, 0, 70, 153, 0, 7, 28, 167, 0, 10, 42]
abbrev dktX9_search_1 : List UInt8 := dkwX9_search_1 ++ dktX9_search_2
def dkwX9_search_0 : List UInt8 := [28, 42, 180, 0, 21, 185, 0, 22, 1, 0, 160, 0, 8, 42, 182, 0, 66, 172, 3, 62, 4, 54, 4, 29]
abbrev dktX9_search_0 : List UInt8 := dkwX9_search_0 ++ dktX9_search_1
theorem dksX9_search_0 : cX9_search.data.toList.drop 0 = dktX9_search_0 := by decide +kernel
theorem dksX9_search_1 : cX9_search.data.toList.drop 24 = dktX9_search_1 := dk_seg dksX9_search_0 24 rfl rfl
theorem dksX9_search_2 : cX9_search.data.toList.drop 47 = dktX9_search_2 := dk_seg dksX9_search_1 23 rfl rfl
theorem dksX9_search_3 : cX9_search.data.toList.drop 70 = dktX9_search_3 := dk_seg dksX9_search_2 23 rfl rfl
theorem dX9_search_0 : decode cX9_search 0 = .ok (.iload_n 2, 1) := dk_28 (dk_at dksX9_search_0 0 rfl rfl)
theorem dX9_search_1 : decode cX9_search 1 = .ok (.aload_n 0, 1) := dk_42 (dk_at dksX9_search_0 1 rfl rfl)
theorem dX9_search_2 : decode cX9_search 2 = .ok (.getfield 21, 3) := dk_180 0 21 (dk_at dksX9_search_0 2 rfl rfl)
theorem dX9_search_5 : decode cX9_search 5 = .ok (.invokeinterface 22 1, 5) := by decide +kernel
theorem dX9_search_10 : decode cX9_search 10 = .ok (.if_icmp .ne 8, 3) := dk_160 0 8 (dk_at dksX9_search_0 10 rfl rfl)
theorem dX9_search_13 : decode cX9_search 13 = .ok (.aload_n 0, 1) := dk_42 (dk_at dksX9_search_0 13 rfl rfl)
theorem dX9_search_14 : decode cX9_search 14 = .ok (.invokevirtual 66, 3) := dk_182 0 66 (dk_at dksX9_search_0 14 rfl rfl)
theorem dX9_search_17 : decode cX9_search 17 = .ok (.ireturn, 1) := dk_172 (dk_at dksX9_search_0 17 rfl rfl)
theorem dX9_search_18 : decode cX9_search 18 = .ok (.iconst 0, 1) := dk_3 (dk_at dksX9_search_0 18 rfl rfl)
theorem dX9_search_19 : decode cX9_search 19 = .ok (.istore_n 3, 1) := dk_62 (dk_at dksX9_search_0 19 rfl rfl)
theorem dX9_search_20 : decode cX9_search 20 = .ok (.iconst 1, 1) := dk_4 (dk_at dksX9_search_0 20 rfl rfl)
theorem dX9_search_21 : decode cX9_search 21 = .ok (.istore 4, 2) := dk_54 4 (dk_at dksX9_search_0 21 rfl rfl)
theorem dX9_search_23 : decode cX9_search 23 = .ok (.iload_n 3, 1) := dk_29 (dk_at dksX9_search_0 23 rfl rfl)
theorem dX9_search_24 : decode cX9_search 24 = .ok (.ifCond .ne 64, 3) := dk_154 0 64 (dk_at dksX9_search_1 0 rfl rfl)
theorem dX9_search_27 : decode cX9_search 27 = .ok (.iload 4, 2) := dk_21 4 (dk_at dksX9_search_1 3 rfl rfl)
theorem dX9_search_29 : decode cX9_search 29 = .ok (.iconst 5, 1) := dk_8 (dk_at dksX9_search_1 5 rfl rfl)
theorem dX9_search_30 : decode cX9_search 30 = .ok (.if_icmp .gt 58, 3) := dk_163 0 58 (dk_at dksX9_search_1 6 rfl rfl)
theorem dX9_search_33 : decode cX9_search 33 = .ok (.iload 4, 2) := dk_21 4 (dk_at dksX9_search_1 9 rfl rfl)
theorem dX9_search_35 : decode cX9_search 35 = .ok (.iload_n 1, 1) := dk_27 (dk_at dksX9_search_1 11 rfl rfl)
theorem dX9_search_36 : decode cX9_search 36 = .ok (.invokestatic 70, 3) := dk_184 0 70 (dk_at dksX9_search_1 12 rfl rfl)
theorem dX9_search_39 : decode cX9_search 39 = .ok (.ifCond .eq 7, 3) := dk_153 0 7 (dk_at dksX9_search_1 15 rfl rfl)
theorem dX9_search_42 : decode cX9_search 42 = .ok (.iload_n 2, 1) := dk_28 (dk_at dksX9_search_1 18 rfl rfl)
theorem dX9_search_43 : decode cX9_search 43 = .ok (.goto 10, 3) := dk_167 0 10 (dk_at dksX9_search_1 19 rfl rfl)
theorem dX9_search_46 : decode cX9_search 46 = .ok (.aload_n 0, 1) := dk_42 (dk_at dksX9_search_1 22 rfl rfl)
theorem dX9_search_47 : decode cX9_search 47 = .ok (.iload 4, 2) := dk_21 4 (dk_at dksX9_search_2 0 rfl rfl)
theorem dX9_search_49 : decode cX9_search 49 = .ok (.iload_n 2, 1) := dk_28 (dk_at dksX9_search_2 2 rfl rfl)
theorem dX9_search_50 : decode cX9_search 50 = .ok (.invokevirtual 74, 3) := dk_182 0 74 (dk_at dksX9_search_2 3 rfl rfl)
theorem dX9_search_53 : decode cX9_search 53 = .ok (.istore 5, 2) := dk_54 5 (dk_at dksX9_search_2 6 rfl rfl)
theorem dX9_search_55 : decode cX9_search 55 = .ok (.iload 5, 2) := dk_21 5 (dk_at dksX9_search_2 8 rfl rfl)
theorem dX9_search_57 : decode cX9_search 57 = .ok (.iload_n 2, 1) := dk_28 (dk_at dksX9_search_2 10 rfl rfl)
theorem dX9_search_58 : decode cX9_search 58 = .ok (.if_icmp .le 22, 3) := dk_164 0 22 (dk_at dksX9_search_2 11 rfl rfl)
theorem dX9_search_61 : decode cX9_search 61 = .ok (.aload_n 0, 1) := dk_42 (dk_at dksX9_search_2 14 rfl rfl)
theorem dX9_search_62 : decode cX9_search 62 = .ok (.iload_n 1, 1) := dk_27 (dk_at dksX9_search_2 15 rfl rfl)
theorem dX9_search_63 : decode cX9_search 63 = .ok (.iconst 1, 1) := dk_4 (dk_at dksX9_search_2 16 rfl rfl)
theorem dX9_search_64 : decode cX9_search 64 = .ok (.iload 4, 2) := dk_21 4 (dk_at dksX9_search_2 17 rfl rfl)
theorem dX9_search_66 : decode cX9_search 66 = .ok (.ishl, 1) := dk_120 (dk_at dksX9_search_2 19 rfl rfl)
theorem dX9_search_67 : decode cX9_search 67 = .ok (.ior, 1) := dk_128 (dk_at dksX9_search_2 20 rfl rfl)
theorem dX9_search_68 : decode cX9_search 68 = .ok (.iload 5, 2) := dk_21 5 (dk_at dksX9_search_2 21 rfl rfl)
theorem dX9_search_70 : decode cX9_search 70 = .ok (.invokevirtual 78, 3) := dk_182 0 78 (dk_at dksX9_search_3 0 rfl rfl)
theorem dX9_search_73 : decode cX9_search 73 = .ok (.ifCond .eq 7, 3) := dk_153 0 7 (dk_at dksX9_search_3 3 rfl rfl)
theorem dX9_search_76 : decode cX9_search 76 = .ok (.iconst 1, 1) := dk_4 (dk_at dksX9_search_3 6 rfl rfl)
theorem dX9_search_77 : decode cX9_search 77 = .ok (.goto 4, 3) := dk_167 0 4 (dk_at dksX9_search_3 7 rfl rfl)
theorem dX9_search_80 : decode cX9_search 80 = .ok (.iconst 0, 1) := dk_3 (dk_at dksX9_search_3 10 rfl rfl)
theorem dX9_search_81 : decode cX9_search 81 = .ok (.istore_n 3, 1) := dk_62 (dk_at dksX9_search_3 11 rfl rfl)
theorem dX9_search_82 : decode cX9_search 82 = .ok (.iinc 4 1, 3) := dk_132 4 1 (dk_at dksX9_search_3 12 rfl rfl)
theorem dX9_search_85 : decode cX9_search 85 = .ok (.goto (-62), 3) := dk_167 255 194 (dk_at dksX9_search_3 15 rfl rfl)
theorem dX9_search_88 : decode cX9_search 88 = .ok (.iload_n 3, 1) := dk_29 (dk_at dksX9_search_3 18 rfl rfl)
theorem dX9_search_89 : decode cX9_search 89 = .ok (.ireturn, 1) := dk_172 (dk_at dksX9_search_3 19 rfl rfl)
abbrev cX9_isEquivalent : ByteArray := prog_10_method_4_code
def yX9_isEquivalent : MethodName := ⟨RX9, "isEquivalent", "()Z"⟩
def dkwX9_isEquivalent_4 : List UInt8 := [27, 172]
abbrev dktX9_isEquivalent_4 : List UInt8 := dkwX9_isEquivalent_4 ++ []
def dkwX9_isEquivalent_3 : List UInt8 := [28, 46, 42, 180, 0, 46, 28, 46, 160, 0, 7, 4, 167, 0, 4, 3, 126, 60, 132, 2, 1, 167, 255, 225]
abbrev dktX9_isEquivalent_3 : List UInt8 := dkwX9_isEquivalent_3 ++ dktX9_isEquivalent_4
def dkwX9_isEquivalent_2 : List UInt8 := [167, 0, 4, 3, 126, 60, 132, 4, 1, 167, 255, 217, 3, 61, 28, 7, 162, 0, 32, 27, 42, 180, 0, 9]
abbrev dktX9_isEquivalent_2 : List UInt8 := dkwX9_isEquivalent_2 ++ dktX9_isEquivalent_3
def dkwX9_isEquivalent_1 : List UInt8 := [21, 4, 46, 54, 5, 27, 42, 21, 5, 182, 0, 37, 42, 180, 0, 28, 21, 5, 46, 160, 0, 7, 4]
abbrev dktX9_isEquivalent_1 : List UInt8 := dkwX9_isEquivalent_1 ++ dktX9_isEquivalent_2
def dkwX9_isEquivalent_0 : List UInt8 := [4, 60, 42, 182, 0, 34, 42, 180, 0, 31, 77, 44, 190, 62, 3, 54, 4, 21, 4, 29, 162, 0, 39, 44]
abbrev dktX9_isEquivalent_0 : List UInt8 := dkwX9_isEquivalent_0 ++ dktX9_isEquivalent_1
theorem dksX9_isEquivalent_0 : cX9_isEquivalent.data.toList.drop 0 = dktX9_isEquivalent_0 := by decide +kernel
theorem dksX9_isEquivalent_1 : cX9_isEquivalent.data.toList.drop 24 = dktX9_isEquivalent_1 := dk_seg dksX9_isEquivalent_0 24 rfl rfl
theorem dksX9_isEquivalent_2 : cX9_isEquivalent.data.toList.drop 47 = dktX9_isEquivalent_2 := dk_seg dksX9_isEquivalent_1 23 rfl rfl
theorem dksX9_isEquivalent_3 : cX9_isEquivalent.data.toList.drop 71 = dktX9_isEquivalent_3 := dk_seg dksX9_isEquivalent_2 24 rfl rfl
theorem dksX9_isEquivalent_4 : cX9_isEquivalent.data.toList.drop 95 = dktX9_isEquivalent_4 := dk_seg dksX9_isEquivalent_3 24 rfl rfl
theorem dX9_isEquivalent_0 : decode cX9_isEquivalent 0 = .ok (.iconst 1, 1) := dk_4 (dk_at dksX9_isEquivalent_0 0 rfl rfl)
theorem dX9_isEquivalent_1 : decode cX9_isEquivalent 1 = .ok (.istore_n 1, 1) := dk_60 (dk_at dksX9_isEquivalent_0 1 rfl rfl)
theorem dX9_isEquivalent_2 : decode cX9_isEquivalent 2 = .ok (.aload_n 0, 1) := dk_42 (dk_at dksX9_isEquivalent_0 2 rfl rfl)
theorem dX9_isEquivalent_3 : decode cX9_isEquivalent 3 = .ok (.invokevirtual 34, 3) := dk_182 0 34 (dk_at dksX9_isEquivalent_0 3 rfl rfl)
theorem dX9_isEquivalent_6 : decode cX9_isEquivalent 6 = .ok (.aload_n 0, 1) := dk_42 (dk_at dksX9_isEquivalent_0 6 rfl rfl)
theorem dX9_isEquivalent_7 : decode cX9_isEquivalent 7 = .ok (.getfield 31, 3) := dk_180 0 31 (dk_at dksX9_isEquivalent_0 7 rfl rfl)
theorem dX9_isEquivalent_10 : decode cX9_isEquivalent 10 = .ok (.astore_n 2, 1) := dk_77 (dk_at dksX9_isEquivalent_0 10 rfl rfl)
theorem dX9_isEquivalent_11 : decode cX9_isEquivalent 11 = .ok (.aload_n 2, 1) := dk_44 (dk_at dksX9_isEquivalent_0 11 rfl rfl)
theorem dX9_isEquivalent_12 : decode cX9_isEquivalent 12 = .ok (.arraylength, 1) := dk_190 (dk_at dksX9_isEquivalent_0 12 rfl rfl)
theorem dX9_isEquivalent_13 : decode cX9_isEquivalent 13 = .ok (.istore_n 3, 1) := dk_62 (dk_at dksX9_isEquivalent_0 13 rfl rfl)
theorem dX9_isEquivalent_14 : decode cX9_isEquivalent 14 = .ok (.iconst 0, 1) := dk_3 (dk_at dksX9_isEquivalent_0 14 rfl rfl)
theorem dX9_isEquivalent_15 : decode cX9_isEquivalent 15 = .ok (.istore 4, 2) := dk_54 4 (dk_at dksX9_isEquivalent_0 15 rfl rfl)
theorem dX9_isEquivalent_17 : decode cX9_isEquivalent 17 = .ok (.iload 4, 2) := dk_21 4 (dk_at dksX9_isEquivalent_0 17 rfl rfl)
theorem dX9_isEquivalent_19 : decode cX9_isEquivalent 19 = .ok (.iload_n 3, 1) := dk_29 (dk_at dksX9_isEquivalent_0 19 rfl rfl)
theorem dX9_isEquivalent_20 : decode cX9_isEquivalent 20 = .ok (.if_icmp .ge 39, 3) := dk_162 0 39 (dk_at dksX9_isEquivalent_0 20 rfl rfl)
theorem dX9_isEquivalent_23 : decode cX9_isEquivalent 23 = .ok (.aload_n 2, 1) := dk_44 (dk_at dksX9_isEquivalent_0 23 rfl rfl)
theorem dX9_isEquivalent_24 : decode cX9_isEquivalent 24 = .ok (.iload 4, 2) := dk_21 4 (dk_at dksX9_isEquivalent_1 0 rfl rfl)
theorem dX9_isEquivalent_26 : decode cX9_isEquivalent 26 = .ok (.iaload, 1) := dk_46 (dk_at dksX9_isEquivalent_1 2 rfl rfl)
theorem dX9_isEquivalent_27 : decode cX9_isEquivalent 27 = .ok (.istore 5, 2) := dk_54 5 (dk_at dksX9_isEquivalent_1 3 rfl rfl)
theorem dX9_isEquivalent_29 : decode cX9_isEquivalent 29 = .ok (.iload_n 1, 1) := dk_27 (dk_at dksX9_isEquivalent_1 5 rfl rfl)
theorem dX9_isEquivalent_30 : decode cX9_isEquivalent 30 = .ok (.aload_n 0, 1) := dk_42 (dk_at dksX9_isEquivalent_1 6 rfl rfl)
theorem dX9_isEquivalent_31 : decode cX9_isEquivalent 31 = .ok (.iload 5, 2) := dk_21 5 (dk_at dksX9_isEquivalent_1 7 rfl rfl)
theorem dX9_isEquivalent_33 : decode cX9_isEquivalent 33 = .ok (.invokevirtual 37, 3) := dk_182 0 37 (dk_at dksX9_isEquivalent_1 9 rfl rfl)
theorem dX9_isEquivalent_36 : decode cX9_isEquivalent 36 = .ok (.aload_n 0, 1) := dk_42 (dk_at dksX9_isEquivalent_1 12 rfl rfl)
theorem dX9_isEquivalent_37 : decode cX9_isEquivalent 37 = .ok (.getfield 28, 3) := dk_180 0 28 (dk_at dksX9_isEquivalent_1 13 rfl rfl)
theorem dX9_isEquivalent_40 : decode cX9_isEquivalent 40 = .ok (.iload 5, 2) := dk_21 5 (dk_at dksX9_isEquivalent_1 16 rfl rfl)
theorem dX9_isEquivalent_42 : decode cX9_isEquivalent 42 = .ok (.iaload, 1) := dk_46 (dk_at dksX9_isEquivalent_1 18 rfl rfl)
theorem dX9_isEquivalent_43 : decode cX9_isEquivalent 43 = .ok (.if_icmp .ne 7, 3) := dk_160 0 7 (dk_at dksX9_isEquivalent_1 19 rfl rfl)
theorem dX9_isEquivalent_46 : decode cX9_isEquivalent 46 = .ok (.iconst 1, 1) := dk_4 (dk_at dksX9_isEquivalent_1 22 rfl rfl)
theorem dX9_isEquivalent_47 : decode cX9_isEquivalent 47 = .ok (.goto 4, 3) := dk_167 0 4 (dk_at dksX9_isEquivalent_2 0 rfl rfl)
theorem dX9_isEquivalent_50 : decode cX9_isEquivalent 50 = .ok (.iconst 0, 1) := dk_3 (dk_at dksX9_isEquivalent_2 3 rfl rfl)
theorem dX9_isEquivalent_51 : decode cX9_isEquivalent 51 = .ok (.iand, 1) := dk_126 (dk_at dksX9_isEquivalent_2 4 rfl rfl)
theorem dX9_isEquivalent_52 : decode cX9_isEquivalent 52 = .ok (.istore_n 1, 1) := dk_60 (dk_at dksX9_isEquivalent_2 5 rfl rfl)
theorem dX9_isEquivalent_53 : decode cX9_isEquivalent 53 = .ok (.iinc 4 1, 3) := dk_132 4 1 (dk_at dksX9_isEquivalent_2 6 rfl rfl)
theorem dX9_isEquivalent_56 : decode cX9_isEquivalent 56 = .ok (.goto (-39), 3) := dk_167 255 217 (dk_at dksX9_isEquivalent_2 9 rfl rfl)
theorem dX9_isEquivalent_59 : decode cX9_isEquivalent 59 = .ok (.iconst 0, 1) := dk_3 (dk_at dksX9_isEquivalent_2 12 rfl rfl)
theorem dX9_isEquivalent_60 : decode cX9_isEquivalent 60 = .ok (.istore_n 2, 1) := dk_61 (dk_at dksX9_isEquivalent_2 13 rfl rfl)
theorem dX9_isEquivalent_61 : decode cX9_isEquivalent 61 = .ok (.iload_n 2, 1) := dk_28 (dk_at dksX9_isEquivalent_2 14 rfl rfl)
theorem dX9_isEquivalent_62 : decode cX9_isEquivalent 62 = .ok (.iconst 4, 1) := dk_7 (dk_at dksX9_isEquivalent_2 15 rfl rfl)
theorem dX9_isEquivalent_63 : decode cX9_isEquivalent 63 = .ok (.if_icmp .ge 32, 3) := dk_162 0 32 (dk_at dksX9_isEquivalent_2 16 rfl rfl)
theorem dX9_isEquivalent_66 : decode cX9_isEquivalent 66 = .ok (.iload_n 1, 1) := dk_27 (dk_at dksX9_isEquivalent_2 19 rfl rfl)
theorem dX9_isEquivalent_67 : decode cX9_isEquivalent 67 = .ok (.aload_n 0, 1) := dk_42 (dk_at dksX9_isEquivalent_2 20 rfl rfl)
theorem dX9_isEquivalent_68 : decode cX9_isEquivalent 68 = .ok (.getfield 9, 3) := dk_180 0 9 (dk_at dksX9_isEquivalent_2 21 rfl rfl)
theorem dX9_isEquivalent_71 : decode cX9_isEquivalent 71 = .ok (.iload_n 2, 1) := dk_28 (dk_at dksX9_isEquivalent_3 0 rfl rfl)
theorem dX9_isEquivalent_72 : decode cX9_isEquivalent 72 = .ok (.iaload, 1) := dk_46 (dk_at dksX9_isEquivalent_3 1 rfl rfl)
theorem dX9_isEquivalent_73 : decode cX9_isEquivalent 73 = .ok (.aload_n 0, 1) := dk_42 (dk_at dksX9_isEquivalent_3 2 rfl rfl)
theorem dX9_isEquivalent_74 : decode cX9_isEquivalent 74 = .ok (.getfield 46, 3) := dk_180 0 46 (dk_at dksX9_isEquivalent_3 3 rfl rfl)
theorem dX9_isEquivalent_77 : decode cX9_isEquivalent 77 = .ok (.iload_n 2, 1) := dk_28 (dk_at dksX9_isEquivalent_3 6 rfl rfl)
theorem dX9_isEquivalent_78 : decode cX9_isEquivalent 78 = .ok (.iaload, 1) := dk_46 (dk_at dksX9_isEquivalent_3 7 rfl rfl)
theorem dX9_isEquivalent_79 : decode cX9_isEquivalent 79 = .ok (.if_icmp .ne 7, 3) := dk_160 0 7 (dk_at dksX9_isEquivalent_3 8 rfl rfl)
theorem dX9_isEquivalent_82 : decode cX9_isEquivalent 82 = .ok (.iconst 1, 1) := dk_4 (dk_at dksX9_isEquivalent_3 11 rfl rfl)
theorem dX9_isEquivalent_83 : decode cX9_isEquivalent 83 = .ok (.goto 4, 3) := dk_167 0 4 (dk_at dksX9_isEquivalent_3 12 rfl rfl)
theorem dX9_isEquivalent_86 : decode cX9_isEquivalent 86 = .ok (.iconst 0, 1) := dk_3 (dk_at dksX9_isEquivalent_3 15 rfl rfl)
theorem dX9_isEquivalent_87 : decode cX9_isEquivalent 87 = .ok (.iand, 1) := dk_126 (dk_at dksX9_isEquivalent_3 16 rfl rfl)
theorem dX9_isEquivalent_88 : decode cX9_isEquivalent 88 = .ok (.istore_n 1, 1) := dk_60 (dk_at dksX9_isEquivalent_3 17 rfl rfl)
theorem dX9_isEquivalent_89 : decode cX9_isEquivalent 89 = .ok (.iinc 2 1, 3) := dk_132 2 1 (dk_at dksX9_isEquivalent_3 18 rfl rfl)
theorem dX9_isEquivalent_92 : decode cX9_isEquivalent 92 = .ok (.goto (-31), 3) := dk_167 255 225 (dk_at dksX9_isEquivalent_3 21 rfl rfl)
theorem dX9_isEquivalent_95 : decode cX9_isEquivalent 95 = .ok (.iload_n 1, 1) := dk_27 (dk_at dksX9_isEquivalent_4 0 rfl rfl)
theorem dX9_isEquivalent_96 : decode cX9_isEquivalent 96 = .ok (.ireturn, 1) := dk_172 (dk_at dksX9_isEquivalent_4 1 rfl rfl)
abbrev cX9_arrange : ByteArray := prog_10_method_5_code
def yX9_arrange : MethodName := ⟨RX9, "arrange", "(II)I"⟩
def dkwX9_arrange_2 : List UInt8 := [79, 132, 3, 1, 132, 4, 1, 167, 255, 207, 29, 172]
abbrev dktX9_arrange_2 : List UInt8 := dkwX9_arrange_2 ++ []
def dkwX9_arrange_1 : List UInt8 := [21, 4, 185, 0, 49, 2, 0, 192, 0, 53, 180, 0, 62, 27, 160, 0, 14, 42, 180, 0, 31, 29, 21, 4]
abbrev dktX9_arrange_1 : List UInt8 := dkwX9_arrange_1 ++ dktX9_arrange_2
def dkwX9_arrange_0 : List UInt8 := [28, 62, 3, 54, 4, 21, 4, 42, 180, 0, 21, 185, 0, 22, 1, 0, 162, 0, 41, 42, 180, 0, 21]
abbrev dktX9_arrange_0 : List UInt8 := dkwX9_arrange_0 ++ dktX9_arrange_1
theorem dksX9_arrange_0 : cX9_arrange.data.toList.drop 0 = dktX9_arrange_0 := by decide +kernel
theorem dksX9_arrange_1 : cX9_arrange.data.toList.drop 23 = dktX9_arrange_1 := dk_seg dksX9_arrange_0 23 rfl rfl
theorem dksX9_arrange_2 : cX9_arrange.data.toList.drop 47 = dktX9_arrange_2 := dk_seg dksX9_arrange_1 24 rfl rfl
theorem dX9_arrange_0 : decode cX9_arrange 0 = .ok (.iload_n 2, 1) := dk_28 (dk_at dksX9_arrange_0 0 rfl rfl)
theorem dX9_arrange_1 : decode cX9_arrange 1 = .ok (.istore_n 3, 1) := dk_62 (dk_at dksX9_arrange_0 1 rfl rfl)
theorem dX9_arrange_2 : decode cX9_arrange 2 = .ok (.iconst 0, 1) := dk_3 (dk_at dksX9_arrange_0 2 rfl rfl)
theorem dX9_arrange_3 : decode cX9_arrange 3 = .ok (.istore 4, 2) := dk_54 4 (dk_at dksX9_arrange_0 3 rfl rfl)
theorem dX9_arrange_5 : decode cX9_arrange 5 = .ok (.iload 4, 2) := dk_21 4 (dk_at dksX9_arrange_0 5 rfl rfl)
theorem dX9_arrange_7 : decode cX9_arrange 7 = .ok (.aload_n 0, 1) := dk_42 (dk_at dksX9_arrange_0 7 rfl rfl)
theorem dX9_arrange_8 : decode cX9_arrange 8 = .ok (.getfield 21, 3) := dk_180 0 21 (dk_at dksX9_arrange_0 8 rfl rfl)
theorem dX9_arrange_11 : decode cX9_arrange 11 = .ok (.invokeinterface 22 1, 5) := by decide +kernel
theorem dX9_arrange_16 : decode cX9_arrange 16 = .ok (.if_icmp .ge 41, 3) := dk_162 0 41 (dk_at dksX9_arrange_0 16 rfl rfl)
theorem dX9_arrange_19 : decode cX9_arrange 19 = .ok (.aload_n 0, 1) := dk_42 (dk_at dksX9_arrange_0 19 rfl rfl)
theorem dX9_arrange_20 : decode cX9_arrange 20 = .ok (.getfield 21, 3) := dk_180 0 21 (dk_at dksX9_arrange_0 20 rfl rfl)
theorem dX9_arrange_23 : decode cX9_arrange 23 = .ok (.iload 4, 2) := dk_21 4 (dk_at dksX9_arrange_1 0 rfl rfl)
theorem dX9_arrange_25 : decode cX9_arrange 25 = .ok (.invokeinterface 49 2, 5) := by decide +kernel
theorem dX9_arrange_30 : decode cX9_arrange 30 = .ok (.checkcast 53, 3) := dk_192 0 53 (dk_at dksX9_arrange_1 7 rfl rfl)
theorem dX9_arrange_33 : decode cX9_arrange 33 = .ok (.getfield 62, 3) := dk_180 0 62 (dk_at dksX9_arrange_1 10 rfl rfl)
theorem dX9_arrange_36 : decode cX9_arrange 36 = .ok (.iload_n 1, 1) := dk_27 (dk_at dksX9_arrange_1 13 rfl rfl)
theorem dX9_arrange_37 : decode cX9_arrange 37 = .ok (.if_icmp .ne 14, 3) := dk_160 0 14 (dk_at dksX9_arrange_1 14 rfl rfl)
theorem dX9_arrange_40 : decode cX9_arrange 40 = .ok (.aload_n 0, 1) := dk_42 (dk_at dksX9_arrange_1 17 rfl rfl)
theorem dX9_arrange_41 : decode cX9_arrange 41 = .ok (.getfield 31, 3) := dk_180 0 31 (dk_at dksX9_arrange_1 18 rfl rfl)
theorem dX9_arrange_44 : decode cX9_arrange 44 = .ok (.iload_n 3, 1) := dk_29 (dk_at dksX9_arrange_1 21 rfl rfl)
theorem dX9_arrange_45 : decode cX9_arrange 45 = .ok (.iload 4, 2) := dk_21 4 (dk_at dksX9_arrange_1 22 rfl rfl)
theorem dX9_arrange_47 : decode cX9_arrange 47 = .ok (.iastore, 1) := dk_79 (dk_at dksX9_arrange_2 0 rfl rfl)
theorem dX9_arrange_48 : decode cX9_arrange 48 = .ok (.iinc 3 1, 3) := dk_132 3 1 (dk_at dksX9_arrange_2 1 rfl rfl)
theorem dX9_arrange_51 : decode cX9_arrange 51 = .ok (.iinc 4 1, 3) := dk_132 4 1 (dk_at dksX9_arrange_2 4 rfl rfl)
theorem dX9_arrange_54 : decode cX9_arrange 54 = .ok (.goto (-49), 3) := dk_167 255 207 (dk_at dksX9_arrange_2 7 rfl rfl)
theorem dX9_arrange_57 : decode cX9_arrange 57 = .ok (.iload_n 3, 1) := dk_29 (dk_at dksX9_arrange_2 10 rfl rfl)
theorem dX9_arrange_58 : decode cX9_arrange 58 = .ok (.ireturn, 1) := dk_172 (dk_at dksX9_arrange_2 11 rfl rfl)
theorem q162 : (Jvm.Cond.initialized "ScheduleAnalyzer$ViewSearch") ∈ lw_all := lw_g (lw_at lw_m1 48 rfl) rfl
theorem q749 : (Jvm.Cond.selects "ScheduleAnalyzer$ViewSearch" ({ cls := "java/lang/Object", name := "getClass", desc := "()Ljava/lang/Class;" } : Jvm.MethodName) ({ cls := "java/lang/Object", name := "getClass", desc := "()Ljava/lang/Class;" } : Jvm.MethodName)) ∈ lw_all := lw_g (lw_at lw_m3 155 rfl) rfl
theorem q804 : (Jvm.Cond.fieldLinkNest "ScheduleAnalyzer$ViewSearch" (15 : Nat) "ScheduleAnalyzer$Schedule" "operations" "Ljava/util/List;" "ScheduleAnalyzer") ∈ lw_tbl := lw_at lw_m3 210 rfl
theorem q1321 : (Jvm.Cond.instantiable "ScheduleAnalyzer$ViewSearch" (5 : Nat)) ∈ lw_all := lw_g (lw_at lw_m6 7 rfl) rfl
theorem q1324 : (Jvm.Cond.instanceMethod ({ cls := "ScheduleAnalyzer$ViewSearch", name := "<init>", desc := "(LScheduleAnalyzer$Schedule;)V" } : Jvm.MethodName)) ∈ lw_all := lw_g (lw_at lw_m6 10 rfl) rfl
theorem q1325 : (Jvm.Cond.code ({ cls := "ScheduleAnalyzer$ViewSearch", name := "<init>", desc := "(LScheduleAnalyzer$Schedule;)V" } : Jvm.MethodName) prog_10_method_1_code (3 : Nat) (Option.none : Option Jvm.ClassFile.FieldType)) ∈ lw_all := lw_g (lw_at lw_m6 11 rfl) rfl
theorem q1326 : (Jvm.Cond.methodLink "ScheduleAnalyzer$ViewSearch" (3 : Nat) ({ cls := "java/lang/Object", name := "<init>", desc := "()V" } : Jvm.MethodName)) ∈ lw_all := lw_g (lw_at lw_m6 12 rfl) rfl
theorem q1327 : (Jvm.Cond.interfaceEntry "ScheduleAnalyzer$ViewSearch" (22 : Nat)) ∈ lw_tbl := lw_at lw_m6 13 rfl
theorem q1328 : (Jvm.Cond.methodLink "ScheduleAnalyzer$ViewSearch" (22 : Nat) ({ cls := "java/util/List", name := "size", desc := "()I" } : Jvm.MethodName)) ∈ lw_all := lw_g (lw_at lw_m6 14 rfl) rfl
theorem q1329 : (Jvm.Cond.methodLink "ScheduleAnalyzer$ViewSearch" (34 : Nat) ({ cls := "ScheduleAnalyzer$ViewSearch", name := "forget", desc := "()V" } : Jvm.MethodName)) ∈ lw_all := lw_g (lw_at lw_m6 15 rfl) rfl
theorem q1330 : (Jvm.Cond.privateMethod ({ cls := "ScheduleAnalyzer$ViewSearch", name := "forget", desc := "()V" } : Jvm.MethodName)) ∈ lw_tbl := lw_at lw_m6 16 rfl
theorem q1331 : (Jvm.Cond.instanceMethod ({ cls := "ScheduleAnalyzer$ViewSearch", name := "forget", desc := "()V" } : Jvm.MethodName)) ∈ lw_all := lw_g (lw_at lw_m6 17 rfl) rfl
theorem q1332 : (Jvm.Cond.code ({ cls := "ScheduleAnalyzer$ViewSearch", name := "forget", desc := "()V" } : Jvm.MethodName) prog_10_method_2_code (2 : Nat) (Option.none : Option Jvm.ClassFile.FieldType)) ∈ lw_all := lw_g (lw_at lw_m6 18 rfl) rfl
theorem q1333 : (Jvm.Cond.methodLink "ScheduleAnalyzer$ViewSearch" (37 : Nat) ({ cls := "ScheduleAnalyzer$ViewSearch", name := "follow", desc := "(I)I" } : Jvm.MethodName)) ∈ lw_all := lw_g (lw_at lw_m6 19 rfl) rfl
theorem q1334 : (Jvm.Cond.privateMethod ({ cls := "ScheduleAnalyzer$ViewSearch", name := "follow", desc := "(I)I" } : Jvm.MethodName)) ∈ lw_tbl := lw_at lw_m6 20 rfl
theorem q1335 : (Jvm.Cond.instanceMethod ({ cls := "ScheduleAnalyzer$ViewSearch", name := "follow", desc := "(I)I" } : Jvm.MethodName)) ∈ lw_all := lw_g (lw_at lw_m6 21 rfl) rfl
theorem q1336 : (Jvm.Cond.code ({ cls := "ScheduleAnalyzer$ViewSearch", name := "follow", desc := "(I)I" } : Jvm.MethodName) prog_10_method_3_code (5 : Nat) (Option.some Jvm.ClassFile.FieldType.int)) ∈ lw_all := lw_g (lw_at lw_m6 22 rfl) rfl
theorem q1337 : (Jvm.Cond.interfaceEntry "ScheduleAnalyzer$ViewSearch" (49 : Nat)) ∈ lw_tbl := lw_at lw_m6 23 rfl
theorem q1338 : (Jvm.Cond.methodLink "ScheduleAnalyzer$ViewSearch" (49 : Nat) ({ cls := "java/util/List", name := "get", desc := "(I)Ljava/lang/Object;" } : Jvm.MethodName)) ∈ lw_all := lw_g (lw_at lw_m6 24 rfl) rfl
theorem q1339 : (Jvm.Cond.classLink "ScheduleAnalyzer$ViewSearch" (53 : Nat) "ScheduleAnalyzer$Operation") ∈ lw_all := lw_g (lw_at lw_m6 25 rfl) rfl
theorem q1340 : (Jvm.Cond.methodLink "ScheduleAnalyzer$ViewSearch" (41 : Nat) ({ cls := "[I", name := "clone", desc := "()Ljava/lang/Object;" } : Jvm.MethodName)) ∈ lw_all := lw_g (lw_at lw_m6 26 rfl) rfl
theorem q1344 : (Jvm.Cond.classLink "ScheduleAnalyzer$ViewSearch" (42 : Nat) "[I") ∈ lw_all := lw_g (lw_at lw_m6 30 rfl) rfl
theorem q1345 : (Jvm.Cond.fieldLink "ScheduleAnalyzer$ViewSearch" (21 : Nat) "ScheduleAnalyzer$ViewSearch" "operations" "Ljava/util/List;") ∈ lw_all := lw_g (lw_at lw_m6 31 rfl) rfl
theorem q1346 : (Jvm.Cond.fieldLink "ScheduleAnalyzer$ViewSearch" (28 : Nat) "ScheduleAnalyzer$ViewSearch" "sources" "[I") ∈ lw_all := lw_g (lw_at lw_m6 32 rfl) rfl
theorem q1347 : (Jvm.Cond.fieldLink "ScheduleAnalyzer$ViewSearch" (46 : Nat) "ScheduleAnalyzer$ViewSearch" "lastWrites" "[I") ∈ lw_all := lw_g (lw_at lw_m6 33 rfl) rfl
theorem q1348 : (Jvm.Cond.fieldLink "ScheduleAnalyzer$ViewSearch" (31 : Nat) "ScheduleAnalyzer$ViewSearch" "arranged" "[I") ∈ lw_all := lw_g (lw_at lw_m6 34 rfl) rfl
theorem q1349 : (Jvm.Cond.fieldLink "ScheduleAnalyzer$ViewSearch" (9 : Nat) "ScheduleAnalyzer$ViewSearch" "latest" "[I") ∈ lw_all := lw_g (lw_at lw_m6 35 rfl) rfl
theorem q1350 : (Jvm.Cond.laysFinal "ScheduleAnalyzer$ViewSearch" "ScheduleAnalyzer$ViewSearch" "operations" "Ljava/util/List;") ∈ lw_all := lw_g (lw_at lw_m6 36 rfl) rfl
theorem q1351 : (Jvm.Cond.soleField "ScheduleAnalyzer$ViewSearch" "operations") ∈ lw_all := lw_g (lw_at lw_m6 37 rfl) rfl
theorem q1352 : (Jvm.Cond.laysFinal "ScheduleAnalyzer$ViewSearch" "ScheduleAnalyzer$ViewSearch" "sources" "[I") ∈ lw_all := lw_g (lw_at lw_m6 38 rfl) rfl
theorem q1353 : (Jvm.Cond.soleField "ScheduleAnalyzer$ViewSearch" "sources") ∈ lw_all := lw_g (lw_at lw_m6 39 rfl) rfl
theorem q1354 : (Jvm.Cond.laysFinal "ScheduleAnalyzer$ViewSearch" "ScheduleAnalyzer$ViewSearch" "lastWrites" "[I") ∈ lw_all := lw_g (lw_at lw_m6 40 rfl) rfl
theorem q1355 : (Jvm.Cond.soleField "ScheduleAnalyzer$ViewSearch" "lastWrites") ∈ lw_all := lw_g (lw_at lw_m6 41 rfl) rfl
theorem q1356 : (Jvm.Cond.laysFinal "ScheduleAnalyzer$ViewSearch" "ScheduleAnalyzer$ViewSearch" "arranged" "[I") ∈ lw_all := lw_g (lw_at lw_m6 42 rfl) rfl
theorem q1357 : (Jvm.Cond.soleField "ScheduleAnalyzer$ViewSearch" "arranged") ∈ lw_all := lw_g (lw_at lw_m6 43 rfl) rfl
theorem q1358 : (Jvm.Cond.laysFinal "ScheduleAnalyzer$ViewSearch" "ScheduleAnalyzer$ViewSearch" "latest" "[I") ∈ lw_all := lw_g (lw_at lw_m6 44 rfl) rfl
theorem q1359 : (Jvm.Cond.soleField "ScheduleAnalyzer$ViewSearch" "latest") ∈ lw_all := lw_g (lw_at lw_m6 45 rfl) rfl
theorem q1360 : (Jvm.Cond.superclass "ScheduleAnalyzer$ViewSearch" "java/lang/Object") ∈ lw_all := lw_g (lw_at lw_m6 46 rfl) rfl
theorem q1362 : (Jvm.Cond.instanceMethod ({ cls := "ScheduleAnalyzer$ViewSearch", name := "search", desc := "(II)Z" } : Jvm.MethodName)) ∈ lw_all := lw_g (lw_at lw_m6 48 rfl) rfl
theorem q1363 : (Jvm.Cond.selects "ScheduleAnalyzer$ViewSearch" ({ cls := "ScheduleAnalyzer$ViewSearch", name := "search", desc := "(II)Z" } : Jvm.MethodName) ({ cls := "ScheduleAnalyzer$ViewSearch", name := "search", desc := "(II)Z" } : Jvm.MethodName)) ∈ lw_all := lw_g (lw_at lw_m6 49 rfl) rfl
theorem q1364 : (Jvm.Cond.code ({ cls := "ScheduleAnalyzer$ViewSearch", name := "search", desc := "(II)Z" } : Jvm.MethodName) prog_10_method_6_code (6 : Nat) (Option.some Jvm.ClassFile.FieldType.boolean)) ∈ lw_all := lw_g (lw_at lw_m6 50 rfl) rfl
theorem q1365 : (Jvm.Cond.methodLink "ScheduleAnalyzer$ViewSearch" (66 : Nat) ({ cls := "ScheduleAnalyzer$ViewSearch", name := "isEquivalent", desc := "()Z" } : Jvm.MethodName)) ∈ lw_all := lw_g (lw_at lw_m6 51 rfl) rfl
theorem q1366 : (Jvm.Cond.privateMethod ({ cls := "ScheduleAnalyzer$ViewSearch", name := "isEquivalent", desc := "()Z" } : Jvm.MethodName)) ∈ lw_tbl := lw_at lw_m6 52 rfl
theorem q1367 : (Jvm.Cond.instanceMethod ({ cls := "ScheduleAnalyzer$ViewSearch", name := "isEquivalent", desc := "()Z" } : Jvm.MethodName)) ∈ lw_all := lw_g (lw_at lw_m6 53 rfl) rfl
theorem q1368 : (Jvm.Cond.code ({ cls := "ScheduleAnalyzer$ViewSearch", name := "isEquivalent", desc := "()Z" } : Jvm.MethodName) prog_10_method_4_code (6 : Nat) (Option.some Jvm.ClassFile.FieldType.boolean)) ∈ lw_all := lw_g (lw_at lw_m6 54 rfl) rfl
theorem q1369 : (Jvm.Cond.methodLinkNest "ScheduleAnalyzer$ViewSearch" (70 : Nat) ({ cls := "ScheduleAnalyzer", name := "isIn", desc := "(II)Z" } : Jvm.MethodName) "ScheduleAnalyzer") ∈ lw_tbl := lw_at lw_m6 55 rfl
theorem q1370 : (Jvm.Cond.methodLink "ScheduleAnalyzer$ViewSearch" (74 : Nat) ({ cls := "ScheduleAnalyzer$ViewSearch", name := "arrange", desc := "(II)I" } : Jvm.MethodName)) ∈ lw_all := lw_g (lw_at lw_m6 56 rfl) rfl
theorem q1371 : (Jvm.Cond.privateMethod ({ cls := "ScheduleAnalyzer$ViewSearch", name := "arrange", desc := "(II)I" } : Jvm.MethodName)) ∈ lw_tbl := lw_at lw_m6 57 rfl
theorem q1372 : (Jvm.Cond.instanceMethod ({ cls := "ScheduleAnalyzer$ViewSearch", name := "arrange", desc := "(II)I" } : Jvm.MethodName)) ∈ lw_all := lw_g (lw_at lw_m6 58 rfl) rfl
theorem q1373 : (Jvm.Cond.code ({ cls := "ScheduleAnalyzer$ViewSearch", name := "arrange", desc := "(II)I" } : Jvm.MethodName) prog_10_method_5_code (5 : Nat) (Option.some Jvm.ClassFile.FieldType.int)) ∈ lw_all := lw_g (lw_at lw_m6 59 rfl) rfl
theorem q1374 : (Jvm.Cond.methodLink "ScheduleAnalyzer$ViewSearch" (78 : Nat) ({ cls := "ScheduleAnalyzer$ViewSearch", name := "search", desc := "(II)Z" } : Jvm.MethodName)) ∈ lw_all := lw_g (lw_at lw_m6 60 rfl) rfl
theorem q1660 : (Jvm.Cond.fieldLinkNest "ScheduleAnalyzer$ViewSearch" (59 : Nat) "ScheduleAnalyzer$Operation" "kind" "C" "ScheduleAnalyzer") ∈ lw_tbl := lw_at lw_m7 106 rfl
theorem q1666 : (Jvm.Cond.fieldLinkNest "ScheduleAnalyzer$ViewSearch" (62 : Nat) "ScheduleAnalyzer$Operation" "transaction" "I" "ScheduleAnalyzer") ∈ lw_tbl := lw_at lw_m7 112 rfl
theorem q1671 : (Jvm.Cond.fieldLinkNest "ScheduleAnalyzer$ViewSearch" (55 : Nat) "ScheduleAnalyzer$Operation" "item" "C" "ScheduleAnalyzer") ∈ lw_tbl := lw_at lw_m7 117 rfl
theorem q1840 : (Jvm.Cond.selects "ScheduleAnalyzer$ViewSearch" ({ cls := "java/lang/Object", name := "equals", desc := "(Ljava/lang/Object;)Z" } : Jvm.MethodName) ({ cls := "java/lang/Object", name := "equals", desc := "(Ljava/lang/Object;)Z" } : Jvm.MethodName)) ∈ lw_all := lw_g (lw_at lw_m8 46 rfl) rfl
theorem q2456 : (Jvm.Cond.selects "ScheduleAnalyzer$ViewSearch" ({ cls := "java/lang/Object", name := "toString", desc := "()Ljava/lang/String;" } : Jvm.MethodName) ({ cls := "java/lang/Object", name := "toString", desc := "()Ljava/lang/String;" } : Jvm.MethodName)) ∈ lw_all := lw_g (lw_at lw_m10 182 rfl) rfl
theorem q3259 : (Jvm.Cond.castable "ScheduleAnalyzer$ViewSearch" "java/lang/Object") ∈ lw_tbl := lw_at lw_m14 25 rfl
theorem in_X9 : ∀ w ∈ wsX90, w ∈ lw_all := lw_in wsX90 [1350, 1352, 1354, 1356, 1358] (by decide +kernel) (by decide +kernel)

/-! ScheduleAnalyzer$Execution -/
set_option maxRecDepth 100000
def RX10 : String := "ScheduleAnalyzer$Execution"
def TX10 : u_T := fun k => match k with
  | 0 => ("ScheduleAnalyzer$Execution", "values", "[I", true)
  | 1 => ("ScheduleAnalyzer$Execution", "registers", "[I", true)
  | 2 => ("ScheduleAnalyzer$Execution", "writes", "Ljava/util/List;", true)
  | _ => ("ScheduleAnalyzer$Execution", "replaced", "Ljava/util/List;", true)
def tyX10 : Nat → FieldType := fun k => match k with
  | 0 => .array .int
  | 1 => .array .int
  | 2 => .object "java/util/List"
  | _ => .object "java/util/List"
abbrev wsX100 : List Cond := u_ws RX10 TX10 4
theorem nmX10 : ∀ a, a < 4 → ∀ b, b < 4 → a ≠ b → (TX10 a).2.1 ≠ (TX10 b).2.1 := by decide +kernel
theorem tyX10_ok : ∀ k, k < 4 → parseFieldDescriptor (TX10 k).2.2.1 = some (tyX10 k) := by decide +kernel
abbrev cX10_init : ByteArray := prog_2_method_1_code
def yX10_init : MethodName := ⟨RX10, "<init>", "([ILScheduleAnalyzer$Schedule;)V"⟩
def dkwX10_init_4 : List UInt8 := [58, 4, 42, 25, 4, 182, 0, 55, 167, 255, 230, 177]
abbrev dktX10_init_4 : List UInt8 := dkwX10_init_4 ++ []
def dkwX10_init_3 : List UInt8 := [185, 0, 38, 1, 0, 78, 45, 185, 0, 44, 1, 0, 153, 0, 23, 45, 185, 0, 50, 1, 0, 192, 0, 53]
abbrev dktX10_init_3 : List UInt8 := dkwX10_init_3 ++ dktX10_init_4
def dkwX10_init_2 : List UInt8 := [8, 163, 0, 16, 42, 180, 0, 9, 29, 29, 79, 132, 3, 1, 167, 255, 241, 44, 180, 0, 33]
abbrev dktX10_init_2 : List UInt8 := dkwX10_init_2 ++ dktX10_init_3
def dkwX10_init_1 : List UInt8 := [187, 0, 15, 89, 183, 0, 17, 181, 0, 22, 42, 43, 182, 0, 25, 192, 0, 26, 181, 0, 30, 4, 62, 29]
abbrev dktX10_init_1 : List UInt8 := dkwX10_init_1 ++ dktX10_init_2
def dkwX10_init_0 : List UInt8 := [42, 183, 0, 3, 42, 16, 6, 188, 10, 181, 0, 9, 42, 187, 0, 15, 89, 183, 0, 17, 181, 0, 18, 42]
abbrev dktX10_init_0 : List UInt8 := dkwX10_init_0 ++ dktX10_init_1
theorem dksX10_init_0 : cX10_init.data.toList.drop 0 = dktX10_init_0 := by decide +kernel
theorem dksX10_init_1 : cX10_init.data.toList.drop 24 = dktX10_init_1 := dk_seg dksX10_init_0 24 rfl rfl
theorem dksX10_init_2 : cX10_init.data.toList.drop 48 = dktX10_init_2 := dk_seg dksX10_init_1 24 rfl rfl
theorem dksX10_init_3 : cX10_init.data.toList.drop 69 = dktX10_init_3 := dk_seg dksX10_init_2 21 rfl rfl
theorem dksX10_init_4 : cX10_init.data.toList.drop 93 = dktX10_init_4 := dk_seg dksX10_init_3 24 rfl rfl
theorem dX10_init_0 : decode cX10_init 0 = .ok (.aload_n 0, 1) := dk_42 (dk_at dksX10_init_0 0 rfl rfl)
theorem dX10_init_1 : decode cX10_init 1 = .ok (.invokespecial 3, 3) := dk_183 0 3 (dk_at dksX10_init_0 1 rfl rfl)
theorem dX10_init_4 : decode cX10_init 4 = .ok (.aload_n 0, 1) := dk_42 (dk_at dksX10_init_0 4 rfl rfl)
theorem dX10_init_5 : decode cX10_init 5 = .ok (.bipush 6, 2) := dk_16 6 (dk_at dksX10_init_0 5 rfl rfl)
theorem dX10_init_7 : decode cX10_init 7 = .ok (.newarray .int, 2) := dk_188_10 (dk_at dksX10_init_0 7 rfl rfl)
theorem dX10_init_9 : decode cX10_init 9 = .ok (.putfield 9, 3) := dk_181 0 9 (dk_at dksX10_init_0 9 rfl rfl)
theorem dX10_init_12 : decode cX10_init 12 = .ok (.aload_n 0, 1) := dk_42 (dk_at dksX10_init_0 12 rfl rfl)
theorem dX10_init_13 : decode cX10_init 13 = .ok (.new 15, 3) := dk_187 0 15 (dk_at dksX10_init_0 13 rfl rfl)
theorem dX10_init_16 : decode cX10_init 16 = .ok (.dup, 1) := dk_89 (dk_at dksX10_init_0 16 rfl rfl)
theorem dX10_init_17 : decode cX10_init 17 = .ok (.invokespecial 17, 3) := dk_183 0 17 (dk_at dksX10_init_0 17 rfl rfl)
theorem dX10_init_20 : decode cX10_init 20 = .ok (.putfield 18, 3) := dk_181 0 18 (dk_at dksX10_init_0 20 rfl rfl)
theorem dX10_init_23 : decode cX10_init 23 = .ok (.aload_n 0, 1) := dk_42 (dk_at dksX10_init_0 23 rfl rfl)
theorem dX10_init_24 : decode cX10_init 24 = .ok (.new 15, 3) := dk_187 0 15 (dk_at dksX10_init_1 0 rfl rfl)
theorem dX10_init_27 : decode cX10_init 27 = .ok (.dup, 1) := dk_89 (dk_at dksX10_init_1 3 rfl rfl)
theorem dX10_init_28 : decode cX10_init 28 = .ok (.invokespecial 17, 3) := dk_183 0 17 (dk_at dksX10_init_1 4 rfl rfl)
theorem dX10_init_31 : decode cX10_init 31 = .ok (.putfield 22, 3) := dk_181 0 22 (dk_at dksX10_init_1 7 rfl rfl)
theorem dX10_init_34 : decode cX10_init 34 = .ok (.aload_n 0, 1) := dk_42 (dk_at dksX10_init_1 10 rfl rfl)
theorem dX10_init_35 : decode cX10_init 35 = .ok (.aload_n 1, 1) := dk_43 (dk_at dksX10_init_1 11 rfl rfl)
theorem dX10_init_36 : decode cX10_init 36 = .ok (.invokevirtual 25, 3) := dk_182 0 25 (dk_at dksX10_init_1 12 rfl rfl)
theorem dX10_init_39 : decode cX10_init 39 = .ok (.checkcast 26, 3) := dk_192 0 26 (dk_at dksX10_init_1 15 rfl rfl)
theorem dX10_init_42 : decode cX10_init 42 = .ok (.putfield 30, 3) := dk_181 0 30 (dk_at dksX10_init_1 18 rfl rfl)
theorem dX10_init_45 : decode cX10_init 45 = .ok (.iconst 1, 1) := dk_4 (dk_at dksX10_init_1 21 rfl rfl)
theorem dX10_init_46 : decode cX10_init 46 = .ok (.istore_n 3, 1) := dk_62 (dk_at dksX10_init_1 22 rfl rfl)
theorem dX10_init_47 : decode cX10_init 47 = .ok (.iload_n 3, 1) := dk_29 (dk_at dksX10_init_1 23 rfl rfl)
theorem dX10_init_48 : decode cX10_init 48 = .ok (.iconst 5, 1) := dk_8 (dk_at dksX10_init_2 0 rfl rfl)
theorem dX10_init_49 : decode cX10_init 49 = .ok (.if_icmp .gt 16, 3) := dk_163 0 16 (dk_at dksX10_init_2 1 rfl rfl)
theorem dX10_init_52 : decode cX10_init 52 = .ok (.aload_n 0, 1) := dk_42 (dk_at dksX10_init_2 4 rfl rfl)
theorem dX10_init_53 : decode cX10_init 53 = .ok (.getfield 9, 3) := dk_180 0 9 (dk_at dksX10_init_2 5 rfl rfl)
theorem dX10_init_56 : decode cX10_init 56 = .ok (.iload_n 3, 1) := dk_29 (dk_at dksX10_init_2 8 rfl rfl)
theorem dX10_init_57 : decode cX10_init 57 = .ok (.iload_n 3, 1) := dk_29 (dk_at dksX10_init_2 9 rfl rfl)
theorem dX10_init_58 : decode cX10_init 58 = .ok (.iastore, 1) := dk_79 (dk_at dksX10_init_2 10 rfl rfl)
theorem dX10_init_59 : decode cX10_init 59 = .ok (.iinc 3 1, 3) := dk_132 3 1 (dk_at dksX10_init_2 11 rfl rfl)
theorem dX10_init_62 : decode cX10_init 62 = .ok (.goto (-15), 3) := dk_167 255 241 (dk_at dksX10_init_2 14 rfl rfl)
theorem dX10_init_65 : decode cX10_init 65 = .ok (.aload_n 2, 1) := dk_44 (dk_at dksX10_init_2 17 rfl rfl)
theorem dX10_init_66 : decode cX10_init 66 = .ok (.getfield 33, 3) := dk_180 0 33 (dk_at dksX10_init_2 18 rfl rfl)
theorem dX10_init_69 : decode cX10_init 69 = .ok (.invokeinterface 38 1, 5) := by decide +kernel
theorem dX10_init_74 : decode cX10_init 74 = .ok (.astore_n 3, 1) := dk_78 (dk_at dksX10_init_3 5 rfl rfl)
theorem dX10_init_75 : decode cX10_init 75 = .ok (.aload_n 3, 1) := dk_45 (dk_at dksX10_init_3 6 rfl rfl)
theorem dX10_init_76 : decode cX10_init 76 = .ok (.invokeinterface 44 1, 5) := by decide +kernel
theorem dX10_init_81 : decode cX10_init 81 = .ok (.ifCond .eq 23, 3) := dk_153 0 23 (dk_at dksX10_init_3 12 rfl rfl)
theorem dX10_init_84 : decode cX10_init 84 = .ok (.aload_n 3, 1) := dk_45 (dk_at dksX10_init_3 15 rfl rfl)
theorem dX10_init_85 : decode cX10_init 85 = .ok (.invokeinterface 50 1, 5) := by decide +kernel
theorem dX10_init_90 : decode cX10_init 90 = .ok (.checkcast 53, 3) := dk_192 0 53 (dk_at dksX10_init_3 21 rfl rfl)
theorem dX10_init_93 : decode cX10_init 93 = .ok (.astore 4, 2) := dk_58 4 (dk_at dksX10_init_4 0 rfl rfl)
theorem dX10_init_95 : decode cX10_init 95 = .ok (.aload_n 0, 1) := dk_42 (dk_at dksX10_init_4 2 rfl rfl)
theorem dX10_init_96 : decode cX10_init 96 = .ok (.aload 4, 2) := dk_25 4 (dk_at dksX10_init_4 3 rfl rfl)
theorem dX10_init_98 : decode cX10_init 98 = .ok (.invokevirtual 55, 3) := dk_182 0 55 (dk_at dksX10_init_4 5 rfl rfl)
theorem dX10_init_101 : decode cX10_init 101 = .ok (.goto (-26), 3) := dk_167 255 230 (dk_at dksX10_init_4 8 rfl rfl)
theorem dX10_init_104 : decode cX10_init 104 = .ok (.return_, 1) := dk_177 (dk_at dksX10_init_4 11 rfl rfl)
abbrev cX10_execute : ByteArray := prog_2_method_2_code
def yX10_execute : MethodName := ⟨RX10, "execute", "(LScheduleAnalyzer$Operation;)V"⟩
def dkwX10_execute_5 : List UInt8 := [42, 29, 182, 0, 80, 167, 0, 3, 177]
abbrev dktX10_execute_5 : List UInt8 := dkwX10_execute_5 ++ []
def dkwX10_execute_4 : List UInt8 := [184, 0, 74, 185, 0, 70, 2, 0, 87, 42, 180, 0, 30, 28, 42, 180, 0, 9, 29, 46, 79, 167, 0, 11]
abbrev dktX10_execute_4 : List UInt8 := dkwX10_execute_4 ++ dktX10_execute_5
def dkwX10_execute_3 : List UInt8 := [167, 0, 56, 42, 180, 0, 18, 43, 185, 0, 70, 2, 0, 87, 42, 180, 0, 22, 42, 180, 0, 30, 28, 46]
abbrev dktX10_execute_3 : List UInt8 := dkwX10_execute_3 ++ dktX10_execute_4
def dkwX10_execute_2 : List UInt8 := [42, 180, 0, 9, 29, 42, 180, 0, 9, 29, 46, 42, 180, 0, 30, 28, 46, 96, 17, 3, 232, 112, 79]
abbrev dktX10_execute_2 : List UInt8 := dkwX10_execute_2 ++ dktX10_execute_3
def dkwX10_execute_1 : List UInt8 := [171, 0, 0, 0, 0, 0, 114, 0, 0, 0, 3, 0, 0, 0, 114, 0, 0, 0, 35, 0, 0, 0, 119, 0, 0, 0, 61, 0, 0, 0, 120, 0, 0, 0, 106]
abbrev dktX10_execute_1 : List UInt8 := dkwX10_execute_1 ++ dktX10_execute_2
def dkwX10_execute_0 : List UInt8 := [43, 180, 0, 59, 16, 97, 100, 61, 43, 180, 0, 63, 62, 43, 180, 0, 67]
abbrev dktX10_execute_0 : List UInt8 := dkwX10_execute_0 ++ dktX10_execute_1
theorem dksX10_execute_0 : cX10_execute.data.toList.drop 0 = dktX10_execute_0 := by decide +kernel
theorem dksX10_execute_1 : cX10_execute.data.toList.drop 17 = dktX10_execute_1 := dk_seg dksX10_execute_0 17 rfl rfl
theorem dksX10_execute_2 : cX10_execute.data.toList.drop 52 = dktX10_execute_2 := dk_seg dksX10_execute_1 35 rfl rfl
theorem dksX10_execute_3 : cX10_execute.data.toList.drop 75 = dktX10_execute_3 := dk_seg dksX10_execute_2 23 rfl rfl
theorem dksX10_execute_4 : cX10_execute.data.toList.drop 99 = dktX10_execute_4 := dk_seg dksX10_execute_3 24 rfl rfl
theorem dksX10_execute_5 : cX10_execute.data.toList.drop 123 = dktX10_execute_5 := dk_seg dksX10_execute_4 24 rfl rfl
theorem dX10_execute_0 : decode cX10_execute 0 = .ok (.aload_n 1, 1) := dk_43 (dk_at dksX10_execute_0 0 rfl rfl)
theorem dX10_execute_1 : decode cX10_execute 1 = .ok (.getfield 59, 3) := dk_180 0 59 (dk_at dksX10_execute_0 1 rfl rfl)
theorem dX10_execute_4 : decode cX10_execute 4 = .ok (.bipush 97, 2) := dk_16 97 (dk_at dksX10_execute_0 4 rfl rfl)
theorem dX10_execute_6 : decode cX10_execute 6 = .ok (.isub, 1) := dk_100 (dk_at dksX10_execute_0 6 rfl rfl)
theorem dX10_execute_7 : decode cX10_execute 7 = .ok (.istore_n 2, 1) := dk_61 (dk_at dksX10_execute_0 7 rfl rfl)
theorem dX10_execute_8 : decode cX10_execute 8 = .ok (.aload_n 1, 1) := dk_43 (dk_at dksX10_execute_0 8 rfl rfl)
theorem dX10_execute_9 : decode cX10_execute 9 = .ok (.getfield 63, 3) := dk_180 0 63 (dk_at dksX10_execute_0 9 rfl rfl)
theorem dX10_execute_12 : decode cX10_execute 12 = .ok (.istore_n 3, 1) := dk_62 (dk_at dksX10_execute_0 12 rfl rfl)
theorem dX10_execute_13 : decode cX10_execute 13 = .ok (.aload_n 1, 1) := dk_43 (dk_at dksX10_execute_0 13 rfl rfl)
theorem dX10_execute_14 : decode cX10_execute 14 = .ok (.getfield 67, 3) := dk_180 0 67 (dk_at dksX10_execute_0 14 rfl rfl)
theorem dX10_execute_17 : decode cX10_execute 17 = .ok (.lookupswitch 114 #[(114, 35), (119, 61), (120, 106)], 35) := by decide +kernel
theorem dX10_execute_52 : decode cX10_execute 52 = .ok (.aload_n 0, 1) := dk_42 (dk_at dksX10_execute_2 0 rfl rfl)
theorem dX10_execute_53 : decode cX10_execute 53 = .ok (.getfield 9, 3) := dk_180 0 9 (dk_at dksX10_execute_2 1 rfl rfl)
theorem dX10_execute_56 : decode cX10_execute 56 = .ok (.iload_n 3, 1) := dk_29 (dk_at dksX10_execute_2 4 rfl rfl)
theorem dX10_execute_57 : decode cX10_execute 57 = .ok (.aload_n 0, 1) := dk_42 (dk_at dksX10_execute_2 5 rfl rfl)
theorem dX10_execute_58 : decode cX10_execute 58 = .ok (.getfield 9, 3) := dk_180 0 9 (dk_at dksX10_execute_2 6 rfl rfl)
theorem dX10_execute_61 : decode cX10_execute 61 = .ok (.iload_n 3, 1) := dk_29 (dk_at dksX10_execute_2 9 rfl rfl)
theorem dX10_execute_62 : decode cX10_execute 62 = .ok (.iaload, 1) := dk_46 (dk_at dksX10_execute_2 10 rfl rfl)
theorem dX10_execute_63 : decode cX10_execute 63 = .ok (.aload_n 0, 1) := dk_42 (dk_at dksX10_execute_2 11 rfl rfl)
theorem dX10_execute_64 : decode cX10_execute 64 = .ok (.getfield 30, 3) := dk_180 0 30 (dk_at dksX10_execute_2 12 rfl rfl)
theorem dX10_execute_67 : decode cX10_execute 67 = .ok (.iload_n 2, 1) := dk_28 (dk_at dksX10_execute_2 15 rfl rfl)
theorem dX10_execute_68 : decode cX10_execute 68 = .ok (.iaload, 1) := dk_46 (dk_at dksX10_execute_2 16 rfl rfl)
theorem dX10_execute_69 : decode cX10_execute 69 = .ok (.iadd, 1) := dk_96 (dk_at dksX10_execute_2 17 rfl rfl)
theorem dX10_execute_70 : decode cX10_execute 70 = .ok (.sipush 1000, 3) := dk_17 3 232 (dk_at dksX10_execute_2 18 rfl rfl)
theorem dX10_execute_73 : decode cX10_execute 73 = .ok (.irem, 1) := dk_112 (dk_at dksX10_execute_2 21 rfl rfl)
theorem dX10_execute_74 : decode cX10_execute 74 = .ok (.iastore, 1) := dk_79 (dk_at dksX10_execute_2 22 rfl rfl)
theorem dX10_execute_75 : decode cX10_execute 75 = .ok (.goto 56, 3) := dk_167 0 56 (dk_at dksX10_execute_3 0 rfl rfl)
theorem dX10_execute_78 : decode cX10_execute 78 = .ok (.aload_n 0, 1) := dk_42 (dk_at dksX10_execute_3 3 rfl rfl)
theorem dX10_execute_79 : decode cX10_execute 79 = .ok (.getfield 18, 3) := dk_180 0 18 (dk_at dksX10_execute_3 4 rfl rfl)
theorem dX10_execute_82 : decode cX10_execute 82 = .ok (.aload_n 1, 1) := dk_43 (dk_at dksX10_execute_3 7 rfl rfl)
theorem dX10_execute_83 : decode cX10_execute 83 = .ok (.invokeinterface 70 2, 5) := by decide +kernel
theorem dX10_execute_88 : decode cX10_execute 88 = .ok (.pop, 1) := dk_87 (dk_at dksX10_execute_3 13 rfl rfl)
theorem dX10_execute_89 : decode cX10_execute 89 = .ok (.aload_n 0, 1) := dk_42 (dk_at dksX10_execute_3 14 rfl rfl)
theorem dX10_execute_90 : decode cX10_execute 90 = .ok (.getfield 22, 3) := dk_180 0 22 (dk_at dksX10_execute_3 15 rfl rfl)
theorem dX10_execute_93 : decode cX10_execute 93 = .ok (.aload_n 0, 1) := dk_42 (dk_at dksX10_execute_3 18 rfl rfl)
theorem dX10_execute_94 : decode cX10_execute 94 = .ok (.getfield 30, 3) := dk_180 0 30 (dk_at dksX10_execute_3 19 rfl rfl)
theorem dX10_execute_97 : decode cX10_execute 97 = .ok (.iload_n 2, 1) := dk_28 (dk_at dksX10_execute_3 22 rfl rfl)
theorem dX10_execute_98 : decode cX10_execute 98 = .ok (.iaload, 1) := dk_46 (dk_at dksX10_execute_3 23 rfl rfl)
theorem dX10_execute_99 : decode cX10_execute 99 = .ok (.invokestatic 74, 3) := dk_184 0 74 (dk_at dksX10_execute_4 0 rfl rfl)
theorem dX10_execute_102 : decode cX10_execute 102 = .ok (.invokeinterface 70 2, 5) := by decide +kernel
theorem dX10_execute_107 : decode cX10_execute 107 = .ok (.pop, 1) := dk_87 (dk_at dksX10_execute_4 8 rfl rfl)
theorem dX10_execute_108 : decode cX10_execute 108 = .ok (.aload_n 0, 1) := dk_42 (dk_at dksX10_execute_4 9 rfl rfl)
theorem dX10_execute_109 : decode cX10_execute 109 = .ok (.getfield 30, 3) := dk_180 0 30 (dk_at dksX10_execute_4 10 rfl rfl)
theorem dX10_execute_112 : decode cX10_execute 112 = .ok (.iload_n 2, 1) := dk_28 (dk_at dksX10_execute_4 13 rfl rfl)
theorem dX10_execute_113 : decode cX10_execute 113 = .ok (.aload_n 0, 1) := dk_42 (dk_at dksX10_execute_4 14 rfl rfl)
theorem dX10_execute_114 : decode cX10_execute 114 = .ok (.getfield 9, 3) := dk_180 0 9 (dk_at dksX10_execute_4 15 rfl rfl)
theorem dX10_execute_117 : decode cX10_execute 117 = .ok (.iload_n 3, 1) := dk_29 (dk_at dksX10_execute_4 18 rfl rfl)
theorem dX10_execute_118 : decode cX10_execute 118 = .ok (.iaload, 1) := dk_46 (dk_at dksX10_execute_4 19 rfl rfl)
theorem dX10_execute_119 : decode cX10_execute 119 = .ok (.iastore, 1) := dk_79 (dk_at dksX10_execute_4 20 rfl rfl)
theorem dX10_execute_120 : decode cX10_execute 120 = .ok (.goto 11, 3) := dk_167 0 11 (dk_at dksX10_execute_4 21 rfl rfl)
theorem dX10_execute_123 : decode cX10_execute 123 = .ok (.aload_n 0, 1) := dk_42 (dk_at dksX10_execute_5 0 rfl rfl)
theorem dX10_execute_124 : decode cX10_execute 124 = .ok (.iload_n 3, 1) := dk_29 (dk_at dksX10_execute_5 1 rfl rfl)
theorem dX10_execute_125 : decode cX10_execute 125 = .ok (.invokevirtual 80, 3) := dk_182 0 80 (dk_at dksX10_execute_5 2 rfl rfl)
theorem dX10_execute_128 : decode cX10_execute 128 = .ok (.goto 3, 3) := dk_167 0 3 (dk_at dksX10_execute_5 5 rfl rfl)
theorem dX10_execute_131 : decode cX10_execute 131 = .ok (.return_, 1) := dk_177 (dk_at dksX10_execute_5 8 rfl rfl)
abbrev cX10_undo : ByteArray := prog_2_method_3_code
def yX10_undo : MethodName := ⟨RX10, "undo", "(I)V"⟩
def dkwX10_undo_3 : List UInt8 := [192, 0, 75, 182, 0, 92, 79, 132, 2, 255, 167, 255, 189, 177]
abbrev dktX10_undo_3 : List UInt8 := dkwX10_undo_3 ++ []
def dkwX10_undo_2 : List UInt8 := [185, 0, 88, 2, 0, 192, 0, 53, 180, 0, 59, 16, 97, 100, 42, 180, 0, 22, 28, 185, 0, 88, 2, 0]
abbrev dktX10_undo_2 : List UInt8 := dkwX10_undo_2 ++ dktX10_undo_3
def dkwX10_undo_1 : List UInt8 := [185, 0, 88, 2, 0, 192, 0, 53, 180, 0, 63, 27, 160, 0, 43, 42, 180, 0, 30, 42, 180, 0, 18, 28]
abbrev dktX10_undo_1 : List UInt8 := dkwX10_undo_1 ++ dktX10_undo_2
def dkwX10_undo_0 : List UInt8 := [42, 180, 0, 18, 185, 0, 84, 1, 0, 4, 100, 61, 28, 155, 0, 69, 42, 180, 0, 18, 28]
abbrev dktX10_undo_0 : List UInt8 := dkwX10_undo_0 ++ dktX10_undo_1
theorem dksX10_undo_0 : cX10_undo.data.toList.drop 0 = dktX10_undo_0 := by decide +kernel
theorem dksX10_undo_1 : cX10_undo.data.toList.drop 21 = dktX10_undo_1 := dk_seg dksX10_undo_0 21 rfl rfl
theorem dksX10_undo_2 : cX10_undo.data.toList.drop 45 = dktX10_undo_2 := dk_seg dksX10_undo_1 24 rfl rfl
theorem dksX10_undo_3 : cX10_undo.data.toList.drop 69 = dktX10_undo_3 := dk_seg dksX10_undo_2 24 rfl rfl
theorem dX10_undo_0 : decode cX10_undo 0 = .ok (.aload_n 0, 1) := dk_42 (dk_at dksX10_undo_0 0 rfl rfl)
theorem dX10_undo_1 : decode cX10_undo 1 = .ok (.getfield 18, 3) := dk_180 0 18 (dk_at dksX10_undo_0 1 rfl rfl)
theorem dX10_undo_4 : decode cX10_undo 4 = .ok (.invokeinterface 84 1, 5) := by decide +kernel
theorem dX10_undo_9 : decode cX10_undo 9 = .ok (.iconst 1, 1) := dk_4 (dk_at dksX10_undo_0 9 rfl rfl)
theorem dX10_undo_10 : decode cX10_undo 10 = .ok (.isub, 1) := dk_100 (dk_at dksX10_undo_0 10 rfl rfl)
theorem dX10_undo_11 : decode cX10_undo 11 = .ok (.istore_n 2, 1) := dk_61 (dk_at dksX10_undo_0 11 rfl rfl)
theorem dX10_undo_12 : decode cX10_undo 12 = .ok (.iload_n 2, 1) := dk_28 (dk_at dksX10_undo_0 12 rfl rfl)
theorem dX10_undo_13 : decode cX10_undo 13 = .ok (.ifCond .lt 69, 3) := dk_155 0 69 (dk_at dksX10_undo_0 13 rfl rfl)
theorem dX10_undo_16 : decode cX10_undo 16 = .ok (.aload_n 0, 1) := dk_42 (dk_at dksX10_undo_0 16 rfl rfl)
theorem dX10_undo_17 : decode cX10_undo 17 = .ok (.getfield 18, 3) := dk_180 0 18 (dk_at dksX10_undo_0 17 rfl rfl)
theorem dX10_undo_20 : decode cX10_undo 20 = .ok (.iload_n 2, 1) := dk_28 (dk_at dksX10_undo_0 20 rfl rfl)
theorem dX10_undo_21 : decode cX10_undo 21 = .ok (.invokeinterface 88 2, 5) := by decide +kernel
theorem dX10_undo_26 : decode cX10_undo 26 = .ok (.checkcast 53, 3) := dk_192 0 53 (dk_at dksX10_undo_1 5 rfl rfl)
theorem dX10_undo_29 : decode cX10_undo 29 = .ok (.getfield 63, 3) := dk_180 0 63 (dk_at dksX10_undo_1 8 rfl rfl)
theorem dX10_undo_32 : decode cX10_undo 32 = .ok (.iload_n 1, 1) := dk_27 (dk_at dksX10_undo_1 11 rfl rfl)
theorem dX10_undo_33 : decode cX10_undo 33 = .ok (.if_icmp .ne 43, 3) := dk_160 0 43 (dk_at dksX10_undo_1 12 rfl rfl)
theorem dX10_undo_36 : decode cX10_undo 36 = .ok (.aload_n 0, 1) := dk_42 (dk_at dksX10_undo_1 15 rfl rfl)
theorem dX10_undo_37 : decode cX10_undo 37 = .ok (.getfield 30, 3) := dk_180 0 30 (dk_at dksX10_undo_1 16 rfl rfl)
theorem dX10_undo_40 : decode cX10_undo 40 = .ok (.aload_n 0, 1) := dk_42 (dk_at dksX10_undo_1 19 rfl rfl)
theorem dX10_undo_41 : decode cX10_undo 41 = .ok (.getfield 18, 3) := dk_180 0 18 (dk_at dksX10_undo_1 20 rfl rfl)
theorem dX10_undo_44 : decode cX10_undo 44 = .ok (.iload_n 2, 1) := dk_28 (dk_at dksX10_undo_1 23 rfl rfl)
theorem dX10_undo_45 : decode cX10_undo 45 = .ok (.invokeinterface 88 2, 5) := by decide +kernel
theorem dX10_undo_50 : decode cX10_undo 50 = .ok (.checkcast 53, 3) := dk_192 0 53 (dk_at dksX10_undo_2 5 rfl rfl)
theorem dX10_undo_53 : decode cX10_undo 53 = .ok (.getfield 59, 3) := dk_180 0 59 (dk_at dksX10_undo_2 8 rfl rfl)
theorem dX10_undo_56 : decode cX10_undo 56 = .ok (.bipush 97, 2) := dk_16 97 (dk_at dksX10_undo_2 11 rfl rfl)
theorem dX10_undo_58 : decode cX10_undo 58 = .ok (.isub, 1) := dk_100 (dk_at dksX10_undo_2 13 rfl rfl)
theorem dX10_undo_59 : decode cX10_undo 59 = .ok (.aload_n 0, 1) := dk_42 (dk_at dksX10_undo_2 14 rfl rfl)
theorem dX10_undo_60 : decode cX10_undo 60 = .ok (.getfield 22, 3) := dk_180 0 22 (dk_at dksX10_undo_2 15 rfl rfl)
theorem dX10_undo_63 : decode cX10_undo 63 = .ok (.iload_n 2, 1) := dk_28 (dk_at dksX10_undo_2 18 rfl rfl)
theorem dX10_undo_64 : decode cX10_undo 64 = .ok (.invokeinterface 88 2, 5) := by decide +kernel
theorem dX10_undo_69 : decode cX10_undo 69 = .ok (.checkcast 75, 3) := dk_192 0 75 (dk_at dksX10_undo_3 0 rfl rfl)
theorem dX10_undo_72 : decode cX10_undo 72 = .ok (.invokevirtual 92, 3) := dk_182 0 92 (dk_at dksX10_undo_3 3 rfl rfl)
theorem dX10_undo_75 : decode cX10_undo 75 = .ok (.iastore, 1) := dk_79 (dk_at dksX10_undo_3 6 rfl rfl)
theorem dX10_undo_76 : decode cX10_undo 76 = .ok (.iinc 2 (-1), 3) := dk_132 2 255 (dk_at dksX10_undo_3 7 rfl rfl)
theorem dX10_undo_79 : decode cX10_undo 79 = .ok (.goto (-67), 3) := dk_167 255 189 (dk_at dksX10_undo_3 10 rfl rfl)
theorem dX10_undo_82 : decode cX10_undo 82 = .ok (.return_, 1) := dk_177 (dk_at dksX10_undo_3 13 rfl rfl)
theorem q163 : (Jvm.Cond.initialized "ScheduleAnalyzer$Execution") ∈ lw_all := lw_g (lw_at lw_m1 49 rfl) rfl
theorem q742 : (Jvm.Cond.selects "ScheduleAnalyzer$Execution" ({ cls := "java/lang/Object", name := "getClass", desc := "()Ljava/lang/Class;" } : Jvm.MethodName) ({ cls := "java/lang/Object", name := "getClass", desc := "()Ljava/lang/Class;" } : Jvm.MethodName)) ∈ lw_all := lw_g (lw_at lw_m3 148 rfl) rfl
theorem q806 : (Jvm.Cond.fieldLinkNest "ScheduleAnalyzer$Execution" (33 : Nat) "ScheduleAnalyzer$Schedule" "operations" "Ljava/util/List;" "ScheduleAnalyzer") ∈ lw_tbl := lw_at lw_m3 212 rfl
theorem q1399 : (Jvm.Cond.instantiable "ScheduleAnalyzer$Execution" (4 : Nat)) ∈ lw_all := lw_g (lw_at lw_m6 85 rfl) rfl
theorem q1401 : (Jvm.Cond.instanceMethod ({ cls := "ScheduleAnalyzer$Execution", name := "<init>", desc := "([ILScheduleAnalyzer$Schedule;)V" } : Jvm.MethodName)) ∈ lw_all := lw_g (lw_at lw_m6 87 rfl) rfl
theorem q1402 : (Jvm.Cond.code ({ cls := "ScheduleAnalyzer$Execution", name := "<init>", desc := "([ILScheduleAnalyzer$Schedule;)V" } : Jvm.MethodName) prog_2_method_1_code (5 : Nat) (Option.none : Option Jvm.ClassFile.FieldType)) ∈ lw_all := lw_g (lw_at lw_m6 88 rfl) rfl
theorem q1403 : (Jvm.Cond.methodLink "ScheduleAnalyzer$Execution" (3 : Nat) ({ cls := "java/lang/Object", name := "<init>", desc := "()V" } : Jvm.MethodName)) ∈ lw_all := lw_g (lw_at lw_m6 89 rfl) rfl
theorem q1404 : (Jvm.Cond.classLink "ScheduleAnalyzer$Execution" (15 : Nat) "java/util/ArrayList") ∈ lw_all := lw_g (lw_at lw_m6 90 rfl) rfl
theorem q1405 : (Jvm.Cond.methodLink "ScheduleAnalyzer$Execution" (17 : Nat) ({ cls := "java/util/ArrayList", name := "<init>", desc := "()V" } : Jvm.MethodName)) ∈ lw_all := lw_g (lw_at lw_m6 91 rfl) rfl
theorem q1406 : (Jvm.Cond.methodLink "ScheduleAnalyzer$Execution" (25 : Nat) ({ cls := "[I", name := "clone", desc := "()Ljava/lang/Object;" } : Jvm.MethodName)) ∈ lw_all := lw_g (lw_at lw_m6 92 rfl) rfl
theorem q1407 : (Jvm.Cond.classLink "ScheduleAnalyzer$Execution" (26 : Nat) "[I") ∈ lw_all := lw_g (lw_at lw_m6 93 rfl) rfl
theorem q1408 : (Jvm.Cond.interfaceEntry "ScheduleAnalyzer$Execution" (38 : Nat)) ∈ lw_tbl := lw_at lw_m6 94 rfl
theorem q1409 : (Jvm.Cond.methodLink "ScheduleAnalyzer$Execution" (38 : Nat) ({ cls := "java/util/List", name := "iterator", desc := "()Ljava/util/Iterator;" } : Jvm.MethodName)) ∈ lw_all := lw_g (lw_at lw_m6 95 rfl) rfl
theorem q1410 : (Jvm.Cond.interfaceEntry "ScheduleAnalyzer$Execution" (44 : Nat)) ∈ lw_tbl := lw_at lw_m6 96 rfl
theorem q1411 : (Jvm.Cond.methodLink "ScheduleAnalyzer$Execution" (44 : Nat) ({ cls := "java/util/Iterator", name := "hasNext", desc := "()Z" } : Jvm.MethodName)) ∈ lw_all := lw_g (lw_at lw_m6 97 rfl) rfl
theorem q1412 : (Jvm.Cond.interfaceEntry "ScheduleAnalyzer$Execution" (50 : Nat)) ∈ lw_tbl := lw_at lw_m6 98 rfl
theorem q1413 : (Jvm.Cond.methodLink "ScheduleAnalyzer$Execution" (50 : Nat) ({ cls := "java/util/Iterator", name := "next", desc := "()Ljava/lang/Object;" } : Jvm.MethodName)) ∈ lw_all := lw_g (lw_at lw_m6 99 rfl) rfl
theorem q1414 : (Jvm.Cond.classLink "ScheduleAnalyzer$Execution" (53 : Nat) "ScheduleAnalyzer$Operation") ∈ lw_all := lw_g (lw_at lw_m6 100 rfl) rfl
theorem q1415 : (Jvm.Cond.methodLink "ScheduleAnalyzer$Execution" (55 : Nat) ({ cls := "ScheduleAnalyzer$Execution", name := "execute", desc := "(LScheduleAnalyzer$Operation;)V" } : Jvm.MethodName)) ∈ lw_all := lw_g (lw_at lw_m6 101 rfl) rfl
theorem q1416 : (Jvm.Cond.privateMethod ({ cls := "ScheduleAnalyzer$Execution", name := "execute", desc := "(LScheduleAnalyzer$Operation;)V" } : Jvm.MethodName)) ∈ lw_tbl := lw_at lw_m6 102 rfl
theorem q1417 : (Jvm.Cond.instanceMethod ({ cls := "ScheduleAnalyzer$Execution", name := "execute", desc := "(LScheduleAnalyzer$Operation;)V" } : Jvm.MethodName)) ∈ lw_all := lw_g (lw_at lw_m6 103 rfl) rfl
theorem q1418 : (Jvm.Cond.code ({ cls := "ScheduleAnalyzer$Execution", name := "execute", desc := "(LScheduleAnalyzer$Operation;)V" } : Jvm.MethodName) prog_2_method_2_code (4 : Nat) (Option.none : Option Jvm.ClassFile.FieldType)) ∈ lw_all := lw_g (lw_at lw_m6 104 rfl) rfl
theorem q1419 : (Jvm.Cond.interfaceEntry "ScheduleAnalyzer$Execution" (70 : Nat)) ∈ lw_tbl := lw_at lw_m6 105 rfl
theorem q1420 : (Jvm.Cond.methodLink "ScheduleAnalyzer$Execution" (70 : Nat) ({ cls := "java/util/List", name := "add", desc := "(Ljava/lang/Object;)Z" } : Jvm.MethodName)) ∈ lw_all := lw_g (lw_at lw_m6 106 rfl) rfl
theorem q1421 : (Jvm.Cond.methodLink "ScheduleAnalyzer$Execution" (74 : Nat) ({ cls := "java/lang/Integer", name := "valueOf", desc := "(I)Ljava/lang/Integer;" } : Jvm.MethodName)) ∈ lw_all := lw_g (lw_at lw_m6 107 rfl) rfl
theorem q1422 : (Jvm.Cond.methodLink "ScheduleAnalyzer$Execution" (80 : Nat) ({ cls := "ScheduleAnalyzer$Execution", name := "undo", desc := "(I)V" } : Jvm.MethodName)) ∈ lw_all := lw_g (lw_at lw_m6 108 rfl) rfl
theorem q1423 : (Jvm.Cond.privateMethod ({ cls := "ScheduleAnalyzer$Execution", name := "undo", desc := "(I)V" } : Jvm.MethodName)) ∈ lw_tbl := lw_at lw_m6 109 rfl
theorem q1424 : (Jvm.Cond.instanceMethod ({ cls := "ScheduleAnalyzer$Execution", name := "undo", desc := "(I)V" } : Jvm.MethodName)) ∈ lw_all := lw_g (lw_at lw_m6 110 rfl) rfl
theorem q1425 : (Jvm.Cond.code ({ cls := "ScheduleAnalyzer$Execution", name := "undo", desc := "(I)V" } : Jvm.MethodName) prog_2_method_3_code (3 : Nat) (Option.none : Option Jvm.ClassFile.FieldType)) ∈ lw_all := lw_g (lw_at lw_m6 111 rfl) rfl
theorem q1426 : (Jvm.Cond.interfaceEntry "ScheduleAnalyzer$Execution" (84 : Nat)) ∈ lw_tbl := lw_at lw_m6 112 rfl
theorem q1427 : (Jvm.Cond.methodLink "ScheduleAnalyzer$Execution" (84 : Nat) ({ cls := "java/util/List", name := "size", desc := "()I" } : Jvm.MethodName)) ∈ lw_all := lw_g (lw_at lw_m6 113 rfl) rfl
theorem q1428 : (Jvm.Cond.interfaceEntry "ScheduleAnalyzer$Execution" (88 : Nat)) ∈ lw_tbl := lw_at lw_m6 114 rfl
theorem q1429 : (Jvm.Cond.methodLink "ScheduleAnalyzer$Execution" (88 : Nat) ({ cls := "java/util/List", name := "get", desc := "(I)Ljava/lang/Object;" } : Jvm.MethodName)) ∈ lw_all := lw_g (lw_at lw_m6 115 rfl) rfl
theorem q1430 : (Jvm.Cond.classLink "ScheduleAnalyzer$Execution" (75 : Nat) "java/lang/Integer") ∈ lw_all := lw_g (lw_at lw_m6 116 rfl) rfl
theorem q1431 : (Jvm.Cond.methodLink "ScheduleAnalyzer$Execution" (92 : Nat) ({ cls := "java/lang/Integer", name := "intValue", desc := "()I" } : Jvm.MethodName)) ∈ lw_all := lw_g (lw_at lw_m6 117 rfl) rfl
theorem q1435 : (Jvm.Cond.fieldLink "ScheduleAnalyzer$Execution" (30 : Nat) "ScheduleAnalyzer$Execution" "values" "[I") ∈ lw_all := lw_g (lw_at lw_m6 121 rfl) rfl
theorem q1437 : (Jvm.Cond.fieldLink "ScheduleAnalyzer$Execution" (9 : Nat) "ScheduleAnalyzer$Execution" "registers" "[I") ∈ lw_all := lw_g (lw_at lw_m6 123 rfl) rfl
theorem q1439 : (Jvm.Cond.fieldLink "ScheduleAnalyzer$Execution" (18 : Nat) "ScheduleAnalyzer$Execution" "writes" "Ljava/util/List;") ∈ lw_all := lw_g (lw_at lw_m6 125 rfl) rfl
theorem q1440 : (Jvm.Cond.fieldLink "ScheduleAnalyzer$Execution" (22 : Nat) "ScheduleAnalyzer$Execution" "replaced" "Ljava/util/List;") ∈ lw_all := lw_g (lw_at lw_m6 126 rfl) rfl
theorem q1441 : (Jvm.Cond.laysFinal "ScheduleAnalyzer$Execution" "ScheduleAnalyzer$Execution" "values" "[I") ∈ lw_all := lw_g (lw_at lw_m6 127 rfl) rfl
theorem q1442 : (Jvm.Cond.soleField "ScheduleAnalyzer$Execution" "values") ∈ lw_all := lw_g (lw_at lw_m6 128 rfl) rfl
theorem q1443 : (Jvm.Cond.laysFinal "ScheduleAnalyzer$Execution" "ScheduleAnalyzer$Execution" "registers" "[I") ∈ lw_all := lw_g (lw_at lw_m6 129 rfl) rfl
theorem q1444 : (Jvm.Cond.soleField "ScheduleAnalyzer$Execution" "registers") ∈ lw_all := lw_g (lw_at lw_m6 130 rfl) rfl
theorem q1445 : (Jvm.Cond.laysFinal "ScheduleAnalyzer$Execution" "ScheduleAnalyzer$Execution" "writes" "Ljava/util/List;") ∈ lw_all := lw_g (lw_at lw_m6 131 rfl) rfl
theorem q1446 : (Jvm.Cond.soleField "ScheduleAnalyzer$Execution" "writes") ∈ lw_all := lw_g (lw_at lw_m6 132 rfl) rfl
theorem q1447 : (Jvm.Cond.laysFinal "ScheduleAnalyzer$Execution" "ScheduleAnalyzer$Execution" "replaced" "Ljava/util/List;") ∈ lw_all := lw_g (lw_at lw_m6 133 rfl) rfl
theorem q1448 : (Jvm.Cond.soleField "ScheduleAnalyzer$Execution" "replaced") ∈ lw_all := lw_g (lw_at lw_m6 134 rfl) rfl
theorem q1449 : (Jvm.Cond.superclass "ScheduleAnalyzer$Execution" "java/lang/Object") ∈ lw_all := lw_g (lw_at lw_m6 135 rfl) rfl
theorem q1659 : (Jvm.Cond.fieldLinkNest "ScheduleAnalyzer$Execution" (67 : Nat) "ScheduleAnalyzer$Operation" "kind" "C" "ScheduleAnalyzer") ∈ lw_tbl := lw_at lw_m7 105 rfl
theorem q1665 : (Jvm.Cond.fieldLinkNest "ScheduleAnalyzer$Execution" (63 : Nat) "ScheduleAnalyzer$Operation" "transaction" "I" "ScheduleAnalyzer") ∈ lw_tbl := lw_at lw_m7 111 rfl
theorem q1670 : (Jvm.Cond.fieldLinkNest "ScheduleAnalyzer$Execution" (59 : Nat) "ScheduleAnalyzer$Operation" "item" "C" "ScheduleAnalyzer") ∈ lw_tbl := lw_at lw_m7 116 rfl
theorem q1833 : (Jvm.Cond.selects "ScheduleAnalyzer$Execution" ({ cls := "java/lang/Object", name := "equals", desc := "(Ljava/lang/Object;)Z" } : Jvm.MethodName) ({ cls := "java/lang/Object", name := "equals", desc := "(Ljava/lang/Object;)Z" } : Jvm.MethodName)) ∈ lw_all := lw_g (lw_at lw_m8 39 rfl) rfl
theorem q2428 : (Jvm.Cond.selects "ScheduleAnalyzer$Execution" ({ cls := "java/lang/Object", name := "toString", desc := "()Ljava/lang/String;" } : Jvm.MethodName) ({ cls := "java/lang/Object", name := "toString", desc := "()Ljava/lang/String;" } : Jvm.MethodName)) ∈ lw_all := lw_g (lw_at lw_m10 154 rfl) rfl
theorem q3260 : (Jvm.Cond.castable "ScheduleAnalyzer$Execution" "java/lang/Object") ∈ lw_tbl := lw_at lw_m14 26 rfl
theorem in_X10 : ∀ w ∈ wsX100, w ∈ lw_all := lw_in wsX100 [1441, 1443, 1445, 1447] (by decide +kernel) (by decide +kernel)

