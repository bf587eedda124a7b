/-! FlashRatchetLaw -/
set_option maxRecDepth 100000
def RX0 : String := "FlashRatchetLaw"
abbrev cX0_begin : ByteArray := method_3_code
def yX0_begin : MethodName := ⟨RX0, "begin", "(LFlashRatchet;I[J)I"⟩
def dkwX0_begin_0 : List UInt8 := [44, 3, 42, 27, 182, 0, 7, 133, 80, 167, 0, 6, 78, 4, 172, 3, 172]
abbrev dktX0_begin_0 : List UInt8 := dkwX0_begin_0 ++ []
theorem dksX0_begin_0 : cX0_begin.data.toList.drop 0 = dktX0_begin_0 := by decide +kernel
theorem dX0_begin_0 : decode cX0_begin 0 = .ok (.aload_n 2, 1) := dk_44 (dk_at dksX0_begin_0 0 rfl rfl)
theorem dX0_begin_1 : decode cX0_begin 1 = .ok (.iconst 0, 1) := dk_3 (dk_at dksX0_begin_0 1 rfl rfl)
theorem dX0_begin_2 : decode cX0_begin 2 = .ok (.aload_n 0, 1) := dk_42 (dk_at dksX0_begin_0 2 rfl rfl)
theorem dX0_begin_3 : decode cX0_begin 3 = .ok (.iload_n 1, 1) := dk_27 (dk_at dksX0_begin_0 3 rfl rfl)
theorem dX0_begin_4 : decode cX0_begin 4 = .ok (.invokevirtual 7, 3) := dk_182 0 7 (dk_at dksX0_begin_0 4 rfl rfl)
theorem dX0_begin_7 : decode cX0_begin 7 = .ok (.i2l, 1) := dk_133 (dk_at dksX0_begin_0 7 rfl rfl)
theorem dX0_begin_8 : decode cX0_begin 8 = .ok (.lastore, 1) := dk_80 (dk_at dksX0_begin_0 8 rfl rfl)
theorem dX0_begin_9 : decode cX0_begin 9 = .ok (.goto 6, 3) := dk_167 0 6 (dk_at dksX0_begin_0 9 rfl rfl)
theorem dX0_begin_12 : decode cX0_begin 12 = .ok (.astore_n 3, 1) := dk_78 (dk_at dksX0_begin_0 12 rfl rfl)
theorem dX0_begin_13 : decode cX0_begin 13 = .ok (.iconst 1, 1) := dk_4 (dk_at dksX0_begin_0 13 rfl rfl)
theorem dX0_begin_14 : decode cX0_begin 14 = .ok (.ireturn, 1) := dk_172 (dk_at dksX0_begin_0 14 rfl rfl)
theorem dX0_begin_15 : decode cX0_begin 15 = .ok (.iconst 0, 1) := dk_3 (dk_at dksX0_begin_0 15 rfl rfl)
theorem dX0_begin_16 : decode cX0_begin 16 = .ok (.ireturn, 1) := dk_172 (dk_at dksX0_begin_0 16 rfl rfl)
abbrev cX0_setTable : ByteArray := method_4_code
def yX0_setTable : MethodName := ⟨RX0, "setTable", "(LFlashRatchet;IIII[J)I"⟩
def dkwX0_setTable_1 : List UInt8 := [172, 3, 172]
abbrev dktX0_setTable_1 : List UInt8 := dkwX0_setTable_1 ++ []
def dkwX0_setTable_0 : List UInt8 := [25, 5, 3, 42, 27, 28, 29, 21, 4, 182, 0, 15, 133, 80, 167, 0, 11, 58, 6, 4, 172, 58, 6, 5]
abbrev dktX0_setTable_0 : List UInt8 := dkwX0_setTable_0 ++ dktX0_setTable_1
theorem dksX0_setTable_0 : cX0_setTable.data.toList.drop 0 = dktX0_setTable_0 := by decide +kernel
theorem dksX0_setTable_1 : cX0_setTable.data.toList.drop 24 = dktX0_setTable_1 := dk_seg dksX0_setTable_0 24 rfl rfl
theorem dX0_setTable_0 : decode cX0_setTable 0 = .ok (.aload 5, 2) := dk_25 5 (dk_at dksX0_setTable_0 0 rfl rfl)
theorem dX0_setTable_2 : decode cX0_setTable 2 = .ok (.iconst 0, 1) := dk_3 (dk_at dksX0_setTable_0 2 rfl rfl)
theorem dX0_setTable_3 : decode cX0_setTable 3 = .ok (.aload_n 0, 1) := dk_42 (dk_at dksX0_setTable_0 3 rfl rfl)
theorem dX0_setTable_4 : decode cX0_setTable 4 = .ok (.iload_n 1, 1) := dk_27 (dk_at dksX0_setTable_0 4 rfl rfl)
theorem dX0_setTable_5 : decode cX0_setTable 5 = .ok (.iload_n 2, 1) := dk_28 (dk_at dksX0_setTable_0 5 rfl rfl)
theorem dX0_setTable_6 : decode cX0_setTable 6 = .ok (.iload_n 3, 1) := dk_29 (dk_at dksX0_setTable_0 6 rfl rfl)
theorem dX0_setTable_7 : decode cX0_setTable 7 = .ok (.iload 4, 2) := dk_21 4 (dk_at dksX0_setTable_0 7 rfl rfl)
theorem dX0_setTable_9 : decode cX0_setTable 9 = .ok (.invokevirtual 15, 3) := dk_182 0 15 (dk_at dksX0_setTable_0 9 rfl rfl)
theorem dX0_setTable_12 : decode cX0_setTable 12 = .ok (.i2l, 1) := dk_133 (dk_at dksX0_setTable_0 12 rfl rfl)
theorem dX0_setTable_13 : decode cX0_setTable 13 = .ok (.lastore, 1) := dk_80 (dk_at dksX0_setTable_0 13 rfl rfl)
theorem dX0_setTable_14 : decode cX0_setTable 14 = .ok (.goto 11, 3) := dk_167 0 11 (dk_at dksX0_setTable_0 14 rfl rfl)
theorem dX0_setTable_17 : decode cX0_setTable 17 = .ok (.astore 6, 2) := dk_58 6 (dk_at dksX0_setTable_0 17 rfl rfl)
theorem dX0_setTable_19 : decode cX0_setTable 19 = .ok (.iconst 1, 1) := dk_4 (dk_at dksX0_setTable_0 19 rfl rfl)
theorem dX0_setTable_20 : decode cX0_setTable 20 = .ok (.ireturn, 1) := dk_172 (dk_at dksX0_setTable_0 20 rfl rfl)
theorem dX0_setTable_21 : decode cX0_setTable 21 = .ok (.astore 6, 2) := dk_58 6 (dk_at dksX0_setTable_0 21 rfl rfl)
theorem dX0_setTable_23 : decode cX0_setTable 23 = .ok (.iconst 2, 1) := dk_5 (dk_at dksX0_setTable_0 23 rfl rfl)
theorem dX0_setTable_24 : decode cX0_setTable 24 = .ok (.ireturn, 1) := dk_172 (dk_at dksX0_setTable_1 0 rfl rfl)
theorem dX0_setTable_25 : decode cX0_setTable 25 = .ok (.iconst 0, 1) := dk_3 (dk_at dksX0_setTable_1 1 rfl rfl)
theorem dX0_setTable_26 : decode cX0_setTable 26 = .ok (.ireturn, 1) := dk_172 (dk_at dksX0_setTable_1 2 rfl rfl)
abbrev cX0_gear : ByteArray := method_5_code
def yX0_gear : MethodName := ⟨RX0, "gear", "(LFlashRatchet;IZ[J)I"⟩
def dkwX0_gear_0 : List UInt8 := [45, 3, 42, 27, 28, 182, 0, 21, 133, 80, 167, 0, 7, 58, 4, 4, 172, 3, 172]
abbrev dktX0_gear_0 : List UInt8 := dkwX0_gear_0 ++ []
theorem dksX0_gear_0 : cX0_gear.data.toList.drop 0 = dktX0_gear_0 := by decide +kernel
theorem dX0_gear_0 : decode cX0_gear 0 = .ok (.aload_n 3, 1) := dk_45 (dk_at dksX0_gear_0 0 rfl rfl)
theorem dX0_gear_1 : decode cX0_gear 1 = .ok (.iconst 0, 1) := dk_3 (dk_at dksX0_gear_0 1 rfl rfl)
theorem dX0_gear_2 : decode cX0_gear 2 = .ok (.aload_n 0, 1) := dk_42 (dk_at dksX0_gear_0 2 rfl rfl)
theorem dX0_gear_3 : decode cX0_gear 3 = .ok (.iload_n 1, 1) := dk_27 (dk_at dksX0_gear_0 3 rfl rfl)
theorem dX0_gear_4 : decode cX0_gear 4 = .ok (.iload_n 2, 1) := dk_28 (dk_at dksX0_gear_0 4 rfl rfl)
theorem dX0_gear_5 : decode cX0_gear 5 = .ok (.invokevirtual 21, 3) := dk_182 0 21 (dk_at dksX0_gear_0 5 rfl rfl)
theorem dX0_gear_8 : decode cX0_gear 8 = .ok (.i2l, 1) := dk_133 (dk_at dksX0_gear_0 8 rfl rfl)
theorem dX0_gear_9 : decode cX0_gear 9 = .ok (.lastore, 1) := dk_80 (dk_at dksX0_gear_0 9 rfl rfl)
theorem dX0_gear_10 : decode cX0_gear 10 = .ok (.goto 7, 3) := dk_167 0 7 (dk_at dksX0_gear_0 10 rfl rfl)
theorem dX0_gear_13 : decode cX0_gear 13 = .ok (.astore 4, 2) := dk_58 4 (dk_at dksX0_gear_0 13 rfl rfl)
theorem dX0_gear_15 : decode cX0_gear 15 = .ok (.iconst 1, 1) := dk_4 (dk_at dksX0_gear_0 15 rfl rfl)
theorem dX0_gear_16 : decode cX0_gear 16 = .ok (.ireturn, 1) := dk_172 (dk_at dksX0_gear_0 16 rfl rfl)
theorem dX0_gear_17 : decode cX0_gear 17 = .ok (.iconst 0, 1) := dk_3 (dk_at dksX0_gear_0 17 rfl rfl)
theorem dX0_gear_18 : decode cX0_gear 18 = .ok (.ireturn, 1) := dk_172 (dk_at dksX0_gear_0 18 rfl rfl)
abbrev cX0_pawl : ByteArray := method_6_code
def yX0_pawl : MethodName := ⟨RX0, "pawl", "(LFlashRatchet;IZ[J)I"⟩
def dkwX0_pawl_0 : List UInt8 := [45, 3, 42, 27, 28, 182, 0, 25, 133, 80, 167, 0, 7, 58, 4, 4, 172, 3, 172]
abbrev dktX0_pawl_0 : List UInt8 := dkwX0_pawl_0 ++ []
theorem dksX0_pawl_0 : cX0_pawl.data.toList.drop 0 = dktX0_pawl_0 := by decide +kernel
theorem dX0_pawl_0 : decode cX0_pawl 0 = .ok (.aload_n 3, 1) := dk_45 (dk_at dksX0_pawl_0 0 rfl rfl)
theorem dX0_pawl_1 : decode cX0_pawl 1 = .ok (.iconst 0, 1) := dk_3 (dk_at dksX0_pawl_0 1 rfl rfl)
theorem dX0_pawl_2 : decode cX0_pawl 2 = .ok (.aload_n 0, 1) := dk_42 (dk_at dksX0_pawl_0 2 rfl rfl)
theorem dX0_pawl_3 : decode cX0_pawl 3 = .ok (.iload_n 1, 1) := dk_27 (dk_at dksX0_pawl_0 3 rfl rfl)
theorem dX0_pawl_4 : decode cX0_pawl 4 = .ok (.iload_n 2, 1) := dk_28 (dk_at dksX0_pawl_0 4 rfl rfl)
theorem dX0_pawl_5 : decode cX0_pawl 5 = .ok (.invokevirtual 25, 3) := dk_182 0 25 (dk_at dksX0_pawl_0 5 rfl rfl)
theorem dX0_pawl_8 : decode cX0_pawl 8 = .ok (.i2l, 1) := dk_133 (dk_at dksX0_pawl_0 8 rfl rfl)
theorem dX0_pawl_9 : decode cX0_pawl 9 = .ok (.lastore, 1) := dk_80 (dk_at dksX0_pawl_0 9 rfl rfl)
theorem dX0_pawl_10 : decode cX0_pawl 10 = .ok (.goto 7, 3) := dk_167 0 7 (dk_at dksX0_pawl_0 10 rfl rfl)
theorem dX0_pawl_13 : decode cX0_pawl 13 = .ok (.astore 4, 2) := dk_58 4 (dk_at dksX0_pawl_0 13 rfl rfl)
theorem dX0_pawl_15 : decode cX0_pawl 15 = .ok (.iconst 1, 1) := dk_4 (dk_at dksX0_pawl_0 15 rfl rfl)
theorem dX0_pawl_16 : decode cX0_pawl 16 = .ok (.ireturn, 1) := dk_172 (dk_at dksX0_pawl_0 16 rfl rfl)
theorem dX0_pawl_17 : decode cX0_pawl 17 = .ok (.iconst 0, 1) := dk_3 (dk_at dksX0_pawl_0 17 rfl rfl)
theorem dX0_pawl_18 : decode cX0_pawl 18 = .ok (.ireturn, 1) := dk_172 (dk_at dksX0_pawl_0 18 rfl rfl)
abbrev cX0_setProgram : ByteArray := method_7_code
def yX0_setProgram : MethodName := ⟨RX0, "setProgram", "(LFlashRatchet;I[J)I"⟩
def dkwX0_setProgram_0 : List UInt8 := [44, 3, 42, 27, 182, 0, 28, 133, 80, 167, 0, 6, 78, 4, 172, 3, 172]
abbrev dktX0_setProgram_0 : List UInt8 := dkwX0_setProgram_0 ++ []
theorem dksX0_setProgram_0 : cX0_setProgram.data.toList.drop 0 = dktX0_setProgram_0 := by decide +kernel
theorem dX0_setProgram_0 : decode cX0_setProgram 0 = .ok (.aload_n 2, 1) := dk_44 (dk_at dksX0_setProgram_0 0 rfl rfl)
theorem dX0_setProgram_1 : decode cX0_setProgram 1 = .ok (.iconst 0, 1) := dk_3 (dk_at dksX0_setProgram_0 1 rfl rfl)
theorem dX0_setProgram_2 : decode cX0_setProgram 2 = .ok (.aload_n 0, 1) := dk_42 (dk_at dksX0_setProgram_0 2 rfl rfl)
theorem dX0_setProgram_3 : decode cX0_setProgram 3 = .ok (.iload_n 1, 1) := dk_27 (dk_at dksX0_setProgram_0 3 rfl rfl)
theorem dX0_setProgram_4 : decode cX0_setProgram 4 = .ok (.invokevirtual 28, 3) := dk_182 0 28 (dk_at dksX0_setProgram_0 4 rfl rfl)
theorem dX0_setProgram_7 : decode cX0_setProgram 7 = .ok (.i2l, 1) := dk_133 (dk_at dksX0_setProgram_0 7 rfl rfl)
theorem dX0_setProgram_8 : decode cX0_setProgram 8 = .ok (.lastore, 1) := dk_80 (dk_at dksX0_setProgram_0 8 rfl rfl)
theorem dX0_setProgram_9 : decode cX0_setProgram 9 = .ok (.goto 6, 3) := dk_167 0 6 (dk_at dksX0_setProgram_0 9 rfl rfl)
theorem dX0_setProgram_12 : decode cX0_setProgram 12 = .ok (.astore_n 3, 1) := dk_78 (dk_at dksX0_setProgram_0 12 rfl rfl)
theorem dX0_setProgram_13 : decode cX0_setProgram 13 = .ok (.iconst 1, 1) := dk_4 (dk_at dksX0_setProgram_0 13 rfl rfl)
theorem dX0_setProgram_14 : decode cX0_setProgram 14 = .ok (.ireturn, 1) := dk_172 (dk_at dksX0_setProgram_0 14 rfl rfl)
theorem dX0_setProgram_15 : decode cX0_setProgram 15 = .ok (.iconst 0, 1) := dk_3 (dk_at dksX0_setProgram_0 15 rfl rfl)
theorem dX0_setProgram_16 : decode cX0_setProgram 16 = .ok (.ireturn, 1) := dk_172 (dk_at dksX0_setProgram_0 16 rfl rfl)
abbrev cX0_restart : ByteArray := method_8_code
def yX0_restart : MethodName := ⟨RX0, "restart", "(LFlashRatchet;II[J)I"⟩
def dkwX0_restart_0 : List UInt8 := [45, 3, 42, 27, 28, 182, 0, 31, 133, 80, 167, 0, 11, 58, 4, 4, 172, 58, 4, 5, 172, 3, 172]
abbrev dktX0_restart_0 : List UInt8 := dkwX0_restart_0 ++ []
theorem dksX0_restart_0 : cX0_restart.data.toList.drop 0 = dktX0_restart_0 := by decide +kernel
theorem dX0_restart_0 : decode cX0_restart 0 = .ok (.aload_n 3, 1) := dk_45 (dk_at dksX0_restart_0 0 rfl rfl)
theorem dX0_restart_1 : decode cX0_restart 1 = .ok (.iconst 0, 1) := dk_3 (dk_at dksX0_restart_0 1 rfl rfl)
theorem dX0_restart_2 : decode cX0_restart 2 = .ok (.aload_n 0, 1) := dk_42 (dk_at dksX0_restart_0 2 rfl rfl)
theorem dX0_restart_3 : decode cX0_restart 3 = .ok (.iload_n 1, 1) := dk_27 (dk_at dksX0_restart_0 3 rfl rfl)
theorem dX0_restart_4 : decode cX0_restart 4 = .ok (.iload_n 2, 1) := dk_28 (dk_at dksX0_restart_0 4 rfl rfl)
theorem dX0_restart_5 : decode cX0_restart 5 = .ok (.invokevirtual 31, 3) := dk_182 0 31 (dk_at dksX0_restart_0 5 rfl rfl)
theorem dX0_restart_8 : decode cX0_restart 8 = .ok (.i2l, 1) := dk_133 (dk_at dksX0_restart_0 8 rfl rfl)
theorem dX0_restart_9 : decode cX0_restart 9 = .ok (.lastore, 1) := dk_80 (dk_at dksX0_restart_0 9 rfl rfl)
theorem dX0_restart_10 : decode cX0_restart 10 = .ok (.goto 11, 3) := dk_167 0 11 (dk_at dksX0_restart_0 10 rfl rfl)
theorem dX0_restart_13 : decode cX0_restart 13 = .ok (.astore 4, 2) := dk_58 4 (dk_at dksX0_restart_0 13 rfl rfl)
theorem dX0_restart_15 : decode cX0_restart 15 = .ok (.iconst 1, 1) := dk_4 (dk_at dksX0_restart_0 15 rfl rfl)
theorem dX0_restart_16 : decode cX0_restart 16 = .ok (.ireturn, 1) := dk_172 (dk_at dksX0_restart_0 16 rfl rfl)
theorem dX0_restart_17 : decode cX0_restart 17 = .ok (.astore 4, 2) := dk_58 4 (dk_at dksX0_restart_0 17 rfl rfl)
theorem dX0_restart_19 : decode cX0_restart 19 = .ok (.iconst 2, 1) := dk_5 (dk_at dksX0_restart_0 19 rfl rfl)
theorem dX0_restart_20 : decode cX0_restart 20 = .ok (.ireturn, 1) := dk_172 (dk_at dksX0_restart_0 20 rfl rfl)
theorem dX0_restart_21 : decode cX0_restart 21 = .ok (.iconst 0, 1) := dk_3 (dk_at dksX0_restart_0 21 rfl rfl)
theorem dX0_restart_22 : decode cX0_restart 22 = .ok (.ireturn, 1) := dk_172 (dk_at dksX0_restart_0 22 rfl rfl)
abbrev cX0_run : ByteArray := method_9_code
def yX0_run : MethodName := ⟨RX0, "run", "(LFlashRatchet;I[J)I"⟩
def dkwX0_run_0 : List UInt8 := [44, 3, 42, 27, 182, 0, 35, 133, 80, 167, 0, 9, 78, 4, 172, 78, 5, 172, 3, 172]
abbrev dktX0_run_0 : List UInt8 := dkwX0_run_0 ++ []
theorem dksX0_run_0 : cX0_run.data.toList.drop 0 = dktX0_run_0 := by decide +kernel
theorem dX0_run_0 : decode cX0_run 0 = .ok (.aload_n 2, 1) := dk_44 (dk_at dksX0_run_0 0 rfl rfl)
theorem dX0_run_1 : decode cX0_run 1 = .ok (.iconst 0, 1) := dk_3 (dk_at dksX0_run_0 1 rfl rfl)
theorem dX0_run_2 : decode cX0_run 2 = .ok (.aload_n 0, 1) := dk_42 (dk_at dksX0_run_0 2 rfl rfl)
theorem dX0_run_3 : decode cX0_run 3 = .ok (.iload_n 1, 1) := dk_27 (dk_at dksX0_run_0 3 rfl rfl)
theorem dX0_run_4 : decode cX0_run 4 = .ok (.invokevirtual 35, 3) := dk_182 0 35 (dk_at dksX0_run_0 4 rfl rfl)
theorem dX0_run_7 : decode cX0_run 7 = .ok (.i2l, 1) := dk_133 (dk_at dksX0_run_0 7 rfl rfl)
theorem dX0_run_8 : decode cX0_run 8 = .ok (.lastore, 1) := dk_80 (dk_at dksX0_run_0 8 rfl rfl)
theorem dX0_run_9 : decode cX0_run 9 = .ok (.goto 9, 3) := dk_167 0 9 (dk_at dksX0_run_0 9 rfl rfl)
theorem dX0_run_12 : decode cX0_run 12 = .ok (.astore_n 3, 1) := dk_78 (dk_at dksX0_run_0 12 rfl rfl)
theorem dX0_run_13 : decode cX0_run 13 = .ok (.iconst 1, 1) := dk_4 (dk_at dksX0_run_0 13 rfl rfl)
theorem dX0_run_14 : decode cX0_run 14 = .ok (.ireturn, 1) := dk_172 (dk_at dksX0_run_0 14 rfl rfl)
theorem dX0_run_15 : decode cX0_run 15 = .ok (.astore_n 3, 1) := dk_78 (dk_at dksX0_run_0 15 rfl rfl)
theorem dX0_run_16 : decode cX0_run 16 = .ok (.iconst 2, 1) := dk_5 (dk_at dksX0_run_0 16 rfl rfl)
theorem dX0_run_17 : decode cX0_run 17 = .ok (.ireturn, 1) := dk_172 (dk_at dksX0_run_0 17 rfl rfl)
theorem dX0_run_18 : decode cX0_run 18 = .ok (.iconst 0, 1) := dk_3 (dk_at dksX0_run_0 18 rfl rfl)
theorem dX0_run_19 : decode cX0_run 19 = .ok (.ireturn, 1) := dk_172 (dk_at dksX0_run_0 19 rfl rfl)
abbrev cX0_append : ByteArray := method_10_code
def yX0_append : MethodName := ⟨RX0, "append", "(LFlashRatchet;I[J)I"⟩
def dkwX0_append_0 : List UInt8 := [44, 3, 42, 27, 182, 0, 40, 133, 80, 167, 0, 9, 78, 4, 172, 78, 5, 172, 3, 172]
abbrev dktX0_append_0 : List UInt8 := dkwX0_append_0 ++ []
theorem dksX0_append_0 : cX0_append.data.toList.drop 0 = dktX0_append_0 := by decide +kernel
theorem dX0_append_0 : decode cX0_append 0 = .ok (.aload_n 2, 1) := dk_44 (dk_at dksX0_append_0 0 rfl rfl)
theorem dX0_append_1 : decode cX0_append 1 = .ok (.iconst 0, 1) := dk_3 (dk_at dksX0_append_0 1 rfl rfl)
theorem dX0_append_2 : decode cX0_append 2 = .ok (.aload_n 0, 1) := dk_42 (dk_at dksX0_append_0 2 rfl rfl)
theorem dX0_append_3 : decode cX0_append 3 = .ok (.iload_n 1, 1) := dk_27 (dk_at dksX0_append_0 3 rfl rfl)
theorem dX0_append_4 : decode cX0_append 4 = .ok (.invokevirtual 40, 3) := dk_182 0 40 (dk_at dksX0_append_0 4 rfl rfl)
theorem dX0_append_7 : decode cX0_append 7 = .ok (.i2l, 1) := dk_133 (dk_at dksX0_append_0 7 rfl rfl)
theorem dX0_append_8 : decode cX0_append 8 = .ok (.lastore, 1) := dk_80 (dk_at dksX0_append_0 8 rfl rfl)
theorem dX0_append_9 : decode cX0_append 9 = .ok (.goto 9, 3) := dk_167 0 9 (dk_at dksX0_append_0 9 rfl rfl)
theorem dX0_append_12 : decode cX0_append 12 = .ok (.astore_n 3, 1) := dk_78 (dk_at dksX0_append_0 12 rfl rfl)
theorem dX0_append_13 : decode cX0_append 13 = .ok (.iconst 1, 1) := dk_4 (dk_at dksX0_append_0 13 rfl rfl)
theorem dX0_append_14 : decode cX0_append 14 = .ok (.ireturn, 1) := dk_172 (dk_at dksX0_append_0 14 rfl rfl)
theorem dX0_append_15 : decode cX0_append 15 = .ok (.astore_n 3, 1) := dk_78 (dk_at dksX0_append_0 15 rfl rfl)
theorem dX0_append_16 : decode cX0_append 16 = .ok (.iconst 2, 1) := dk_5 (dk_at dksX0_append_0 16 rfl rfl)
theorem dX0_append_17 : decode cX0_append 17 = .ok (.ireturn, 1) := dk_172 (dk_at dksX0_append_0 17 rfl rfl)
theorem dX0_append_18 : decode cX0_append 18 = .ok (.iconst 0, 1) := dk_3 (dk_at dksX0_append_0 18 rfl rfl)
theorem dX0_append_19 : decode cX0_append 19 = .ok (.ireturn, 1) := dk_172 (dk_at dksX0_append_0 19 rfl rfl)
abbrev cX0_load : ByteArray := method_11_code
def yX0_load : MethodName := ⟨RX0, "load", "(LFlashRatchet;[J)I"⟩
def dkwX0_load_0 : List UInt8 := [43, 3, 42, 182, 0, 43, 133, 80, 167, 0, 6, 77, 4, 172, 3, 172]
abbrev dktX0_load_0 : List UInt8 := dkwX0_load_0 ++ []
theorem dksX0_load_0 : cX0_load.data.toList.drop 0 = dktX0_load_0 := by decide +kernel
theorem dX0_load_0 : decode cX0_load 0 = .ok (.aload_n 1, 1) := dk_43 (dk_at dksX0_load_0 0 rfl rfl)
theorem dX0_load_1 : decode cX0_load 1 = .ok (.iconst 0, 1) := dk_3 (dk_at dksX0_load_0 1 rfl rfl)
theorem dX0_load_2 : decode cX0_load 2 = .ok (.aload_n 0, 1) := dk_42 (dk_at dksX0_load_0 2 rfl rfl)
theorem dX0_load_3 : decode cX0_load 3 = .ok (.invokevirtual 43, 3) := dk_182 0 43 (dk_at dksX0_load_0 3 rfl rfl)
theorem dX0_load_6 : decode cX0_load 6 = .ok (.i2l, 1) := dk_133 (dk_at dksX0_load_0 6 rfl rfl)
theorem dX0_load_7 : decode cX0_load 7 = .ok (.lastore, 1) := dk_80 (dk_at dksX0_load_0 7 rfl rfl)
theorem dX0_load_8 : decode cX0_load 8 = .ok (.goto 6, 3) := dk_167 0 6 (dk_at dksX0_load_0 8 rfl rfl)
theorem dX0_load_11 : decode cX0_load 11 = .ok (.astore_n 2, 1) := dk_77 (dk_at dksX0_load_0 11 rfl rfl)
theorem dX0_load_12 : decode cX0_load 12 = .ok (.iconst 1, 1) := dk_4 (dk_at dksX0_load_0 12 rfl rfl)
theorem dX0_load_13 : decode cX0_load 13 = .ok (.ireturn, 1) := dk_172 (dk_at dksX0_load_0 13 rfl rfl)
theorem dX0_load_14 : decode cX0_load 14 = .ok (.iconst 0, 1) := dk_3 (dk_at dksX0_load_0 14 rfl rfl)
theorem dX0_load_15 : decode cX0_load 15 = .ok (.ireturn, 1) := dk_172 (dk_at dksX0_load_0 15 rfl rfl)
abbrev cX0_cycle : ByteArray := method_12_code
def yX0_cycle : MethodName := ⟨RX0, "cycle", "(LFlashRatchet;I[J)I"⟩
def dkwX0_cycle_0 : List UInt8 := [44, 3, 42, 27, 182, 0, 47, 133, 80, 167, 0, 6, 78, 4, 172, 3, 172]
abbrev dktX0_cycle_0 : List UInt8 := dkwX0_cycle_0 ++ []
theorem dksX0_cycle_0 : cX0_cycle.data.toList.drop 0 = dktX0_cycle_0 := by decide +kernel
theorem dX0_cycle_0 : decode cX0_cycle 0 = .ok (.aload_n 2, 1) := dk_44 (dk_at dksX0_cycle_0 0 rfl rfl)
theorem dX0_cycle_1 : decode cX0_cycle 1 = .ok (.iconst 0, 1) := dk_3 (dk_at dksX0_cycle_0 1 rfl rfl)
theorem dX0_cycle_2 : decode cX0_cycle 2 = .ok (.aload_n 0, 1) := dk_42 (dk_at dksX0_cycle_0 2 rfl rfl)
theorem dX0_cycle_3 : decode cX0_cycle 3 = .ok (.iload_n 1, 1) := dk_27 (dk_at dksX0_cycle_0 3 rfl rfl)
theorem dX0_cycle_4 : decode cX0_cycle 4 = .ok (.invokevirtual 47, 3) := dk_182 0 47 (dk_at dksX0_cycle_0 4 rfl rfl)
theorem dX0_cycle_7 : decode cX0_cycle 7 = .ok (.i2l, 1) := dk_133 (dk_at dksX0_cycle_0 7 rfl rfl)
theorem dX0_cycle_8 : decode cX0_cycle 8 = .ok (.lastore, 1) := dk_80 (dk_at dksX0_cycle_0 8 rfl rfl)
theorem dX0_cycle_9 : decode cX0_cycle 9 = .ok (.goto 6, 3) := dk_167 0 6 (dk_at dksX0_cycle_0 9 rfl rfl)
theorem dX0_cycle_12 : decode cX0_cycle 12 = .ok (.astore_n 3, 1) := dk_78 (dk_at dksX0_cycle_0 12 rfl rfl)
theorem dX0_cycle_13 : decode cX0_cycle 13 = .ok (.iconst 1, 1) := dk_4 (dk_at dksX0_cycle_0 13 rfl rfl)
theorem dX0_cycle_14 : decode cX0_cycle 14 = .ok (.ireturn, 1) := dk_172 (dk_at dksX0_cycle_0 14 rfl rfl)
theorem dX0_cycle_15 : decode cX0_cycle 15 = .ok (.iconst 0, 1) := dk_3 (dk_at dksX0_cycle_0 15 rfl rfl)
theorem dX0_cycle_16 : decode cX0_cycle 16 = .ok (.ireturn, 1) := dk_172 (dk_at dksX0_cycle_0 16 rfl rfl)
abbrev cX0_chance : ByteArray := method_13_code
def yX0_chance : MethodName := ⟨RX0, "chance", "(LFlashRatchet;II[J)I"⟩
def dkwX0_chance_0 : List UInt8 := [45, 3, 42, 27, 28, 182, 0, 50, 80, 167, 0, 11, 58, 4, 4, 172, 58, 4, 5, 172, 3, 172]
abbrev dktX0_chance_0 : List UInt8 := dkwX0_chance_0 ++ []
theorem dksX0_chance_0 : cX0_chance.data.toList.drop 0 = dktX0_chance_0 := by decide +kernel
theorem dX0_chance_0 : decode cX0_chance 0 = .ok (.aload_n 3, 1) := dk_45 (dk_at dksX0_chance_0 0 rfl rfl)
theorem dX0_chance_1 : decode cX0_chance 1 = .ok (.iconst 0, 1) := dk_3 (dk_at dksX0_chance_0 1 rfl rfl)
theorem dX0_chance_2 : decode cX0_chance 2 = .ok (.aload_n 0, 1) := dk_42 (dk_at dksX0_chance_0 2 rfl rfl)
theorem dX0_chance_3 : decode cX0_chance 3 = .ok (.iload_n 1, 1) := dk_27 (dk_at dksX0_chance_0 3 rfl rfl)
theorem dX0_chance_4 : decode cX0_chance 4 = .ok (.iload_n 2, 1) := dk_28 (dk_at dksX0_chance_0 4 rfl rfl)
theorem dX0_chance_5 : decode cX0_chance 5 = .ok (.invokevirtual 50, 3) := dk_182 0 50 (dk_at dksX0_chance_0 5 rfl rfl)
theorem dX0_chance_8 : decode cX0_chance 8 = .ok (.lastore, 1) := dk_80 (dk_at dksX0_chance_0 8 rfl rfl)
theorem dX0_chance_9 : decode cX0_chance 9 = .ok (.goto 11, 3) := dk_167 0 11 (dk_at dksX0_chance_0 9 rfl rfl)
theorem dX0_chance_12 : decode cX0_chance 12 = .ok (.astore 4, 2) := dk_58 4 (dk_at dksX0_chance_0 12 rfl rfl)
theorem dX0_chance_14 : decode cX0_chance 14 = .ok (.iconst 1, 1) := dk_4 (dk_at dksX0_chance_0 14 rfl rfl)
theorem dX0_chance_15 : decode cX0_chance 15 = .ok (.ireturn, 1) := dk_172 (dk_at dksX0_chance_0 15 rfl rfl)
theorem dX0_chance_16 : decode cX0_chance 16 = .ok (.astore 4, 2) := dk_58 4 (dk_at dksX0_chance_0 16 rfl rfl)
theorem dX0_chance_18 : decode cX0_chance 18 = .ok (.iconst 2, 1) := dk_5 (dk_at dksX0_chance_0 18 rfl rfl)
theorem dX0_chance_19 : decode cX0_chance 19 = .ok (.ireturn, 1) := dk_172 (dk_at dksX0_chance_0 19 rfl rfl)
theorem dX0_chance_20 : decode cX0_chance 20 = .ok (.iconst 0, 1) := dk_3 (dk_at dksX0_chance_0 20 rfl rfl)
theorem dX0_chance_21 : decode cX0_chance 21 = .ok (.ireturn, 1) := dk_172 (dk_at dksX0_chance_0 21 rfl rfl)
abbrev cX0_chanceOfGain : ByteArray := method_14_code
def yX0_chanceOfGain : MethodName := ⟨RX0, "chanceOfGain", "(LFlashRatchet;II[J)I"⟩
def dkwX0_chanceOfGain_0 : List UInt8 := [45, 3, 42, 27, 28, 182, 0, 54, 80, 167, 0, 7, 58, 4, 4, 172, 3, 172]
abbrev dktX0_chanceOfGain_0 : List UInt8 := dkwX0_chanceOfGain_0 ++ []
theorem dksX0_chanceOfGain_0 : cX0_chanceOfGain.data.toList.drop 0 = dktX0_chanceOfGain_0 := by decide +kernel
theorem dX0_chanceOfGain_0 : decode cX0_chanceOfGain 0 = .ok (.aload_n 3, 1) := dk_45 (dk_at dksX0_chanceOfGain_0 0 rfl rfl)
theorem dX0_chanceOfGain_1 : decode cX0_chanceOfGain 1 = .ok (.iconst 0, 1) := dk_3 (dk_at dksX0_chanceOfGain_0 1 rfl rfl)
theorem dX0_chanceOfGain_2 : decode cX0_chanceOfGain 2 = .ok (.aload_n 0, 1) := dk_42 (dk_at dksX0_chanceOfGain_0 2 rfl rfl)
theorem dX0_chanceOfGain_3 : decode cX0_chanceOfGain 3 = .ok (.iload_n 1, 1) := dk_27 (dk_at dksX0_chanceOfGain_0 3 rfl rfl)
theorem dX0_chanceOfGain_4 : decode cX0_chanceOfGain 4 = .ok (.iload_n 2, 1) := dk_28 (dk_at dksX0_chanceOfGain_0 4 rfl rfl)
theorem dX0_chanceOfGain_5 : decode cX0_chanceOfGain 5 = .ok (.invokevirtual 54, 3) := dk_182 0 54 (dk_at dksX0_chanceOfGain_0 5 rfl rfl)
theorem dX0_chanceOfGain_8 : decode cX0_chanceOfGain 8 = .ok (.lastore, 1) := dk_80 (dk_at dksX0_chanceOfGain_0 8 rfl rfl)
theorem dX0_chanceOfGain_9 : decode cX0_chanceOfGain 9 = .ok (.goto 7, 3) := dk_167 0 7 (dk_at dksX0_chanceOfGain_0 9 rfl rfl)
theorem dX0_chanceOfGain_12 : decode cX0_chanceOfGain 12 = .ok (.astore 4, 2) := dk_58 4 (dk_at dksX0_chanceOfGain_0 12 rfl rfl)
theorem dX0_chanceOfGain_14 : decode cX0_chanceOfGain 14 = .ok (.iconst 1, 1) := dk_4 (dk_at dksX0_chanceOfGain_0 14 rfl rfl)
theorem dX0_chanceOfGain_15 : decode cX0_chanceOfGain 15 = .ok (.ireturn, 1) := dk_172 (dk_at dksX0_chanceOfGain_0 15 rfl rfl)
theorem dX0_chanceOfGain_16 : decode cX0_chanceOfGain 16 = .ok (.iconst 0, 1) := dk_3 (dk_at dksX0_chanceOfGain_0 16 rfl rfl)
theorem dX0_chanceOfGain_17 : decode cX0_chanceOfGain 17 = .ok (.ireturn, 1) := dk_172 (dk_at dksX0_chanceOfGain_0 17 rfl rfl)
abbrev cX0_game : ByteArray := method_15_code
def yX0_game : MethodName := ⟨RX0, "game", "(LFlashRatchet;IIII[J)I"⟩
def dkwX0_game_0 : List UInt8 := [25, 5, 3, 42, 27, 28, 29, 21, 4, 182, 0, 57, 80, 167, 0, 7, 58, 6, 4, 172, 3, 172]
abbrev dktX0_game_0 : List UInt8 := dkwX0_game_0 ++ []
theorem dksX0_game_0 : cX0_game.data.toList.drop 0 = dktX0_game_0 := by decide +kernel
theorem dX0_game_0 : decode cX0_game 0 = .ok (.aload 5, 2) := dk_25 5 (dk_at dksX0_game_0 0 rfl rfl)
theorem dX0_game_2 : decode cX0_game 2 = .ok (.iconst 0, 1) := dk_3 (dk_at dksX0_game_0 2 rfl rfl)
theorem dX0_game_3 : decode cX0_game 3 = .ok (.aload_n 0, 1) := dk_42 (dk_at dksX0_game_0 3 rfl rfl)
theorem dX0_game_4 : decode cX0_game 4 = .ok (.iload_n 1, 1) := dk_27 (dk_at dksX0_game_0 4 rfl rfl)
theorem dX0_game_5 : decode cX0_game 5 = .ok (.iload_n 2, 1) := dk_28 (dk_at dksX0_game_0 5 rfl rfl)
theorem dX0_game_6 : decode cX0_game 6 = .ok (.iload_n 3, 1) := dk_29 (dk_at dksX0_game_0 6 rfl rfl)
theorem dX0_game_7 : decode cX0_game 7 = .ok (.iload 4, 2) := dk_21 4 (dk_at dksX0_game_0 7 rfl rfl)
theorem dX0_game_9 : decode cX0_game 9 = .ok (.invokevirtual 57, 3) := dk_182 0 57 (dk_at dksX0_game_0 9 rfl rfl)
theorem dX0_game_12 : decode cX0_game 12 = .ok (.lastore, 1) := dk_80 (dk_at dksX0_game_0 12 rfl rfl)
theorem dX0_game_13 : decode cX0_game 13 = .ok (.goto 7, 3) := dk_167 0 7 (dk_at dksX0_game_0 13 rfl rfl)
theorem dX0_game_16 : decode cX0_game 16 = .ok (.astore 6, 2) := dk_58 6 (dk_at dksX0_game_0 16 rfl rfl)
theorem dX0_game_18 : decode cX0_game 18 = .ok (.iconst 1, 1) := dk_4 (dk_at dksX0_game_0 18 rfl rfl)
theorem dX0_game_19 : decode cX0_game 19 = .ok (.ireturn, 1) := dk_172 (dk_at dksX0_game_0 19 rfl rfl)
theorem dX0_game_20 : decode cX0_game 20 = .ok (.iconst 0, 1) := dk_3 (dk_at dksX0_game_0 20 rfl rfl)
theorem dX0_game_21 : decode cX0_game 21 = .ok (.ireturn, 1) := dk_172 (dk_at dksX0_game_0 21 rfl rfl)
abbrev cX0_average : ByteArray := method_16_code
def yX0_average : MethodName := ⟨RX0, "average", "(LFlashRatchet;II[J)I"⟩
def dkwX0_average_0 : List UInt8 := [45, 3, 42, 27, 28, 182, 0, 61, 80, 167, 0, 7, 58, 4, 4, 172, 3, 172]
abbrev dktX0_average_0 : List UInt8 := dkwX0_average_0 ++ []
theorem dksX0_average_0 : cX0_average.data.toList.drop 0 = dktX0_average_0 := by decide +kernel
theorem dX0_average_0 : decode cX0_average 0 = .ok (.aload_n 3, 1) := dk_45 (dk_at dksX0_average_0 0 rfl rfl)
theorem dX0_average_1 : decode cX0_average 1 = .ok (.iconst 0, 1) := dk_3 (dk_at dksX0_average_0 1 rfl rfl)
theorem dX0_average_2 : decode cX0_average 2 = .ok (.aload_n 0, 1) := dk_42 (dk_at dksX0_average_0 2 rfl rfl)
theorem dX0_average_3 : decode cX0_average 3 = .ok (.iload_n 1, 1) := dk_27 (dk_at dksX0_average_0 3 rfl rfl)
theorem dX0_average_4 : decode cX0_average 4 = .ok (.iload_n 2, 1) := dk_28 (dk_at dksX0_average_0 4 rfl rfl)
theorem dX0_average_5 : decode cX0_average 5 = .ok (.invokevirtual 61, 3) := dk_182 0 61 (dk_at dksX0_average_0 5 rfl rfl)
theorem dX0_average_8 : decode cX0_average 8 = .ok (.lastore, 1) := dk_80 (dk_at dksX0_average_0 8 rfl rfl)
theorem dX0_average_9 : decode cX0_average 9 = .ok (.goto 7, 3) := dk_167 0 7 (dk_at dksX0_average_0 9 rfl rfl)
theorem dX0_average_12 : decode cX0_average 12 = .ok (.astore 4, 2) := dk_58 4 (dk_at dksX0_average_0 12 rfl rfl)
theorem dX0_average_14 : decode cX0_average 14 = .ok (.iconst 1, 1) := dk_4 (dk_at dksX0_average_0 14 rfl rfl)
theorem dX0_average_15 : decode cX0_average 15 = .ok (.ireturn, 1) := dk_172 (dk_at dksX0_average_0 15 rfl rfl)
theorem dX0_average_16 : decode cX0_average 16 = .ok (.iconst 0, 1) := dk_3 (dk_at dksX0_average_0 16 rfl rfl)
theorem dX0_average_17 : decode cX0_average 17 = .ok (.ireturn, 1) := dk_172 (dk_at dksX0_average_0 17 rfl rfl)
abbrev cX0_share : ByteArray := method_17_code
def yX0_share : MethodName := ⟨RX0, "share", "(LFlashRatchet;III[J)I"⟩
def dkwX0_share_0 : List UInt8 := [25, 4, 3, 42, 27, 28, 29, 182, 0, 64, 80, 167, 0, 11, 58, 5, 4, 172, 58, 5, 5, 172, 3, 172]
abbrev dktX0_share_0 : List UInt8 := dkwX0_share_0 ++ []
theorem dksX0_share_0 : cX0_share.data.toList.drop 0 = dktX0_share_0 := by decide +kernel
theorem dX0_share_0 : decode cX0_share 0 = .ok (.aload 4, 2) := dk_25 4 (dk_at dksX0_share_0 0 rfl rfl)
theorem dX0_share_2 : decode cX0_share 2 = .ok (.iconst 0, 1) := dk_3 (dk_at dksX0_share_0 2 rfl rfl)
theorem dX0_share_3 : decode cX0_share 3 = .ok (.aload_n 0, 1) := dk_42 (dk_at dksX0_share_0 3 rfl rfl)
theorem dX0_share_4 : decode cX0_share 4 = .ok (.iload_n 1, 1) := dk_27 (dk_at dksX0_share_0 4 rfl rfl)
theorem dX0_share_5 : decode cX0_share 5 = .ok (.iload_n 2, 1) := dk_28 (dk_at dksX0_share_0 5 rfl rfl)
theorem dX0_share_6 : decode cX0_share 6 = .ok (.iload_n 3, 1) := dk_29 (dk_at dksX0_share_0 6 rfl rfl)
theorem dX0_share_7 : decode cX0_share 7 = .ok (.invokevirtual 64, 3) := dk_182 0 64 (dk_at dksX0_share_0 7 rfl rfl)
theorem dX0_share_10 : decode cX0_share 10 = .ok (.lastore, 1) := dk_80 (dk_at dksX0_share_0 10 rfl rfl)
theorem dX0_share_11 : decode cX0_share 11 = .ok (.goto 11, 3) := dk_167 0 11 (dk_at dksX0_share_0 11 rfl rfl)
theorem dX0_share_14 : decode cX0_share 14 = .ok (.astore 5, 2) := dk_58 5 (dk_at dksX0_share_0 14 rfl rfl)
theorem dX0_share_16 : decode cX0_share 16 = .ok (.iconst 1, 1) := dk_4 (dk_at dksX0_share_0 16 rfl rfl)
theorem dX0_share_17 : decode cX0_share 17 = .ok (.ireturn, 1) := dk_172 (dk_at dksX0_share_0 17 rfl rfl)
theorem dX0_share_18 : decode cX0_share 18 = .ok (.astore 5, 2) := dk_58 5 (dk_at dksX0_share_0 18 rfl rfl)
theorem dX0_share_20 : decode cX0_share 20 = .ok (.iconst 2, 1) := dk_5 (dk_at dksX0_share_0 20 rfl rfl)
theorem dX0_share_21 : decode cX0_share 21 = .ok (.ireturn, 1) := dk_172 (dk_at dksX0_share_0 21 rfl rfl)
theorem dX0_share_22 : decode cX0_share 22 = .ok (.iconst 0, 1) := dk_3 (dk_at dksX0_share_0 22 rfl rfl)
theorem dX0_share_23 : decode cX0_share 23 = .ok (.ireturn, 1) := dk_172 (dk_at dksX0_share_0 23 rfl rfl)
abbrev cX0_classes : ByteArray := method_18_code
def yX0_classes : MethodName := ⟨RX0, "classes", "(LFlashRatchet;I[J)I"⟩
def dkwX0_classes_0 : List UInt8 := [44, 3, 42, 27, 182, 0, 68, 133, 80, 167, 0, 6, 78, 4, 172, 3, 172]
abbrev dktX0_classes_0 : List UInt8 := dkwX0_classes_0 ++ []
theorem dksX0_classes_0 : cX0_classes.data.toList.drop 0 = dktX0_classes_0 := by decide +kernel
theorem dX0_classes_0 : decode cX0_classes 0 = .ok (.aload_n 2, 1) := dk_44 (dk_at dksX0_classes_0 0 rfl rfl)
theorem dX0_classes_1 : decode cX0_classes 1 = .ok (.iconst 0, 1) := dk_3 (dk_at dksX0_classes_0 1 rfl rfl)
theorem dX0_classes_2 : decode cX0_classes 2 = .ok (.aload_n 0, 1) := dk_42 (dk_at dksX0_classes_0 2 rfl rfl)
theorem dX0_classes_3 : decode cX0_classes 3 = .ok (.iload_n 1, 1) := dk_27 (dk_at dksX0_classes_0 3 rfl rfl)
theorem dX0_classes_4 : decode cX0_classes 4 = .ok (.invokevirtual 68, 3) := dk_182 0 68 (dk_at dksX0_classes_0 4 rfl rfl)
theorem dX0_classes_7 : decode cX0_classes 7 = .ok (.i2l, 1) := dk_133 (dk_at dksX0_classes_0 7 rfl rfl)
theorem dX0_classes_8 : decode cX0_classes 8 = .ok (.lastore, 1) := dk_80 (dk_at dksX0_classes_0 8 rfl rfl)
theorem dX0_classes_9 : decode cX0_classes 9 = .ok (.goto 6, 3) := dk_167 0 6 (dk_at dksX0_classes_0 9 rfl rfl)
theorem dX0_classes_12 : decode cX0_classes 12 = .ok (.astore_n 3, 1) := dk_78 (dk_at dksX0_classes_0 12 rfl rfl)
theorem dX0_classes_13 : decode cX0_classes 13 = .ok (.iconst 1, 1) := dk_4 (dk_at dksX0_classes_0 13 rfl rfl)
theorem dX0_classes_14 : decode cX0_classes 14 = .ok (.ireturn, 1) := dk_172 (dk_at dksX0_classes_0 14 rfl rfl)
theorem dX0_classes_15 : decode cX0_classes 15 = .ok (.iconst 0, 1) := dk_3 (dk_at dksX0_classes_0 15 rfl rfl)
theorem dX0_classes_16 : decode cX0_classes 16 = .ok (.ireturn, 1) := dk_172 (dk_at dksX0_classes_0 16 rfl rfl)
abbrev cX0_compare : ByteArray := method_19_code
def yX0_compare : MethodName := ⟨RX0, "compare", "(LFlashRatchet;II[J)I"⟩
def dkwX0_compare_0 : List UInt8 := [45, 3, 42, 27, 28, 182, 0, 71, 133, 80, 167, 0, 11, 58, 4, 4, 172, 58, 4, 5, 172, 3, 172]
abbrev dktX0_compare_0 : List UInt8 := dkwX0_compare_0 ++ []
theorem dksX0_compare_0 : cX0_compare.data.toList.drop 0 = dktX0_compare_0 := by decide +kernel
theorem dX0_compare_0 : decode cX0_compare 0 = .ok (.aload_n 3, 1) := dk_45 (dk_at dksX0_compare_0 0 rfl rfl)
theorem dX0_compare_1 : decode cX0_compare 1 = .ok (.iconst 0, 1) := dk_3 (dk_at dksX0_compare_0 1 rfl rfl)
theorem dX0_compare_2 : decode cX0_compare 2 = .ok (.aload_n 0, 1) := dk_42 (dk_at dksX0_compare_0 2 rfl rfl)
theorem dX0_compare_3 : decode cX0_compare 3 = .ok (.iload_n 1, 1) := dk_27 (dk_at dksX0_compare_0 3 rfl rfl)
theorem dX0_compare_4 : decode cX0_compare 4 = .ok (.iload_n 2, 1) := dk_28 (dk_at dksX0_compare_0 4 rfl rfl)
theorem dX0_compare_5 : decode cX0_compare 5 = .ok (.invokevirtual 71, 3) := dk_182 0 71 (dk_at dksX0_compare_0 5 rfl rfl)
theorem dX0_compare_8 : decode cX0_compare 8 = .ok (.i2l, 1) := dk_133 (dk_at dksX0_compare_0 8 rfl rfl)
theorem dX0_compare_9 : decode cX0_compare 9 = .ok (.lastore, 1) := dk_80 (dk_at dksX0_compare_0 9 rfl rfl)
theorem dX0_compare_10 : decode cX0_compare 10 = .ok (.goto 11, 3) := dk_167 0 11 (dk_at dksX0_compare_0 10 rfl rfl)
theorem dX0_compare_13 : decode cX0_compare 13 = .ok (.astore 4, 2) := dk_58 4 (dk_at dksX0_compare_0 13 rfl rfl)
theorem dX0_compare_15 : decode cX0_compare 15 = .ok (.iconst 1, 1) := dk_4 (dk_at dksX0_compare_0 15 rfl rfl)
theorem dX0_compare_16 : decode cX0_compare 16 = .ok (.ireturn, 1) := dk_172 (dk_at dksX0_compare_0 16 rfl rfl)
theorem dX0_compare_17 : decode cX0_compare 17 = .ok (.astore 4, 2) := dk_58 4 (dk_at dksX0_compare_0 17 rfl rfl)
theorem dX0_compare_19 : decode cX0_compare 19 = .ok (.iconst 2, 1) := dk_5 (dk_at dksX0_compare_0 19 rfl rfl)
theorem dX0_compare_20 : decode cX0_compare 20 = .ok (.ireturn, 1) := dk_172 (dk_at dksX0_compare_0 20 rfl rfl)
theorem dX0_compare_21 : decode cX0_compare 21 = .ok (.iconst 0, 1) := dk_3 (dk_at dksX0_compare_0 21 rfl rfl)
theorem dX0_compare_22 : decode cX0_compare 22 = .ok (.ireturn, 1) := dk_172 (dk_at dksX0_compare_0 22 rfl rfl)
abbrev cX0_best : ByteArray := method_20_code
def yX0_best : MethodName := ⟨RX0, "best", "(LFlashRatchet;II[J)I"⟩
def dkwX0_best_0 : List UInt8 := [45, 3, 42, 27, 28, 182, 0, 74, 80, 167, 0, 7, 58, 4, 4, 172, 3, 172]
abbrev dktX0_best_0 : List UInt8 := dkwX0_best_0 ++ []
theorem dksX0_best_0 : cX0_best.data.toList.drop 0 = dktX0_best_0 := by decide +kernel
theorem dX0_best_0 : decode cX0_best 0 = .ok (.aload_n 3, 1) := dk_45 (dk_at dksX0_best_0 0 rfl rfl)
theorem dX0_best_1 : decode cX0_best 1 = .ok (.iconst 0, 1) := dk_3 (dk_at dksX0_best_0 1 rfl rfl)
theorem dX0_best_2 : decode cX0_best 2 = .ok (.aload_n 0, 1) := dk_42 (dk_at dksX0_best_0 2 rfl rfl)
theorem dX0_best_3 : decode cX0_best 3 = .ok (.iload_n 1, 1) := dk_27 (dk_at dksX0_best_0 3 rfl rfl)
theorem dX0_best_4 : decode cX0_best 4 = .ok (.iload_n 2, 1) := dk_28 (dk_at dksX0_best_0 4 rfl rfl)
theorem dX0_best_5 : decode cX0_best 5 = .ok (.invokevirtual 74, 3) := dk_182 0 74 (dk_at dksX0_best_0 5 rfl rfl)
theorem dX0_best_8 : decode cX0_best 8 = .ok (.lastore, 1) := dk_80 (dk_at dksX0_best_0 8 rfl rfl)
theorem dX0_best_9 : decode cX0_best 9 = .ok (.goto 7, 3) := dk_167 0 7 (dk_at dksX0_best_0 9 rfl rfl)
theorem dX0_best_12 : decode cX0_best 12 = .ok (.astore 4, 2) := dk_58 4 (dk_at dksX0_best_0 12 rfl rfl)
theorem dX0_best_14 : decode cX0_best 14 = .ok (.iconst 1, 1) := dk_4 (dk_at dksX0_best_0 14 rfl rfl)
theorem dX0_best_15 : decode cX0_best 15 = .ok (.ireturn, 1) := dk_172 (dk_at dksX0_best_0 15 rfl rfl)
theorem dX0_best_16 : decode cX0_best 16 = .ok (.iconst 0, 1) := dk_3 (dk_at dksX0_best_0 16 rfl rfl)
theorem dX0_best_17 : decode cX0_best 17 = .ok (.ireturn, 1) := dk_172 (dk_at dksX0_best_0 17 rfl rfl)
abbrev cX0_count : ByteArray := method_21_code
def yX0_count : MethodName := ⟨RX0, "count", "(LFlashRatchet;I[J)I"⟩
def dkwX0_count_0 : List UInt8 := [44, 3, 42, 27, 182, 0, 77, 133, 80, 167, 0, 6, 78, 4, 172, 3, 172]
abbrev dktX0_count_0 : List UInt8 := dkwX0_count_0 ++ []
theorem dksX0_count_0 : cX0_count.data.toList.drop 0 = dktX0_count_0 := by decide +kernel
theorem dX0_count_0 : decode cX0_count 0 = .ok (.aload_n 2, 1) := dk_44 (dk_at dksX0_count_0 0 rfl rfl)
theorem dX0_count_1 : decode cX0_count 1 = .ok (.iconst 0, 1) := dk_3 (dk_at dksX0_count_0 1 rfl rfl)
theorem dX0_count_2 : decode cX0_count 2 = .ok (.aload_n 0, 1) := dk_42 (dk_at dksX0_count_0 2 rfl rfl)
theorem dX0_count_3 : decode cX0_count 3 = .ok (.iload_n 1, 1) := dk_27 (dk_at dksX0_count_0 3 rfl rfl)
theorem dX0_count_4 : decode cX0_count 4 = .ok (.invokevirtual 77, 3) := dk_182 0 77 (dk_at dksX0_count_0 4 rfl rfl)
theorem dX0_count_7 : decode cX0_count 7 = .ok (.i2l, 1) := dk_133 (dk_at dksX0_count_0 7 rfl rfl)
theorem dX0_count_8 : decode cX0_count 8 = .ok (.lastore, 1) := dk_80 (dk_at dksX0_count_0 8 rfl rfl)
theorem dX0_count_9 : decode cX0_count 9 = .ok (.goto 6, 3) := dk_167 0 6 (dk_at dksX0_count_0 9 rfl rfl)
theorem dX0_count_12 : decode cX0_count 12 = .ok (.astore_n 3, 1) := dk_78 (dk_at dksX0_count_0 12 rfl rfl)
theorem dX0_count_13 : decode cX0_count 13 = .ok (.iconst 1, 1) := dk_4 (dk_at dksX0_count_0 13 rfl rfl)
theorem dX0_count_14 : decode cX0_count 14 = .ok (.ireturn, 1) := dk_172 (dk_at dksX0_count_0 14 rfl rfl)
theorem dX0_count_15 : decode cX0_count 15 = .ok (.iconst 0, 1) := dk_3 (dk_at dksX0_count_0 15 rfl rfl)
theorem dX0_count_16 : decode cX0_count 16 = .ok (.ireturn, 1) := dk_172 (dk_at dksX0_count_0 16 rfl rfl)
abbrev cX0_table : ByteArray := method_22_code
def yX0_table : MethodName := ⟨RX0, "table", "(LFlashRatchet;II[J)I"⟩
def dkwX0_table_0 : List UInt8 := [45, 3, 42, 27, 28, 182, 0, 80, 133, 80, 167, 0, 7, 58, 4, 4, 172, 3, 172]
abbrev dktX0_table_0 : List UInt8 := dkwX0_table_0 ++ []
theorem dksX0_table_0 : cX0_table.data.toList.drop 0 = dktX0_table_0 := by decide +kernel
theorem dX0_table_0 : decode cX0_table 0 = .ok (.aload_n 3, 1) := dk_45 (dk_at dksX0_table_0 0 rfl rfl)
theorem dX0_table_1 : decode cX0_table 1 = .ok (.iconst 0, 1) := dk_3 (dk_at dksX0_table_0 1 rfl rfl)
theorem dX0_table_2 : decode cX0_table 2 = .ok (.aload_n 0, 1) := dk_42 (dk_at dksX0_table_0 2 rfl rfl)
theorem dX0_table_3 : decode cX0_table 3 = .ok (.iload_n 1, 1) := dk_27 (dk_at dksX0_table_0 3 rfl rfl)
theorem dX0_table_4 : decode cX0_table 4 = .ok (.iload_n 2, 1) := dk_28 (dk_at dksX0_table_0 4 rfl rfl)
theorem dX0_table_5 : decode cX0_table 5 = .ok (.invokevirtual 80, 3) := dk_182 0 80 (dk_at dksX0_table_0 5 rfl rfl)
theorem dX0_table_8 : decode cX0_table 8 = .ok (.i2l, 1) := dk_133 (dk_at dksX0_table_0 8 rfl rfl)
theorem dX0_table_9 : decode cX0_table 9 = .ok (.lastore, 1) := dk_80 (dk_at dksX0_table_0 9 rfl rfl)
theorem dX0_table_10 : decode cX0_table 10 = .ok (.goto 7, 3) := dk_167 0 7 (dk_at dksX0_table_0 10 rfl rfl)
theorem dX0_table_13 : decode cX0_table 13 = .ok (.astore 4, 2) := dk_58 4 (dk_at dksX0_table_0 13 rfl rfl)
theorem dX0_table_15 : decode cX0_table 15 = .ok (.iconst 1, 1) := dk_4 (dk_at dksX0_table_0 15 rfl rfl)
theorem dX0_table_16 : decode cX0_table 16 = .ok (.ireturn, 1) := dk_172 (dk_at dksX0_table_0 16 rfl rfl)
theorem dX0_table_17 : decode cX0_table 17 = .ok (.iconst 0, 1) := dk_3 (dk_at dksX0_table_0 17 rfl rfl)
theorem dX0_table_18 : decode cX0_table 18 = .ok (.ireturn, 1) := dk_172 (dk_at dksX0_table_0 18 rfl rfl)
theorem q84 : (Jvm.Cond.initialized "FlashRatchetLaw") ∈ lw_all := lw_g (lw_at lw_m1 0 rfl) rfl
theorem q130 : (Jvm.Cond.classLink "FlashRatchetLaw" (8 : Nat) "FlashRatchet") ∈ lw_all := lw_g (lw_at lw_m1 46 rfl) rfl
theorem q132 : (Jvm.Cond.methodLink "FlashRatchetLaw" (83 : Nat) ({ cls := "FlashRatchet", name := "<init>", desc := "()V" } : Jvm.MethodName)) ∈ lw_all := lw_g (lw_at lw_m1 48 rfl) rfl
theorem q222 : (Jvm.Cond.methodLink "FlashRatchetLaw" (120 : Nat) ({ cls := "FlashRatchet", name := "clearBuffer", desc := "()I" } : Jvm.MethodName)) ∈ lw_all := lw_g (lw_at lw_m1 138 rfl) rfl
theorem q572 : (Jvm.Cond.methodLink "FlashRatchetLaw" (124 : Nat) ({ cls := "FlashRatchet", name := "firstError", desc := "()I" } : Jvm.MethodName)) ∈ lw_all := lw_g (lw_at lw_m3 8 rfl) rfl
theorem q681 : (Jvm.Cond.methodLink "FlashRatchetLaw" (160 : Nat) ({ cls := "FlashRatchet", name := "paradox", desc := "()I" } : Jvm.MethodName)) ∈ lw_all := lw_g (lw_at lw_m3 117 rfl) rfl
theorem q1180 : (Jvm.Cond.methodLink "FlashRatchetLaw" (170 : Nat) ({ cls := "FlashRatchet", name := "meanGain", desc := "()D" } : Jvm.MethodName)) ∈ lw_all := lw_g (lw_at lw_m5 136 rfl) rfl
theorem q1184 : (Jvm.Cond.methodLink "FlashRatchetLaw" (175 : Nat) ({ cls := "FlashRatchet", name := "digest", desc := "()J" } : Jvm.MethodName)) ∈ lw_all := lw_g (lw_at lw_m5 140 rfl) rfl
theorem q1606 : (Jvm.Cond.methodLink "FlashRatchetLaw" (87 : Nat) ({ cls := "FlashRatchetLaw", name := "begin", desc := "(LFlashRatchet;I[J)I" } : Jvm.MethodName)) ∈ lw_all := lw_g (lw_at lw_m7 82 rfl) rfl
theorem q1607 : (Jvm.Cond.static ({ cls := "FlashRatchetLaw", name := "begin", desc := "(LFlashRatchet;I[J)I" } : Jvm.MethodName)) ∈ lw_all := lw_g (lw_at lw_m7 83 rfl) rfl
theorem q1608 : (Jvm.Cond.codeWith ({ cls := "FlashRatchetLaw", name := "begin", desc := "(LFlashRatchet;I[J)I" } : Jvm.MethodName) method_3_code (4 : Nat) (Option.some Jvm.ClassFile.FieldType.int) [((0 : Nat), (9 : Nat), (12 : Nat), (13 : Nat))]) ∈ lw_all := lw_g (lw_at lw_m7 84 rfl) rfl
theorem q1609 : (Jvm.Cond.classLink "FlashRatchetLaw" (13 : Nat) "java/lang/IllegalArgumentException") ∈ lw_all := lw_g (lw_at lw_m7 85 rfl) rfl
theorem q1610 : (Jvm.Cond.methodLink "FlashRatchetLaw" (7 : Nat) ({ cls := "FlashRatchet", name := "begin", desc := "(I)I" } : Jvm.MethodName)) ∈ lw_all := lw_g (lw_at lw_m7 86 rfl) rfl
theorem q1619 : (Jvm.Cond.methodLink "FlashRatchetLaw" (96 : Nat) ({ cls := "FlashRatchetLaw", name := "setTable", desc := "(LFlashRatchet;IIII[J)I" } : Jvm.MethodName)) ∈ lw_all := lw_g (lw_at lw_m7 95 rfl) rfl
theorem q1620 : (Jvm.Cond.static ({ cls := "FlashRatchetLaw", name := "setTable", desc := "(LFlashRatchet;IIII[J)I" } : Jvm.MethodName)) ∈ lw_all := lw_g (lw_at lw_m7 96 rfl) rfl
theorem q1621 : (Jvm.Cond.codeWith ({ cls := "FlashRatchetLaw", name := "setTable", desc := "(LFlashRatchet;IIII[J)I" } : Jvm.MethodName) method_4_code (7 : Nat) (Option.some Jvm.ClassFile.FieldType.int) [((0 : Nat), (14 : Nat), (17 : Nat), (19 : Nat)), ((0 : Nat), (14 : Nat), (21 : Nat), (13 : Nat))]) ∈ lw_all := lw_g (lw_at lw_m7 97 rfl) rfl
theorem q1622 : (Jvm.Cond.classLink "FlashRatchetLaw" (19 : Nat) "java/lang/IndexOutOfBoundsException") ∈ lw_all := lw_g (lw_at lw_m7 98 rfl) rfl
theorem q1625 : (Jvm.Cond.methodLink "FlashRatchetLaw" (15 : Nat) ({ cls := "FlashRatchet", name := "setTable", desc := "(IIII)I" } : Jvm.MethodName)) ∈ lw_all := lw_g (lw_at lw_m7 101 rfl) rfl
theorem q1652 : (Jvm.Cond.methodLink "FlashRatchetLaw" (100 : Nat) ({ cls := "FlashRatchetLaw", name := "gear", desc := "(LFlashRatchet;IZ[J)I" } : Jvm.MethodName)) ∈ lw_all := lw_g (lw_at lw_m7 128 rfl) rfl
theorem q1653 : (Jvm.Cond.static ({ cls := "FlashRatchetLaw", name := "gear", desc := "(LFlashRatchet;IZ[J)I" } : Jvm.MethodName)) ∈ lw_all := lw_g (lw_at lw_m7 129 rfl) rfl
theorem q1654 : (Jvm.Cond.codeWith ({ cls := "FlashRatchetLaw", name := "gear", desc := "(LFlashRatchet;IZ[J)I" } : Jvm.MethodName) method_5_code (5 : Nat) (Option.some Jvm.ClassFile.FieldType.int) [((0 : Nat), (10 : Nat), (13 : Nat), (19 : Nat))]) ∈ lw_all := lw_g (lw_at lw_m7 130 rfl) rfl
theorem q1655 : (Jvm.Cond.methodLink "FlashRatchetLaw" (21 : Nat) ({ cls := "FlashRatchet", name := "gear", desc := "(IZ)I" } : Jvm.MethodName)) ∈ lw_all := lw_g (lw_at lw_m7 131 rfl) rfl
theorem q1668 : (Jvm.Cond.methodLink "FlashRatchetLaw" (104 : Nat) ({ cls := "FlashRatchetLaw", name := "pawl", desc := "(LFlashRatchet;IZ[J)I" } : Jvm.MethodName)) ∈ lw_all := lw_g (lw_at lw_m7 144 rfl) rfl
theorem q1669 : (Jvm.Cond.static ({ cls := "FlashRatchetLaw", name := "pawl", desc := "(LFlashRatchet;IZ[J)I" } : Jvm.MethodName)) ∈ lw_all := lw_g (lw_at lw_m7 145 rfl) rfl
theorem q1670 : (Jvm.Cond.codeWith ({ cls := "FlashRatchetLaw", name := "pawl", desc := "(LFlashRatchet;IZ[J)I" } : Jvm.MethodName) method_6_code (5 : Nat) (Option.some Jvm.ClassFile.FieldType.int) [((0 : Nat), (10 : Nat), (13 : Nat), (19 : Nat))]) ∈ lw_all := lw_g (lw_at lw_m7 146 rfl) rfl
theorem q1671 : (Jvm.Cond.methodLink "FlashRatchetLaw" (25 : Nat) ({ cls := "FlashRatchet", name := "pawl", desc := "(IZ)I" } : Jvm.MethodName)) ∈ lw_all := lw_g (lw_at lw_m7 147 rfl) rfl
theorem q1675 : (Jvm.Cond.methodLink "FlashRatchetLaw" (107 : Nat) ({ cls := "FlashRatchetLaw", name := "setProgram", desc := "(LFlashRatchet;I[J)I" } : Jvm.MethodName)) ∈ lw_all := lw_g (lw_at lw_m7 151 rfl) rfl
theorem q1676 : (Jvm.Cond.static ({ cls := "FlashRatchetLaw", name := "setProgram", desc := "(LFlashRatchet;I[J)I" } : Jvm.MethodName)) ∈ lw_all := lw_g (lw_at lw_m7 152 rfl) rfl
theorem q1677 : (Jvm.Cond.codeWith ({ cls := "FlashRatchetLaw", name := "setProgram", desc := "(LFlashRatchet;I[J)I" } : Jvm.MethodName) method_7_code (4 : Nat) (Option.some Jvm.ClassFile.FieldType.int) [((0 : Nat), (9 : Nat), (12 : Nat), (13 : Nat))]) ∈ lw_all := lw_g (lw_at lw_m7 153 rfl) rfl
theorem q1678 : (Jvm.Cond.methodLink "FlashRatchetLaw" (28 : Nat) ({ cls := "FlashRatchet", name := "setProgram", desc := "(I)I" } : Jvm.MethodName)) ∈ lw_all := lw_g (lw_at lw_m7 154 rfl) rfl
theorem q1682 : (Jvm.Cond.methodLink "FlashRatchetLaw" (110 : Nat) ({ cls := "FlashRatchetLaw", name := "restart", desc := "(LFlashRatchet;II[J)I" } : Jvm.MethodName)) ∈ lw_all := lw_g (lw_at lw_m7 158 rfl) rfl
theorem q1683 : (Jvm.Cond.static ({ cls := "FlashRatchetLaw", name := "restart", desc := "(LFlashRatchet;II[J)I" } : Jvm.MethodName)) ∈ lw_all := lw_g (lw_at lw_m7 159 rfl) rfl
theorem q1684 : (Jvm.Cond.codeWith ({ cls := "FlashRatchetLaw", name := "restart", desc := "(LFlashRatchet;II[J)I" } : Jvm.MethodName) method_8_code (5 : Nat) (Option.some Jvm.ClassFile.FieldType.int) [((0 : Nat), (10 : Nat), (13 : Nat), (19 : Nat)), ((0 : Nat), (10 : Nat), (17 : Nat), (13 : Nat))]) ∈ lw_all := lw_g (lw_at lw_m7 160 rfl) rfl
theorem q1685 : (Jvm.Cond.methodLink "FlashRatchetLaw" (31 : Nat) ({ cls := "FlashRatchet", name := "restart", desc := "(II)I" } : Jvm.MethodName)) ∈ lw_all := lw_g (lw_at lw_m7 161 rfl) rfl
theorem q1689 : (Jvm.Cond.methodLink "FlashRatchetLaw" (114 : Nat) ({ cls := "FlashRatchetLaw", name := "run", desc := "(LFlashRatchet;I[J)I" } : Jvm.MethodName)) ∈ lw_all := lw_g (lw_at lw_m7 165 rfl) rfl
theorem q1690 : (Jvm.Cond.static ({ cls := "FlashRatchetLaw", name := "run", desc := "(LFlashRatchet;I[J)I" } : Jvm.MethodName)) ∈ lw_all := lw_g (lw_at lw_m7 166 rfl) rfl
theorem q1691 : (Jvm.Cond.codeWith ({ cls := "FlashRatchetLaw", name := "run", desc := "(LFlashRatchet;I[J)I" } : Jvm.MethodName) method_9_code (4 : Nat) (Option.some Jvm.ClassFile.FieldType.int) [((0 : Nat), (9 : Nat), (12 : Nat), (13 : Nat)), ((0 : Nat), (9 : Nat), (15 : Nat), (38 : Nat))]) ∈ lw_all := lw_g (lw_at lw_m7 167 rfl) rfl
theorem q1692 : (Jvm.Cond.classLink "FlashRatchetLaw" (38 : Nat) "java/lang/IllegalStateException") ∈ lw_all := lw_g (lw_at lw_m7 168 rfl) rfl
theorem q1693 : (Jvm.Cond.methodLink "FlashRatchetLaw" (35 : Nat) ({ cls := "FlashRatchet", name := "run", desc := "(I)I" } : Jvm.MethodName)) ∈ lw_all := lw_g (lw_at lw_m7 169 rfl) rfl
theorem q1716 : (Jvm.Cond.methodLink "FlashRatchetLaw" (117 : Nat) ({ cls := "FlashRatchetLaw", name := "append", desc := "(LFlashRatchet;I[J)I" } : Jvm.MethodName)) ∈ lw_all := lw_g (lw_at lw_m7 192 rfl) rfl
theorem q1717 : (Jvm.Cond.static ({ cls := "FlashRatchetLaw", name := "append", desc := "(LFlashRatchet;I[J)I" } : Jvm.MethodName)) ∈ lw_all := lw_g (lw_at lw_m7 193 rfl) rfl
theorem q1718 : (Jvm.Cond.codeWith ({ cls := "FlashRatchetLaw", name := "append", desc := "(LFlashRatchet;I[J)I" } : Jvm.MethodName) method_10_code (4 : Nat) (Option.some Jvm.ClassFile.FieldType.int) [((0 : Nat), (9 : Nat), (12 : Nat), (13 : Nat)), ((0 : Nat), (9 : Nat), (15 : Nat), (38 : Nat))]) ∈ lw_all := lw_g (lw_at lw_m7 194 rfl) rfl
theorem q1719 : (Jvm.Cond.methodLink "FlashRatchetLaw" (40 : Nat) ({ cls := "FlashRatchet", name := "append", desc := "(I)I" } : Jvm.MethodName)) ∈ lw_all := lw_g (lw_at lw_m7 195 rfl) rfl
theorem q1740 : (Jvm.Cond.methodLink "FlashRatchetLaw" (128 : Nat) ({ cls := "FlashRatchetLaw", name := "load", desc := "(LFlashRatchet;[J)I" } : Jvm.MethodName)) ∈ lw_all := lw_g (lw_at lw_m7 216 rfl) rfl
theorem q1741 : (Jvm.Cond.static ({ cls := "FlashRatchetLaw", name := "load", desc := "(LFlashRatchet;[J)I" } : Jvm.MethodName)) ∈ lw_all := lw_g (lw_at lw_m7 217 rfl) rfl
theorem q1742 : (Jvm.Cond.codeWith ({ cls := "FlashRatchetLaw", name := "load", desc := "(LFlashRatchet;[J)I" } : Jvm.MethodName) method_11_code (3 : Nat) (Option.some Jvm.ClassFile.FieldType.int) [((0 : Nat), (8 : Nat), (11 : Nat), (13 : Nat))]) ∈ lw_all := lw_g (lw_at lw_m7 218 rfl) rfl
theorem q1743 : (Jvm.Cond.methodLink "FlashRatchetLaw" (43 : Nat) ({ cls := "FlashRatchet", name := "load", desc := "()I" } : Jvm.MethodName)) ∈ lw_all := lw_g (lw_at lw_m7 219 rfl) rfl
theorem q1755 : (Jvm.Cond.methodLink "FlashRatchetLaw" (132 : Nat) ({ cls := "FlashRatchetLaw", name := "cycle", desc := "(LFlashRatchet;I[J)I" } : Jvm.MethodName)) ∈ lw_all := lw_g (lw_at lw_m7 231 rfl) rfl
theorem q1756 : (Jvm.Cond.static ({ cls := "FlashRatchetLaw", name := "cycle", desc := "(LFlashRatchet;I[J)I" } : Jvm.MethodName)) ∈ lw_all := lw_g (lw_at lw_m7 232 rfl) rfl
theorem q1757 : (Jvm.Cond.codeWith ({ cls := "FlashRatchetLaw", name := "cycle", desc := "(LFlashRatchet;I[J)I" } : Jvm.MethodName) method_12_code (4 : Nat) (Option.some Jvm.ClassFile.FieldType.int) [((0 : Nat), (9 : Nat), (12 : Nat), (13 : Nat))]) ∈ lw_all := lw_g (lw_at lw_m7 233 rfl) rfl
theorem q1758 : (Jvm.Cond.methodLink "FlashRatchetLaw" (47 : Nat) ({ cls := "FlashRatchet", name := "cycle", desc := "(I)I" } : Jvm.MethodName)) ∈ lw_all := lw_g (lw_at lw_m7 234 rfl) rfl
theorem q1762 : (Jvm.Cond.methodLink "FlashRatchetLaw" (135 : Nat) ({ cls := "FlashRatchetLaw", name := "chance", desc := "(LFlashRatchet;II[J)I" } : Jvm.MethodName)) ∈ lw_all := lw_g (lw_at lw_m7 238 rfl) rfl
theorem q1763 : (Jvm.Cond.static ({ cls := "FlashRatchetLaw", name := "chance", desc := "(LFlashRatchet;II[J)I" } : Jvm.MethodName)) ∈ lw_all := lw_g (lw_at lw_m7 239 rfl) rfl
theorem q1764 : (Jvm.Cond.codeWith ({ cls := "FlashRatchetLaw", name := "chance", desc := "(LFlashRatchet;II[J)I" } : Jvm.MethodName) method_13_code (5 : Nat) (Option.some Jvm.ClassFile.FieldType.int) [((0 : Nat), (9 : Nat), (12 : Nat), (13 : Nat)), ((0 : Nat), (9 : Nat), (16 : Nat), (19 : Nat))]) ∈ lw_all := lw_g (lw_at lw_m8 0 rfl) rfl
theorem q1765 : (Jvm.Cond.methodLink "FlashRatchetLaw" (50 : Nat) ({ cls := "FlashRatchet", name := "chance", desc := "(II)J" } : Jvm.MethodName)) ∈ lw_all := lw_g (lw_at lw_m8 1 rfl) rfl
theorem q1769 : (Jvm.Cond.methodLink "FlashRatchetLaw" (138 : Nat) ({ cls := "FlashRatchetLaw", name := "chanceOfGain", desc := "(LFlashRatchet;II[J)I" } : Jvm.MethodName)) ∈ lw_all := lw_g (lw_at lw_m8 5 rfl) rfl
theorem q1770 : (Jvm.Cond.static ({ cls := "FlashRatchetLaw", name := "chanceOfGain", desc := "(LFlashRatchet;II[J)I" } : Jvm.MethodName)) ∈ lw_all := lw_g (lw_at lw_m8 6 rfl) rfl
theorem q1771 : (Jvm.Cond.codeWith ({ cls := "FlashRatchetLaw", name := "chanceOfGain", desc := "(LFlashRatchet;II[J)I" } : Jvm.MethodName) method_14_code (5 : Nat) (Option.some Jvm.ClassFile.FieldType.int) [((0 : Nat), (9 : Nat), (12 : Nat), (13 : Nat))]) ∈ lw_all := lw_g (lw_at lw_m8 7 rfl) rfl
theorem q1772 : (Jvm.Cond.methodLink "FlashRatchetLaw" (54 : Nat) ({ cls := "FlashRatchet", name := "chanceOfGain", desc := "(II)J" } : Jvm.MethodName)) ∈ lw_all := lw_g (lw_at lw_m8 8 rfl) rfl
theorem q1777 : (Jvm.Cond.methodLink "FlashRatchetLaw" (141 : Nat) ({ cls := "FlashRatchetLaw", name := "game", desc := "(LFlashRatchet;IIII[J)I" } : Jvm.MethodName)) ∈ lw_all := lw_g (lw_at lw_m8 13 rfl) rfl
theorem q1778 : (Jvm.Cond.static ({ cls := "FlashRatchetLaw", name := "game", desc := "(LFlashRatchet;IIII[J)I" } : Jvm.MethodName)) ∈ lw_all := lw_g (lw_at lw_m8 14 rfl) rfl
theorem q1779 : (Jvm.Cond.codeWith ({ cls := "FlashRatchetLaw", name := "game", desc := "(LFlashRatchet;IIII[J)I" } : Jvm.MethodName) method_15_code (7 : Nat) (Option.some Jvm.ClassFile.FieldType.int) [((0 : Nat), (13 : Nat), (16 : Nat), (13 : Nat))]) ∈ lw_all := lw_g (lw_at lw_m8 15 rfl) rfl
theorem q1780 : (Jvm.Cond.methodLink "FlashRatchetLaw" (57 : Nat) ({ cls := "FlashRatchet", name := "game", desc := "(IIII)J" } : Jvm.MethodName)) ∈ lw_all := lw_g (lw_at lw_m8 16 rfl) rfl
theorem q1784 : (Jvm.Cond.methodLink "FlashRatchetLaw" (144 : Nat) ({ cls := "FlashRatchetLaw", name := "average", desc := "(LFlashRatchet;II[J)I" } : Jvm.MethodName)) ∈ lw_all := lw_g (lw_at lw_m8 20 rfl) rfl
theorem q1785 : (Jvm.Cond.static ({ cls := "FlashRatchetLaw", name := "average", desc := "(LFlashRatchet;II[J)I" } : Jvm.MethodName)) ∈ lw_all := lw_g (lw_at lw_m8 21 rfl) rfl
theorem q1786 : (Jvm.Cond.codeWith ({ cls := "FlashRatchetLaw", name := "average", desc := "(LFlashRatchet;II[J)I" } : Jvm.MethodName) method_16_code (5 : Nat) (Option.some Jvm.ClassFile.FieldType.int) [((0 : Nat), (9 : Nat), (12 : Nat), (13 : Nat))]) ∈ lw_all := lw_g (lw_at lw_m8 22 rfl) rfl
theorem q1787 : (Jvm.Cond.methodLink "FlashRatchetLaw" (61 : Nat) ({ cls := "FlashRatchet", name := "average", desc := "(II)J" } : Jvm.MethodName)) ∈ lw_all := lw_g (lw_at lw_m8 23 rfl) rfl
theorem q1791 : (Jvm.Cond.methodLink "FlashRatchetLaw" (147 : Nat) ({ cls := "FlashRatchetLaw", name := "share", desc := "(LFlashRatchet;III[J)I" } : Jvm.MethodName)) ∈ lw_all := lw_g (lw_at lw_m8 27 rfl) rfl
theorem q1792 : (Jvm.Cond.static ({ cls := "FlashRatchetLaw", name := "share", desc := "(LFlashRatchet;III[J)I" } : Jvm.MethodName)) ∈ lw_all := lw_g (lw_at lw_m8 28 rfl) rfl
theorem q1793 : (Jvm.Cond.codeWith ({ cls := "FlashRatchetLaw", name := "share", desc := "(LFlashRatchet;III[J)I" } : Jvm.MethodName) method_17_code (6 : Nat) (Option.some Jvm.ClassFile.FieldType.int) [((0 : Nat), (11 : Nat), (14 : Nat), (19 : Nat)), ((0 : Nat), (11 : Nat), (18 : Nat), (13 : Nat))]) ∈ lw_all := lw_g (lw_at lw_m8 29 rfl) rfl
theorem q1794 : (Jvm.Cond.methodLink "FlashRatchetLaw" (64 : Nat) ({ cls := "FlashRatchet", name := "share", desc := "(III)J" } : Jvm.MethodName)) ∈ lw_all := lw_g (lw_at lw_m8 30 rfl) rfl
theorem q1798 : (Jvm.Cond.methodLink "FlashRatchetLaw" (151 : Nat) ({ cls := "FlashRatchetLaw", name := "classes", desc := "(LFlashRatchet;I[J)I" } : Jvm.MethodName)) ∈ lw_all := lw_g (lw_at lw_m8 34 rfl) rfl
theorem q1799 : (Jvm.Cond.static ({ cls := "FlashRatchetLaw", name := "classes", desc := "(LFlashRatchet;I[J)I" } : Jvm.MethodName)) ∈ lw_all := lw_g (lw_at lw_m8 35 rfl) rfl
theorem q1800 : (Jvm.Cond.codeWith ({ cls := "FlashRatchetLaw", name := "classes", desc := "(LFlashRatchet;I[J)I" } : Jvm.MethodName) method_18_code (4 : Nat) (Option.some Jvm.ClassFile.FieldType.int) [((0 : Nat), (9 : Nat), (12 : Nat), (13 : Nat))]) ∈ lw_all := lw_g (lw_at lw_m8 36 rfl) rfl
theorem q1801 : (Jvm.Cond.methodLink "FlashRatchetLaw" (68 : Nat) ({ cls := "FlashRatchet", name := "classes", desc := "(I)I" } : Jvm.MethodName)) ∈ lw_all := lw_g (lw_at lw_m8 37 rfl) rfl
theorem q1805 : (Jvm.Cond.methodLink "FlashRatchetLaw" (154 : Nat) ({ cls := "FlashRatchetLaw", name := "compare", desc := "(LFlashRatchet;II[J)I" } : Jvm.MethodName)) ∈ lw_all := lw_g (lw_at lw_m8 41 rfl) rfl
theorem q1806 : (Jvm.Cond.static ({ cls := "FlashRatchetLaw", name := "compare", desc := "(LFlashRatchet;II[J)I" } : Jvm.MethodName)) ∈ lw_all := lw_g (lw_at lw_m8 42 rfl) rfl
theorem q1807 : (Jvm.Cond.codeWith ({ cls := "FlashRatchetLaw", name := "compare", desc := "(LFlashRatchet;II[J)I" } : Jvm.MethodName) method_19_code (5 : Nat) (Option.some Jvm.ClassFile.FieldType.int) [((0 : Nat), (10 : Nat), (13 : Nat), (13 : Nat)), ((0 : Nat), (10 : Nat), (17 : Nat), (38 : Nat))]) ∈ lw_all := lw_g (lw_at lw_m8 43 rfl) rfl
theorem q1808 : (Jvm.Cond.methodLink "FlashRatchetLaw" (71 : Nat) ({ cls := "FlashRatchet", name := "compare", desc := "(II)I" } : Jvm.MethodName)) ∈ lw_all := lw_g (lw_at lw_m8 44 rfl) rfl
theorem q1813 : (Jvm.Cond.methodLink "FlashRatchetLaw" (157 : Nat) ({ cls := "FlashRatchetLaw", name := "best", desc := "(LFlashRatchet;II[J)I" } : Jvm.MethodName)) ∈ lw_all := lw_g (lw_at lw_m8 49 rfl) rfl
theorem q1814 : (Jvm.Cond.static ({ cls := "FlashRatchetLaw", name := "best", desc := "(LFlashRatchet;II[J)I" } : Jvm.MethodName)) ∈ lw_all := lw_g (lw_at lw_m8 50 rfl) rfl
theorem q1815 : (Jvm.Cond.codeWith ({ cls := "FlashRatchetLaw", name := "best", desc := "(LFlashRatchet;II[J)I" } : Jvm.MethodName) method_20_code (5 : Nat) (Option.some Jvm.ClassFile.FieldType.int) [((0 : Nat), (9 : Nat), (12 : Nat), (13 : Nat))]) ∈ lw_all := lw_g (lw_at lw_m8 51 rfl) rfl
theorem q1816 : (Jvm.Cond.methodLink "FlashRatchetLaw" (74 : Nat) ({ cls := "FlashRatchet", name := "best", desc := "(II)J" } : Jvm.MethodName)) ∈ lw_all := lw_g (lw_at lw_m8 52 rfl) rfl
theorem q1820 : (Jvm.Cond.methodLink "FlashRatchetLaw" (164 : Nat) ({ cls := "FlashRatchetLaw", name := "count", desc := "(LFlashRatchet;I[J)I" } : Jvm.MethodName)) ∈ lw_all := lw_g (lw_at lw_m8 56 rfl) rfl
theorem q1821 : (Jvm.Cond.static ({ cls := "FlashRatchetLaw", name := "count", desc := "(LFlashRatchet;I[J)I" } : Jvm.MethodName)) ∈ lw_all := lw_g (lw_at lw_m8 57 rfl) rfl
theorem q1822 : (Jvm.Cond.codeWith ({ cls := "FlashRatchetLaw", name := "count", desc := "(LFlashRatchet;I[J)I" } : Jvm.MethodName) method_21_code (4 : Nat) (Option.some Jvm.ClassFile.FieldType.int) [((0 : Nat), (9 : Nat), (12 : Nat), (13 : Nat))]) ∈ lw_all := lw_g (lw_at lw_m8 58 rfl) rfl
theorem q1823 : (Jvm.Cond.methodLink "FlashRatchetLaw" (77 : Nat) ({ cls := "FlashRatchet", name := "count", desc := "(I)I" } : Jvm.MethodName)) ∈ lw_all := lw_g (lw_at lw_m8 59 rfl) rfl
theorem q1827 : (Jvm.Cond.methodLink "FlashRatchetLaw" (167 : Nat) ({ cls := "FlashRatchetLaw", name := "table", desc := "(LFlashRatchet;II[J)I" } : Jvm.MethodName)) ∈ lw_all := lw_g (lw_at lw_m8 63 rfl) rfl
theorem q1828 : (Jvm.Cond.static ({ cls := "FlashRatchetLaw", name := "table", desc := "(LFlashRatchet;II[J)I" } : Jvm.MethodName)) ∈ lw_all := lw_g (lw_at lw_m8 64 rfl) rfl
theorem q1829 : (Jvm.Cond.codeWith ({ cls := "FlashRatchetLaw", name := "table", desc := "(LFlashRatchet;II[J)I" } : Jvm.MethodName) method_22_code (5 : Nat) (Option.some Jvm.ClassFile.FieldType.int) [((0 : Nat), (10 : Nat), (13 : Nat), (19 : Nat))]) ∈ lw_all := lw_g (lw_at lw_m8 65 rfl) rfl
theorem q1830 : (Jvm.Cond.methodLink "FlashRatchetLaw" (80 : Nat) ({ cls := "FlashRatchet", name := "table", desc := "(II)I" } : Jvm.MethodName)) ∈ lw_all := lw_g (lw_at lw_m8 66 rfl) rfl
theorem q1834 : (Jvm.Cond.classLink "FlashRatchetLaw" (84 : Nat) "FlashRatchetModel") ∈ lw_all := lw_g (lw_at lw_m8 70 rfl) rfl
theorem q1836 : (Jvm.Cond.methodLink "FlashRatchetLaw" (86 : Nat) ({ cls := "FlashRatchetModel", name := "<init>", desc := "()V" } : Jvm.MethodName)) ∈ lw_all := lw_g (lw_at lw_m8 72 rfl) rfl
theorem q1965 : (Jvm.Cond.methodLink "FlashRatchetLaw" (93 : Nat) ({ cls := "FlashRatchetModel", name := "thrown", desc := "()I" } : Jvm.MethodName)) ∈ lw_all := lw_g (lw_at lw_m8 201 rfl) rfl
theorem q1969 : (Jvm.Cond.methodLink "FlashRatchetLaw" (92 : Nat) ({ cls := "FlashRatchetModel", name := "begin", desc := "(I)I" } : Jvm.MethodName)) ∈ lw_all := lw_g (lw_at lw_m8 205 rfl) rfl
theorem q1976 : (Jvm.Cond.methodLink "FlashRatchetLaw" (99 : Nat) ({ cls := "FlashRatchetModel", name := "setTable", desc := "(IIII)I" } : Jvm.MethodName)) ∈ lw_all := lw_g (lw_at lw_m8 212 rfl) rfl
theorem q1995 : (Jvm.Cond.methodLink "FlashRatchetLaw" (103 : Nat) ({ cls := "FlashRatchetModel", name := "gear", desc := "(IZ)I" } : Jvm.MethodName)) ∈ lw_all := lw_g (lw_at lw_m8 231 rfl) rfl
theorem q2002 : (Jvm.Cond.methodLink "FlashRatchetLaw" (106 : Nat) ({ cls := "FlashRatchetModel", name := "pawl", desc := "(IZ)I" } : Jvm.MethodName)) ∈ lw_all := lw_g (lw_at lw_m8 238 rfl) rfl
theorem q2006 : (Jvm.Cond.methodLink "FlashRatchetLaw" (109 : Nat) ({ cls := "FlashRatchetModel", name := "setProgram", desc := "(I)I" } : Jvm.MethodName)) ∈ lw_all := lw_g (lw_at lw_m9 2 rfl) rfl
theorem q2013 : (Jvm.Cond.methodLink "FlashRatchetLaw" (113 : Nat) ({ cls := "FlashRatchetModel", name := "restart", desc := "(II)I" } : Jvm.MethodName)) ∈ lw_all := lw_g (lw_at lw_m9 9 rfl) rfl
theorem q2017 : (Jvm.Cond.methodLink "FlashRatchetLaw" (116 : Nat) ({ cls := "FlashRatchetModel", name := "run", desc := "(I)I" } : Jvm.MethodName)) ∈ lw_all := lw_g (lw_at lw_m9 13 rfl) rfl
theorem q2040 : (Jvm.Cond.methodLink "FlashRatchetLaw" (119 : Nat) ({ cls := "FlashRatchetModel", name := "append", desc := "(I)I" } : Jvm.MethodName)) ∈ lw_all := lw_g (lw_at lw_m9 36 rfl) rfl
theorem q2044 : (Jvm.Cond.methodLink "FlashRatchetLaw" (123 : Nat) ({ cls := "FlashRatchetModel", name := "clearBuffer", desc := "()I" } : Jvm.MethodName)) ∈ lw_all := lw_g (lw_at lw_m9 40 rfl) rfl
theorem q2048 : (Jvm.Cond.methodLink "FlashRatchetLaw" (127 : Nat) ({ cls := "FlashRatchetModel", name := "firstError", desc := "()I" } : Jvm.MethodName)) ∈ lw_all := lw_g (lw_at lw_m9 44 rfl) rfl
theorem q2084 : (Jvm.Cond.methodLink "FlashRatchetLaw" (131 : Nat) ({ cls := "FlashRatchetModel", name := "load", desc := "()I" } : Jvm.MethodName)) ∈ lw_all := lw_g (lw_at lw_m9 80 rfl) rfl
theorem q2088 : (Jvm.Cond.methodLink "FlashRatchetLaw" (134 : Nat) ({ cls := "FlashRatchetModel", name := "cycle", desc := "(I)I" } : Jvm.MethodName)) ∈ lw_all := lw_g (lw_at lw_m9 84 rfl) rfl
theorem q2096 : (Jvm.Cond.methodLink "FlashRatchetLaw" (137 : Nat) ({ cls := "FlashRatchetModel", name := "chance", desc := "(II)J" } : Jvm.MethodName)) ∈ lw_all := lw_g (lw_at lw_m9 92 rfl) rfl
theorem q2125 : (Jvm.Cond.methodLink "FlashRatchetLaw" (140 : Nat) ({ cls := "FlashRatchetModel", name := "chanceOfGain", desc := "(II)J" } : Jvm.MethodName)) ∈ lw_all := lw_g (lw_at lw_m9 121 rfl) rfl
theorem q2133 : (Jvm.Cond.methodLink "FlashRatchetLaw" (143 : Nat) ({ cls := "FlashRatchetModel", name := "game", desc := "(IIII)J" } : Jvm.MethodName)) ∈ lw_all := lw_g (lw_at lw_m9 129 rfl) rfl
theorem q2141 : (Jvm.Cond.methodLink "FlashRatchetLaw" (146 : Nat) ({ cls := "FlashRatchetModel", name := "average", desc := "(II)J" } : Jvm.MethodName)) ∈ lw_all := lw_g (lw_at lw_m9 137 rfl) rfl
theorem q2184 : (Jvm.Cond.methodLink "FlashRatchetLaw" (150 : Nat) ({ cls := "FlashRatchetModel", name := "share", desc := "(III)J" } : Jvm.MethodName)) ∈ lw_all := lw_g (lw_at lw_m9 180 rfl) rfl
theorem q2192 : (Jvm.Cond.methodLink "FlashRatchetLaw" (153 : Nat) ({ cls := "FlashRatchetModel", name := "classes", desc := "(I)I" } : Jvm.MethodName)) ∈ lw_all := lw_g (lw_at lw_m9 188 rfl) rfl
theorem q2196 : (Jvm.Cond.methodLink "FlashRatchetLaw" (156 : Nat) ({ cls := "FlashRatchetModel", name := "compare", desc := "(II)I" } : Jvm.MethodName)) ∈ lw_all := lw_g (lw_at lw_m9 192 rfl) rfl
theorem q2206 : (Jvm.Cond.methodLink "FlashRatchetLaw" (159 : Nat) ({ cls := "FlashRatchetModel", name := "best", desc := "(II)J" } : Jvm.MethodName)) ∈ lw_all := lw_g (lw_at lw_m9 202 rfl) rfl
theorem q2223 : (Jvm.Cond.methodLink "FlashRatchetLaw" (163 : Nat) ({ cls := "FlashRatchetModel", name := "paradox", desc := "()I" } : Jvm.MethodName)) ∈ lw_all := lw_g (lw_at lw_m9 219 rfl) rfl
theorem q2231 : (Jvm.Cond.methodLink "FlashRatchetLaw" (166 : Nat) ({ cls := "FlashRatchetModel", name := "count", desc := "(I)I" } : Jvm.MethodName)) ∈ lw_all := lw_g (lw_at lw_m9 227 rfl) rfl
theorem q2239 : (Jvm.Cond.methodLink "FlashRatchetLaw" (169 : Nat) ({ cls := "FlashRatchetModel", name := "table", desc := "(II)I" } : Jvm.MethodName)) ∈ lw_all := lw_g (lw_at lw_m9 235 rfl) rfl
theorem q2243 : (Jvm.Cond.methodLink "FlashRatchetLaw" (174 : Nat) ({ cls := "FlashRatchetModel", name := "meanGain", desc := "()D" } : Jvm.MethodName)) ∈ lw_all := lw_g (lw_at lw_m9 239 rfl) rfl
theorem q2247 : (Jvm.Cond.methodLink "FlashRatchetLaw" (179 : Nat) ({ cls := "FlashRatchetModel", name := "digest", desc := "()J" } : Jvm.MethodName)) ∈ lw_all := lw_g (lw_at lw_m10 3 rfl) rfl
/-! FlashRatchet -/
set_option maxRecDepth 100000
def RX1 : String := "FlashRatchet"
def TX1 : u_T := fun k => match k with
  | 0 => ("FlashRatchet", "positions", "I", false)
  | 1 => ("FlashRatchet", "numbers", "[I", true)
  | 2 => ("FlashRatchet", "geared", "I", false)
  | 3 => ("FlashRatchet", "pawls", "I", false)
  | 4 => ("FlashRatchet", "program", "I", false)
  | 5 => ("FlashRatchet", "index", "I", false)
  | 6 => ("FlashRatchet", "position", "I", false)
  | 7 => ("FlashRatchet", "seed", "I", false)
  | 8 => ("FlashRatchet", "gain", "I", false)
  | 9 => ("FlashRatchet", "ticks", "I", false)
  | 10 => ("FlashRatchet", "buffer", "Ljava/lang/StringBuilder;", true)
  | _ => ("FlashRatchet", "hash", "J", false)
def tyX1 : Nat → FieldType := fun k => match k with
  | 0 => .int
  | 1 => .array .int
  | 2 => .int
  | 3 => .int
  | 4 => .int
  | 5 => .int
  | 6 => .int
  | 7 => .int
  | 8 => .int
  | 9 => .int
  | 10 => .object "java/lang/StringBuilder"
  | _ => .long
abbrev wsX10 : List Cond := u_ws RX1 TX1 12
theorem nmX1 : ∀ a, a < 12 → ∀ b, b < 12 → a ≠ b → (TX1 a).2.1 ≠ (TX1 b).2.1 := by decide +kernel
theorem tyX1_ok : ∀ k, k < 12 → parseFieldDescriptor (TX1 k).2.2.1 = some (tyX1 k) := by decide +kernel
abbrev cX1_init : ByteArray := prog_1_method_6_code
def yX1_init : MethodName := ⟨RX1, "<init>", "()V"⟩
def dkwX1_init_1 : List UInt8 := [4, 181, 0, 33, 42, 187, 0, 36, 89, 16, 60, 183, 0, 38, 181, 0, 41, 177]
abbrev dktX1_init_1 : List UInt8 := dkwX1_init_1 ++ []
def dkwX1_init_0 : List UInt8 := [42, 183, 0, 19, 42, 6, 181, 0, 22, 42, 16, 12, 188, 10, 181, 0, 26, 42, 16, 7, 181, 0, 30, 42]
abbrev dktX1_init_0 : List UInt8 := dkwX1_init_0 ++ dktX1_init_1
theorem dksX1_init_0 : cX1_init.data.toList.drop 0 = dktX1_init_0 := by decide +kernel
theorem dksX1_init_1 : cX1_init.data.toList.drop 24 = dktX1_init_1 := dk_seg dksX1_init_0 24 rfl rfl
theorem dX1_init_0 : decode cX1_init 0 = .ok (.aload_n 0, 1) := dk_42 (dk_at dksX1_init_0 0 rfl rfl)
theorem dX1_init_1 : decode cX1_init 1 = .ok (.invokespecial 19, 3) := dk_183 0 19 (dk_at dksX1_init_0 1 rfl rfl)
theorem dX1_init_4 : decode cX1_init 4 = .ok (.aload_n 0, 1) := dk_42 (dk_at dksX1_init_0 4 rfl rfl)
theorem dX1_init_5 : decode cX1_init 5 = .ok (.iconst 3, 1) := dk_6 (dk_at dksX1_init_0 5 rfl rfl)
theorem dX1_init_6 : decode cX1_init 6 = .ok (.putfield 22, 3) := dk_181 0 22 (dk_at dksX1_init_0 6 rfl rfl)
theorem dX1_init_9 : decode cX1_init 9 = .ok (.aload_n 0, 1) := dk_42 (dk_at dksX1_init_0 9 rfl rfl)
theorem dX1_init_10 : decode cX1_init 10 = .ok (.bipush 12, 2) := dk_16 12 (dk_at dksX1_init_0 10 rfl rfl)
theorem dX1_init_12 : decode cX1_init 12 = .ok (.newarray .int, 2) := dk_188_10 (dk_at dksX1_init_0 12 rfl rfl)
theorem dX1_init_14 : decode cX1_init 14 = .ok (.putfield 26, 3) := dk_181 0 26 (dk_at dksX1_init_0 14 rfl rfl)
theorem dX1_init_17 : decode cX1_init 17 = .ok (.aload_n 0, 1) := dk_42 (dk_at dksX1_init_0 17 rfl rfl)
theorem dX1_init_18 : decode cX1_init 18 = .ok (.bipush 7, 2) := dk_16 7 (dk_at dksX1_init_0 18 rfl rfl)
theorem dX1_init_20 : decode cX1_init 20 = .ok (.putfield 30, 3) := dk_181 0 30 (dk_at dksX1_init_0 20 rfl rfl)
theorem dX1_init_23 : decode cX1_init 23 = .ok (.aload_n 0, 1) := dk_42 (dk_at dksX1_init_0 23 rfl rfl)
theorem dX1_init_24 : decode cX1_init 24 = .ok (.iconst 1, 1) := dk_4 (dk_at dksX1_init_1 0 rfl rfl)
theorem dX1_init_25 : decode cX1_init 25 = .ok (.putfield 33, 3) := dk_181 0 33 (dk_at dksX1_init_1 1 rfl rfl)
theorem dX1_init_28 : decode cX1_init 28 = .ok (.aload_n 0, 1) := dk_42 (dk_at dksX1_init_1 4 rfl rfl)
theorem dX1_init_29 : decode cX1_init 29 = .ok (.new 36, 3) := dk_187 0 36 (dk_at dksX1_init_1 5 rfl rfl)
theorem dX1_init_32 : decode cX1_init 32 = .ok (.dup, 1) := dk_89 (dk_at dksX1_init_1 8 rfl rfl)
theorem dX1_init_33 : decode cX1_init 33 = .ok (.bipush 60, 2) := dk_16 60 (dk_at dksX1_init_1 9 rfl rfl)
theorem dX1_init_35 : decode cX1_init 35 = .ok (.invokespecial 38, 3) := dk_183 0 38 (dk_at dksX1_init_1 11 rfl rfl)
theorem dX1_init_38 : decode cX1_init 38 = .ok (.putfield 41, 3) := dk_181 0 41 (dk_at dksX1_init_1 14 rfl rfl)
theorem dX1_init_41 : decode cX1_init 41 = .ok (.return_, 1) := dk_177 (dk_at dksX1_init_1 17 rfl rfl)
abbrev cX1_clearBuffer : ByteArray := prog_1_method_29_code
def yX1_clearBuffer : MethodName := ⟨RX1, "clearBuffer", "()I"⟩
def dkwX1_clearBuffer_0 : List UInt8 := [42, 180, 0, 41, 182, 0, 145, 60, 42, 180, 0, 41, 3, 182, 0, 151, 27, 172]
abbrev dktX1_clearBuffer_0 : List UInt8 := dkwX1_clearBuffer_0 ++ []
theorem dksX1_clearBuffer_0 : cX1_clearBuffer.data.toList.drop 0 = dktX1_clearBuffer_0 := by decide +kernel
theorem dX1_clearBuffer_0 : decode cX1_clearBuffer 0 = .ok (.aload_n 0, 1) := dk_42 (dk_at dksX1_clearBuffer_0 0 rfl rfl)
theorem dX1_clearBuffer_1 : decode cX1_clearBuffer 1 = .ok (.getfield 41, 3) := dk_180 0 41 (dk_at dksX1_clearBuffer_0 1 rfl rfl)
theorem dX1_clearBuffer_4 : decode cX1_clearBuffer 4 = .ok (.invokevirtual 145, 3) := dk_182 0 145 (dk_at dksX1_clearBuffer_0 4 rfl rfl)
theorem dX1_clearBuffer_7 : decode cX1_clearBuffer 7 = .ok (.istore_n 1, 1) := dk_60 (dk_at dksX1_clearBuffer_0 7 rfl rfl)
theorem dX1_clearBuffer_8 : decode cX1_clearBuffer 8 = .ok (.aload_n 0, 1) := dk_42 (dk_at dksX1_clearBuffer_0 8 rfl rfl)
theorem dX1_clearBuffer_9 : decode cX1_clearBuffer 9 = .ok (.getfield 41, 3) := dk_180 0 41 (dk_at dksX1_clearBuffer_0 9 rfl rfl)
theorem dX1_clearBuffer_12 : decode cX1_clearBuffer 12 = .ok (.iconst 0, 1) := dk_3 (dk_at dksX1_clearBuffer_0 12 rfl rfl)
theorem dX1_clearBuffer_13 : decode cX1_clearBuffer 13 = .ok (.invokevirtual 151, 3) := dk_182 0 151 (dk_at dksX1_clearBuffer_0 13 rfl rfl)
theorem dX1_clearBuffer_16 : decode cX1_clearBuffer 16 = .ok (.iload_n 1, 1) := dk_27 (dk_at dksX1_clearBuffer_0 16 rfl rfl)
theorem dX1_clearBuffer_17 : decode cX1_clearBuffer 17 = .ok (.ireturn, 1) := dk_172 (dk_at dksX1_clearBuffer_0 17 rfl rfl)
abbrev cX1_firstError : ByteArray := prog_1_method_30_code
def yX1_firstError : MethodName := ⟨RX1, "firstError", "()I"⟩
def dkwX1_firstError_0 : List UInt8 := [187, 0, 154, 89, 42, 183, 0, 156, 182, 0, 157, 180, 0, 161, 172]
abbrev dktX1_firstError_0 : List UInt8 := dkwX1_firstError_0 ++ []
theorem dksX1_firstError_0 : cX1_firstError.data.toList.drop 0 = dktX1_firstError_0 := by decide +kernel
theorem dX1_firstError_0 : decode cX1_firstError 0 = .ok (.new 154, 3) := dk_187 0 154 (dk_at dksX1_firstError_0 0 rfl rfl)
theorem dX1_firstError_3 : decode cX1_firstError 3 = .ok (.dup, 1) := dk_89 (dk_at dksX1_firstError_0 3 rfl rfl)
theorem dX1_firstError_4 : decode cX1_firstError 4 = .ok (.aload_n 0, 1) := dk_42 (dk_at dksX1_firstError_0 4 rfl rfl)
theorem dX1_firstError_5 : decode cX1_firstError 5 = .ok (.invokespecial 156, 3) := dk_183 0 156 (dk_at dksX1_firstError_0 5 rfl rfl)
theorem dX1_firstError_8 : decode cX1_firstError 8 = .ok (.invokevirtual 157, 3) := dk_182 0 157 (dk_at dksX1_firstError_0 8 rfl rfl)
theorem dX1_firstError_11 : decode cX1_firstError 11 = .ok (.getfield 161, 3) := dk_180 0 161 (dk_at dksX1_firstError_0 11 rfl rfl)
theorem dX1_firstError_14 : decode cX1_firstError 14 = .ok (.ireturn, 1) := dk_172 (dk_at dksX1_firstError_0 14 rfl rfl)
abbrev cX1_isLever : ByteArray := prog_1_method_5_code
def yX1_isLever : MethodName := ⟨RX1, "isLever", "(I)Z"⟩
def dkwX1_isLever_0 : List UInt8 := [26, 3, 5, 184, 0, 15, 172]
abbrev dktX1_isLever_0 : List UInt8 := dkwX1_isLever_0 ++ []
theorem dksX1_isLever_0 : cX1_isLever.data.toList.drop 0 = dktX1_isLever_0 := by decide +kernel
theorem dX1_isLever_0 : decode cX1_isLever 0 = .ok (.iload_n 0, 1) := dk_26 (dk_at dksX1_isLever_0 0 rfl rfl)
theorem dX1_isLever_1 : decode cX1_isLever 1 = .ok (.iconst 0, 1) := dk_3 (dk_at dksX1_isLever_0 1 rfl rfl)
theorem dX1_isLever_2 : decode cX1_isLever 2 = .ok (.iconst 2, 1) := dk_5 (dk_at dksX1_isLever_0 2 rfl rfl)
theorem dX1_isLever_3 : decode cX1_isLever 3 = .ok (.invokestatic 15, 3) := dk_184 0 15 (dk_at dksX1_isLever_0 3 rfl rfl)
theorem dX1_isLever_6 : decode cX1_isLever 6 = .ok (.ireturn, 1) := dk_172 (dk_at dksX1_isLever_0 6 rfl rfl)
abbrev cX1_inRange : ByteArray := prog_1_method_1_code
def yX1_inRange : MethodName := ⟨RX1, "inRange", "(III)Z"⟩
def dkwX1_inRange_0 : List UInt8 := [26, 27, 161, 0, 12, 26, 28, 163, 0, 7, 4, 167, 0, 4, 3, 172]
abbrev dktX1_inRange_0 : List UInt8 := dkwX1_inRange_0 ++ []
theorem dksX1_inRange_0 : cX1_inRange.data.toList.drop 0 = dktX1_inRange_0 := by decide +kernel
theorem dX1_inRange_0 : decode cX1_inRange 0 = .ok (.iload_n 0, 1) := dk_26 (dk_at dksX1_inRange_0 0 rfl rfl)
theorem dX1_inRange_1 : decode cX1_inRange 1 = .ok (.iload_n 1, 1) := dk_27 (dk_at dksX1_inRange_0 1 rfl rfl)
theorem dX1_inRange_2 : decode cX1_inRange 2 = .ok (.if_icmp .lt 12, 3) := dk_161 0 12 (dk_at dksX1_inRange_0 2 rfl rfl)
theorem dX1_inRange_5 : decode cX1_inRange 5 = .ok (.iload_n 0, 1) := dk_26 (dk_at dksX1_inRange_0 5 rfl rfl)
theorem dX1_inRange_6 : decode cX1_inRange 6 = .ok (.iload_n 2, 1) := dk_28 (dk_at dksX1_inRange_0 6 rfl rfl)
theorem dX1_inRange_7 : decode cX1_inRange 7 = .ok (.if_icmp .gt 7, 3) := dk_163 0 7 (dk_at dksX1_inRange_0 7 rfl rfl)
theorem dX1_inRange_10 : decode cX1_inRange 10 = .ok (.iconst 1, 1) := dk_4 (dk_at dksX1_inRange_0 10 rfl rfl)
theorem dX1_inRange_11 : decode cX1_inRange 11 = .ok (.goto 4, 3) := dk_167 0 4 (dk_at dksX1_inRange_0 11 rfl rfl)
theorem dX1_inRange_14 : decode cX1_inRange 14 = .ok (.iconst 0, 1) := dk_3 (dk_at dksX1_inRange_0 14 rfl rfl)
theorem dX1_inRange_15 : decode cX1_inRange 15 = .ok (.ireturn, 1) := dk_172 (dk_at dksX1_inRange_0 15 rfl rfl)
abbrev cX1_length : ByteArray := prog_1_method_13_code
def yX1_length : MethodName := ⟨RX1, "length", "(I)I"⟩
def dkwX1_length_0 : List UInt8 := [3, 60, 26, 61, 28, 158, 0, 13, 132, 1, 1, 28, 7, 108, 61, 167, 255, 245, 27, 172]
abbrev dktX1_length_0 : List UInt8 := dkwX1_length_0 ++ []
theorem dksX1_length_0 : cX1_length.data.toList.drop 0 = dktX1_length_0 := by decide +kernel
theorem dX1_length_0 : decode cX1_length 0 = .ok (.iconst 0, 1) := dk_3 (dk_at dksX1_length_0 0 rfl rfl)
theorem dX1_length_1 : decode cX1_length 1 = .ok (.istore_n 1, 1) := dk_60 (dk_at dksX1_length_0 1 rfl rfl)
theorem dX1_length_2 : decode cX1_length 2 = .ok (.iload_n 0, 1) := dk_26 (dk_at dksX1_length_0 2 rfl rfl)
theorem dX1_length_3 : decode cX1_length 3 = .ok (.istore_n 2, 1) := dk_61 (dk_at dksX1_length_0 3 rfl rfl)
theorem dX1_length_4 : decode cX1_length 4 = .ok (.iload_n 2, 1) := dk_28 (dk_at dksX1_length_0 4 rfl rfl)
theorem dX1_length_5 : decode cX1_length 5 = .ok (.ifCond .le 13, 3) := dk_158 0 13 (dk_at dksX1_length_0 5 rfl rfl)
theorem dX1_length_8 : decode cX1_length 8 = .ok (.iinc 1 1, 3) := dk_132 1 1 (dk_at dksX1_length_0 8 rfl rfl)
theorem dX1_length_11 : decode cX1_length 11 = .ok (.iload_n 2, 1) := dk_28 (dk_at dksX1_length_0 11 rfl rfl)
theorem dX1_length_12 : decode cX1_length 12 = .ok (.iconst 4, 1) := dk_7 (dk_at dksX1_length_0 12 rfl rfl)
theorem dX1_length_13 : decode cX1_length 13 = .ok (.idiv, 1) := dk_108 (dk_at dksX1_length_0 13 rfl rfl)
theorem dX1_length_14 : decode cX1_length 14 = .ok (.istore_n 2, 1) := dk_61 (dk_at dksX1_length_0 14 rfl rfl)
theorem dX1_length_15 : decode cX1_length 15 = .ok (.goto (-11), 3) := dk_167 255 245 (dk_at dksX1_length_0 15 rfl rfl)
theorem dX1_length_18 : decode cX1_length 18 = .ok (.iload_n 1, 1) := dk_27 (dk_at dksX1_length_0 18 rfl rfl)
theorem dX1_length_19 : decode cX1_length 19 = .ok (.ireturn, 1) := dk_172 (dk_at dksX1_length_0 19 rfl rfl)
abbrev cX1_paradox : ByteArray := prog_1_method_46_code
def yX1_paradox : MethodName := ⟨RX1, "paradox", "()I"⟩
theorem dX1_paradox_0 : decode cX1_paradox 0 = .ok (.aload_n 0, 1) := by decide +kernel
theorem dX1_paradox_1 : decode cX1_paradox 1 = .ok (.invokevirtual 263, 3) := by decide +kernel
theorem dX1_paradox_4 : decode cX1_paradox 4 = .ok (.ireturn, 1) := by decide +kernel
abbrev cX1_paradoxical : ByteArray := prog_1_method_45_code
def yX1_paradoxical : MethodName := ⟨RX1, "paradoxical", "()I"⟩
def dkwX1_paradoxical_2 : List UInt8 := [77, 44, 198, 0, 19, 44, 180, 0, 244, 180, 1, 0, 9, 148, 158, 0, 7, 4, 167, 0, 4, 3, 172]
abbrev dktX1_paradoxical_2 : List UInt8 := dkwX1_paradoxical_2 ++ []
def dkwX1_paradoxical_1 : List UInt8 := [182, 1, 4, 126, 60, 132, 2, 1, 167, 255, 240, 27, 153, 0, 11, 42, 6, 182, 0, 248, 167, 0, 4, 1]
abbrev dktX1_paradoxical_1 : List UInt8 := dkwX1_paradoxical_1 ++ dktX1_paradoxical_2
def dkwX1_paradoxical_0 : List UInt8 := [42, 180, 0, 30, 153, 0, 7, 4, 167, 0, 4, 3, 60, 3, 61, 28, 6, 162, 0, 17, 27, 42, 28]
abbrev dktX1_paradoxical_0 : List UInt8 := dkwX1_paradoxical_0 ++ dktX1_paradoxical_1
theorem dksX1_paradoxical_0 : cX1_paradoxical.data.toList.drop 0 = dktX1_paradoxical_0 := by decide +kernel
theorem dksX1_paradoxical_1 : cX1_paradoxical.data.toList.drop 23 = dktX1_paradoxical_1 := dk_seg dksX1_paradoxical_0 23 rfl rfl
theorem dksX1_paradoxical_2 : cX1_paradoxical.data.toList.drop 47 = dktX1_paradoxical_2 := dk_seg dksX1_paradoxical_1 24 rfl rfl
theorem dX1_paradoxical_0 : decode cX1_paradoxical 0 = .ok (.aload_n 0, 1) := dk_42 (dk_at dksX1_paradoxical_0 0 rfl rfl)
theorem dX1_paradoxical_1 : decode cX1_paradoxical 1 = .ok (.getfield 30, 3) := dk_180 0 30 (dk_at dksX1_paradoxical_0 1 rfl rfl)
theorem dX1_paradoxical_4 : decode cX1_paradoxical 4 = .ok (.ifCond .eq 7, 3) := dk_153 0 7 (dk_at dksX1_paradoxical_0 4 rfl rfl)
theorem dX1_paradoxical_7 : decode cX1_paradoxical 7 = .ok (.iconst 1, 1) := dk_4 (dk_at dksX1_paradoxical_0 7 rfl rfl)
theorem dX1_paradoxical_8 : decode cX1_paradoxical 8 = .ok (.goto 4, 3) := dk_167 0 4 (dk_at dksX1_paradoxical_0 8 rfl rfl)
theorem dX1_paradoxical_11 : decode cX1_paradoxical 11 = .ok (.iconst 0, 1) := dk_3 (dk_at dksX1_paradoxical_0 11 rfl rfl)
theorem dX1_paradoxical_12 : decode cX1_paradoxical 12 = .ok (.istore_n 1, 1) := dk_60 (dk_at dksX1_paradoxical_0 12 rfl rfl)
theorem dX1_paradoxical_13 : decode cX1_paradoxical 13 = .ok (.iconst 0, 1) := dk_3 (dk_at dksX1_paradoxical_0 13 rfl rfl)
theorem dX1_paradoxical_14 : decode cX1_paradoxical 14 = .ok (.istore_n 2, 1) := dk_61 (dk_at dksX1_paradoxical_0 14 rfl rfl)
theorem dX1_paradoxical_15 : decode cX1_paradoxical 15 = .ok (.iload_n 2, 1) := dk_28 (dk_at dksX1_paradoxical_0 15 rfl rfl)
theorem dX1_paradoxical_16 : decode cX1_paradoxical 16 = .ok (.iconst 3, 1) := dk_6 (dk_at dksX1_paradoxical_0 16 rfl rfl)
theorem dX1_paradoxical_17 : decode cX1_paradoxical 17 = .ok (.if_icmp .ge 17, 3) := dk_162 0 17 (dk_at dksX1_paradoxical_0 17 rfl rfl)
theorem dX1_paradoxical_20 : decode cX1_paradoxical 20 = .ok (.iload_n 1, 1) := dk_27 (dk_at dksX1_paradoxical_0 20 rfl rfl)
theorem dX1_paradoxical_21 : decode cX1_paradoxical 21 = .ok (.aload_n 0, 1) := dk_42 (dk_at dksX1_paradoxical_0 21 rfl rfl)
theorem dX1_paradoxical_22 : decode cX1_paradoxical 22 = .ok (.iload_n 2, 1) := dk_28 (dk_at dksX1_paradoxical_0 22 rfl rfl)
theorem dX1_paradoxical_23 : decode cX1_paradoxical 23 = .ok (.invokevirtual 260, 3) := dk_182 1 4 (dk_at dksX1_paradoxical_1 0 rfl rfl)
theorem dX1_paradoxical_26 : decode cX1_paradoxical 26 = .ok (.iand, 1) := dk_126 (dk_at dksX1_paradoxical_1 3 rfl rfl)
theorem dX1_paradoxical_27 : decode cX1_paradoxical 27 = .ok (.istore_n 1, 1) := dk_60 (dk_at dksX1_paradoxical_1 4 rfl rfl)
theorem dX1_paradoxical_28 : decode cX1_paradoxical 28 = .ok (.iinc 2 1, 3) := dk_132 2 1 (dk_at dksX1_paradoxical_1 5 rfl rfl)
theorem dX1_paradoxical_31 : decode cX1_paradoxical 31 = .ok (.goto (-16), 3) := dk_167 255 240 (dk_at dksX1_paradoxical_1 8 rfl rfl)
theorem dX1_paradoxical_34 : decode cX1_paradoxical 34 = .ok (.iload_n 1, 1) := dk_27 (dk_at dksX1_paradoxical_1 11 rfl rfl)
theorem dX1_paradoxical_35 : decode cX1_paradoxical 35 = .ok (.ifCond .eq 11, 3) := dk_153 0 11 (dk_at dksX1_paradoxical_1 12 rfl rfl)
theorem dX1_paradoxical_38 : decode cX1_paradoxical 38 = .ok (.aload_n 0, 1) := dk_42 (dk_at dksX1_paradoxical_1 15 rfl rfl)
theorem dX1_paradoxical_39 : decode cX1_paradoxical 39 = .ok (.iconst 3, 1) := dk_6 (dk_at dksX1_paradoxical_1 16 rfl rfl)
theorem dX1_paradoxical_40 : decode cX1_paradoxical 40 = .ok (.invokevirtual 248, 3) := dk_182 0 248 (dk_at dksX1_paradoxical_1 17 rfl rfl)
theorem dX1_paradoxical_43 : decode cX1_paradoxical 43 = .ok (.goto 4, 3) := dk_167 0 4 (dk_at dksX1_paradoxical_1 20 rfl rfl)
theorem dX1_paradoxical_46 : decode cX1_paradoxical 46 = .ok (.aconst_null, 1) := dk_1 (dk_at dksX1_paradoxical_1 23 rfl rfl)
theorem dX1_paradoxical_47 : decode cX1_paradoxical 47 = .ok (.astore_n 2, 1) := dk_77 (dk_at dksX1_paradoxical_2 0 rfl rfl)
theorem dX1_paradoxical_48 : decode cX1_paradoxical 48 = .ok (.aload_n 2, 1) := dk_44 (dk_at dksX1_paradoxical_2 1 rfl rfl)
theorem dX1_paradoxical_49 : decode cX1_paradoxical 49 = .ok (.ifnull 19, 3) := dk_198 0 19 (dk_at dksX1_paradoxical_2 2 rfl rfl)
theorem dX1_paradoxical_52 : decode cX1_paradoxical 52 = .ok (.aload_n 2, 1) := dk_44 (dk_at dksX1_paradoxical_2 5 rfl rfl)
theorem dX1_paradoxical_53 : decode cX1_paradoxical 53 = .ok (.getfield 244, 3) := dk_180 0 244 (dk_at dksX1_paradoxical_2 6 rfl rfl)
theorem dX1_paradoxical_56 : decode cX1_paradoxical 56 = .ok (.getfield 256, 3) := dk_180 1 0 (dk_at dksX1_paradoxical_2 9 rfl rfl)
theorem dX1_paradoxical_59 : decode cX1_paradoxical 59 = .ok (.lconst 0, 1) := dk_9 (dk_at dksX1_paradoxical_2 12 rfl rfl)
theorem dX1_paradoxical_60 : decode cX1_paradoxical 60 = .ok (.lcmp, 1) := dk_148 (dk_at dksX1_paradoxical_2 13 rfl rfl)
theorem dX1_paradoxical_61 : decode cX1_paradoxical 61 = .ok (.ifCond .le 7, 3) := dk_158 0 7 (dk_at dksX1_paradoxical_2 14 rfl rfl)
theorem dX1_paradoxical_64 : decode cX1_paradoxical 64 = .ok (.iconst 1, 1) := dk_4 (dk_at dksX1_paradoxical_2 17 rfl rfl)
theorem dX1_paradoxical_65 : decode cX1_paradoxical 65 = .ok (.goto 4, 3) := dk_167 0 4 (dk_at dksX1_paradoxical_2 18 rfl rfl)
theorem dX1_paradoxical_68 : decode cX1_paradoxical 68 = .ok (.iconst 0, 1) := dk_3 (dk_at dksX1_paradoxical_2 21 rfl rfl)
theorem dX1_paradoxical_69 : decode cX1_paradoxical 69 = .ok (.ireturn, 1) := dk_172 (dk_at dksX1_paradoxical_2 22 rfl rfl)
abbrev cX1_losesAlone : ByteArray := prog_1_method_44_code
def yX1_losesAlone : MethodName := ⟨RX1, "losesAlone", "(I)Z"⟩
def dkwX1_losesAlone_1 : List UInt8 := [4, 160, 0, 19, 44, 182, 0, 199, 180, 1, 0, 9, 148, 156, 0, 7, 4, 167, 0, 4, 3, 172]
abbrev dktX1_losesAlone_1 : List UInt8 := dkwX1_losesAlone_1 ++ []
def dkwX1_losesAlone_0 : List UInt8 := [187, 0, 191, 89, 42, 27, 4, 96, 183, 0, 193, 77, 42, 27, 182, 0, 45, 153, 0, 23, 44, 182, 0, 196]
abbrev dktX1_losesAlone_0 : List UInt8 := dkwX1_losesAlone_0 ++ dktX1_losesAlone_1
theorem dksX1_losesAlone_0 : cX1_losesAlone.data.toList.drop 0 = dktX1_losesAlone_0 := by decide +kernel
theorem dksX1_losesAlone_1 : cX1_losesAlone.data.toList.drop 24 = dktX1_losesAlone_1 := dk_seg dksX1_losesAlone_0 24 rfl rfl
theorem dX1_losesAlone_0 : decode cX1_losesAlone 0 = .ok (.new 191, 3) := dk_187 0 191 (dk_at dksX1_losesAlone_0 0 rfl rfl)
theorem dX1_losesAlone_3 : decode cX1_losesAlone 3 = .ok (.dup, 1) := dk_89 (dk_at dksX1_losesAlone_0 3 rfl rfl)
theorem dX1_losesAlone_4 : decode cX1_losesAlone 4 = .ok (.aload_n 0, 1) := dk_42 (dk_at dksX1_losesAlone_0 4 rfl rfl)
theorem dX1_losesAlone_5 : decode cX1_losesAlone 5 = .ok (.iload_n 1, 1) := dk_27 (dk_at dksX1_losesAlone_0 5 rfl rfl)
theorem dX1_losesAlone_6 : decode cX1_losesAlone 6 = .ok (.iconst 1, 1) := dk_4 (dk_at dksX1_losesAlone_0 6 rfl rfl)
theorem dX1_losesAlone_7 : decode cX1_losesAlone 7 = .ok (.iadd, 1) := dk_96 (dk_at dksX1_losesAlone_0 7 rfl rfl)
theorem dX1_losesAlone_8 : decode cX1_losesAlone 8 = .ok (.invokespecial 193, 3) := dk_183 0 193 (dk_at dksX1_losesAlone_0 8 rfl rfl)
theorem dX1_losesAlone_11 : decode cX1_losesAlone 11 = .ok (.astore_n 2, 1) := dk_77 (dk_at dksX1_losesAlone_0 11 rfl rfl)
theorem dX1_losesAlone_12 : decode cX1_losesAlone 12 = .ok (.aload_n 0, 1) := dk_42 (dk_at dksX1_losesAlone_0 12 rfl rfl)
theorem dX1_losesAlone_13 : decode cX1_losesAlone 13 = .ok (.iload_n 1, 1) := dk_27 (dk_at dksX1_losesAlone_0 13 rfl rfl)
theorem dX1_losesAlone_14 : decode cX1_losesAlone 14 = .ok (.invokevirtual 45, 3) := dk_182 0 45 (dk_at dksX1_losesAlone_0 14 rfl rfl)
theorem dX1_losesAlone_17 : decode cX1_losesAlone 17 = .ok (.ifCond .eq 23, 3) := dk_153 0 23 (dk_at dksX1_losesAlone_0 17 rfl rfl)
theorem dX1_losesAlone_20 : decode cX1_losesAlone 20 = .ok (.aload_n 2, 1) := dk_44 (dk_at dksX1_losesAlone_0 20 rfl rfl)
theorem dX1_losesAlone_21 : decode cX1_losesAlone 21 = .ok (.invokevirtual 196, 3) := dk_182 0 196 (dk_at dksX1_losesAlone_0 21 rfl rfl)
theorem dX1_losesAlone_24 : decode cX1_losesAlone 24 = .ok (.iconst 1, 1) := dk_4 (dk_at dksX1_losesAlone_1 0 rfl rfl)
theorem dX1_losesAlone_25 : decode cX1_losesAlone 25 = .ok (.if_icmp .ne 19, 3) := dk_160 0 19 (dk_at dksX1_losesAlone_1 1 rfl rfl)
theorem dX1_losesAlone_28 : decode cX1_losesAlone 28 = .ok (.aload_n 2, 1) := dk_44 (dk_at dksX1_losesAlone_1 4 rfl rfl)
theorem dX1_losesAlone_29 : decode cX1_losesAlone 29 = .ok (.invokevirtual 199, 3) := dk_182 0 199 (dk_at dksX1_losesAlone_1 5 rfl rfl)
theorem dX1_losesAlone_32 : decode cX1_losesAlone 32 = .ok (.getfield 256, 3) := dk_180 1 0 (dk_at dksX1_losesAlone_1 8 rfl rfl)
theorem dX1_losesAlone_35 : decode cX1_losesAlone 35 = .ok (.lconst 0, 1) := dk_9 (dk_at dksX1_losesAlone_1 11 rfl rfl)
theorem dX1_losesAlone_36 : decode cX1_losesAlone 36 = .ok (.lcmp, 1) := dk_148 (dk_at dksX1_losesAlone_1 12 rfl rfl)
theorem dX1_losesAlone_37 : decode cX1_losesAlone 37 = .ok (.ifCond .ge 7, 3) := dk_156 0 7 (dk_at dksX1_losesAlone_1 13 rfl rfl)
theorem dX1_losesAlone_40 : decode cX1_losesAlone 40 = .ok (.iconst 1, 1) := dk_4 (dk_at dksX1_losesAlone_1 16 rfl rfl)
theorem dX1_losesAlone_41 : decode cX1_losesAlone 41 = .ok (.goto 4, 3) := dk_167 0 4 (dk_at dksX1_losesAlone_1 17 rfl rfl)
theorem dX1_losesAlone_44 : decode cX1_losesAlone 44 = .ok (.iconst 0, 1) := dk_3 (dk_at dksX1_losesAlone_1 20 rfl rfl)
theorem dX1_losesAlone_45 : decode cX1_losesAlone 45 = .ok (.ireturn, 1) := dk_172 (dk_at dksX1_losesAlone_1 21 rfl rfl)
abbrev cX1_lever : ByteArray := prog_1_method_14_code
def yX1_lever : MethodName := ⟨RX1, "lever", "(II)I"⟩
def dkwX1_lever_1 : List UInt8 := [28, 7, 112, 4, 100, 172]
abbrev dktX1_lever_1 : List UInt8 := dkwX1_lever_1 ++ []
def dkwX1_lever_0 : List UInt8 := [26, 61, 26, 184, 0, 56, 4, 100, 62, 29, 27, 164, 0, 13, 28, 7, 108, 61, 132, 3, 255, 167, 255, 244]
abbrev dktX1_lever_0 : List UInt8 := dkwX1_lever_0 ++ dktX1_lever_1
theorem dksX1_lever_0 : cX1_lever.data.toList.drop 0 = dktX1_lever_0 := by decide +kernel
theorem dksX1_lever_1 : cX1_lever.data.toList.drop 24 = dktX1_lever_1 := dk_seg dksX1_lever_0 24 rfl rfl
theorem dX1_lever_0 : decode cX1_lever 0 = .ok (.iload_n 0, 1) := dk_26 (dk_at dksX1_lever_0 0 rfl rfl)
theorem dX1_lever_1 : decode cX1_lever 1 = .ok (.istore_n 2, 1) := dk_61 (dk_at dksX1_lever_0 1 rfl rfl)
theorem dX1_lever_2 : decode cX1_lever 2 = .ok (.iload_n 0, 1) := dk_26 (dk_at dksX1_lever_0 2 rfl rfl)
theorem dX1_lever_3 : decode cX1_lever 3 = .ok (.invokestatic 56, 3) := dk_184 0 56 (dk_at dksX1_lever_0 3 rfl rfl)
theorem dX1_lever_6 : decode cX1_lever 6 = .ok (.iconst 1, 1) := dk_4 (dk_at dksX1_lever_0 6 rfl rfl)
theorem dX1_lever_7 : decode cX1_lever 7 = .ok (.isub, 1) := dk_100 (dk_at dksX1_lever_0 7 rfl rfl)
theorem dX1_lever_8 : decode cX1_lever 8 = .ok (.istore_n 3, 1) := dk_62 (dk_at dksX1_lever_0 8 rfl rfl)
theorem dX1_lever_9 : decode cX1_lever 9 = .ok (.iload_n 3, 1) := dk_29 (dk_at dksX1_lever_0 9 rfl rfl)
theorem dX1_lever_10 : decode cX1_lever 10 = .ok (.iload_n 1, 1) := dk_27 (dk_at dksX1_lever_0 10 rfl rfl)
theorem dX1_lever_11 : decode cX1_lever 11 = .ok (.if_icmp .le 13, 3) := dk_164 0 13 (dk_at dksX1_lever_0 11 rfl rfl)
theorem dX1_lever_14 : decode cX1_lever 14 = .ok (.iload_n 2, 1) := dk_28 (dk_at dksX1_lever_0 14 rfl rfl)
theorem dX1_lever_15 : decode cX1_lever 15 = .ok (.iconst 4, 1) := dk_7 (dk_at dksX1_lever_0 15 rfl rfl)
theorem dX1_lever_16 : decode cX1_lever 16 = .ok (.idiv, 1) := dk_108 (dk_at dksX1_lever_0 16 rfl rfl)
theorem dX1_lever_17 : decode cX1_lever 17 = .ok (.istore_n 2, 1) := dk_61 (dk_at dksX1_lever_0 17 rfl rfl)
theorem dX1_lever_18 : decode cX1_lever 18 = .ok (.iinc 3 (-1), 3) := dk_132 3 255 (dk_at dksX1_lever_0 18 rfl rfl)
theorem dX1_lever_21 : decode cX1_lever 21 = .ok (.goto (-12), 3) := dk_167 255 244 (dk_at dksX1_lever_0 21 rfl rfl)
theorem dX1_lever_24 : decode cX1_lever 24 = .ok (.iload_n 2, 1) := dk_28 (dk_at dksX1_lever_1 0 rfl rfl)
theorem dX1_lever_25 : decode cX1_lever 25 = .ok (.iconst 4, 1) := dk_7 (dk_at dksX1_lever_1 1 rfl rfl)
theorem dX1_lever_26 : decode cX1_lever 26 = .ok (.irem, 1) := dk_112 (dk_at dksX1_lever_1 2 rfl rfl)
theorem dX1_lever_27 : decode cX1_lever 27 = .ok (.iconst 1, 1) := dk_4 (dk_at dksX1_lever_1 3 rfl rfl)
theorem dX1_lever_28 : decode cX1_lever 28 = .ok (.isub, 1) := dk_100 (dk_at dksX1_lever_1 4 rfl rfl)
theorem dX1_lever_29 : decode cX1_lever 29 = .ok (.ireturn, 1) := dk_172 (dk_at dksX1_lever_1 5 rfl rfl)
abbrev cX1_draws : ByteArray := prog_1_method_10_code
def yX1_draws : MethodName := ⟨RX1, "draws", "(III)I"⟩
def dkwX1_draws_3 : List UInt8 := [158, 0, 8, 21, 5, 167, 0, 11, 16, 10, 21, 4, 100, 21, 5, 100, 172]
abbrev dktX1_draws_3 : List UInt8 := dkwX1_draws_3 ++ []
def dkwX1_draws_2 : List UInt8 := [182, 0, 52, 16, 100, 112, 167, 0, 4, 3, 54, 5, 29, 156, 0, 8, 21, 4, 167, 0, 20, 29]
abbrev dktX1_draws_2 : List UInt8 := dkwX1_draws_2 ++ dktX1_draws_3
def dkwX1_draws_1 : List UInt8 := [182, 0, 52, 16, 100, 108, 167, 0, 4, 3, 54, 4, 42, 27, 182, 0, 45, 153, 0, 15, 42, 27, 28]
abbrev dktX1_draws_1 : List UInt8 := dkwX1_draws_1 ++ dktX1_draws_2
def dkwX1_draws_0 : List UInt8 := [42, 27, 182, 0, 45, 153, 0, 26, 42, 180, 0, 49, 28, 122, 4, 126, 154, 0, 15, 42, 27, 28]
abbrev dktX1_draws_0 : List UInt8 := dkwX1_draws_0 ++ dktX1_draws_1
theorem dksX1_draws_0 : cX1_draws.data.toList.drop 0 = dktX1_draws_0 := by decide +kernel
theorem dksX1_draws_1 : cX1_draws.data.toList.drop 22 = dktX1_draws_1 := dk_seg dksX1_draws_0 22 rfl rfl
theorem dksX1_draws_2 : cX1_draws.data.toList.drop 45 = dktX1_draws_2 := dk_seg dksX1_draws_1 23 rfl rfl
theorem dksX1_draws_3 : cX1_draws.data.toList.drop 67 = dktX1_draws_3 := dk_seg dksX1_draws_2 22 rfl rfl
theorem dX1_draws_0 : decode cX1_draws 0 = .ok (.aload_n 0, 1) := dk_42 (dk_at dksX1_draws_0 0 rfl rfl)
theorem dX1_draws_1 : decode cX1_draws 1 = .ok (.iload_n 1, 1) := dk_27 (dk_at dksX1_draws_0 1 rfl rfl)
theorem dX1_draws_2 : decode cX1_draws 2 = .ok (.invokevirtual 45, 3) := dk_182 0 45 (dk_at dksX1_draws_0 2 rfl rfl)
theorem dX1_draws_5 : decode cX1_draws 5 = .ok (.ifCond .eq 26, 3) := dk_153 0 26 (dk_at dksX1_draws_0 5 rfl rfl)
theorem dX1_draws_8 : decode cX1_draws 8 = .ok (.aload_n 0, 1) := dk_42 (dk_at dksX1_draws_0 8 rfl rfl)
theorem dX1_draws_9 : decode cX1_draws 9 = .ok (.getfield 49, 3) := dk_180 0 49 (dk_at dksX1_draws_0 9 rfl rfl)
theorem dX1_draws_12 : decode cX1_draws 12 = .ok (.iload_n 2, 1) := dk_28 (dk_at dksX1_draws_0 12 rfl rfl)
theorem dX1_draws_13 : decode cX1_draws 13 = .ok (.ishr, 1) := dk_122 (dk_at dksX1_draws_0 13 rfl rfl)
theorem dX1_draws_14 : decode cX1_draws 14 = .ok (.iconst 1, 1) := dk_4 (dk_at dksX1_draws_0 14 rfl rfl)
theorem dX1_draws_15 : decode cX1_draws 15 = .ok (.iand, 1) := dk_126 (dk_at dksX1_draws_0 15 rfl rfl)
theorem dX1_draws_16 : decode cX1_draws 16 = .ok (.ifCond .ne 15, 3) := dk_154 0 15 (dk_at dksX1_draws_0 16 rfl rfl)
theorem dX1_draws_19 : decode cX1_draws 19 = .ok (.aload_n 0, 1) := dk_42 (dk_at dksX1_draws_0 19 rfl rfl)
theorem dX1_draws_20 : decode cX1_draws 20 = .ok (.iload_n 1, 1) := dk_27 (dk_at dksX1_draws_0 20 rfl rfl)
theorem dX1_draws_21 : decode cX1_draws 21 = .ok (.iload_n 2, 1) := dk_28 (dk_at dksX1_draws_0 21 rfl rfl)
theorem dX1_draws_22 : decode cX1_draws 22 = .ok (.invokevirtual 52, 3) := dk_182 0 52 (dk_at dksX1_draws_1 0 rfl rfl)
theorem dX1_draws_25 : decode cX1_draws 25 = .ok (.bipush 100, 2) := dk_16 100 (dk_at dksX1_draws_1 3 rfl rfl)
theorem dX1_draws_27 : decode cX1_draws 27 = .ok (.idiv, 1) := dk_108 (dk_at dksX1_draws_1 5 rfl rfl)
theorem dX1_draws_28 : decode cX1_draws 28 = .ok (.goto 4, 3) := dk_167 0 4 (dk_at dksX1_draws_1 6 rfl rfl)
theorem dX1_draws_31 : decode cX1_draws 31 = .ok (.iconst 0, 1) := dk_3 (dk_at dksX1_draws_1 9 rfl rfl)
theorem dX1_draws_32 : decode cX1_draws 32 = .ok (.istore 4, 2) := dk_54 4 (dk_at dksX1_draws_1 10 rfl rfl)
theorem dX1_draws_34 : decode cX1_draws 34 = .ok (.aload_n 0, 1) := dk_42 (dk_at dksX1_draws_1 12 rfl rfl)
theorem dX1_draws_35 : decode cX1_draws 35 = .ok (.iload_n 1, 1) := dk_27 (dk_at dksX1_draws_1 13 rfl rfl)
theorem dX1_draws_36 : decode cX1_draws 36 = .ok (.invokevirtual 45, 3) := dk_182 0 45 (dk_at dksX1_draws_1 14 rfl rfl)
theorem dX1_draws_39 : decode cX1_draws 39 = .ok (.ifCond .eq 15, 3) := dk_153 0 15 (dk_at dksX1_draws_1 17 rfl rfl)
theorem dX1_draws_42 : decode cX1_draws 42 = .ok (.aload_n 0, 1) := dk_42 (dk_at dksX1_draws_1 20 rfl rfl)
theorem dX1_draws_43 : decode cX1_draws 43 = .ok (.iload_n 1, 1) := dk_27 (dk_at dksX1_draws_1 21 rfl rfl)
theorem dX1_draws_44 : decode cX1_draws 44 = .ok (.iload_n 2, 1) := dk_28 (dk_at dksX1_draws_1 22 rfl rfl)
theorem dX1_draws_45 : decode cX1_draws 45 = .ok (.invokevirtual 52, 3) := dk_182 0 52 (dk_at dksX1_draws_2 0 rfl rfl)
theorem dX1_draws_48 : decode cX1_draws 48 = .ok (.bipush 100, 2) := dk_16 100 (dk_at dksX1_draws_2 3 rfl rfl)
theorem dX1_draws_50 : decode cX1_draws 50 = .ok (.irem, 1) := dk_112 (dk_at dksX1_draws_2 5 rfl rfl)
theorem dX1_draws_51 : decode cX1_draws 51 = .ok (.goto 4, 3) := dk_167 0 4 (dk_at dksX1_draws_2 6 rfl rfl)
theorem dX1_draws_54 : decode cX1_draws 54 = .ok (.iconst 0, 1) := dk_3 (dk_at dksX1_draws_2 9 rfl rfl)
theorem dX1_draws_55 : decode cX1_draws 55 = .ok (.istore 5, 2) := dk_54 5 (dk_at dksX1_draws_2 10 rfl rfl)
theorem dX1_draws_57 : decode cX1_draws 57 = .ok (.iload_n 3, 1) := dk_29 (dk_at dksX1_draws_2 12 rfl rfl)
theorem dX1_draws_58 : decode cX1_draws 58 = .ok (.ifCond .ge 8, 3) := dk_156 0 8 (dk_at dksX1_draws_2 13 rfl rfl)
theorem dX1_draws_61 : decode cX1_draws 61 = .ok (.iload 4, 2) := dk_21 4 (dk_at dksX1_draws_2 16 rfl rfl)
theorem dX1_draws_63 : decode cX1_draws 63 = .ok (.goto 20, 3) := dk_167 0 20 (dk_at dksX1_draws_2 18 rfl rfl)
theorem dX1_draws_66 : decode cX1_draws 66 = .ok (.iload_n 3, 1) := dk_29 (dk_at dksX1_draws_2 21 rfl rfl)
theorem dX1_draws_67 : decode cX1_draws 67 = .ok (.ifCond .le 8, 3) := dk_158 0 8 (dk_at dksX1_draws_3 0 rfl rfl)
theorem dX1_draws_70 : decode cX1_draws 70 = .ok (.iload 5, 2) := dk_21 5 (dk_at dksX1_draws_3 3 rfl rfl)
theorem dX1_draws_72 : decode cX1_draws 72 = .ok (.goto 11, 3) := dk_167 0 11 (dk_at dksX1_draws_3 5 rfl rfl)
theorem dX1_draws_75 : decode cX1_draws 75 = .ok (.bipush 10, 2) := dk_16 10 (dk_at dksX1_draws_3 8 rfl rfl)
theorem dX1_draws_77 : decode cX1_draws 77 = .ok (.iload 4, 2) := dk_21 4 (dk_at dksX1_draws_3 10 rfl rfl)
theorem dX1_draws_79 : decode cX1_draws 79 = .ok (.isub, 1) := dk_100 (dk_at dksX1_draws_3 12 rfl rfl)
theorem dX1_draws_80 : decode cX1_draws 80 = .ok (.iload 5, 2) := dk_21 5 (dk_at dksX1_draws_3 13 rfl rfl)
theorem dX1_draws_82 : decode cX1_draws 82 = .ok (.isub, 1) := dk_100 (dk_at dksX1_draws_3 15 rfl rfl)
theorem dX1_draws_83 : decode cX1_draws 83 = .ok (.ireturn, 1) := dk_172 (dk_at dksX1_draws_3 16 rfl rfl)
abbrev cX1_isGeared : ByteArray := prog_1_method_8_code
def yX1_isGeared : MethodName := ⟨RX1, "isGeared", "(I)Z"⟩
def dkwX1_isGeared_0 : List UInt8 := [42, 180, 0, 30, 27, 122, 4, 126, 4, 160, 0, 7, 4, 167, 0, 4, 3, 172]
abbrev dktX1_isGeared_0 : List UInt8 := dkwX1_isGeared_0 ++ []
theorem dksX1_isGeared_0 : cX1_isGeared.data.toList.drop 0 = dktX1_isGeared_0 := by decide +kernel
theorem dX1_isGeared_0 : decode cX1_isGeared 0 = .ok (.aload_n 0, 1) := dk_42 (dk_at dksX1_isGeared_0 0 rfl rfl)
theorem dX1_isGeared_1 : decode cX1_isGeared 1 = .ok (.getfield 30, 3) := dk_180 0 30 (dk_at dksX1_isGeared_0 1 rfl rfl)
theorem dX1_isGeared_4 : decode cX1_isGeared 4 = .ok (.iload_n 1, 1) := dk_27 (dk_at dksX1_isGeared_0 4 rfl rfl)
theorem dX1_isGeared_5 : decode cX1_isGeared 5 = .ok (.ishr, 1) := dk_122 (dk_at dksX1_isGeared_0 5 rfl rfl)
theorem dX1_isGeared_6 : decode cX1_isGeared 6 = .ok (.iconst 1, 1) := dk_4 (dk_at dksX1_isGeared_0 6 rfl rfl)
theorem dX1_isGeared_7 : decode cX1_isGeared 7 = .ok (.iand, 1) := dk_126 (dk_at dksX1_isGeared_0 7 rfl rfl)
theorem dX1_isGeared_8 : decode cX1_isGeared 8 = .ok (.iconst 1, 1) := dk_4 (dk_at dksX1_isGeared_0 8 rfl rfl)
theorem dX1_isGeared_9 : decode cX1_isGeared 9 = .ok (.if_icmp .ne 7, 3) := dk_160 0 7 (dk_at dksX1_isGeared_0 9 rfl rfl)
theorem dX1_isGeared_12 : decode cX1_isGeared 12 = .ok (.iconst 1, 1) := dk_4 (dk_at dksX1_isGeared_0 12 rfl rfl)
theorem dX1_isGeared_13 : decode cX1_isGeared 13 = .ok (.goto 4, 3) := dk_167 0 4 (dk_at dksX1_isGeared_0 13 rfl rfl)
theorem dX1_isGeared_16 : decode cX1_isGeared 16 = .ok (.iconst 0, 1) := dk_3 (dk_at dksX1_isGeared_0 16 rfl rfl)
theorem dX1_isGeared_17 : decode cX1_isGeared 17 = .ok (.ireturn, 1) := dk_172 (dk_at dksX1_isGeared_0 17 rfl rfl)
abbrev cX1_number : ByteArray := prog_1_method_9_code
def yX1_number : MethodName := ⟨RX1, "number", "(II)I"⟩
def dkwX1_number_0 : List UInt8 := [42, 180, 0, 26, 7, 27, 104, 28, 96, 46, 172]
abbrev dktX1_number_0 : List UInt8 := dkwX1_number_0 ++ []
theorem dksX1_number_0 : cX1_number.data.toList.drop 0 = dktX1_number_0 := by decide +kernel
theorem dX1_number_0 : decode cX1_number 0 = .ok (.aload_n 0, 1) := dk_42 (dk_at dksX1_number_0 0 rfl rfl)
theorem dX1_number_1 : decode cX1_number 1 = .ok (.getfield 26, 3) := dk_180 0 26 (dk_at dksX1_number_0 1 rfl rfl)
theorem dX1_number_4 : decode cX1_number 4 = .ok (.iconst 4, 1) := dk_7 (dk_at dksX1_number_0 4 rfl rfl)
theorem dX1_number_5 : decode cX1_number 5 = .ok (.iload_n 1, 1) := dk_27 (dk_at dksX1_number_0 5 rfl rfl)
theorem dX1_number_6 : decode cX1_number 6 = .ok (.imul, 1) := dk_104 (dk_at dksX1_number_0 6 rfl rfl)
theorem dX1_number_7 : decode cX1_number 7 = .ok (.iload_n 2, 1) := dk_28 (dk_at dksX1_number_0 7 rfl rfl)
theorem dX1_number_8 : decode cX1_number 8 = .ok (.iadd, 1) := dk_96 (dk_at dksX1_number_0 8 rfl rfl)
theorem dX1_number_9 : decode cX1_number 9 = .ok (.iaload, 1) := dk_46 (dk_at dksX1_number_0 9 rfl rfl)
theorem dX1_number_10 : decode cX1_number 10 = .ok (.ireturn, 1) := dk_172 (dk_at dksX1_number_0 10 rfl rfl)
abbrev cX1_moved : ByteArray := prog_1_method_12_code
def yX1_moved : MethodName := ⟨RX1, "moved", "(II)I"⟩
def dkwX1_moved_0 : List UInt8 := [27, 28, 96, 42, 180, 0, 22, 96, 42, 180, 0, 22, 112, 172]
abbrev dktX1_moved_0 : List UInt8 := dkwX1_moved_0 ++ []
theorem dksX1_moved_0 : cX1_moved.data.toList.drop 0 = dktX1_moved_0 := by decide +kernel
theorem dX1_moved_0 : decode cX1_moved 0 = .ok (.iload_n 1, 1) := dk_27 (dk_at dksX1_moved_0 0 rfl rfl)
theorem dX1_moved_1 : decode cX1_moved 1 = .ok (.iload_n 2, 1) := dk_28 (dk_at dksX1_moved_0 1 rfl rfl)
theorem dX1_moved_2 : decode cX1_moved 2 = .ok (.iadd, 1) := dk_96 (dk_at dksX1_moved_0 2 rfl rfl)
theorem dX1_moved_3 : decode cX1_moved 3 = .ok (.aload_n 0, 1) := dk_42 (dk_at dksX1_moved_0 3 rfl rfl)
theorem dX1_moved_4 : decode cX1_moved 4 = .ok (.getfield 22, 3) := dk_180 0 22 (dk_at dksX1_moved_0 4 rfl rfl)
theorem dX1_moved_7 : decode cX1_moved 7 = .ok (.iadd, 1) := dk_96 (dk_at dksX1_moved_0 7 rfl rfl)
theorem dX1_moved_8 : decode cX1_moved 8 = .ok (.aload_n 0, 1) := dk_42 (dk_at dksX1_moved_0 8 rfl rfl)
theorem dX1_moved_9 : decode cX1_moved 9 = .ok (.getfield 22, 3) := dk_180 0 22 (dk_at dksX1_moved_0 9 rfl rfl)
theorem dX1_moved_12 : decode cX1_moved 12 = .ok (.irem, 1) := dk_112 (dk_at dksX1_moved_0 12 rfl rfl)
theorem dX1_moved_13 : decode cX1_moved 13 = .ok (.ireturn, 1) := dk_172 (dk_at dksX1_moved_0 13 rfl rfl)
abbrev cX1_bestOf : ByteArray := prog_1_method_41_code
def yX1_bestOf : MethodName := ⟨RX1, "bestOf", "(I)LFlashRatchet$Candidate;"⟩
def dkwX1_bestOf_3 : List UInt8 := [182, 0, 199, 183, 0, 230, 182, 0, 233, 87, 132, 3, 1, 167, 255, 192, 44, 182, 0, 237, 192, 0, 228, 176]
abbrev dktX1_bestOf_3 : List UInt8 := dkwX1_bestOf_3 ++ []
def dkwX1_bestOf_2 : List UInt8 := [183, 0, 193, 58, 4, 25, 4, 182, 0, 196, 4, 160, 0, 21, 44, 187, 0, 228, 89, 29, 25, 4]
abbrev dktX1_bestOf_2 : List UInt8 := dkwX1_bestOf_2 ++ dktX1_bestOf_3
def dkwX1_bestOf_1 : List UInt8 := [163, 0, 62, 29, 184, 0, 100, 153, 0, 49, 42, 29, 182, 0, 225, 153, 0, 41, 187, 0, 191, 89, 42, 29]
abbrev dktX1_bestOf_1 : List UInt8 := dkwX1_bestOf_1 ++ dktX1_bestOf_2
def dkwX1_bestOf_0 : List UInt8 := [187, 0, 217, 89, 187, 0, 219, 89, 183, 0, 221, 183, 0, 222, 77, 4, 62, 29, 184, 0, 56, 27]
abbrev dktX1_bestOf_0 : List UInt8 := dkwX1_bestOf_0 ++ dktX1_bestOf_1
theorem dksX1_bestOf_0 : cX1_bestOf.data.toList.drop 0 = dktX1_bestOf_0 := by decide +kernel
theorem dksX1_bestOf_1 : cX1_bestOf.data.toList.drop 22 = dktX1_bestOf_1 := dk_seg dksX1_bestOf_0 22 rfl rfl
theorem dksX1_bestOf_2 : cX1_bestOf.data.toList.drop 46 = dktX1_bestOf_2 := dk_seg dksX1_bestOf_1 24 rfl rfl
theorem dksX1_bestOf_3 : cX1_bestOf.data.toList.drop 68 = dktX1_bestOf_3 := dk_seg dksX1_bestOf_2 22 rfl rfl
theorem dX1_bestOf_0 : decode cX1_bestOf 0 = .ok (.new 217, 3) := dk_187 0 217 (dk_at dksX1_bestOf_0 0 rfl rfl)
theorem dX1_bestOf_3 : decode cX1_bestOf 3 = .ok (.dup, 1) := dk_89 (dk_at dksX1_bestOf_0 3 rfl rfl)
theorem dX1_bestOf_4 : decode cX1_bestOf 4 = .ok (.new 219, 3) := dk_187 0 219 (dk_at dksX1_bestOf_0 4 rfl rfl)
theorem dX1_bestOf_7 : decode cX1_bestOf 7 = .ok (.dup, 1) := dk_89 (dk_at dksX1_bestOf_0 7 rfl rfl)
theorem dX1_bestOf_8 : decode cX1_bestOf 8 = .ok (.invokespecial 221, 3) := dk_183 0 221 (dk_at dksX1_bestOf_0 8 rfl rfl)
theorem dX1_bestOf_11 : decode cX1_bestOf 11 = .ok (.invokespecial 222, 3) := dk_183 0 222 (dk_at dksX1_bestOf_0 11 rfl rfl)
theorem dX1_bestOf_14 : decode cX1_bestOf 14 = .ok (.astore_n 2, 1) := dk_77 (dk_at dksX1_bestOf_0 14 rfl rfl)
theorem dX1_bestOf_15 : decode cX1_bestOf 15 = .ok (.iconst 1, 1) := dk_4 (dk_at dksX1_bestOf_0 15 rfl rfl)
theorem dX1_bestOf_16 : decode cX1_bestOf 16 = .ok (.istore_n 3, 1) := dk_62 (dk_at dksX1_bestOf_0 16 rfl rfl)
theorem dX1_bestOf_17 : decode cX1_bestOf 17 = .ok (.iload_n 3, 1) := dk_29 (dk_at dksX1_bestOf_0 17 rfl rfl)
theorem dX1_bestOf_18 : decode cX1_bestOf 18 = .ok (.invokestatic 56, 3) := dk_184 0 56 (dk_at dksX1_bestOf_0 18 rfl rfl)
theorem dX1_bestOf_21 : decode cX1_bestOf 21 = .ok (.iload_n 1, 1) := dk_27 (dk_at dksX1_bestOf_0 21 rfl rfl)
theorem dX1_bestOf_22 : decode cX1_bestOf 22 = .ok (.if_icmp .gt 62, 3) := dk_163 0 62 (dk_at dksX1_bestOf_1 0 rfl rfl)
theorem dX1_bestOf_25 : decode cX1_bestOf 25 = .ok (.iload_n 3, 1) := dk_29 (dk_at dksX1_bestOf_1 3 rfl rfl)
theorem dX1_bestOf_26 : decode cX1_bestOf 26 = .ok (.invokestatic 100, 3) := dk_184 0 100 (dk_at dksX1_bestOf_1 4 rfl rfl)
theorem dX1_bestOf_29 : decode cX1_bestOf 29 = .ok (.ifCond .eq 49, 3) := dk_153 0 49 (dk_at dksX1_bestOf_1 7 rfl rfl)
theorem dX1_bestOf_32 : decode cX1_bestOf 32 = .ok (.aload_n 0, 1) := dk_42 (dk_at dksX1_bestOf_1 10 rfl rfl)
theorem dX1_bestOf_33 : decode cX1_bestOf 33 = .ok (.iload_n 3, 1) := dk_29 (dk_at dksX1_bestOf_1 11 rfl rfl)
theorem dX1_bestOf_34 : decode cX1_bestOf 34 = .ok (.invokevirtual 225, 3) := dk_182 0 225 (dk_at dksX1_bestOf_1 12 rfl rfl)
theorem dX1_bestOf_37 : decode cX1_bestOf 37 = .ok (.ifCond .eq 41, 3) := dk_153 0 41 (dk_at dksX1_bestOf_1 15 rfl rfl)
theorem dX1_bestOf_40 : decode cX1_bestOf 40 = .ok (.new 191, 3) := dk_187 0 191 (dk_at dksX1_bestOf_1 18 rfl rfl)
theorem dX1_bestOf_43 : decode cX1_bestOf 43 = .ok (.dup, 1) := dk_89 (dk_at dksX1_bestOf_1 21 rfl rfl)
theorem dX1_bestOf_44 : decode cX1_bestOf 44 = .ok (.aload_n 0, 1) := dk_42 (dk_at dksX1_bestOf_1 22 rfl rfl)
theorem dX1_bestOf_45 : decode cX1_bestOf 45 = .ok (.iload_n 3, 1) := dk_29 (dk_at dksX1_bestOf_1 23 rfl rfl)
theorem dX1_bestOf_46 : decode cX1_bestOf 46 = .ok (.invokespecial 193, 3) := dk_183 0 193 (dk_at dksX1_bestOf_2 0 rfl rfl)
theorem dX1_bestOf_49 : decode cX1_bestOf 49 = .ok (.astore 4, 2) := dk_58 4 (dk_at dksX1_bestOf_2 3 rfl rfl)
theorem dX1_bestOf_51 : decode cX1_bestOf 51 = .ok (.aload 4, 2) := dk_25 4 (dk_at dksX1_bestOf_2 5 rfl rfl)
theorem dX1_bestOf_53 : decode cX1_bestOf 53 = .ok (.invokevirtual 196, 3) := dk_182 0 196 (dk_at dksX1_bestOf_2 7 rfl rfl)
theorem dX1_bestOf_56 : decode cX1_bestOf 56 = .ok (.iconst 1, 1) := dk_4 (dk_at dksX1_bestOf_2 10 rfl rfl)
theorem dX1_bestOf_57 : decode cX1_bestOf 57 = .ok (.if_icmp .ne 21, 3) := dk_160 0 21 (dk_at dksX1_bestOf_2 11 rfl rfl)
theorem dX1_bestOf_60 : decode cX1_bestOf 60 = .ok (.aload_n 2, 1) := dk_44 (dk_at dksX1_bestOf_2 14 rfl rfl)
theorem dX1_bestOf_61 : decode cX1_bestOf 61 = .ok (.new 228, 3) := dk_187 0 228 (dk_at dksX1_bestOf_2 15 rfl rfl)
theorem dX1_bestOf_64 : decode cX1_bestOf 64 = .ok (.dup, 1) := dk_89 (dk_at dksX1_bestOf_2 18 rfl rfl)
theorem dX1_bestOf_65 : decode cX1_bestOf 65 = .ok (.iload_n 3, 1) := dk_29 (dk_at dksX1_bestOf_2 19 rfl rfl)
theorem dX1_bestOf_66 : decode cX1_bestOf 66 = .ok (.aload 4, 2) := dk_25 4 (dk_at dksX1_bestOf_2 20 rfl rfl)
theorem dX1_bestOf_68 : decode cX1_bestOf 68 = .ok (.invokevirtual 199, 3) := dk_182 0 199 (dk_at dksX1_bestOf_3 0 rfl rfl)
theorem dX1_bestOf_71 : decode cX1_bestOf 71 = .ok (.invokespecial 230, 3) := dk_183 0 230 (dk_at dksX1_bestOf_3 3 rfl rfl)
theorem dX1_bestOf_74 : decode cX1_bestOf 74 = .ok (.invokevirtual 233, 3) := dk_182 0 233 (dk_at dksX1_bestOf_3 6 rfl rfl)
theorem dX1_bestOf_77 : decode cX1_bestOf 77 = .ok (.pop, 1) := dk_87 (dk_at dksX1_bestOf_3 9 rfl rfl)
theorem dX1_bestOf_78 : decode cX1_bestOf 78 = .ok (.iinc 3 1, 3) := dk_132 3 1 (dk_at dksX1_bestOf_3 10 rfl rfl)
theorem dX1_bestOf_81 : decode cX1_bestOf 81 = .ok (.goto (-64), 3) := dk_167 255 192 (dk_at dksX1_bestOf_3 13 rfl rfl)
theorem dX1_bestOf_84 : decode cX1_bestOf 84 = .ok (.aload_n 2, 1) := dk_44 (dk_at dksX1_bestOf_3 16 rfl rfl)
theorem dX1_bestOf_85 : decode cX1_bestOf 85 = .ok (.invokevirtual 237, 3) := dk_182 0 237 (dk_at dksX1_bestOf_3 17 rfl rfl)
theorem dX1_bestOf_88 : decode cX1_bestOf 88 = .ok (.checkcast 228, 3) := dk_192 0 228 (dk_at dksX1_bestOf_3 20 rfl rfl)
theorem dX1_bestOf_91 : decode cX1_bestOf 91 = .ok (.areturn, 1) := dk_176 (dk_at dksX1_bestOf_3 23 rfl rfl)
abbrev cX1_isProgram : ByteArray := prog_1_method_15_code
def yX1_isProgram : MethodName := ⟨RX1, "isProgram", "(I)Z"⟩
def dkwX1_isProgram_1 : List UInt8 := [27, 28, 7, 112, 158, 0, 7, 4, 167, 0, 4, 3, 126, 60, 28, 7, 108, 61, 167, 255, 234, 27, 172]
abbrev dktX1_isProgram_1 : List UInt8 := dkwX1_isProgram_1 ++ []
def dkwX1_isProgram_0 : List UInt8 := [26, 158, 0, 15, 26, 184, 0, 56, 7, 163, 0, 7, 4, 167, 0, 4, 3, 60, 26, 61, 28, 158, 0, 24]
abbrev dktX1_isProgram_0 : List UInt8 := dkwX1_isProgram_0 ++ dktX1_isProgram_1
theorem dksX1_isProgram_0 : cX1_isProgram.data.toList.drop 0 = dktX1_isProgram_0 := by decide +kernel
theorem dksX1_isProgram_1 : cX1_isProgram.data.toList.drop 24 = dktX1_isProgram_1 := dk_seg dksX1_isProgram_0 24 rfl rfl
theorem dX1_isProgram_0 : decode cX1_isProgram 0 = .ok (.iload_n 0, 1) := dk_26 (dk_at dksX1_isProgram_0 0 rfl rfl)
theorem dX1_isProgram_1 : decode cX1_isProgram 1 = .ok (.ifCond .le 15, 3) := dk_158 0 15 (dk_at dksX1_isProgram_0 1 rfl rfl)
theorem dX1_isProgram_4 : decode cX1_isProgram 4 = .ok (.iload_n 0, 1) := dk_26 (dk_at dksX1_isProgram_0 4 rfl rfl)
theorem dX1_isProgram_5 : decode cX1_isProgram 5 = .ok (.invokestatic 56, 3) := dk_184 0 56 (dk_at dksX1_isProgram_0 5 rfl rfl)
theorem dX1_isProgram_8 : decode cX1_isProgram 8 = .ok (.iconst 4, 1) := dk_7 (dk_at dksX1_isProgram_0 8 rfl rfl)
theorem dX1_isProgram_9 : decode cX1_isProgram 9 = .ok (.if_icmp .gt 7, 3) := dk_163 0 7 (dk_at dksX1_isProgram_0 9 rfl rfl)
theorem dX1_isProgram_12 : decode cX1_isProgram 12 = .ok (.iconst 1, 1) := dk_4 (dk_at dksX1_isProgram_0 12 rfl rfl)
theorem dX1_isProgram_13 : decode cX1_isProgram 13 = .ok (.goto 4, 3) := dk_167 0 4 (dk_at dksX1_isProgram_0 13 rfl rfl)
theorem dX1_isProgram_16 : decode cX1_isProgram 16 = .ok (.iconst 0, 1) := dk_3 (dk_at dksX1_isProgram_0 16 rfl rfl)
theorem dX1_isProgram_17 : decode cX1_isProgram 17 = .ok (.istore_n 1, 1) := dk_60 (dk_at dksX1_isProgram_0 17 rfl rfl)
theorem dX1_isProgram_18 : decode cX1_isProgram 18 = .ok (.iload_n 0, 1) := dk_26 (dk_at dksX1_isProgram_0 18 rfl rfl)
theorem dX1_isProgram_19 : decode cX1_isProgram 19 = .ok (.istore_n 2, 1) := dk_61 (dk_at dksX1_isProgram_0 19 rfl rfl)
theorem dX1_isProgram_20 : decode cX1_isProgram 20 = .ok (.iload_n 2, 1) := dk_28 (dk_at dksX1_isProgram_0 20 rfl rfl)
theorem dX1_isProgram_21 : decode cX1_isProgram 21 = .ok (.ifCond .le 24, 3) := dk_158 0 24 (dk_at dksX1_isProgram_0 21 rfl rfl)
theorem dX1_isProgram_24 : decode cX1_isProgram 24 = .ok (.iload_n 1, 1) := dk_27 (dk_at dksX1_isProgram_1 0 rfl rfl)
theorem dX1_isProgram_25 : decode cX1_isProgram 25 = .ok (.iload_n 2, 1) := dk_28 (dk_at dksX1_isProgram_1 1 rfl rfl)
theorem dX1_isProgram_26 : decode cX1_isProgram 26 = .ok (.iconst 4, 1) := dk_7 (dk_at dksX1_isProgram_1 2 rfl rfl)
theorem dX1_isProgram_27 : decode cX1_isProgram 27 = .ok (.irem, 1) := dk_112 (dk_at dksX1_isProgram_1 3 rfl rfl)
theorem dX1_isProgram_28 : decode cX1_isProgram 28 = .ok (.ifCond .le 7, 3) := dk_158 0 7 (dk_at dksX1_isProgram_1 4 rfl rfl)
theorem dX1_isProgram_31 : decode cX1_isProgram 31 = .ok (.iconst 1, 1) := dk_4 (dk_at dksX1_isProgram_1 7 rfl rfl)
theorem dX1_isProgram_32 : decode cX1_isProgram 32 = .ok (.goto 4, 3) := dk_167 0 4 (dk_at dksX1_isProgram_1 8 rfl rfl)
theorem dX1_isProgram_35 : decode cX1_isProgram 35 = .ok (.iconst 0, 1) := dk_3 (dk_at dksX1_isProgram_1 11 rfl rfl)
theorem dX1_isProgram_36 : decode cX1_isProgram 36 = .ok (.iand, 1) := dk_126 (dk_at dksX1_isProgram_1 12 rfl rfl)
theorem dX1_isProgram_37 : decode cX1_isProgram 37 = .ok (.istore_n 1, 1) := dk_60 (dk_at dksX1_isProgram_1 13 rfl rfl)
theorem dX1_isProgram_38 : decode cX1_isProgram 38 = .ok (.iload_n 2, 1) := dk_28 (dk_at dksX1_isProgram_1 14 rfl rfl)
theorem dX1_isProgram_39 : decode cX1_isProgram 39 = .ok (.iconst 4, 1) := dk_7 (dk_at dksX1_isProgram_1 15 rfl rfl)
theorem dX1_isProgram_40 : decode cX1_isProgram 40 = .ok (.idiv, 1) := dk_108 (dk_at dksX1_isProgram_1 16 rfl rfl)
theorem dX1_isProgram_41 : decode cX1_isProgram 41 = .ok (.istore_n 2, 1) := dk_61 (dk_at dksX1_isProgram_1 17 rfl rfl)
theorem dX1_isProgram_42 : decode cX1_isProgram 42 = .ok (.goto (-22), 3) := dk_167 255 234 (dk_at dksX1_isProgram_1 18 rfl rfl)
theorem dX1_isProgram_45 : decode cX1_isProgram 45 = .ok (.iload_n 1, 1) := dk_27 (dk_at dksX1_isProgram_1 21 rfl rfl)
theorem dX1_isProgram_46 : decode cX1_isProgram 46 = .ok (.ireturn, 1) := dk_172 (dk_at dksX1_isProgram_1 22 rfl rfl)
abbrev cX1_usesGeared : ByteArray := prog_1_method_16_code
def yX1_usesGeared : MethodName := ⟨RX1, "usesGeared", "(I)Z"⟩
def dkwX1_usesGeared_1 : List UInt8 := [132, 3, 1, 167, 255, 233, 28, 172]
abbrev dktX1_usesGeared_1 : List UInt8 := dkwX1_usesGeared_1 ++ []
def dkwX1_usesGeared_0 : List UInt8 := [4, 61, 3, 62, 29, 27, 184, 0, 56, 162, 0, 21, 28, 42, 27, 29, 184, 0, 60, 182, 0, 45, 126, 61]
abbrev dktX1_usesGeared_0 : List UInt8 := dkwX1_usesGeared_0 ++ dktX1_usesGeared_1
theorem dksX1_usesGeared_0 : cX1_usesGeared.data.toList.drop 0 = dktX1_usesGeared_0 := by decide +kernel
theorem dksX1_usesGeared_1 : cX1_usesGeared.data.toList.drop 24 = dktX1_usesGeared_1 := dk_seg dksX1_usesGeared_0 24 rfl rfl
theorem dX1_usesGeared_0 : decode cX1_usesGeared 0 = .ok (.iconst 1, 1) := dk_4 (dk_at dksX1_usesGeared_0 0 rfl rfl)
theorem dX1_usesGeared_1 : decode cX1_usesGeared 1 = .ok (.istore_n 2, 1) := dk_61 (dk_at dksX1_usesGeared_0 1 rfl rfl)
theorem dX1_usesGeared_2 : decode cX1_usesGeared 2 = .ok (.iconst 0, 1) := dk_3 (dk_at dksX1_usesGeared_0 2 rfl rfl)
theorem dX1_usesGeared_3 : decode cX1_usesGeared 3 = .ok (.istore_n 3, 1) := dk_62 (dk_at dksX1_usesGeared_0 3 rfl rfl)
theorem dX1_usesGeared_4 : decode cX1_usesGeared 4 = .ok (.iload_n 3, 1) := dk_29 (dk_at dksX1_usesGeared_0 4 rfl rfl)
theorem dX1_usesGeared_5 : decode cX1_usesGeared 5 = .ok (.iload_n 1, 1) := dk_27 (dk_at dksX1_usesGeared_0 5 rfl rfl)
theorem dX1_usesGeared_6 : decode cX1_usesGeared 6 = .ok (.invokestatic 56, 3) := dk_184 0 56 (dk_at dksX1_usesGeared_0 6 rfl rfl)
theorem dX1_usesGeared_9 : decode cX1_usesGeared 9 = .ok (.if_icmp .ge 21, 3) := dk_162 0 21 (dk_at dksX1_usesGeared_0 9 rfl rfl)
theorem dX1_usesGeared_12 : decode cX1_usesGeared 12 = .ok (.iload_n 2, 1) := dk_28 (dk_at dksX1_usesGeared_0 12 rfl rfl)
theorem dX1_usesGeared_13 : decode cX1_usesGeared 13 = .ok (.aload_n 0, 1) := dk_42 (dk_at dksX1_usesGeared_0 13 rfl rfl)
theorem dX1_usesGeared_14 : decode cX1_usesGeared 14 = .ok (.iload_n 1, 1) := dk_27 (dk_at dksX1_usesGeared_0 14 rfl rfl)
theorem dX1_usesGeared_15 : decode cX1_usesGeared 15 = .ok (.iload_n 3, 1) := dk_29 (dk_at dksX1_usesGeared_0 15 rfl rfl)
theorem dX1_usesGeared_16 : decode cX1_usesGeared 16 = .ok (.invokestatic 60, 3) := dk_184 0 60 (dk_at dksX1_usesGeared_0 16 rfl rfl)
theorem dX1_usesGeared_19 : decode cX1_usesGeared 19 = .ok (.invokevirtual 45, 3) := dk_182 0 45 (dk_at dksX1_usesGeared_0 19 rfl rfl)
theorem dX1_usesGeared_22 : decode cX1_usesGeared 22 = .ok (.iand, 1) := dk_126 (dk_at dksX1_usesGeared_0 22 rfl rfl)
theorem dX1_usesGeared_23 : decode cX1_usesGeared 23 = .ok (.istore_n 2, 1) := dk_61 (dk_at dksX1_usesGeared_0 23 rfl rfl)
theorem dX1_usesGeared_24 : decode cX1_usesGeared 24 = .ok (.iinc 3 1, 3) := dk_132 3 1 (dk_at dksX1_usesGeared_1 0 rfl rfl)
theorem dX1_usesGeared_27 : decode cX1_usesGeared 27 = .ok (.goto (-23), 3) := dk_167 255 233 (dk_at dksX1_usesGeared_1 3 rfl rfl)
theorem dX1_usesGeared_30 : decode cX1_usesGeared 30 = .ok (.iload_n 2, 1) := dk_28 (dk_at dksX1_usesGeared_1 6 rfl rfl)
theorem dX1_usesGeared_31 : decode cX1_usesGeared 31 = .ok (.ireturn, 1) := dk_172 (dk_at dksX1_usesGeared_1 7 rfl rfl)
abbrev cX1_meanGain : ByteArray := prog_1_method_50_code
def yX1_meanGain : MethodName := ⟨RX1, "meanGain", "()D"⟩
def dkwX1_meanGain_0 : List UInt8 := [42, 180, 0, 79, 154, 0, 7, 14, 167, 0, 14, 42, 180, 0, 76, 135, 42, 180, 0, 79, 135, 111, 175]
abbrev dktX1_meanGain_0 : List UInt8 := dkwX1_meanGain_0 ++ []
theorem dksX1_meanGain_0 : cX1_meanGain.data.toList.drop 0 = dktX1_meanGain_0 := by decide +kernel
theorem dX1_meanGain_0 : decode cX1_meanGain 0 = .ok (.aload_n 0, 1) := dk_42 (dk_at dksX1_meanGain_0 0 rfl rfl)
theorem dX1_meanGain_1 : decode cX1_meanGain 1 = .ok (.getfield 79, 3) := dk_180 0 79 (dk_at dksX1_meanGain_0 1 rfl rfl)
theorem dX1_meanGain_4 : decode cX1_meanGain 4 = .ok (.ifCond .ne 7, 3) := dk_154 0 7 (dk_at dksX1_meanGain_0 4 rfl rfl)
theorem dX1_meanGain_7 : decode cX1_meanGain 7 = .ok (.dconst 0, 1) := dk_14 (dk_at dksX1_meanGain_0 7 rfl rfl)
theorem dX1_meanGain_8 : decode cX1_meanGain 8 = .ok (.goto 14, 3) := dk_167 0 14 (dk_at dksX1_meanGain_0 8 rfl rfl)
theorem dX1_meanGain_11 : decode cX1_meanGain 11 = .ok (.aload_n 0, 1) := dk_42 (dk_at dksX1_meanGain_0 11 rfl rfl)
theorem dX1_meanGain_12 : decode cX1_meanGain 12 = .ok (.getfield 76, 3) := dk_180 0 76 (dk_at dksX1_meanGain_0 12 rfl rfl)
theorem dX1_meanGain_15 : decode cX1_meanGain 15 = .ok (.i2d, 1) := dk_135 (dk_at dksX1_meanGain_0 15 rfl rfl)
theorem dX1_meanGain_16 : decode cX1_meanGain 16 = .ok (.aload_n 0, 1) := dk_42 (dk_at dksX1_meanGain_0 16 rfl rfl)
theorem dX1_meanGain_17 : decode cX1_meanGain 17 = .ok (.getfield 79, 3) := dk_180 0 79 (dk_at dksX1_meanGain_0 17 rfl rfl)
theorem dX1_meanGain_20 : decode cX1_meanGain 20 = .ok (.i2d, 1) := dk_135 (dk_at dksX1_meanGain_0 20 rfl rfl)
theorem dX1_meanGain_21 : decode cX1_meanGain 21 = .ok (.ddiv, 1) := dk_111 (dk_at dksX1_meanGain_0 21 rfl rfl)
theorem dX1_meanGain_22 : decode cX1_meanGain 22 = .ok (.dreturn, 1) := dk_175 (dk_at dksX1_meanGain_0 22 rfl rfl)
abbrev cX1_digest : ByteArray := prog_1_method_54_code
def yX1_digest : MethodName := ⟨RX1, "digest", "()J"⟩
def dkwX1_digest_6 : List UInt8 := [132, 1, 1, 167, 255, 229, 42, 180, 1, 15, 173]
abbrev dktX1_digest_6 : List UInt8 := dkwX1_digest_6 ++ []
def dkwX1_digest_5 : List UInt8 := [180, 0, 41, 182, 0, 145, 162, 0, 22, 42, 42, 180, 0, 41, 27, 182, 1, 30, 133, 182, 1, 18]
abbrev dktX1_digest_5 : List UInt8 := dkwX1_digest_5 ++ dktX1_digest_6
def dkwX1_digest_4 : List UInt8 := [182, 1, 24, 42, 182, 1, 27, 42, 42, 180, 0, 41, 182, 0, 145, 133, 182, 1, 18, 3, 60, 27, 42]
abbrev dktX1_digest_4 : List UInt8 := dkwX1_digest_4 ++ dktX1_digest_5
def dkwX1_digest_3 : List UInt8 := [3, 60, 27, 6, 162, 0, 19, 42, 42, 27, 182, 0, 142, 133, 182, 1, 18, 132, 1, 1, 167, 255, 238, 42]
abbrev dktX1_digest_3 : List UInt8 := dkwX1_digest_3 ++ dktX1_digest_4
def dkwX1_digest_2 : List UInt8 := [42, 180, 0, 22, 108, 27, 42, 180, 0, 22, 112, 182, 0, 52, 133, 182, 1, 18, 132, 1, 1, 167, 255, 222]
abbrev dktX1_digest_2 : List UInt8 := dkwX1_digest_2 ++ dktX1_digest_3
def dkwX1_digest_1 : List UInt8 := [182, 1, 18, 132, 1, 1, 167, 255, 237, 3, 60, 27, 6, 42, 180, 0, 22, 104, 162, 0, 30, 42, 42, 27]
abbrev dktX1_digest_1 : List UInt8 := dkwX1_digest_1 ++ dktX1_digest_2
def dkwX1_digest_0 : List UInt8 := [42, 20, 1, 22, 181, 1, 15, 3, 60, 27, 16, 10, 162, 0, 19, 42, 42, 27, 182, 1, 10, 133]
abbrev dktX1_digest_0 : List UInt8 := dkwX1_digest_0 ++ dktX1_digest_1
theorem dksX1_digest_0 : cX1_digest.data.toList.drop 0 = dktX1_digest_0 := by decide +kernel
theorem dksX1_digest_1 : cX1_digest.data.toList.drop 22 = dktX1_digest_1 := dk_seg dksX1_digest_0 22 rfl rfl
theorem dksX1_digest_2 : cX1_digest.data.toList.drop 46 = dktX1_digest_2 := dk_seg dksX1_digest_1 24 rfl rfl
theorem dksX1_digest_3 : cX1_digest.data.toList.drop 70 = dktX1_digest_3 := dk_seg dksX1_digest_2 24 rfl rfl
theorem dksX1_digest_4 : cX1_digest.data.toList.drop 94 = dktX1_digest_4 := dk_seg dksX1_digest_3 24 rfl rfl
theorem dksX1_digest_5 : cX1_digest.data.toList.drop 117 = dktX1_digest_5 := dk_seg dksX1_digest_4 23 rfl rfl
theorem dksX1_digest_6 : cX1_digest.data.toList.drop 139 = dktX1_digest_6 := dk_seg dksX1_digest_5 22 rfl rfl
theorem dX1_digest_0 : decode cX1_digest 0 = .ok (.aload_n 0, 1) := dk_42 (dk_at dksX1_digest_0 0 rfl rfl)
theorem dX1_digest_1 : decode cX1_digest 1 = .ok (.ldc2_w 278, 3) := dk_20 1 22 (dk_at dksX1_digest_0 1 rfl rfl)
theorem dX1_digest_4 : decode cX1_digest 4 = .ok (.putfield 271, 3) := dk_181 1 15 (dk_at dksX1_digest_0 4 rfl rfl)
theorem dX1_digest_7 : decode cX1_digest 7 = .ok (.iconst 0, 1) := dk_3 (dk_at dksX1_digest_0 7 rfl rfl)
theorem dX1_digest_8 : decode cX1_digest 8 = .ok (.istore_n 1, 1) := dk_60 (dk_at dksX1_digest_0 8 rfl rfl)
theorem dX1_digest_9 : decode cX1_digest 9 = .ok (.iload_n 1, 1) := dk_27 (dk_at dksX1_digest_0 9 rfl rfl)
theorem dX1_digest_10 : decode cX1_digest 10 = .ok (.bipush 10, 2) := dk_16 10 (dk_at dksX1_digest_0 10 rfl rfl)
theorem dX1_digest_12 : decode cX1_digest 12 = .ok (.if_icmp .ge 19, 3) := dk_162 0 19 (dk_at dksX1_digest_0 12 rfl rfl)
theorem dX1_digest_15 : decode cX1_digest 15 = .ok (.aload_n 0, 1) := dk_42 (dk_at dksX1_digest_0 15 rfl rfl)
theorem dX1_digest_16 : decode cX1_digest 16 = .ok (.aload_n 0, 1) := dk_42 (dk_at dksX1_digest_0 16 rfl rfl)
theorem dX1_digest_17 : decode cX1_digest 17 = .ok (.iload_n 1, 1) := dk_27 (dk_at dksX1_digest_0 17 rfl rfl)
theorem dX1_digest_18 : decode cX1_digest 18 = .ok (.invokevirtual 266, 3) := dk_182 1 10 (dk_at dksX1_digest_0 18 rfl rfl)
theorem dX1_digest_21 : decode cX1_digest 21 = .ok (.i2l, 1) := dk_133 (dk_at dksX1_digest_0 21 rfl rfl)
theorem dX1_digest_22 : decode cX1_digest 22 = .ok (.invokevirtual 274, 3) := dk_182 1 18 (dk_at dksX1_digest_1 0 rfl rfl)
theorem dX1_digest_25 : decode cX1_digest 25 = .ok (.iinc 1 1, 3) := dk_132 1 1 (dk_at dksX1_digest_1 3 rfl rfl)
theorem dX1_digest_28 : decode cX1_digest 28 = .ok (.goto (-19), 3) := dk_167 255 237 (dk_at dksX1_digest_1 6 rfl rfl)
theorem dX1_digest_31 : decode cX1_digest 31 = .ok (.iconst 0, 1) := dk_3 (dk_at dksX1_digest_1 9 rfl rfl)
theorem dX1_digest_32 : decode cX1_digest 32 = .ok (.istore_n 1, 1) := dk_60 (dk_at dksX1_digest_1 10 rfl rfl)
theorem dX1_digest_33 : decode cX1_digest 33 = .ok (.iload_n 1, 1) := dk_27 (dk_at dksX1_digest_1 11 rfl rfl)
theorem dX1_digest_34 : decode cX1_digest 34 = .ok (.iconst 3, 1) := dk_6 (dk_at dksX1_digest_1 12 rfl rfl)
theorem dX1_digest_35 : decode cX1_digest 35 = .ok (.aload_n 0, 1) := dk_42 (dk_at dksX1_digest_1 13 rfl rfl)
theorem dX1_digest_36 : decode cX1_digest 36 = .ok (.getfield 22, 3) := dk_180 0 22 (dk_at dksX1_digest_1 14 rfl rfl)
theorem dX1_digest_39 : decode cX1_digest 39 = .ok (.imul, 1) := dk_104 (dk_at dksX1_digest_1 17 rfl rfl)
theorem dX1_digest_40 : decode cX1_digest 40 = .ok (.if_icmp .ge 30, 3) := dk_162 0 30 (dk_at dksX1_digest_1 18 rfl rfl)
theorem dX1_digest_43 : decode cX1_digest 43 = .ok (.aload_n 0, 1) := dk_42 (dk_at dksX1_digest_1 21 rfl rfl)
theorem dX1_digest_44 : decode cX1_digest 44 = .ok (.aload_n 0, 1) := dk_42 (dk_at dksX1_digest_1 22 rfl rfl)
theorem dX1_digest_45 : decode cX1_digest 45 = .ok (.iload_n 1, 1) := dk_27 (dk_at dksX1_digest_1 23 rfl rfl)
theorem dX1_digest_46 : decode cX1_digest 46 = .ok (.aload_n 0, 1) := dk_42 (dk_at dksX1_digest_2 0 rfl rfl)
theorem dX1_digest_47 : decode cX1_digest 47 = .ok (.getfield 22, 3) := dk_180 0 22 (dk_at dksX1_digest_2 1 rfl rfl)
theorem dX1_digest_50 : decode cX1_digest 50 = .ok (.idiv, 1) := dk_108 (dk_at dksX1_digest_2 4 rfl rfl)
theorem dX1_digest_51 : decode cX1_digest 51 = .ok (.iload_n 1, 1) := dk_27 (dk_at dksX1_digest_2 5 rfl rfl)
theorem dX1_digest_52 : decode cX1_digest 52 = .ok (.aload_n 0, 1) := dk_42 (dk_at dksX1_digest_2 6 rfl rfl)
theorem dX1_digest_53 : decode cX1_digest 53 = .ok (.getfield 22, 3) := dk_180 0 22 (dk_at dksX1_digest_2 7 rfl rfl)
theorem dX1_digest_56 : decode cX1_digest 56 = .ok (.irem, 1) := dk_112 (dk_at dksX1_digest_2 10 rfl rfl)
theorem dX1_digest_57 : decode cX1_digest 57 = .ok (.invokevirtual 52, 3) := dk_182 0 52 (dk_at dksX1_digest_2 11 rfl rfl)
theorem dX1_digest_60 : decode cX1_digest 60 = .ok (.i2l, 1) := dk_133 (dk_at dksX1_digest_2 14 rfl rfl)
theorem dX1_digest_61 : decode cX1_digest 61 = .ok (.invokevirtual 274, 3) := dk_182 1 18 (dk_at dksX1_digest_2 15 rfl rfl)
theorem dX1_digest_64 : decode cX1_digest 64 = .ok (.iinc 1 1, 3) := dk_132 1 1 (dk_at dksX1_digest_2 18 rfl rfl)
theorem dX1_digest_67 : decode cX1_digest 67 = .ok (.goto (-34), 3) := dk_167 255 222 (dk_at dksX1_digest_2 21 rfl rfl)
theorem dX1_digest_70 : decode cX1_digest 70 = .ok (.iconst 0, 1) := dk_3 (dk_at dksX1_digest_3 0 rfl rfl)
theorem dX1_digest_71 : decode cX1_digest 71 = .ok (.istore_n 1, 1) := dk_60 (dk_at dksX1_digest_3 1 rfl rfl)
theorem dX1_digest_72 : decode cX1_digest 72 = .ok (.iload_n 1, 1) := dk_27 (dk_at dksX1_digest_3 2 rfl rfl)
theorem dX1_digest_73 : decode cX1_digest 73 = .ok (.iconst 3, 1) := dk_6 (dk_at dksX1_digest_3 3 rfl rfl)
theorem dX1_digest_74 : decode cX1_digest 74 = .ok (.if_icmp .ge 19, 3) := dk_162 0 19 (dk_at dksX1_digest_3 4 rfl rfl)
theorem dX1_digest_77 : decode cX1_digest 77 = .ok (.aload_n 0, 1) := dk_42 (dk_at dksX1_digest_3 7 rfl rfl)
theorem dX1_digest_78 : decode cX1_digest 78 = .ok (.aload_n 0, 1) := dk_42 (dk_at dksX1_digest_3 8 rfl rfl)
theorem dX1_digest_79 : decode cX1_digest 79 = .ok (.iload_n 1, 1) := dk_27 (dk_at dksX1_digest_3 9 rfl rfl)
theorem dX1_digest_80 : decode cX1_digest 80 = .ok (.invokevirtual 142, 3) := dk_182 0 142 (dk_at dksX1_digest_3 10 rfl rfl)
theorem dX1_digest_83 : decode cX1_digest 83 = .ok (.i2l, 1) := dk_133 (dk_at dksX1_digest_3 13 rfl rfl)
theorem dX1_digest_84 : decode cX1_digest 84 = .ok (.invokevirtual 274, 3) := dk_182 1 18 (dk_at dksX1_digest_3 14 rfl rfl)
theorem dX1_digest_87 : decode cX1_digest 87 = .ok (.iinc 1 1, 3) := dk_132 1 1 (dk_at dksX1_digest_3 17 rfl rfl)
theorem dX1_digest_90 : decode cX1_digest 90 = .ok (.goto (-18), 3) := dk_167 255 238 (dk_at dksX1_digest_3 20 rfl rfl)
theorem dX1_digest_93 : decode cX1_digest 93 = .ok (.aload_n 0, 1) := dk_42 (dk_at dksX1_digest_3 23 rfl rfl)
theorem dX1_digest_94 : decode cX1_digest 94 = .ok (.invokevirtual 280, 3) := dk_182 1 24 (dk_at dksX1_digest_4 0 rfl rfl)
theorem dX1_digest_97 : decode cX1_digest 97 = .ok (.aload_n 0, 1) := dk_42 (dk_at dksX1_digest_4 3 rfl rfl)
theorem dX1_digest_98 : decode cX1_digest 98 = .ok (.invokevirtual 283, 3) := dk_182 1 27 (dk_at dksX1_digest_4 4 rfl rfl)
theorem dX1_digest_101 : decode cX1_digest 101 = .ok (.aload_n 0, 1) := dk_42 (dk_at dksX1_digest_4 7 rfl rfl)
theorem dX1_digest_102 : decode cX1_digest 102 = .ok (.aload_n 0, 1) := dk_42 (dk_at dksX1_digest_4 8 rfl rfl)
theorem dX1_digest_103 : decode cX1_digest 103 = .ok (.getfield 41, 3) := dk_180 0 41 (dk_at dksX1_digest_4 9 rfl rfl)
theorem dX1_digest_106 : decode cX1_digest 106 = .ok (.invokevirtual 145, 3) := dk_182 0 145 (dk_at dksX1_digest_4 12 rfl rfl)
theorem dX1_digest_109 : decode cX1_digest 109 = .ok (.i2l, 1) := dk_133 (dk_at dksX1_digest_4 15 rfl rfl)
theorem dX1_digest_110 : decode cX1_digest 110 = .ok (.invokevirtual 274, 3) := dk_182 1 18 (dk_at dksX1_digest_4 16 rfl rfl)
theorem dX1_digest_113 : decode cX1_digest 113 = .ok (.iconst 0, 1) := dk_3 (dk_at dksX1_digest_4 19 rfl rfl)
theorem dX1_digest_114 : decode cX1_digest 114 = .ok (.istore_n 1, 1) := dk_60 (dk_at dksX1_digest_4 20 rfl rfl)
theorem dX1_digest_115 : decode cX1_digest 115 = .ok (.iload_n 1, 1) := dk_27 (dk_at dksX1_digest_4 21 rfl rfl)
theorem dX1_digest_116 : decode cX1_digest 116 = .ok (.aload_n 0, 1) := dk_42 (dk_at dksX1_digest_4 22 rfl rfl)
theorem dX1_digest_117 : decode cX1_digest 117 = .ok (.getfield 41, 3) := dk_180 0 41 (dk_at dksX1_digest_5 0 rfl rfl)
theorem dX1_digest_120 : decode cX1_digest 120 = .ok (.invokevirtual 145, 3) := dk_182 0 145 (dk_at dksX1_digest_5 3 rfl rfl)
theorem dX1_digest_123 : decode cX1_digest 123 = .ok (.if_icmp .ge 22, 3) := dk_162 0 22 (dk_at dksX1_digest_5 6 rfl rfl)
theorem dX1_digest_126 : decode cX1_digest 126 = .ok (.aload_n 0, 1) := dk_42 (dk_at dksX1_digest_5 9 rfl rfl)
theorem dX1_digest_127 : decode cX1_digest 127 = .ok (.aload_n 0, 1) := dk_42 (dk_at dksX1_digest_5 10 rfl rfl)
theorem dX1_digest_128 : decode cX1_digest 128 = .ok (.getfield 41, 3) := dk_180 0 41 (dk_at dksX1_digest_5 11 rfl rfl)
theorem dX1_digest_131 : decode cX1_digest 131 = .ok (.iload_n 1, 1) := dk_27 (dk_at dksX1_digest_5 14 rfl rfl)
theorem dX1_digest_132 : decode cX1_digest 132 = .ok (.invokevirtual 286, 3) := dk_182 1 30 (dk_at dksX1_digest_5 15 rfl rfl)
theorem dX1_digest_135 : decode cX1_digest 135 = .ok (.i2l, 1) := dk_133 (dk_at dksX1_digest_5 18 rfl rfl)
theorem dX1_digest_136 : decode cX1_digest 136 = .ok (.invokevirtual 274, 3) := dk_182 1 18 (dk_at dksX1_digest_5 19 rfl rfl)
theorem dX1_digest_139 : decode cX1_digest 139 = .ok (.iinc 1 1, 3) := dk_132 1 1 (dk_at dksX1_digest_6 0 rfl rfl)
theorem dX1_digest_142 : decode cX1_digest 142 = .ok (.goto (-27), 3) := dk_167 255 229 (dk_at dksX1_digest_6 3 rfl rfl)
theorem dX1_digest_145 : decode cX1_digest 145 = .ok (.aload_n 0, 1) := dk_42 (dk_at dksX1_digest_6 6 rfl rfl)
theorem dX1_digest_146 : decode cX1_digest 146 = .ok (.getfield 271, 3) := dk_180 1 15 (dk_at dksX1_digest_6 7 rfl rfl)
theorem dX1_digest_149 : decode cX1_digest 149 = .ok (.lreturn, 1) := dk_173 (dk_at dksX1_digest_6 10 rfl rfl)
abbrev cX1_counted : ByteArray := prog_1_method_47_code
def yX1_counted : MethodName := ⟨RX1, "counted", "(I)I"⟩
def dkwX1_counted_4 : List UInt8 := [180, 0, 33, 184, 0, 56, 172]
abbrev dktX1_counted_4 : List UInt8 := dkwX1_counted_4 ++ []
def dkwX1_counted_3 : List UInt8 := [172, 42, 180, 0, 76, 172, 42, 180, 0, 79, 172, 42, 180, 0, 30, 172, 42, 180, 0, 49, 172, 42]
abbrev dktX1_counted_3 : List UInt8 := dkwX1_counted_3 ++ dktX1_counted_4
def dkwX1_counted_2 : List UInt8 := [42, 180, 0, 22, 172, 42, 180, 0, 70, 172, 42, 180, 0, 33, 172, 42, 180, 0, 67, 172, 42, 180, 0, 73]
abbrev dktX1_counted_2 : List UInt8 := dkwX1_counted_2 ++ dktX1_counted_3
def dkwX1_counted_1 : List UInt8 := [170, 0, 0, 0, 0, 0, 96, 0, 0, 0, 0, 0, 0, 0, 8, 0, 0, 0, 51, 0, 0, 0, 56, 0, 0, 0, 61, 0, 0, 0, 66, 0, 0, 0, 71, 0, 0, 0, 76, 0, 0, 0, 81, 0, 0, 0, 86, 0, 0, 0, 91]
abbrev dktX1_counted_1 : List UInt8 := dkwX1_counted_1 ++ dktX1_counted_2
def dkwX1_counted_0 : List UInt8 := [27]
abbrev dktX1_counted_0 : List UInt8 := dkwX1_counted_0 ++ dktX1_counted_1
theorem dksX1_counted_0 : cX1_counted.data.toList.drop 0 = dktX1_counted_0 := by decide +kernel
theorem dksX1_counted_1 : cX1_counted.data.toList.drop 1 = dktX1_counted_1 := dk_seg dksX1_counted_0 1 rfl rfl
theorem dksX1_counted_2 : cX1_counted.data.toList.drop 52 = dktX1_counted_2 := dk_seg dksX1_counted_1 51 rfl rfl
theorem dksX1_counted_3 : cX1_counted.data.toList.drop 76 = dktX1_counted_3 := dk_seg dksX1_counted_2 24 rfl rfl
theorem dksX1_counted_4 : cX1_counted.data.toList.drop 98 = dktX1_counted_4 := dk_seg dksX1_counted_3 22 rfl rfl
theorem dX1_counted_0 : decode cX1_counted 0 = .ok (.iload_n 1, 1) := dk_27 (dk_at dksX1_counted_0 0 rfl rfl)
theorem dX1_counted_1 : decode cX1_counted 1 = .ok (.tableswitch 96 0 8 #[51, 56, 61, 66, 71, 76, 81, 86, 91], 51) := by decide +kernel
theorem dX1_counted_52 : decode cX1_counted 52 = .ok (.aload_n 0, 1) := dk_42 (dk_at dksX1_counted_2 0 rfl rfl)
theorem dX1_counted_53 : decode cX1_counted 53 = .ok (.getfield 22, 3) := dk_180 0 22 (dk_at dksX1_counted_2 1 rfl rfl)
theorem dX1_counted_56 : decode cX1_counted 56 = .ok (.ireturn, 1) := dk_172 (dk_at dksX1_counted_2 4 rfl rfl)
theorem dX1_counted_57 : decode cX1_counted 57 = .ok (.aload_n 0, 1) := dk_42 (dk_at dksX1_counted_2 5 rfl rfl)
theorem dX1_counted_58 : decode cX1_counted 58 = .ok (.getfield 70, 3) := dk_180 0 70 (dk_at dksX1_counted_2 6 rfl rfl)
theorem dX1_counted_61 : decode cX1_counted 61 = .ok (.ireturn, 1) := dk_172 (dk_at dksX1_counted_2 9 rfl rfl)
theorem dX1_counted_62 : decode cX1_counted 62 = .ok (.aload_n 0, 1) := dk_42 (dk_at dksX1_counted_2 10 rfl rfl)
theorem dX1_counted_63 : decode cX1_counted 63 = .ok (.getfield 33, 3) := dk_180 0 33 (dk_at dksX1_counted_2 11 rfl rfl)
theorem dX1_counted_66 : decode cX1_counted 66 = .ok (.ireturn, 1) := dk_172 (dk_at dksX1_counted_2 14 rfl rfl)
theorem dX1_counted_67 : decode cX1_counted 67 = .ok (.aload_n 0, 1) := dk_42 (dk_at dksX1_counted_2 15 rfl rfl)
theorem dX1_counted_68 : decode cX1_counted 68 = .ok (.getfield 67, 3) := dk_180 0 67 (dk_at dksX1_counted_2 16 rfl rfl)
theorem dX1_counted_71 : decode cX1_counted 71 = .ok (.ireturn, 1) := dk_172 (dk_at dksX1_counted_2 19 rfl rfl)
theorem dX1_counted_72 : decode cX1_counted 72 = .ok (.aload_n 0, 1) := dk_42 (dk_at dksX1_counted_2 20 rfl rfl)
theorem dX1_counted_73 : decode cX1_counted 73 = .ok (.getfield 73, 3) := dk_180 0 73 (dk_at dksX1_counted_2 21 rfl rfl)
theorem dX1_counted_76 : decode cX1_counted 76 = .ok (.ireturn, 1) := dk_172 (dk_at dksX1_counted_3 0 rfl rfl)
theorem dX1_counted_77 : decode cX1_counted 77 = .ok (.aload_n 0, 1) := dk_42 (dk_at dksX1_counted_3 1 rfl rfl)
theorem dX1_counted_78 : decode cX1_counted 78 = .ok (.getfield 76, 3) := dk_180 0 76 (dk_at dksX1_counted_3 2 rfl rfl)
theorem dX1_counted_81 : decode cX1_counted 81 = .ok (.ireturn, 1) := dk_172 (dk_at dksX1_counted_3 5 rfl rfl)
theorem dX1_counted_82 : decode cX1_counted 82 = .ok (.aload_n 0, 1) := dk_42 (dk_at dksX1_counted_3 6 rfl rfl)
theorem dX1_counted_83 : decode cX1_counted 83 = .ok (.getfield 79, 3) := dk_180 0 79 (dk_at dksX1_counted_3 7 rfl rfl)
theorem dX1_counted_86 : decode cX1_counted 86 = .ok (.ireturn, 1) := dk_172 (dk_at dksX1_counted_3 10 rfl rfl)
theorem dX1_counted_87 : decode cX1_counted 87 = .ok (.aload_n 0, 1) := dk_42 (dk_at dksX1_counted_3 11 rfl rfl)
theorem dX1_counted_88 : decode cX1_counted 88 = .ok (.getfield 30, 3) := dk_180 0 30 (dk_at dksX1_counted_3 12 rfl rfl)
theorem dX1_counted_91 : decode cX1_counted 91 = .ok (.ireturn, 1) := dk_172 (dk_at dksX1_counted_3 15 rfl rfl)
theorem dX1_counted_92 : decode cX1_counted 92 = .ok (.aload_n 0, 1) := dk_42 (dk_at dksX1_counted_3 16 rfl rfl)
theorem dX1_counted_93 : decode cX1_counted 93 = .ok (.getfield 49, 3) := dk_180 0 49 (dk_at dksX1_counted_3 17 rfl rfl)
theorem dX1_counted_96 : decode cX1_counted 96 = .ok (.ireturn, 1) := dk_172 (dk_at dksX1_counted_3 20 rfl rfl)
theorem dX1_counted_97 : decode cX1_counted 97 = .ok (.aload_n 0, 1) := dk_42 (dk_at dksX1_counted_3 21 rfl rfl)
theorem dX1_counted_98 : decode cX1_counted 98 = .ok (.getfield 33, 3) := dk_180 0 33 (dk_at dksX1_counted_4 0 rfl rfl)
theorem dX1_counted_101 : decode cX1_counted 101 = .ok (.invokestatic 56, 3) := dk_184 0 56 (dk_at dksX1_counted_4 3 rfl rfl)
theorem dX1_counted_104 : decode cX1_counted 104 = .ok (.ireturn, 1) := dk_172 (dk_at dksX1_counted_4 6 rfl rfl)
abbrev cX1_mix : ByteArray := prog_1_method_51_code
def yX1_mix : MethodName := ⟨RX1, "mix", "(J)V"⟩
def dkwX1_mix_0 : List UInt8 := [42, 20, 1, 13, 42, 180, 1, 15, 105, 31, 97, 181, 1, 15, 177]
abbrev dktX1_mix_0 : List UInt8 := dkwX1_mix_0 ++ []
theorem dksX1_mix_0 : cX1_mix.data.toList.drop 0 = dktX1_mix_0 := by decide +kernel
theorem dX1_mix_0 : decode cX1_mix 0 = .ok (.aload_n 0, 1) := dk_42 (dk_at dksX1_mix_0 0 rfl rfl)
theorem dX1_mix_1 : decode cX1_mix 1 = .ok (.ldc2_w 269, 3) := dk_20 1 13 (dk_at dksX1_mix_0 1 rfl rfl)
theorem dX1_mix_4 : decode cX1_mix 4 = .ok (.aload_n 0, 1) := dk_42 (dk_at dksX1_mix_0 4 rfl rfl)
theorem dX1_mix_5 : decode cX1_mix 5 = .ok (.getfield 271, 3) := dk_180 1 15 (dk_at dksX1_mix_0 5 rfl rfl)
theorem dX1_mix_8 : decode cX1_mix 8 = .ok (.lmul, 1) := dk_105 (dk_at dksX1_mix_0 8 rfl rfl)
theorem dX1_mix_9 : decode cX1_mix 9 = .ok (.lload_n 1, 1) := dk_31 (dk_at dksX1_mix_0 9 rfl rfl)
theorem dX1_mix_10 : decode cX1_mix 10 = .ok (.ladd, 1) := dk_97 (dk_at dksX1_mix_0 10 rfl rfl)
theorem dX1_mix_11 : decode cX1_mix 11 = .ok (.putfield 271, 3) := dk_181 1 15 (dk_at dksX1_mix_0 11 rfl rfl)
theorem dX1_mix_14 : decode cX1_mix 14 = .ok (.return_, 1) := dk_177 (dk_at dksX1_mix_0 14 rfl rfl)
abbrev cX1_told : ByteArray := prog_1_method_26_code
def yX1_told : MethodName := ⟨RX1, "told", "(I)I"⟩
def dkwX1_told_3 : List UInt8 := [21, 5, 167, 0, 19, 27, 4, 160, 0, 7, 28, 167, 0, 10, 45, 180, 0, 124, 21, 6, 100, 172]
abbrev dktX1_told_3 : List UInt8 := dkwX1_told_3 ++ []
def dkwX1_told_2 : List UInt8 := [182, 0, 131, 132, 5, 1, 167, 255, 235, 45, 180, 0, 124, 54, 6, 45, 28, 182, 0, 112, 27, 154, 0, 8]
abbrev dktX1_told_2 : List UInt8 := dkwX1_told_2 ++ dktX1_told_3
def dkwX1_told_1 : List UInt8 := [25, 4, 28, 182, 0, 112, 3, 54, 5, 45, 25, 4, 182, 0, 134, 154, 0, 18, 45, 182, 0, 131, 25, 4]
abbrev dktX1_told_1 : List UInt8 := dkwX1_told_1 ++ dktX1_told_2
def dkwX1_told_0 : List UInt8 := [42, 182, 0, 138, 61, 187, 0, 107, 89, 42, 183, 0, 109, 78, 187, 0, 107, 89, 42, 183, 0, 109, 58, 4]
abbrev dktX1_told_0 : List UInt8 := dkwX1_told_0 ++ dktX1_told_1
theorem dksX1_told_0 : cX1_told.data.toList.drop 0 = dktX1_told_0 := by decide +kernel
theorem dksX1_told_1 : cX1_told.data.toList.drop 24 = dktX1_told_1 := dk_seg dksX1_told_0 24 rfl rfl
theorem dksX1_told_2 : cX1_told.data.toList.drop 48 = dktX1_told_2 := dk_seg dksX1_told_1 24 rfl rfl
theorem dksX1_told_3 : cX1_told.data.toList.drop 72 = dktX1_told_3 := dk_seg dksX1_told_2 24 rfl rfl
theorem dX1_told_0 : decode cX1_told 0 = .ok (.aload_n 0, 1) := dk_42 (dk_at dksX1_told_0 0 rfl rfl)
theorem dX1_told_1 : decode cX1_told 1 = .ok (.invokevirtual 138, 3) := dk_182 0 138 (dk_at dksX1_told_0 1 rfl rfl)
theorem dX1_told_4 : decode cX1_told 4 = .ok (.istore_n 2, 1) := dk_61 (dk_at dksX1_told_0 4 rfl rfl)
theorem dX1_told_5 : decode cX1_told 5 = .ok (.new 107, 3) := dk_187 0 107 (dk_at dksX1_told_0 5 rfl rfl)
theorem dX1_told_8 : decode cX1_told 8 = .ok (.dup, 1) := dk_89 (dk_at dksX1_told_0 8 rfl rfl)
theorem dX1_told_9 : decode cX1_told 9 = .ok (.aload_n 0, 1) := dk_42 (dk_at dksX1_told_0 9 rfl rfl)
theorem dX1_told_10 : decode cX1_told 10 = .ok (.invokespecial 109, 3) := dk_183 0 109 (dk_at dksX1_told_0 10 rfl rfl)
theorem dX1_told_13 : decode cX1_told 13 = .ok (.astore_n 3, 1) := dk_78 (dk_at dksX1_told_0 13 rfl rfl)
theorem dX1_told_14 : decode cX1_told 14 = .ok (.new 107, 3) := dk_187 0 107 (dk_at dksX1_told_0 14 rfl rfl)
theorem dX1_told_17 : decode cX1_told 17 = .ok (.dup, 1) := dk_89 (dk_at dksX1_told_0 17 rfl rfl)
theorem dX1_told_18 : decode cX1_told 18 = .ok (.aload_n 0, 1) := dk_42 (dk_at dksX1_told_0 18 rfl rfl)
theorem dX1_told_19 : decode cX1_told 19 = .ok (.invokespecial 109, 3) := dk_183 0 109 (dk_at dksX1_told_0 19 rfl rfl)
theorem dX1_told_22 : decode cX1_told 22 = .ok (.astore 4, 2) := dk_58 4 (dk_at dksX1_told_0 22 rfl rfl)
theorem dX1_told_24 : decode cX1_told 24 = .ok (.aload 4, 2) := dk_25 4 (dk_at dksX1_told_1 0 rfl rfl)
theorem dX1_told_26 : decode cX1_told 26 = .ok (.iload_n 2, 1) := dk_28 (dk_at dksX1_told_1 2 rfl rfl)
theorem dX1_told_27 : decode cX1_told 27 = .ok (.invokevirtual 112, 3) := dk_182 0 112 (dk_at dksX1_told_1 3 rfl rfl)
theorem dX1_told_30 : decode cX1_told 30 = .ok (.iconst 0, 1) := dk_3 (dk_at dksX1_told_1 6 rfl rfl)
theorem dX1_told_31 : decode cX1_told 31 = .ok (.istore 5, 2) := dk_54 5 (dk_at dksX1_told_1 7 rfl rfl)
theorem dX1_told_33 : decode cX1_told 33 = .ok (.aload_n 3, 1) := dk_45 (dk_at dksX1_told_1 9 rfl rfl)
theorem dX1_told_34 : decode cX1_told 34 = .ok (.aload 4, 2) := dk_25 4 (dk_at dksX1_told_1 10 rfl rfl)
theorem dX1_told_36 : decode cX1_told 36 = .ok (.invokevirtual 134, 3) := dk_182 0 134 (dk_at dksX1_told_1 12 rfl rfl)
theorem dX1_told_39 : decode cX1_told 39 = .ok (.ifCond .ne 18, 3) := dk_154 0 18 (dk_at dksX1_told_1 15 rfl rfl)
theorem dX1_told_42 : decode cX1_told 42 = .ok (.aload_n 3, 1) := dk_45 (dk_at dksX1_told_1 18 rfl rfl)
theorem dX1_told_43 : decode cX1_told 43 = .ok (.invokevirtual 131, 3) := dk_182 0 131 (dk_at dksX1_told_1 19 rfl rfl)
theorem dX1_told_46 : decode cX1_told 46 = .ok (.aload 4, 2) := dk_25 4 (dk_at dksX1_told_1 22 rfl rfl)
theorem dX1_told_48 : decode cX1_told 48 = .ok (.invokevirtual 131, 3) := dk_182 0 131 (dk_at dksX1_told_2 0 rfl rfl)
theorem dX1_told_51 : decode cX1_told 51 = .ok (.iinc 5 1, 3) := dk_132 5 1 (dk_at dksX1_told_2 3 rfl rfl)
theorem dX1_told_54 : decode cX1_told 54 = .ok (.goto (-21), 3) := dk_167 255 235 (dk_at dksX1_told_2 6 rfl rfl)
theorem dX1_told_57 : decode cX1_told 57 = .ok (.aload_n 3, 1) := dk_45 (dk_at dksX1_told_2 9 rfl rfl)
theorem dX1_told_58 : decode cX1_told 58 = .ok (.getfield 124, 3) := dk_180 0 124 (dk_at dksX1_told_2 10 rfl rfl)
theorem dX1_told_61 : decode cX1_told 61 = .ok (.istore 6, 2) := dk_54 6 (dk_at dksX1_told_2 13 rfl rfl)
theorem dX1_told_63 : decode cX1_told 63 = .ok (.aload_n 3, 1) := dk_45 (dk_at dksX1_told_2 15 rfl rfl)
theorem dX1_told_64 : decode cX1_told 64 = .ok (.iload_n 2, 1) := dk_28 (dk_at dksX1_told_2 16 rfl rfl)
theorem dX1_told_65 : decode cX1_told 65 = .ok (.invokevirtual 112, 3) := dk_182 0 112 (dk_at dksX1_told_2 17 rfl rfl)
theorem dX1_told_68 : decode cX1_told 68 = .ok (.iload_n 1, 1) := dk_27 (dk_at dksX1_told_2 20 rfl rfl)
theorem dX1_told_69 : decode cX1_told 69 = .ok (.ifCond .ne 8, 3) := dk_154 0 8 (dk_at dksX1_told_2 21 rfl rfl)
theorem dX1_told_72 : decode cX1_told 72 = .ok (.iload 5, 2) := dk_21 5 (dk_at dksX1_told_3 0 rfl rfl)
theorem dX1_told_74 : decode cX1_told 74 = .ok (.goto 19, 3) := dk_167 0 19 (dk_at dksX1_told_3 2 rfl rfl)
theorem dX1_told_77 : decode cX1_told 77 = .ok (.iload_n 1, 1) := dk_27 (dk_at dksX1_told_3 5 rfl rfl)
theorem dX1_told_78 : decode cX1_told 78 = .ok (.iconst 1, 1) := dk_4 (dk_at dksX1_told_3 6 rfl rfl)
theorem dX1_told_79 : decode cX1_told 79 = .ok (.if_icmp .ne 7, 3) := dk_160 0 7 (dk_at dksX1_told_3 7 rfl rfl)
theorem dX1_told_82 : decode cX1_told 82 = .ok (.iload_n 2, 1) := dk_28 (dk_at dksX1_told_3 10 rfl rfl)
theorem dX1_told_83 : decode cX1_told 83 = .ok (.goto 10, 3) := dk_167 0 10 (dk_at dksX1_told_3 11 rfl rfl)
theorem dX1_told_86 : decode cX1_told 86 = .ok (.aload_n 3, 1) := dk_45 (dk_at dksX1_told_3 14 rfl rfl)
theorem dX1_told_87 : decode cX1_told 87 = .ok (.getfield 124, 3) := dk_180 0 124 (dk_at dksX1_told_3 15 rfl rfl)
theorem dX1_told_90 : decode cX1_told 90 = .ok (.iload 6, 2) := dk_21 6 (dk_at dksX1_told_3 18 rfl rfl)
theorem dX1_told_92 : decode cX1_told 92 = .ok (.isub, 1) := dk_100 (dk_at dksX1_told_3 20 rfl rfl)
theorem dX1_told_93 : decode cX1_told 93 = .ok (.ireturn, 1) := dk_172 (dk_at dksX1_told_3 21 rfl rfl)
abbrev cX1_cycleLength : ByteArray := prog_1_method_25_code
def yX1_cycleLength : MethodName := ⟨RX1, "cycleLength", "()I"⟩
def dkwX1_cycleLength_2 : List UInt8 := [132, 3, 1, 43, 44, 182, 0, 134, 153, 255, 225, 29, 172]
abbrev dktX1_cycleLength_2 : List UInt8 := dkwX1_cycleLength_2 ++ []
def dkwX1_cycleLength_1 : List UInt8 := [21, 4, 160, 0, 16, 43, 44, 182, 0, 127, 21, 4, 5, 104, 54, 4, 3, 62, 44, 182, 0, 131]
abbrev dktX1_cycleLength_1 : List UInt8 := dkwX1_cycleLength_1 ++ dktX1_cycleLength_2
def dkwX1_cycleLength_0 : List UInt8 := [187, 0, 107, 89, 42, 183, 0, 109, 76, 187, 0, 107, 89, 42, 183, 0, 109, 77, 3, 62, 4, 54, 4, 29]
abbrev dktX1_cycleLength_0 : List UInt8 := dkwX1_cycleLength_0 ++ dktX1_cycleLength_1
theorem dksX1_cycleLength_0 : cX1_cycleLength.data.toList.drop 0 = dktX1_cycleLength_0 := by decide +kernel
theorem dksX1_cycleLength_1 : cX1_cycleLength.data.toList.drop 24 = dktX1_cycleLength_1 := dk_seg dksX1_cycleLength_0 24 rfl rfl
theorem dksX1_cycleLength_2 : cX1_cycleLength.data.toList.drop 46 = dktX1_cycleLength_2 := dk_seg dksX1_cycleLength_1 22 rfl rfl
theorem dX1_cycleLength_0 : decode cX1_cycleLength 0 = .ok (.new 107, 3) := dk_187 0 107 (dk_at dksX1_cycleLength_0 0 rfl rfl)
theorem dX1_cycleLength_3 : decode cX1_cycleLength 3 = .ok (.dup, 1) := dk_89 (dk_at dksX1_cycleLength_0 3 rfl rfl)
theorem dX1_cycleLength_4 : decode cX1_cycleLength 4 = .ok (.aload_n 0, 1) := dk_42 (dk_at dksX1_cycleLength_0 4 rfl rfl)
theorem dX1_cycleLength_5 : decode cX1_cycleLength 5 = .ok (.invokespecial 109, 3) := dk_183 0 109 (dk_at dksX1_cycleLength_0 5 rfl rfl)
theorem dX1_cycleLength_8 : decode cX1_cycleLength 8 = .ok (.astore_n 1, 1) := dk_76 (dk_at dksX1_cycleLength_0 8 rfl rfl)
theorem dX1_cycleLength_9 : decode cX1_cycleLength 9 = .ok (.new 107, 3) := dk_187 0 107 (dk_at dksX1_cycleLength_0 9 rfl rfl)
theorem dX1_cycleLength_12 : decode cX1_cycleLength 12 = .ok (.dup, 1) := dk_89 (dk_at dksX1_cycleLength_0 12 rfl rfl)
theorem dX1_cycleLength_13 : decode cX1_cycleLength 13 = .ok (.aload_n 0, 1) := dk_42 (dk_at dksX1_cycleLength_0 13 rfl rfl)
theorem dX1_cycleLength_14 : decode cX1_cycleLength 14 = .ok (.invokespecial 109, 3) := dk_183 0 109 (dk_at dksX1_cycleLength_0 14 rfl rfl)
theorem dX1_cycleLength_17 : decode cX1_cycleLength 17 = .ok (.astore_n 2, 1) := dk_77 (dk_at dksX1_cycleLength_0 17 rfl rfl)
theorem dX1_cycleLength_18 : decode cX1_cycleLength 18 = .ok (.iconst 0, 1) := dk_3 (dk_at dksX1_cycleLength_0 18 rfl rfl)
theorem dX1_cycleLength_19 : decode cX1_cycleLength 19 = .ok (.istore_n 3, 1) := dk_62 (dk_at dksX1_cycleLength_0 19 rfl rfl)
theorem dX1_cycleLength_20 : decode cX1_cycleLength 20 = .ok (.iconst 1, 1) := dk_4 (dk_at dksX1_cycleLength_0 20 rfl rfl)
theorem dX1_cycleLength_21 : decode cX1_cycleLength 21 = .ok (.istore 4, 2) := dk_54 4 (dk_at dksX1_cycleLength_0 21 rfl rfl)
theorem dX1_cycleLength_23 : decode cX1_cycleLength 23 = .ok (.iload_n 3, 1) := dk_29 (dk_at dksX1_cycleLength_0 23 rfl rfl)
theorem dX1_cycleLength_24 : decode cX1_cycleLength 24 = .ok (.iload 4, 2) := dk_21 4 (dk_at dksX1_cycleLength_1 0 rfl rfl)
theorem dX1_cycleLength_26 : decode cX1_cycleLength 26 = .ok (.if_icmp .ne 16, 3) := dk_160 0 16 (dk_at dksX1_cycleLength_1 2 rfl rfl)
theorem dX1_cycleLength_29 : decode cX1_cycleLength 29 = .ok (.aload_n 1, 1) := dk_43 (dk_at dksX1_cycleLength_1 5 rfl rfl)
theorem dX1_cycleLength_30 : decode cX1_cycleLength 30 = .ok (.aload_n 2, 1) := dk_44 (dk_at dksX1_cycleLength_1 6 rfl rfl)
theorem dX1_cycleLength_31 : decode cX1_cycleLength 31 = .ok (.invokevirtual 127, 3) := dk_182 0 127 (dk_at dksX1_cycleLength_1 7 rfl rfl)
theorem dX1_cycleLength_34 : decode cX1_cycleLength 34 = .ok (.iload 4, 2) := dk_21 4 (dk_at dksX1_cycleLength_1 10 rfl rfl)
theorem dX1_cycleLength_36 : decode cX1_cycleLength 36 = .ok (.iconst 2, 1) := dk_5 (dk_at dksX1_cycleLength_1 12 rfl rfl)
theorem dX1_cycleLength_37 : decode cX1_cycleLength 37 = .ok (.imul, 1) := dk_104 (dk_at dksX1_cycleLength_1 13 rfl rfl)
theorem dX1_cycleLength_38 : decode cX1_cycleLength 38 = .ok (.istore 4, 2) := dk_54 4 (dk_at dksX1_cycleLength_1 14 rfl rfl)
theorem dX1_cycleLength_40 : decode cX1_cycleLength 40 = .ok (.iconst 0, 1) := dk_3 (dk_at dksX1_cycleLength_1 16 rfl rfl)
theorem dX1_cycleLength_41 : decode cX1_cycleLength 41 = .ok (.istore_n 3, 1) := dk_62 (dk_at dksX1_cycleLength_1 17 rfl rfl)
theorem dX1_cycleLength_42 : decode cX1_cycleLength 42 = .ok (.aload_n 2, 1) := dk_44 (dk_at dksX1_cycleLength_1 18 rfl rfl)
theorem dX1_cycleLength_43 : decode cX1_cycleLength 43 = .ok (.invokevirtual 131, 3) := dk_182 0 131 (dk_at dksX1_cycleLength_1 19 rfl rfl)
theorem dX1_cycleLength_46 : decode cX1_cycleLength 46 = .ok (.iinc 3 1, 3) := dk_132 3 1 (dk_at dksX1_cycleLength_2 0 rfl rfl)
theorem dX1_cycleLength_49 : decode cX1_cycleLength 49 = .ok (.aload_n 1, 1) := dk_43 (dk_at dksX1_cycleLength_2 3 rfl rfl)
theorem dX1_cycleLength_50 : decode cX1_cycleLength 50 = .ok (.aload_n 2, 1) := dk_44 (dk_at dksX1_cycleLength_2 4 rfl rfl)
theorem dX1_cycleLength_51 : decode cX1_cycleLength 51 = .ok (.invokevirtual 134, 3) := dk_182 0 134 (dk_at dksX1_cycleLength_2 5 rfl rfl)
theorem dX1_cycleLength_54 : decode cX1_cycleLength 54 = .ok (.ifCond .eq (-31), 3) := dk_153 255 225 (dk_at dksX1_cycleLength_2 8 rfl rfl)
theorem dX1_cycleLength_57 : decode cX1_cycleLength 57 = .ok (.iload_n 3, 1) := dk_29 (dk_at dksX1_cycleLength_2 11 rfl rfl)
theorem dX1_cycleLength_58 : decode cX1_cycleLength 58 = .ok (.ireturn, 1) := dk_172 (dk_at dksX1_cycleLength_2 12 rfl rfl)
abbrev cX1_moveBy : ByteArray := prog_1_method_11_code
def yX1_moveBy : MethodName := ⟨RX1, "moveBy", "(III)I"⟩
def dkwX1_moveBy_2 : List UInt8 := [182, 0, 52, 16, 100, 112, 100, 161, 0, 7, 4, 167, 0, 4, 3, 172]
abbrev dktX1_moveBy_2 : List UInt8 := dkwX1_moveBy_2 ++ []
def dkwX1_moveBy_1 : List UInt8 := [180, 0, 49, 28, 122, 4, 126, 4, 160, 0, 7, 3, 167, 0, 4, 2, 172, 29, 16, 10, 42, 27, 28]
abbrev dktX1_moveBy_1 : List UInt8 := dkwX1_moveBy_1 ++ dktX1_moveBy_2
def dkwX1_moveBy_0 : List UInt8 := [42, 27, 182, 0, 45, 154, 0, 5, 3, 172, 29, 42, 27, 28, 182, 0, 52, 16, 100, 108, 162, 0, 21, 42]
abbrev dktX1_moveBy_0 : List UInt8 := dkwX1_moveBy_0 ++ dktX1_moveBy_1
theorem dksX1_moveBy_0 : cX1_moveBy.data.toList.drop 0 = dktX1_moveBy_0 := by decide +kernel
theorem dksX1_moveBy_1 : cX1_moveBy.data.toList.drop 24 = dktX1_moveBy_1 := dk_seg dksX1_moveBy_0 24 rfl rfl
theorem dksX1_moveBy_2 : cX1_moveBy.data.toList.drop 47 = dktX1_moveBy_2 := dk_seg dksX1_moveBy_1 23 rfl rfl
theorem dX1_moveBy_0 : decode cX1_moveBy 0 = .ok (.aload_n 0, 1) := dk_42 (dk_at dksX1_moveBy_0 0 rfl rfl)
theorem dX1_moveBy_1 : decode cX1_moveBy 1 = .ok (.iload_n 1, 1) := dk_27 (dk_at dksX1_moveBy_0 1 rfl rfl)
theorem dX1_moveBy_2 : decode cX1_moveBy 2 = .ok (.invokevirtual 45, 3) := dk_182 0 45 (dk_at dksX1_moveBy_0 2 rfl rfl)
theorem dX1_moveBy_5 : decode cX1_moveBy 5 = .ok (.ifCond .ne 5, 3) := dk_154 0 5 (dk_at dksX1_moveBy_0 5 rfl rfl)
theorem dX1_moveBy_8 : decode cX1_moveBy 8 = .ok (.iconst 0, 1) := dk_3 (dk_at dksX1_moveBy_0 8 rfl rfl)
theorem dX1_moveBy_9 : decode cX1_moveBy 9 = .ok (.ireturn, 1) := dk_172 (dk_at dksX1_moveBy_0 9 rfl rfl)
theorem dX1_moveBy_10 : decode cX1_moveBy 10 = .ok (.iload_n 3, 1) := dk_29 (dk_at dksX1_moveBy_0 10 rfl rfl)
theorem dX1_moveBy_11 : decode cX1_moveBy 11 = .ok (.aload_n 0, 1) := dk_42 (dk_at dksX1_moveBy_0 11 rfl rfl)
theorem dX1_moveBy_12 : decode cX1_moveBy 12 = .ok (.iload_n 1, 1) := dk_27 (dk_at dksX1_moveBy_0 12 rfl rfl)
theorem dX1_moveBy_13 : decode cX1_moveBy 13 = .ok (.iload_n 2, 1) := dk_28 (dk_at dksX1_moveBy_0 13 rfl rfl)
theorem dX1_moveBy_14 : decode cX1_moveBy 14 = .ok (.invokevirtual 52, 3) := dk_182 0 52 (dk_at dksX1_moveBy_0 14 rfl rfl)
theorem dX1_moveBy_17 : decode cX1_moveBy 17 = .ok (.bipush 100, 2) := dk_16 100 (dk_at dksX1_moveBy_0 17 rfl rfl)
theorem dX1_moveBy_19 : decode cX1_moveBy 19 = .ok (.idiv, 1) := dk_108 (dk_at dksX1_moveBy_0 19 rfl rfl)
theorem dX1_moveBy_20 : decode cX1_moveBy 20 = .ok (.if_icmp .ge 21, 3) := dk_162 0 21 (dk_at dksX1_moveBy_0 20 rfl rfl)
theorem dX1_moveBy_23 : decode cX1_moveBy 23 = .ok (.aload_n 0, 1) := dk_42 (dk_at dksX1_moveBy_0 23 rfl rfl)
theorem dX1_moveBy_24 : decode cX1_moveBy 24 = .ok (.getfield 49, 3) := dk_180 0 49 (dk_at dksX1_moveBy_1 0 rfl rfl)
theorem dX1_moveBy_27 : decode cX1_moveBy 27 = .ok (.iload_n 2, 1) := dk_28 (dk_at dksX1_moveBy_1 3 rfl rfl)
theorem dX1_moveBy_28 : decode cX1_moveBy 28 = .ok (.ishr, 1) := dk_122 (dk_at dksX1_moveBy_1 4 rfl rfl)
theorem dX1_moveBy_29 : decode cX1_moveBy 29 = .ok (.iconst 1, 1) := dk_4 (dk_at dksX1_moveBy_1 5 rfl rfl)
theorem dX1_moveBy_30 : decode cX1_moveBy 30 = .ok (.iand, 1) := dk_126 (dk_at dksX1_moveBy_1 6 rfl rfl)
theorem dX1_moveBy_31 : decode cX1_moveBy 31 = .ok (.iconst 1, 1) := dk_4 (dk_at dksX1_moveBy_1 7 rfl rfl)
theorem dX1_moveBy_32 : decode cX1_moveBy 32 = .ok (.if_icmp .ne 7, 3) := dk_160 0 7 (dk_at dksX1_moveBy_1 8 rfl rfl)
theorem dX1_moveBy_35 : decode cX1_moveBy 35 = .ok (.iconst 0, 1) := dk_3 (dk_at dksX1_moveBy_1 11 rfl rfl)
theorem dX1_moveBy_36 : decode cX1_moveBy 36 = .ok (.goto 4, 3) := dk_167 0 4 (dk_at dksX1_moveBy_1 12 rfl rfl)
theorem dX1_moveBy_39 : decode cX1_moveBy 39 = .ok (.iconst (-1), 1) := dk_2 (dk_at dksX1_moveBy_1 15 rfl rfl)
theorem dX1_moveBy_40 : decode cX1_moveBy 40 = .ok (.ireturn, 1) := dk_172 (dk_at dksX1_moveBy_1 16 rfl rfl)
theorem dX1_moveBy_41 : decode cX1_moveBy 41 = .ok (.iload_n 3, 1) := dk_29 (dk_at dksX1_moveBy_1 17 rfl rfl)
theorem dX1_moveBy_42 : decode cX1_moveBy 42 = .ok (.bipush 10, 2) := dk_16 10 (dk_at dksX1_moveBy_1 18 rfl rfl)
theorem dX1_moveBy_44 : decode cX1_moveBy 44 = .ok (.aload_n 0, 1) := dk_42 (dk_at dksX1_moveBy_1 20 rfl rfl)
theorem dX1_moveBy_45 : decode cX1_moveBy 45 = .ok (.iload_n 1, 1) := dk_27 (dk_at dksX1_moveBy_1 21 rfl rfl)
theorem dX1_moveBy_46 : decode cX1_moveBy 46 = .ok (.iload_n 2, 1) := dk_28 (dk_at dksX1_moveBy_1 22 rfl rfl)
theorem dX1_moveBy_47 : decode cX1_moveBy 47 = .ok (.invokevirtual 52, 3) := dk_182 0 52 (dk_at dksX1_moveBy_2 0 rfl rfl)
theorem dX1_moveBy_50 : decode cX1_moveBy 50 = .ok (.bipush 100, 2) := dk_16 100 (dk_at dksX1_moveBy_2 3 rfl rfl)
theorem dX1_moveBy_52 : decode cX1_moveBy 52 = .ok (.irem, 1) := dk_112 (dk_at dksX1_moveBy_2 5 rfl rfl)
theorem dX1_moveBy_53 : decode cX1_moveBy 53 = .ok (.isub, 1) := dk_100 (dk_at dksX1_moveBy_2 6 rfl rfl)
theorem dX1_moveBy_54 : decode cX1_moveBy 54 = .ok (.if_icmp .lt 7, 3) := dk_161 0 7 (dk_at dksX1_moveBy_2 7 rfl rfl)
theorem dX1_moveBy_57 : decode cX1_moveBy 57 = .ok (.iconst 1, 1) := dk_4 (dk_at dksX1_moveBy_2 10 rfl rfl)
theorem dX1_moveBy_58 : decode cX1_moveBy 58 = .ok (.goto 4, 3) := dk_167 0 4 (dk_at dksX1_moveBy_2 11 rfl rfl)
theorem dX1_moveBy_61 : decode cX1_moveBy 61 = .ok (.iconst 0, 1) := dk_3 (dk_at dksX1_moveBy_2 14 rfl rfl)
theorem dX1_moveBy_62 : decode cX1_moveBy 62 = .ok (.ireturn, 1) := dk_172 (dk_at dksX1_moveBy_2 15 rfl rfl)
abbrev cX1_mixChances : ByteArray := prog_1_method_52_code
def yX1_mixChances : MethodName := ⟨RX1, "mixChances", "()V"⟩
def dkwX1_mixChances_4 : List UInt8 := [177]
abbrev dktX1_mixChances_4 : List UInt8 := dkwX1_mixChances_4 ++ []
def dkwX1_mixChances_3 : List UInt8 := [62, 29, 6, 162, 0, 21, 42, 42, 44, 5, 5, 29, 182, 0, 187, 182, 1, 18, 132, 3, 1, 167, 255, 236]
abbrev dktX1_mixChances_3 : List UInt8 := dkwX1_mixChances_3 ++ dktX1_mixChances_4
def dkwX1_mixChances_2 : List UInt8 := [182, 0, 182, 182, 1, 18, 187, 0, 172, 89, 42, 183, 0, 174, 16, 6, 16, 254, 5, 182, 0, 175, 77, 3]
abbrev dktX1_mixChances_2 : List UInt8 := dkwX1_mixChances_2 ++ dktX1_mixChances_3
def dkwX1_mixChances_1 : List UInt8 := [17, 3, 232, 28, 182, 0, 182, 182, 1, 18, 132, 2, 1, 167, 255, 230, 42, 43, 4, 17, 3, 232, 2]
abbrev dktX1_mixChances_1 : List UInt8 := dkwX1_mixChances_1 ++ dktX1_mixChances_2
def dkwX1_mixChances_0 : List UInt8 := [42, 16, 6, 182, 0, 178, 76, 3, 61, 28, 42, 180, 0, 22, 162, 0, 24, 42, 43, 17, 252, 24]
abbrev dktX1_mixChances_0 : List UInt8 := dkwX1_mixChances_0 ++ dktX1_mixChances_1
theorem dksX1_mixChances_0 : cX1_mixChances.data.toList.drop 0 = dktX1_mixChances_0 := by decide +kernel
theorem dksX1_mixChances_1 : cX1_mixChances.data.toList.drop 22 = dktX1_mixChances_1 := dk_seg dksX1_mixChances_0 22 rfl rfl
theorem dksX1_mixChances_2 : cX1_mixChances.data.toList.drop 45 = dktX1_mixChances_2 := dk_seg dksX1_mixChances_1 23 rfl rfl
theorem dksX1_mixChances_3 : cX1_mixChances.data.toList.drop 69 = dktX1_mixChances_3 := dk_seg dksX1_mixChances_2 24 rfl rfl
theorem dksX1_mixChances_4 : cX1_mixChances.data.toList.drop 93 = dktX1_mixChances_4 := dk_seg dksX1_mixChances_3 24 rfl rfl
theorem dX1_mixChances_0 : decode cX1_mixChances 0 = .ok (.aload_n 0, 1) := dk_42 (dk_at dksX1_mixChances_0 0 rfl rfl)
theorem dX1_mixChances_1 : decode cX1_mixChances 1 = .ok (.bipush 6, 2) := dk_16 6 (dk_at dksX1_mixChances_0 1 rfl rfl)
theorem dX1_mixChances_3 : decode cX1_mixChances 3 = .ok (.invokevirtual 178, 3) := dk_182 0 178 (dk_at dksX1_mixChances_0 3 rfl rfl)
theorem dX1_mixChances_6 : decode cX1_mixChances 6 = .ok (.astore_n 1, 1) := dk_76 (dk_at dksX1_mixChances_0 6 rfl rfl)
theorem dX1_mixChances_7 : decode cX1_mixChances 7 = .ok (.iconst 0, 1) := dk_3 (dk_at dksX1_mixChances_0 7 rfl rfl)
theorem dX1_mixChances_8 : decode cX1_mixChances 8 = .ok (.istore_n 2, 1) := dk_61 (dk_at dksX1_mixChances_0 8 rfl rfl)
theorem dX1_mixChances_9 : decode cX1_mixChances 9 = .ok (.iload_n 2, 1) := dk_28 (dk_at dksX1_mixChances_0 9 rfl rfl)
theorem dX1_mixChances_10 : decode cX1_mixChances 10 = .ok (.aload_n 0, 1) := dk_42 (dk_at dksX1_mixChances_0 10 rfl rfl)
theorem dX1_mixChances_11 : decode cX1_mixChances 11 = .ok (.getfield 22, 3) := dk_180 0 22 (dk_at dksX1_mixChances_0 11 rfl rfl)
theorem dX1_mixChances_14 : decode cX1_mixChances 14 = .ok (.if_icmp .ge 24, 3) := dk_162 0 24 (dk_at dksX1_mixChances_0 14 rfl rfl)
theorem dX1_mixChances_17 : decode cX1_mixChances 17 = .ok (.aload_n 0, 1) := dk_42 (dk_at dksX1_mixChances_0 17 rfl rfl)
theorem dX1_mixChances_18 : decode cX1_mixChances 18 = .ok (.aload_n 1, 1) := dk_43 (dk_at dksX1_mixChances_0 18 rfl rfl)
theorem dX1_mixChances_19 : decode cX1_mixChances 19 = .ok (.sipush (-1000), 3) := dk_17 252 24 (dk_at dksX1_mixChances_0 19 rfl rfl)
theorem dX1_mixChances_22 : decode cX1_mixChances 22 = .ok (.sipush 1000, 3) := dk_17 3 232 (dk_at dksX1_mixChances_1 0 rfl rfl)
theorem dX1_mixChances_25 : decode cX1_mixChances 25 = .ok (.iload_n 2, 1) := dk_28 (dk_at dksX1_mixChances_1 3 rfl rfl)
theorem dX1_mixChances_26 : decode cX1_mixChances 26 = .ok (.invokevirtual 182, 3) := dk_182 0 182 (dk_at dksX1_mixChances_1 4 rfl rfl)
theorem dX1_mixChances_29 : decode cX1_mixChances 29 = .ok (.invokevirtual 274, 3) := dk_182 1 18 (dk_at dksX1_mixChances_1 7 rfl rfl)
theorem dX1_mixChances_32 : decode cX1_mixChances 32 = .ok (.iinc 2 1, 3) := dk_132 2 1 (dk_at dksX1_mixChances_1 10 rfl rfl)
theorem dX1_mixChances_35 : decode cX1_mixChances 35 = .ok (.goto (-26), 3) := dk_167 255 230 (dk_at dksX1_mixChances_1 13 rfl rfl)
theorem dX1_mixChances_38 : decode cX1_mixChances 38 = .ok (.aload_n 0, 1) := dk_42 (dk_at dksX1_mixChances_1 16 rfl rfl)
theorem dX1_mixChances_39 : decode cX1_mixChances 39 = .ok (.aload_n 1, 1) := dk_43 (dk_at dksX1_mixChances_1 17 rfl rfl)
theorem dX1_mixChances_40 : decode cX1_mixChances 40 = .ok (.iconst 1, 1) := dk_4 (dk_at dksX1_mixChances_1 18 rfl rfl)
theorem dX1_mixChances_41 : decode cX1_mixChances 41 = .ok (.sipush 1000, 3) := dk_17 3 232 (dk_at dksX1_mixChances_1 19 rfl rfl)
theorem dX1_mixChances_44 : decode cX1_mixChances 44 = .ok (.iconst (-1), 1) := dk_2 (dk_at dksX1_mixChances_1 22 rfl rfl)
theorem dX1_mixChances_45 : decode cX1_mixChances 45 = .ok (.invokevirtual 182, 3) := dk_182 0 182 (dk_at dksX1_mixChances_2 0 rfl rfl)
theorem dX1_mixChances_48 : decode cX1_mixChances 48 = .ok (.invokevirtual 274, 3) := dk_182 1 18 (dk_at dksX1_mixChances_2 3 rfl rfl)
theorem dX1_mixChances_51 : decode cX1_mixChances 51 = .ok (.new 172, 3) := dk_187 0 172 (dk_at dksX1_mixChances_2 6 rfl rfl)
theorem dX1_mixChances_54 : decode cX1_mixChances 54 = .ok (.dup, 1) := dk_89 (dk_at dksX1_mixChances_2 9 rfl rfl)
theorem dX1_mixChances_55 : decode cX1_mixChances 55 = .ok (.aload_n 0, 1) := dk_42 (dk_at dksX1_mixChances_2 10 rfl rfl)
theorem dX1_mixChances_56 : decode cX1_mixChances 56 = .ok (.invokespecial 174, 3) := dk_183 0 174 (dk_at dksX1_mixChances_2 11 rfl rfl)
theorem dX1_mixChances_59 : decode cX1_mixChances 59 = .ok (.bipush 6, 2) := dk_16 6 (dk_at dksX1_mixChances_2 14 rfl rfl)
theorem dX1_mixChances_61 : decode cX1_mixChances 61 = .ok (.bipush (-2), 2) := dk_16 254 (dk_at dksX1_mixChances_2 16 rfl rfl)
theorem dX1_mixChances_63 : decode cX1_mixChances 63 = .ok (.iconst 2, 1) := dk_5 (dk_at dksX1_mixChances_2 18 rfl rfl)
theorem dX1_mixChances_64 : decode cX1_mixChances 64 = .ok (.invokevirtual 175, 3) := dk_182 0 175 (dk_at dksX1_mixChances_2 19 rfl rfl)
theorem dX1_mixChances_67 : decode cX1_mixChances 67 = .ok (.astore_n 2, 1) := dk_77 (dk_at dksX1_mixChances_2 22 rfl rfl)
theorem dX1_mixChances_68 : decode cX1_mixChances 68 = .ok (.iconst 0, 1) := dk_3 (dk_at dksX1_mixChances_2 23 rfl rfl)
theorem dX1_mixChances_69 : decode cX1_mixChances 69 = .ok (.istore_n 3, 1) := dk_62 (dk_at dksX1_mixChances_3 0 rfl rfl)
theorem dX1_mixChances_70 : decode cX1_mixChances 70 = .ok (.iload_n 3, 1) := dk_29 (dk_at dksX1_mixChances_3 1 rfl rfl)
theorem dX1_mixChances_71 : decode cX1_mixChances 71 = .ok (.iconst 3, 1) := dk_6 (dk_at dksX1_mixChances_3 2 rfl rfl)
theorem dX1_mixChances_72 : decode cX1_mixChances 72 = .ok (.if_icmp .ge 21, 3) := dk_162 0 21 (dk_at dksX1_mixChances_3 3 rfl rfl)
theorem dX1_mixChances_75 : decode cX1_mixChances 75 = .ok (.aload_n 0, 1) := dk_42 (dk_at dksX1_mixChances_3 6 rfl rfl)
theorem dX1_mixChances_76 : decode cX1_mixChances 76 = .ok (.aload_n 0, 1) := dk_42 (dk_at dksX1_mixChances_3 7 rfl rfl)
theorem dX1_mixChances_77 : decode cX1_mixChances 77 = .ok (.aload_n 2, 1) := dk_44 (dk_at dksX1_mixChances_3 8 rfl rfl)
theorem dX1_mixChances_78 : decode cX1_mixChances 78 = .ok (.iconst 2, 1) := dk_5 (dk_at dksX1_mixChances_3 9 rfl rfl)
theorem dX1_mixChances_79 : decode cX1_mixChances 79 = .ok (.iconst 2, 1) := dk_5 (dk_at dksX1_mixChances_3 10 rfl rfl)
theorem dX1_mixChances_80 : decode cX1_mixChances 80 = .ok (.iload_n 3, 1) := dk_29 (dk_at dksX1_mixChances_3 11 rfl rfl)
theorem dX1_mixChances_81 : decode cX1_mixChances 81 = .ok (.invokevirtual 187, 3) := dk_182 0 187 (dk_at dksX1_mixChances_3 12 rfl rfl)
theorem dX1_mixChances_84 : decode cX1_mixChances 84 = .ok (.invokevirtual 274, 3) := dk_182 1 18 (dk_at dksX1_mixChances_3 15 rfl rfl)
theorem dX1_mixChances_87 : decode cX1_mixChances 87 = .ok (.iinc 3 1, 3) := dk_132 3 1 (dk_at dksX1_mixChances_3 18 rfl rfl)
theorem dX1_mixChances_90 : decode cX1_mixChances 90 = .ok (.goto (-20), 3) := dk_167 255 236 (dk_at dksX1_mixChances_3 21 rfl rfl)
theorem dX1_mixChances_93 : decode cX1_mixChances 93 = .ok (.return_, 1) := dk_177 (dk_at dksX1_mixChances_4 0 rfl rfl)
abbrev cX1_freeWays : ByteArray := prog_1_method_32_code
def yX1_freeWays : MethodName := ⟨RX1, "freeWays", "(I)LFlashRatchet$Ways;"⟩
def dkwX1_freeWays_0 : List UInt8 := [187, 0, 172, 89, 42, 183, 0, 174, 27, 17, 252, 24, 17, 3, 232, 182, 0, 175, 176]
abbrev dktX1_freeWays_0 : List UInt8 := dkwX1_freeWays_0 ++ []
theorem dksX1_freeWays_0 : cX1_freeWays.data.toList.drop 0 = dktX1_freeWays_0 := by decide +kernel
theorem dX1_freeWays_0 : decode cX1_freeWays 0 = .ok (.new 172, 3) := dk_187 0 172 (dk_at dksX1_freeWays_0 0 rfl rfl)
theorem dX1_freeWays_3 : decode cX1_freeWays 3 = .ok (.dup, 1) := dk_89 (dk_at dksX1_freeWays_0 3 rfl rfl)
theorem dX1_freeWays_4 : decode cX1_freeWays 4 = .ok (.aload_n 0, 1) := dk_42 (dk_at dksX1_freeWays_0 4 rfl rfl)
theorem dX1_freeWays_5 : decode cX1_freeWays 5 = .ok (.invokespecial 174, 3) := dk_183 0 174 (dk_at dksX1_freeWays_0 5 rfl rfl)
theorem dX1_freeWays_8 : decode cX1_freeWays 8 = .ok (.iload_n 1, 1) := dk_27 (dk_at dksX1_freeWays_0 8 rfl rfl)
theorem dX1_freeWays_9 : decode cX1_freeWays 9 = .ok (.sipush (-1000), 3) := dk_17 252 24 (dk_at dksX1_freeWays_0 9 rfl rfl)
theorem dX1_freeWays_12 : decode cX1_freeWays 12 = .ok (.sipush 1000, 3) := dk_17 3 232 (dk_at dksX1_freeWays_0 12 rfl rfl)
theorem dX1_freeWays_15 : decode cX1_freeWays 15 = .ok (.invokevirtual 175, 3) := dk_182 0 175 (dk_at dksX1_freeWays_0 15 rfl rfl)
theorem dX1_freeWays_18 : decode cX1_freeWays 18 = .ok (.areturn, 1) := dk_176 (dk_at dksX1_freeWays_0 18 rfl rfl)
abbrev cX1_outcome : ByteArray := prog_1_method_35_code
def yX1_outcome : MethodName := ⟨RX1, "outcome", "(LFlashRatchet$Ways;III)J"⟩
def dkwX1_outcome_1 : List UInt8 := [29, 29, 2, 182, 0, 182, 167, 0, 14, 43, 4, 28, 100, 29, 4, 100, 2, 182, 0, 182, 173]
abbrev dktX1_outcome_1 : List UInt8 := dkwX1_outcome_1 ++ []
def dkwX1_outcome_0 : List UInt8 := [21, 4, 154, 0, 15, 43, 28, 116, 28, 116, 2, 182, 0, 182, 167, 0, 30, 21, 4, 4, 160, 0, 13, 43]
abbrev dktX1_outcome_0 : List UInt8 := dkwX1_outcome_0 ++ dktX1_outcome_1
theorem dksX1_outcome_0 : cX1_outcome.data.toList.drop 0 = dktX1_outcome_0 := by decide +kernel
theorem dksX1_outcome_1 : cX1_outcome.data.toList.drop 24 = dktX1_outcome_1 := dk_seg dksX1_outcome_0 24 rfl rfl
theorem dX1_outcome_0 : decode cX1_outcome 0 = .ok (.iload 4, 2) := dk_21 4 (dk_at dksX1_outcome_0 0 rfl rfl)
theorem dX1_outcome_2 : decode cX1_outcome 2 = .ok (.ifCond .ne 15, 3) := dk_154 0 15 (dk_at dksX1_outcome_0 2 rfl rfl)
theorem dX1_outcome_5 : decode cX1_outcome 5 = .ok (.aload_n 1, 1) := dk_43 (dk_at dksX1_outcome_0 5 rfl rfl)
theorem dX1_outcome_6 : decode cX1_outcome 6 = .ok (.iload_n 2, 1) := dk_28 (dk_at dksX1_outcome_0 6 rfl rfl)
theorem dX1_outcome_7 : decode cX1_outcome 7 = .ok (.ineg, 1) := dk_116 (dk_at dksX1_outcome_0 7 rfl rfl)
theorem dX1_outcome_8 : decode cX1_outcome 8 = .ok (.iload_n 2, 1) := dk_28 (dk_at dksX1_outcome_0 8 rfl rfl)
theorem dX1_outcome_9 : decode cX1_outcome 9 = .ok (.ineg, 1) := dk_116 (dk_at dksX1_outcome_0 9 rfl rfl)
theorem dX1_outcome_10 : decode cX1_outcome 10 = .ok (.iconst (-1), 1) := dk_2 (dk_at dksX1_outcome_0 10 rfl rfl)
theorem dX1_outcome_11 : decode cX1_outcome 11 = .ok (.invokevirtual 182, 3) := dk_182 0 182 (dk_at dksX1_outcome_0 11 rfl rfl)
theorem dX1_outcome_14 : decode cX1_outcome 14 = .ok (.goto 30, 3) := dk_167 0 30 (dk_at dksX1_outcome_0 14 rfl rfl)
theorem dX1_outcome_17 : decode cX1_outcome 17 = .ok (.iload 4, 2) := dk_21 4 (dk_at dksX1_outcome_0 17 rfl rfl)
theorem dX1_outcome_19 : decode cX1_outcome 19 = .ok (.iconst 1, 1) := dk_4 (dk_at dksX1_outcome_0 19 rfl rfl)
theorem dX1_outcome_20 : decode cX1_outcome 20 = .ok (.if_icmp .ne 13, 3) := dk_160 0 13 (dk_at dksX1_outcome_0 20 rfl rfl)
theorem dX1_outcome_23 : decode cX1_outcome 23 = .ok (.aload_n 1, 1) := dk_43 (dk_at dksX1_outcome_0 23 rfl rfl)
theorem dX1_outcome_24 : decode cX1_outcome 24 = .ok (.iload_n 3, 1) := dk_29 (dk_at dksX1_outcome_1 0 rfl rfl)
theorem dX1_outcome_25 : decode cX1_outcome 25 = .ok (.iload_n 3, 1) := dk_29 (dk_at dksX1_outcome_1 1 rfl rfl)
theorem dX1_outcome_26 : decode cX1_outcome 26 = .ok (.iconst (-1), 1) := dk_2 (dk_at dksX1_outcome_1 2 rfl rfl)
theorem dX1_outcome_27 : decode cX1_outcome 27 = .ok (.invokevirtual 182, 3) := dk_182 0 182 (dk_at dksX1_outcome_1 3 rfl rfl)
theorem dX1_outcome_30 : decode cX1_outcome 30 = .ok (.goto 14, 3) := dk_167 0 14 (dk_at dksX1_outcome_1 6 rfl rfl)
theorem dX1_outcome_33 : decode cX1_outcome 33 = .ok (.aload_n 1, 1) := dk_43 (dk_at dksX1_outcome_1 9 rfl rfl)
theorem dX1_outcome_34 : decode cX1_outcome 34 = .ok (.iconst 1, 1) := dk_4 (dk_at dksX1_outcome_1 10 rfl rfl)
theorem dX1_outcome_35 : decode cX1_outcome 35 = .ok (.iload_n 2, 1) := dk_28 (dk_at dksX1_outcome_1 11 rfl rfl)
theorem dX1_outcome_36 : decode cX1_outcome 36 = .ok (.isub, 1) := dk_100 (dk_at dksX1_outcome_1 12 rfl rfl)
theorem dX1_outcome_37 : decode cX1_outcome 37 = .ok (.iload_n 3, 1) := dk_29 (dk_at dksX1_outcome_1 13 rfl rfl)
theorem dX1_outcome_38 : decode cX1_outcome 38 = .ok (.iconst 1, 1) := dk_4 (dk_at dksX1_outcome_1 14 rfl rfl)
theorem dX1_outcome_39 : decode cX1_outcome 39 = .ok (.isub, 1) := dk_100 (dk_at dksX1_outcome_1 15 rfl rfl)
theorem dX1_outcome_40 : decode cX1_outcome 40 = .ok (.iconst (-1), 1) := dk_2 (dk_at dksX1_outcome_1 16 rfl rfl)
theorem dX1_outcome_41 : decode cX1_outcome 41 = .ok (.invokevirtual 182, 3) := dk_182 0 182 (dk_at dksX1_outcome_1 17 rfl rfl)
theorem dX1_outcome_44 : decode cX1_outcome 44 = .ok (.lreturn, 1) := dk_173 (dk_at dksX1_outcome_1 20 rfl rfl)
abbrev cX1_mixAverages : ByteArray := prog_1_method_53_code
def yX1_mixAverages : MethodName := ⟨RX1, "mixAverages", "()V"⟩
def dkwX1_mixAverages_6 : List UInt8 := [167, 255, 236, 42, 42, 182, 1, 7, 133, 182, 1, 18, 177]
abbrev dktX1_mixAverages_6 : List UInt8 := dkwX1_mixAverages_6 ++ []
def dkwX1_mixAverages_5 : List UInt8 := [78, 3, 54, 4, 21, 4, 6, 162, 0, 20, 42, 42, 45, 21, 4, 182, 0, 252, 182, 1, 18, 132, 4, 1]
abbrev dktX1_mixAverages_5 : List UInt8 := dkwX1_mixAverages_5 ++ dktX1_mixAverages_6
def dkwX1_mixAverages_4 : List UInt8 := [29, 5, 112, 182, 0, 203, 167, 0, 4, 9, 182, 1, 18, 132, 3, 1, 167, 255, 218, 42, 5, 182, 0, 248]
abbrev dktX1_mixAverages_4 : List UInt8 := dkwX1_mixAverages_4 ++ dktX1_mixAverages_5
def dkwX1_mixAverages_3 : List UInt8 := [3, 62, 29, 5, 42, 180, 0, 22, 104, 162, 0, 34, 42, 28, 153, 0, 19, 43, 29, 5, 108, 182, 0, 209]
abbrev dktX1_mixAverages_3 : List UInt8 := dkwX1_mixAverages_3 ++ dktX1_mixAverages_4
def dkwX1_mixAverages_2 : List UInt8 := [153, 0, 14, 43, 182, 0, 199, 29, 182, 0, 203, 167, 0, 4, 9, 182, 1, 18, 132, 3, 1, 167, 255, 228]
abbrev dktX1_mixAverages_2 : List UInt8 := dkwX1_mixAverages_2 ++ dktX1_mixAverages_3
def dkwX1_mixAverages_1 : List UInt8 := [167, 0, 4, 3, 61, 42, 43, 182, 0, 196, 133, 182, 1, 18, 3, 62, 29, 5, 162, 0, 29, 42, 28]
abbrev dktX1_mixAverages_1 : List UInt8 := dkwX1_mixAverages_1 ++ dktX1_mixAverages_2
def dkwX1_mixAverages_0 : List UInt8 := [187, 0, 191, 89, 42, 42, 180, 0, 33, 183, 0, 193, 76, 43, 182, 0, 196, 4, 160, 0, 7, 4]
abbrev dktX1_mixAverages_0 : List UInt8 := dkwX1_mixAverages_0 ++ dktX1_mixAverages_1
theorem dksX1_mixAverages_0 : cX1_mixAverages.data.toList.drop 0 = dktX1_mixAverages_0 := by decide +kernel
theorem dksX1_mixAverages_1 : cX1_mixAverages.data.toList.drop 22 = dktX1_mixAverages_1 := dk_seg dksX1_mixAverages_0 22 rfl rfl
theorem dksX1_mixAverages_2 : cX1_mixAverages.data.toList.drop 45 = dktX1_mixAverages_2 := dk_seg dksX1_mixAverages_1 23 rfl rfl
theorem dksX1_mixAverages_3 : cX1_mixAverages.data.toList.drop 69 = dktX1_mixAverages_3 := dk_seg dksX1_mixAverages_2 24 rfl rfl
theorem dksX1_mixAverages_4 : cX1_mixAverages.data.toList.drop 93 = dktX1_mixAverages_4 := dk_seg dksX1_mixAverages_3 24 rfl rfl
theorem dksX1_mixAverages_5 : cX1_mixAverages.data.toList.drop 117 = dktX1_mixAverages_5 := dk_seg dksX1_mixAverages_4 24 rfl rfl
theorem dksX1_mixAverages_6 : cX1_mixAverages.data.toList.drop 141 = dktX1_mixAverages_6 := dk_seg dksX1_mixAverages_5 24 rfl rfl
theorem dX1_mixAverages_0 : decode cX1_mixAverages 0 = .ok (.new 191, 3) := dk_187 0 191 (dk_at dksX1_mixAverages_0 0 rfl rfl)
theorem dX1_mixAverages_3 : decode cX1_mixAverages 3 = .ok (.dup, 1) := dk_89 (dk_at dksX1_mixAverages_0 3 rfl rfl)
theorem dX1_mixAverages_4 : decode cX1_mixAverages 4 = .ok (.aload_n 0, 1) := dk_42 (dk_at dksX1_mixAverages_0 4 rfl rfl)
theorem dX1_mixAverages_5 : decode cX1_mixAverages 5 = .ok (.aload_n 0, 1) := dk_42 (dk_at dksX1_mixAverages_0 5 rfl rfl)
theorem dX1_mixAverages_6 : decode cX1_mixAverages 6 = .ok (.getfield 33, 3) := dk_180 0 33 (dk_at dksX1_mixAverages_0 6 rfl rfl)
theorem dX1_mixAverages_9 : decode cX1_mixAverages 9 = .ok (.invokespecial 193, 3) := dk_183 0 193 (dk_at dksX1_mixAverages_0 9 rfl rfl)
theorem dX1_mixAverages_12 : decode cX1_mixAverages 12 = .ok (.astore_n 1, 1) := dk_76 (dk_at dksX1_mixAverages_0 12 rfl rfl)
theorem dX1_mixAverages_13 : decode cX1_mixAverages 13 = .ok (.aload_n 1, 1) := dk_43 (dk_at dksX1_mixAverages_0 13 rfl rfl)
theorem dX1_mixAverages_14 : decode cX1_mixAverages 14 = .ok (.invokevirtual 196, 3) := dk_182 0 196 (dk_at dksX1_mixAverages_0 14 rfl rfl)
theorem dX1_mixAverages_17 : decode cX1_mixAverages 17 = .ok (.iconst 1, 1) := dk_4 (dk_at dksX1_mixAverages_0 17 rfl rfl)
theorem dX1_mixAverages_18 : decode cX1_mixAverages 18 = .ok (.if_icmp .ne 7, 3) := dk_160 0 7 (dk_at dksX1_mixAverages_0 18 rfl rfl)
theorem dX1_mixAverages_21 : decode cX1_mixAverages 21 = .ok (.iconst 1, 1) := dk_4 (dk_at dksX1_mixAverages_0 21 rfl rfl)
theorem dX1_mixAverages_22 : decode cX1_mixAverages 22 = .ok (.goto 4, 3) := dk_167 0 4 (dk_at dksX1_mixAverages_1 0 rfl rfl)
theorem dX1_mixAverages_25 : decode cX1_mixAverages 25 = .ok (.iconst 0, 1) := dk_3 (dk_at dksX1_mixAverages_1 3 rfl rfl)
theorem dX1_mixAverages_26 : decode cX1_mixAverages 26 = .ok (.istore_n 2, 1) := dk_61 (dk_at dksX1_mixAverages_1 4 rfl rfl)
theorem dX1_mixAverages_27 : decode cX1_mixAverages 27 = .ok (.aload_n 0, 1) := dk_42 (dk_at dksX1_mixAverages_1 5 rfl rfl)
theorem dX1_mixAverages_28 : decode cX1_mixAverages 28 = .ok (.aload_n 1, 1) := dk_43 (dk_at dksX1_mixAverages_1 6 rfl rfl)
theorem dX1_mixAverages_29 : decode cX1_mixAverages 29 = .ok (.invokevirtual 196, 3) := dk_182 0 196 (dk_at dksX1_mixAverages_1 7 rfl rfl)
theorem dX1_mixAverages_32 : decode cX1_mixAverages 32 = .ok (.i2l, 1) := dk_133 (dk_at dksX1_mixAverages_1 10 rfl rfl)
theorem dX1_mixAverages_33 : decode cX1_mixAverages 33 = .ok (.invokevirtual 274, 3) := dk_182 1 18 (dk_at dksX1_mixAverages_1 11 rfl rfl)
theorem dX1_mixAverages_36 : decode cX1_mixAverages 36 = .ok (.iconst 0, 1) := dk_3 (dk_at dksX1_mixAverages_1 14 rfl rfl)
theorem dX1_mixAverages_37 : decode cX1_mixAverages 37 = .ok (.istore_n 3, 1) := dk_62 (dk_at dksX1_mixAverages_1 15 rfl rfl)
theorem dX1_mixAverages_38 : decode cX1_mixAverages 38 = .ok (.iload_n 3, 1) := dk_29 (dk_at dksX1_mixAverages_1 16 rfl rfl)
theorem dX1_mixAverages_39 : decode cX1_mixAverages 39 = .ok (.iconst 2, 1) := dk_5 (dk_at dksX1_mixAverages_1 17 rfl rfl)
theorem dX1_mixAverages_40 : decode cX1_mixAverages 40 = .ok (.if_icmp .ge 29, 3) := dk_162 0 29 (dk_at dksX1_mixAverages_1 18 rfl rfl)
theorem dX1_mixAverages_43 : decode cX1_mixAverages 43 = .ok (.aload_n 0, 1) := dk_42 (dk_at dksX1_mixAverages_1 21 rfl rfl)
theorem dX1_mixAverages_44 : decode cX1_mixAverages 44 = .ok (.iload_n 2, 1) := dk_28 (dk_at dksX1_mixAverages_1 22 rfl rfl)
theorem dX1_mixAverages_45 : decode cX1_mixAverages 45 = .ok (.ifCond .eq 14, 3) := dk_153 0 14 (dk_at dksX1_mixAverages_2 0 rfl rfl)
theorem dX1_mixAverages_48 : decode cX1_mixAverages 48 = .ok (.aload_n 1, 1) := dk_43 (dk_at dksX1_mixAverages_2 3 rfl rfl)
theorem dX1_mixAverages_49 : decode cX1_mixAverages 49 = .ok (.invokevirtual 199, 3) := dk_182 0 199 (dk_at dksX1_mixAverages_2 4 rfl rfl)
theorem dX1_mixAverages_52 : decode cX1_mixAverages 52 = .ok (.iload_n 3, 1) := dk_29 (dk_at dksX1_mixAverages_2 7 rfl rfl)
theorem dX1_mixAverages_53 : decode cX1_mixAverages 53 = .ok (.invokevirtual 203, 3) := dk_182 0 203 (dk_at dksX1_mixAverages_2 8 rfl rfl)
theorem dX1_mixAverages_56 : decode cX1_mixAverages 56 = .ok (.goto 4, 3) := dk_167 0 4 (dk_at dksX1_mixAverages_2 11 rfl rfl)
theorem dX1_mixAverages_59 : decode cX1_mixAverages 59 = .ok (.lconst 0, 1) := dk_9 (dk_at dksX1_mixAverages_2 14 rfl rfl)
theorem dX1_mixAverages_60 : decode cX1_mixAverages 60 = .ok (.invokevirtual 274, 3) := dk_182 1 18 (dk_at dksX1_mixAverages_2 15 rfl rfl)
theorem dX1_mixAverages_63 : decode cX1_mixAverages 63 = .ok (.iinc 3 1, 3) := dk_132 3 1 (dk_at dksX1_mixAverages_2 18 rfl rfl)
theorem dX1_mixAverages_66 : decode cX1_mixAverages 66 = .ok (.goto (-28), 3) := dk_167 255 228 (dk_at dksX1_mixAverages_2 21 rfl rfl)
theorem dX1_mixAverages_69 : decode cX1_mixAverages 69 = .ok (.iconst 0, 1) := dk_3 (dk_at dksX1_mixAverages_3 0 rfl rfl)
theorem dX1_mixAverages_70 : decode cX1_mixAverages 70 = .ok (.istore_n 3, 1) := dk_62 (dk_at dksX1_mixAverages_3 1 rfl rfl)
theorem dX1_mixAverages_71 : decode cX1_mixAverages 71 = .ok (.iload_n 3, 1) := dk_29 (dk_at dksX1_mixAverages_3 2 rfl rfl)
theorem dX1_mixAverages_72 : decode cX1_mixAverages 72 = .ok (.iconst 2, 1) := dk_5 (dk_at dksX1_mixAverages_3 3 rfl rfl)
theorem dX1_mixAverages_73 : decode cX1_mixAverages 73 = .ok (.aload_n 0, 1) := dk_42 (dk_at dksX1_mixAverages_3 4 rfl rfl)
theorem dX1_mixAverages_74 : decode cX1_mixAverages 74 = .ok (.getfield 22, 3) := dk_180 0 22 (dk_at dksX1_mixAverages_3 5 rfl rfl)
theorem dX1_mixAverages_77 : decode cX1_mixAverages 77 = .ok (.imul, 1) := dk_104 (dk_at dksX1_mixAverages_3 8 rfl rfl)
theorem dX1_mixAverages_78 : decode cX1_mixAverages 78 = .ok (.if_icmp .ge 34, 3) := dk_162 0 34 (dk_at dksX1_mixAverages_3 9 rfl rfl)
theorem dX1_mixAverages_81 : decode cX1_mixAverages 81 = .ok (.aload_n 0, 1) := dk_42 (dk_at dksX1_mixAverages_3 12 rfl rfl)
theorem dX1_mixAverages_82 : decode cX1_mixAverages 82 = .ok (.iload_n 2, 1) := dk_28 (dk_at dksX1_mixAverages_3 13 rfl rfl)
theorem dX1_mixAverages_83 : decode cX1_mixAverages 83 = .ok (.ifCond .eq 19, 3) := dk_153 0 19 (dk_at dksX1_mixAverages_3 14 rfl rfl)
theorem dX1_mixAverages_86 : decode cX1_mixAverages 86 = .ok (.aload_n 1, 1) := dk_43 (dk_at dksX1_mixAverages_3 17 rfl rfl)
theorem dX1_mixAverages_87 : decode cX1_mixAverages 87 = .ok (.iload_n 3, 1) := dk_29 (dk_at dksX1_mixAverages_3 18 rfl rfl)
theorem dX1_mixAverages_88 : decode cX1_mixAverages 88 = .ok (.iconst 2, 1) := dk_5 (dk_at dksX1_mixAverages_3 19 rfl rfl)
theorem dX1_mixAverages_89 : decode cX1_mixAverages 89 = .ok (.idiv, 1) := dk_108 (dk_at dksX1_mixAverages_3 20 rfl rfl)
theorem dX1_mixAverages_90 : decode cX1_mixAverages 90 = .ok (.invokevirtual 209, 3) := dk_182 0 209 (dk_at dksX1_mixAverages_3 21 rfl rfl)
theorem dX1_mixAverages_93 : decode cX1_mixAverages 93 = .ok (.iload_n 3, 1) := dk_29 (dk_at dksX1_mixAverages_4 0 rfl rfl)
theorem dX1_mixAverages_94 : decode cX1_mixAverages 94 = .ok (.iconst 2, 1) := dk_5 (dk_at dksX1_mixAverages_4 1 rfl rfl)
theorem dX1_mixAverages_95 : decode cX1_mixAverages 95 = .ok (.irem, 1) := dk_112 (dk_at dksX1_mixAverages_4 2 rfl rfl)
theorem dX1_mixAverages_96 : decode cX1_mixAverages 96 = .ok (.invokevirtual 203, 3) := dk_182 0 203 (dk_at dksX1_mixAverages_4 3 rfl rfl)
theorem dX1_mixAverages_99 : decode cX1_mixAverages 99 = .ok (.goto 4, 3) := dk_167 0 4 (dk_at dksX1_mixAverages_4 6 rfl rfl)
theorem dX1_mixAverages_102 : decode cX1_mixAverages 102 = .ok (.lconst 0, 1) := dk_9 (dk_at dksX1_mixAverages_4 9 rfl rfl)
theorem dX1_mixAverages_103 : decode cX1_mixAverages 103 = .ok (.invokevirtual 274, 3) := dk_182 1 18 (dk_at dksX1_mixAverages_4 10 rfl rfl)
theorem dX1_mixAverages_106 : decode cX1_mixAverages 106 = .ok (.iinc 3 1, 3) := dk_132 3 1 (dk_at dksX1_mixAverages_4 13 rfl rfl)
theorem dX1_mixAverages_109 : decode cX1_mixAverages 109 = .ok (.goto (-38), 3) := dk_167 255 218 (dk_at dksX1_mixAverages_4 16 rfl rfl)
theorem dX1_mixAverages_112 : decode cX1_mixAverages 112 = .ok (.aload_n 0, 1) := dk_42 (dk_at dksX1_mixAverages_4 19 rfl rfl)
theorem dX1_mixAverages_113 : decode cX1_mixAverages 113 = .ok (.iconst 2, 1) := dk_5 (dk_at dksX1_mixAverages_4 20 rfl rfl)
theorem dX1_mixAverages_114 : decode cX1_mixAverages 114 = .ok (.invokevirtual 248, 3) := dk_182 0 248 (dk_at dksX1_mixAverages_4 21 rfl rfl)
theorem dX1_mixAverages_117 : decode cX1_mixAverages 117 = .ok (.astore_n 3, 1) := dk_78 (dk_at dksX1_mixAverages_5 0 rfl rfl)
theorem dX1_mixAverages_118 : decode cX1_mixAverages 118 = .ok (.iconst 0, 1) := dk_3 (dk_at dksX1_mixAverages_5 1 rfl rfl)
theorem dX1_mixAverages_119 : decode cX1_mixAverages 119 = .ok (.istore 4, 2) := dk_54 4 (dk_at dksX1_mixAverages_5 2 rfl rfl)
theorem dX1_mixAverages_121 : decode cX1_mixAverages 121 = .ok (.iload 4, 2) := dk_21 4 (dk_at dksX1_mixAverages_5 4 rfl rfl)
theorem dX1_mixAverages_123 : decode cX1_mixAverages 123 = .ok (.iconst 3, 1) := dk_6 (dk_at dksX1_mixAverages_5 6 rfl rfl)
theorem dX1_mixAverages_124 : decode cX1_mixAverages 124 = .ok (.if_icmp .ge 20, 3) := dk_162 0 20 (dk_at dksX1_mixAverages_5 7 rfl rfl)
theorem dX1_mixAverages_127 : decode cX1_mixAverages 127 = .ok (.aload_n 0, 1) := dk_42 (dk_at dksX1_mixAverages_5 10 rfl rfl)
theorem dX1_mixAverages_128 : decode cX1_mixAverages 128 = .ok (.aload_n 0, 1) := dk_42 (dk_at dksX1_mixAverages_5 11 rfl rfl)
theorem dX1_mixAverages_129 : decode cX1_mixAverages 129 = .ok (.aload_n 3, 1) := dk_45 (dk_at dksX1_mixAverages_5 12 rfl rfl)
theorem dX1_mixAverages_130 : decode cX1_mixAverages 130 = .ok (.iload 4, 2) := dk_21 4 (dk_at dksX1_mixAverages_5 13 rfl rfl)
theorem dX1_mixAverages_132 : decode cX1_mixAverages 132 = .ok (.invokevirtual 252, 3) := dk_182 0 252 (dk_at dksX1_mixAverages_5 15 rfl rfl)
theorem dX1_mixAverages_135 : decode cX1_mixAverages 135 = .ok (.invokevirtual 274, 3) := dk_182 1 18 (dk_at dksX1_mixAverages_5 18 rfl rfl)
theorem dX1_mixAverages_138 : decode cX1_mixAverages 138 = .ok (.iinc 4 1, 3) := dk_132 4 1 (dk_at dksX1_mixAverages_5 21 rfl rfl)
theorem dX1_mixAverages_141 : decode cX1_mixAverages 141 = .ok (.goto (-20), 3) := dk_167 255 236 (dk_at dksX1_mixAverages_6 0 rfl rfl)
theorem dX1_mixAverages_144 : decode cX1_mixAverages 144 = .ok (.aload_n 0, 1) := dk_42 (dk_at dksX1_mixAverages_6 3 rfl rfl)
theorem dX1_mixAverages_145 : decode cX1_mixAverages 145 = .ok (.aload_n 0, 1) := dk_42 (dk_at dksX1_mixAverages_6 4 rfl rfl)
theorem dX1_mixAverages_146 : decode cX1_mixAverages 146 = .ok (.invokevirtual 263, 3) := dk_182 1 7 (dk_at dksX1_mixAverages_6 5 rfl rfl)
theorem dX1_mixAverages_149 : decode cX1_mixAverages 149 = .ok (.i2l, 1) := dk_133 (dk_at dksX1_mixAverages_6 8 rfl rfl)
theorem dX1_mixAverages_150 : decode cX1_mixAverages 150 = .ok (.invokevirtual 274, 3) := dk_182 1 18 (dk_at dksX1_mixAverages_6 9 rfl rfl)
theorem dX1_mixAverages_153 : decode cX1_mixAverages 153 = .ok (.return_, 1) := dk_177 (dk_at dksX1_mixAverages_6 12 rfl rfl)
abbrev cX1_partOf : ByteArray := prog_1_method_42_code
def yX1_partOf : MethodName := ⟨RX1, "partOf", "(LFlashRatchet$Candidate;I)J"⟩
def dkwX1_partOf_1 : List UInt8 := [180, 0, 244, 28, 4, 100, 182, 0, 203, 173]
abbrev dktX1_partOf_1 : List UInt8 := dkwX1_partOf_1 ++ []
def dkwX1_partOf_0 : List UInt8 := [43, 199, 0, 9, 20, 0, 241, 167, 0, 25, 28, 154, 0, 11, 43, 180, 0, 243, 133, 167, 0, 13, 43]
abbrev dktX1_partOf_0 : List UInt8 := dkwX1_partOf_0 ++ dktX1_partOf_1
theorem dksX1_partOf_0 : cX1_partOf.data.toList.drop 0 = dktX1_partOf_0 := by decide +kernel
theorem dksX1_partOf_1 : cX1_partOf.data.toList.drop 23 = dktX1_partOf_1 := dk_seg dksX1_partOf_0 23 rfl rfl
theorem dX1_partOf_0 : decode cX1_partOf 0 = .ok (.aload_n 1, 1) := dk_43 (dk_at dksX1_partOf_0 0 rfl rfl)
theorem dX1_partOf_1 : decode cX1_partOf 1 = .ok (.ifnonnull 9, 3) := dk_199 0 9 (dk_at dksX1_partOf_0 1 rfl rfl)
theorem dX1_partOf_4 : decode cX1_partOf 4 = .ok (.ldc2_w 241, 3) := dk_20 0 241 (dk_at dksX1_partOf_0 4 rfl rfl)
theorem dX1_partOf_7 : decode cX1_partOf 7 = .ok (.goto 25, 3) := dk_167 0 25 (dk_at dksX1_partOf_0 7 rfl rfl)
theorem dX1_partOf_10 : decode cX1_partOf 10 = .ok (.iload_n 2, 1) := dk_28 (dk_at dksX1_partOf_0 10 rfl rfl)
theorem dX1_partOf_11 : decode cX1_partOf 11 = .ok (.ifCond .ne 11, 3) := dk_154 0 11 (dk_at dksX1_partOf_0 11 rfl rfl)
theorem dX1_partOf_14 : decode cX1_partOf 14 = .ok (.aload_n 1, 1) := dk_43 (dk_at dksX1_partOf_0 14 rfl rfl)
theorem dX1_partOf_15 : decode cX1_partOf 15 = .ok (.getfield 243, 3) := dk_180 0 243 (dk_at dksX1_partOf_0 15 rfl rfl)
theorem dX1_partOf_18 : decode cX1_partOf 18 = .ok (.i2l, 1) := dk_133 (dk_at dksX1_partOf_0 18 rfl rfl)
theorem dX1_partOf_19 : decode cX1_partOf 19 = .ok (.goto 13, 3) := dk_167 0 13 (dk_at dksX1_partOf_0 19 rfl rfl)
theorem dX1_partOf_22 : decode cX1_partOf 22 = .ok (.aload_n 1, 1) := dk_43 (dk_at dksX1_partOf_0 22 rfl rfl)
theorem dX1_partOf_23 : decode cX1_partOf 23 = .ok (.getfield 244, 3) := dk_180 0 244 (dk_at dksX1_partOf_1 0 rfl rfl)
theorem dX1_partOf_26 : decode cX1_partOf 26 = .ok (.iload_n 2, 1) := dk_28 (dk_at dksX1_partOf_1 3 rfl rfl)
theorem dX1_partOf_27 : decode cX1_partOf 27 = .ok (.iconst 1, 1) := dk_4 (dk_at dksX1_partOf_1 4 rfl rfl)
theorem dX1_partOf_28 : decode cX1_partOf 28 = .ok (.isub, 1) := dk_100 (dk_at dksX1_partOf_1 5 rfl rfl)
theorem dX1_partOf_29 : decode cX1_partOf 29 = .ok (.invokevirtual 203, 3) := dk_182 0 203 (dk_at dksX1_partOf_1 6 rfl rfl)
theorem dX1_partOf_32 : decode cX1_partOf 32 = .ok (.lreturn, 1) := dk_173 (dk_at dksX1_partOf_1 9 rfl rfl)
abbrev cX1_begin : ByteArray := prog_1_method_17_code
def yX1_begin : MethodName := ⟨RX1, "begin", "(I)I"⟩
def dkwX1_begin_3 : List UInt8 := [3, 181, 0, 73, 42, 3, 181, 0, 76, 42, 3, 181, 0, 79, 28, 172]
abbrev dktX1_begin_3 : List UInt8 := dkwX1_begin_3 ++ []
def dkwX1_begin_2 : List UInt8 := [181, 0, 30, 42, 3, 181, 0, 49, 42, 4, 181, 0, 33, 42, 3, 181, 0, 67, 42, 3, 181, 0, 70, 42]
abbrev dktX1_begin_2 : List UInt8 := dkwX1_begin_2 ++ dktX1_begin_3
def dkwX1_begin_1 : List UInt8 := [180, 0, 26, 190, 162, 0, 16, 42, 180, 0, 26, 29, 3, 79, 132, 3, 1, 167, 255, 237, 42, 16, 7]
abbrev dktX1_begin_1 : List UInt8 := dkwX1_begin_1 ++ dktX1_begin_2
def dkwX1_begin_0 : List UInt8 := [27, 5, 7, 184, 0, 15, 184, 0, 63, 42, 180, 0, 22, 61, 42, 27, 181, 0, 22, 3, 62, 29, 42]
abbrev dktX1_begin_0 : List UInt8 := dkwX1_begin_0 ++ dktX1_begin_1
theorem dksX1_begin_0 : cX1_begin.data.toList.drop 0 = dktX1_begin_0 := by decide +kernel
theorem dksX1_begin_1 : cX1_begin.data.toList.drop 23 = dktX1_begin_1 := dk_seg dksX1_begin_0 23 rfl rfl
theorem dksX1_begin_2 : cX1_begin.data.toList.drop 46 = dktX1_begin_2 := dk_seg dksX1_begin_1 23 rfl rfl
theorem dksX1_begin_3 : cX1_begin.data.toList.drop 70 = dktX1_begin_3 := dk_seg dksX1_begin_2 24 rfl rfl
theorem dX1_begin_0 : decode cX1_begin 0 = .ok (.iload_n 1, 1) := dk_27 (dk_at dksX1_begin_0 0 rfl rfl)
theorem dX1_begin_1 : decode cX1_begin 1 = .ok (.iconst 2, 1) := dk_5 (dk_at dksX1_begin_0 1 rfl rfl)
theorem dX1_begin_2 : decode cX1_begin 2 = .ok (.iconst 4, 1) := dk_7 (dk_at dksX1_begin_0 2 rfl rfl)
theorem dX1_begin_3 : decode cX1_begin 3 = .ok (.invokestatic 15, 3) := dk_184 0 15 (dk_at dksX1_begin_0 3 rfl rfl)
theorem dX1_begin_6 : decode cX1_begin 6 = .ok (.invokestatic 63, 3) := dk_184 0 63 (dk_at dksX1_begin_0 6 rfl rfl)
theorem dX1_begin_9 : decode cX1_begin 9 = .ok (.aload_n 0, 1) := dk_42 (dk_at dksX1_begin_0 9 rfl rfl)
theorem dX1_begin_10 : decode cX1_begin 10 = .ok (.getfield 22, 3) := dk_180 0 22 (dk_at dksX1_begin_0 10 rfl rfl)
theorem dX1_begin_13 : decode cX1_begin 13 = .ok (.istore_n 2, 1) := dk_61 (dk_at dksX1_begin_0 13 rfl rfl)
theorem dX1_begin_14 : decode cX1_begin 14 = .ok (.aload_n 0, 1) := dk_42 (dk_at dksX1_begin_0 14 rfl rfl)
theorem dX1_begin_15 : decode cX1_begin 15 = .ok (.iload_n 1, 1) := dk_27 (dk_at dksX1_begin_0 15 rfl rfl)
theorem dX1_begin_16 : decode cX1_begin 16 = .ok (.putfield 22, 3) := dk_181 0 22 (dk_at dksX1_begin_0 16 rfl rfl)
theorem dX1_begin_19 : decode cX1_begin 19 = .ok (.iconst 0, 1) := dk_3 (dk_at dksX1_begin_0 19 rfl rfl)
theorem dX1_begin_20 : decode cX1_begin 20 = .ok (.istore_n 3, 1) := dk_62 (dk_at dksX1_begin_0 20 rfl rfl)
theorem dX1_begin_21 : decode cX1_begin 21 = .ok (.iload_n 3, 1) := dk_29 (dk_at dksX1_begin_0 21 rfl rfl)
theorem dX1_begin_22 : decode cX1_begin 22 = .ok (.aload_n 0, 1) := dk_42 (dk_at dksX1_begin_0 22 rfl rfl)
theorem dX1_begin_23 : decode cX1_begin 23 = .ok (.getfield 26, 3) := dk_180 0 26 (dk_at dksX1_begin_1 0 rfl rfl)
theorem dX1_begin_26 : decode cX1_begin 26 = .ok (.arraylength, 1) := dk_190 (dk_at dksX1_begin_1 3 rfl rfl)
theorem dX1_begin_27 : decode cX1_begin 27 = .ok (.if_icmp .ge 16, 3) := dk_162 0 16 (dk_at dksX1_begin_1 4 rfl rfl)
theorem dX1_begin_30 : decode cX1_begin 30 = .ok (.aload_n 0, 1) := dk_42 (dk_at dksX1_begin_1 7 rfl rfl)
theorem dX1_begin_31 : decode cX1_begin 31 = .ok (.getfield 26, 3) := dk_180 0 26 (dk_at dksX1_begin_1 8 rfl rfl)
theorem dX1_begin_34 : decode cX1_begin 34 = .ok (.iload_n 3, 1) := dk_29 (dk_at dksX1_begin_1 11 rfl rfl)
theorem dX1_begin_35 : decode cX1_begin 35 = .ok (.iconst 0, 1) := dk_3 (dk_at dksX1_begin_1 12 rfl rfl)
theorem dX1_begin_36 : decode cX1_begin 36 = .ok (.iastore, 1) := dk_79 (dk_at dksX1_begin_1 13 rfl rfl)
theorem dX1_begin_37 : decode cX1_begin 37 = .ok (.iinc 3 1, 3) := dk_132 3 1 (dk_at dksX1_begin_1 14 rfl rfl)
theorem dX1_begin_40 : decode cX1_begin 40 = .ok (.goto (-19), 3) := dk_167 255 237 (dk_at dksX1_begin_1 17 rfl rfl)
theorem dX1_begin_43 : decode cX1_begin 43 = .ok (.aload_n 0, 1) := dk_42 (dk_at dksX1_begin_1 20 rfl rfl)
theorem dX1_begin_44 : decode cX1_begin 44 = .ok (.bipush 7, 2) := dk_16 7 (dk_at dksX1_begin_1 21 rfl rfl)
theorem dX1_begin_46 : decode cX1_begin 46 = .ok (.putfield 30, 3) := dk_181 0 30 (dk_at dksX1_begin_2 0 rfl rfl)
theorem dX1_begin_49 : decode cX1_begin 49 = .ok (.aload_n 0, 1) := dk_42 (dk_at dksX1_begin_2 3 rfl rfl)
theorem dX1_begin_50 : decode cX1_begin 50 = .ok (.iconst 0, 1) := dk_3 (dk_at dksX1_begin_2 4 rfl rfl)
theorem dX1_begin_51 : decode cX1_begin 51 = .ok (.putfield 49, 3) := dk_181 0 49 (dk_at dksX1_begin_2 5 rfl rfl)
theorem dX1_begin_54 : decode cX1_begin 54 = .ok (.aload_n 0, 1) := dk_42 (dk_at dksX1_begin_2 8 rfl rfl)
theorem dX1_begin_55 : decode cX1_begin 55 = .ok (.iconst 1, 1) := dk_4 (dk_at dksX1_begin_2 9 rfl rfl)
theorem dX1_begin_56 : decode cX1_begin 56 = .ok (.putfield 33, 3) := dk_181 0 33 (dk_at dksX1_begin_2 10 rfl rfl)
theorem dX1_begin_59 : decode cX1_begin 59 = .ok (.aload_n 0, 1) := dk_42 (dk_at dksX1_begin_2 13 rfl rfl)
theorem dX1_begin_60 : decode cX1_begin 60 = .ok (.iconst 0, 1) := dk_3 (dk_at dksX1_begin_2 14 rfl rfl)
theorem dX1_begin_61 : decode cX1_begin 61 = .ok (.putfield 67, 3) := dk_181 0 67 (dk_at dksX1_begin_2 15 rfl rfl)
theorem dX1_begin_64 : decode cX1_begin 64 = .ok (.aload_n 0, 1) := dk_42 (dk_at dksX1_begin_2 18 rfl rfl)
theorem dX1_begin_65 : decode cX1_begin 65 = .ok (.iconst 0, 1) := dk_3 (dk_at dksX1_begin_2 19 rfl rfl)
theorem dX1_begin_66 : decode cX1_begin 66 = .ok (.putfield 70, 3) := dk_181 0 70 (dk_at dksX1_begin_2 20 rfl rfl)
theorem dX1_begin_69 : decode cX1_begin 69 = .ok (.aload_n 0, 1) := dk_42 (dk_at dksX1_begin_2 23 rfl rfl)
theorem dX1_begin_70 : decode cX1_begin 70 = .ok (.iconst 0, 1) := dk_3 (dk_at dksX1_begin_3 0 rfl rfl)
theorem dX1_begin_71 : decode cX1_begin 71 = .ok (.putfield 73, 3) := dk_181 0 73 (dk_at dksX1_begin_3 1 rfl rfl)
theorem dX1_begin_74 : decode cX1_begin 74 = .ok (.aload_n 0, 1) := dk_42 (dk_at dksX1_begin_3 4 rfl rfl)
theorem dX1_begin_75 : decode cX1_begin 75 = .ok (.iconst 0, 1) := dk_3 (dk_at dksX1_begin_3 5 rfl rfl)
theorem dX1_begin_76 : decode cX1_begin 76 = .ok (.putfield 76, 3) := dk_181 0 76 (dk_at dksX1_begin_3 6 rfl rfl)
theorem dX1_begin_79 : decode cX1_begin 79 = .ok (.aload_n 0, 1) := dk_42 (dk_at dksX1_begin_3 9 rfl rfl)
theorem dX1_begin_80 : decode cX1_begin 80 = .ok (.iconst 0, 1) := dk_3 (dk_at dksX1_begin_3 10 rfl rfl)
theorem dX1_begin_81 : decode cX1_begin 81 = .ok (.putfield 79, 3) := dk_181 0 79 (dk_at dksX1_begin_3 11 rfl rfl)
theorem dX1_begin_84 : decode cX1_begin 84 = .ok (.iload_n 2, 1) := dk_28 (dk_at dksX1_begin_3 14 rfl rfl)
theorem dX1_begin_85 : decode cX1_begin 85 = .ok (.ireturn, 1) := dk_172 (dk_at dksX1_begin_3 15 rfl rfl)
abbrev cX1_require : ByteArray := prog_1_method_2_code
def yX1_require : MethodName := ⟨RX1, "require", "(Z)V"⟩
def dkwX1_require_0 : List UInt8 := [26, 154, 0, 11, 187, 0, 1, 89, 183, 0, 3, 191, 177]
abbrev dktX1_require_0 : List UInt8 := dkwX1_require_0 ++ []
theorem dksX1_require_0 : cX1_require.data.toList.drop 0 = dktX1_require_0 := by decide +kernel
theorem dX1_require_0 : decode cX1_require 0 = .ok (.iload_n 0, 1) := dk_26 (dk_at dksX1_require_0 0 rfl rfl)
theorem dX1_require_1 : decode cX1_require 1 = .ok (.ifCond .ne 11, 3) := dk_154 0 11 (dk_at dksX1_require_0 1 rfl rfl)
theorem dX1_require_4 : decode cX1_require 4 = .ok (.new 1, 3) := dk_187 0 1 (dk_at dksX1_require_0 4 rfl rfl)
theorem dX1_require_7 : decode cX1_require 7 = .ok (.dup, 1) := dk_89 (dk_at dksX1_require_0 7 rfl rfl)
theorem dX1_require_8 : decode cX1_require 8 = .ok (.invokespecial 3, 3) := dk_183 0 3 (dk_at dksX1_require_0 8 rfl rfl)
theorem dX1_require_11 : decode cX1_require 11 = .ok (.athrow, 1) := dk_191 (dk_at dksX1_require_0 11 rfl rfl)
theorem dX1_require_12 : decode cX1_require 12 = .ok (.return_, 1) := dk_177 (dk_at dksX1_require_0 12 rfl rfl)
abbrev cX1_setTable : ByteArray := prog_1_method_18_code
def yX1_setTable : MethodName := ⟨RX1, "setTable", "(IIII)I"⟩
def dkwX1_setTable_3 : List UInt8 := [16, 100, 29, 104, 21, 4, 96, 79, 21, 5, 172]
abbrev dktX1_setTable_3 : List UInt8 := dkwX1_setTable_3 ++ []
def dkwX1_setTable_2 : List UInt8 := [167, 0, 4, 3, 184, 0, 63, 42, 27, 28, 182, 0, 52, 54, 5, 42, 180, 0, 26, 7, 27, 104, 28, 96]
abbrev dktX1_setTable_2 : List UInt8 := dkwX1_setTable_2 ++ dktX1_setTable_3
def dkwX1_setTable_1 : List UInt8 := [3, 16, 10, 184, 0, 15, 153, 0, 20, 21, 4, 3, 16, 10, 29, 100, 184, 0, 15, 153, 0, 7, 4]
abbrev dktX1_setTable_1 : List UInt8 := dkwX1_setTable_1 ++ dktX1_setTable_2
def dkwX1_setTable_0 : List UInt8 := [27, 184, 0, 82, 153, 0, 15, 42, 28, 182, 0, 85, 153, 0, 7, 4, 167, 0, 4, 3, 184, 0, 88, 29]
abbrev dktX1_setTable_0 : List UInt8 := dkwX1_setTable_0 ++ dktX1_setTable_1
theorem dksX1_setTable_0 : cX1_setTable.data.toList.drop 0 = dktX1_setTable_0 := by decide +kernel
theorem dksX1_setTable_1 : cX1_setTable.data.toList.drop 24 = dktX1_setTable_1 := dk_seg dksX1_setTable_0 24 rfl rfl
theorem dksX1_setTable_2 : cX1_setTable.data.toList.drop 47 = dktX1_setTable_2 := dk_seg dksX1_setTable_1 23 rfl rfl
theorem dksX1_setTable_3 : cX1_setTable.data.toList.drop 71 = dktX1_setTable_3 := dk_seg dksX1_setTable_2 24 rfl rfl
theorem dX1_setTable_0 : decode cX1_setTable 0 = .ok (.iload_n 1, 1) := dk_27 (dk_at dksX1_setTable_0 0 rfl rfl)
theorem dX1_setTable_1 : decode cX1_setTable 1 = .ok (.invokestatic 82, 3) := dk_184 0 82 (dk_at dksX1_setTable_0 1 rfl rfl)
theorem dX1_setTable_4 : decode cX1_setTable 4 = .ok (.ifCond .eq 15, 3) := dk_153 0 15 (dk_at dksX1_setTable_0 4 rfl rfl)
theorem dX1_setTable_7 : decode cX1_setTable 7 = .ok (.aload_n 0, 1) := dk_42 (dk_at dksX1_setTable_0 7 rfl rfl)
theorem dX1_setTable_8 : decode cX1_setTable 8 = .ok (.iload_n 2, 1) := dk_28 (dk_at dksX1_setTable_0 8 rfl rfl)
theorem dX1_setTable_9 : decode cX1_setTable 9 = .ok (.invokevirtual 85, 3) := dk_182 0 85 (dk_at dksX1_setTable_0 9 rfl rfl)
theorem dX1_setTable_12 : decode cX1_setTable 12 = .ok (.ifCond .eq 7, 3) := dk_153 0 7 (dk_at dksX1_setTable_0 12 rfl rfl)
theorem dX1_setTable_15 : decode cX1_setTable 15 = .ok (.iconst 1, 1) := dk_4 (dk_at dksX1_setTable_0 15 rfl rfl)
theorem dX1_setTable_16 : decode cX1_setTable 16 = .ok (.goto 4, 3) := dk_167 0 4 (dk_at dksX1_setTable_0 16 rfl rfl)
theorem dX1_setTable_19 : decode cX1_setTable 19 = .ok (.iconst 0, 1) := dk_3 (dk_at dksX1_setTable_0 19 rfl rfl)
theorem dX1_setTable_20 : decode cX1_setTable 20 = .ok (.invokestatic 88, 3) := dk_184 0 88 (dk_at dksX1_setTable_0 20 rfl rfl)
theorem dX1_setTable_23 : decode cX1_setTable 23 = .ok (.iload_n 3, 1) := dk_29 (dk_at dksX1_setTable_0 23 rfl rfl)
theorem dX1_setTable_24 : decode cX1_setTable 24 = .ok (.iconst 0, 1) := dk_3 (dk_at dksX1_setTable_1 0 rfl rfl)
theorem dX1_setTable_25 : decode cX1_setTable 25 = .ok (.bipush 10, 2) := dk_16 10 (dk_at dksX1_setTable_1 1 rfl rfl)
theorem dX1_setTable_27 : decode cX1_setTable 27 = .ok (.invokestatic 15, 3) := dk_184 0 15 (dk_at dksX1_setTable_1 3 rfl rfl)
theorem dX1_setTable_30 : decode cX1_setTable 30 = .ok (.ifCond .eq 20, 3) := dk_153 0 20 (dk_at dksX1_setTable_1 6 rfl rfl)
theorem dX1_setTable_33 : decode cX1_setTable 33 = .ok (.iload 4, 2) := dk_21 4 (dk_at dksX1_setTable_1 9 rfl rfl)
theorem dX1_setTable_35 : decode cX1_setTable 35 = .ok (.iconst 0, 1) := dk_3 (dk_at dksX1_setTable_1 11 rfl rfl)
theorem dX1_setTable_36 : decode cX1_setTable 36 = .ok (.bipush 10, 2) := dk_16 10 (dk_at dksX1_setTable_1 12 rfl rfl)
theorem dX1_setTable_38 : decode cX1_setTable 38 = .ok (.iload_n 3, 1) := dk_29 (dk_at dksX1_setTable_1 14 rfl rfl)
theorem dX1_setTable_39 : decode cX1_setTable 39 = .ok (.isub, 1) := dk_100 (dk_at dksX1_setTable_1 15 rfl rfl)
theorem dX1_setTable_40 : decode cX1_setTable 40 = .ok (.invokestatic 15, 3) := dk_184 0 15 (dk_at dksX1_setTable_1 16 rfl rfl)
theorem dX1_setTable_43 : decode cX1_setTable 43 = .ok (.ifCond .eq 7, 3) := dk_153 0 7 (dk_at dksX1_setTable_1 19 rfl rfl)
theorem dX1_setTable_46 : decode cX1_setTable 46 = .ok (.iconst 1, 1) := dk_4 (dk_at dksX1_setTable_1 22 rfl rfl)
theorem dX1_setTable_47 : decode cX1_setTable 47 = .ok (.goto 4, 3) := dk_167 0 4 (dk_at dksX1_setTable_2 0 rfl rfl)
theorem dX1_setTable_50 : decode cX1_setTable 50 = .ok (.iconst 0, 1) := dk_3 (dk_at dksX1_setTable_2 3 rfl rfl)
theorem dX1_setTable_51 : decode cX1_setTable 51 = .ok (.invokestatic 63, 3) := dk_184 0 63 (dk_at dksX1_setTable_2 4 rfl rfl)
theorem dX1_setTable_54 : decode cX1_setTable 54 = .ok (.aload_n 0, 1) := dk_42 (dk_at dksX1_setTable_2 7 rfl rfl)
theorem dX1_setTable_55 : decode cX1_setTable 55 = .ok (.iload_n 1, 1) := dk_27 (dk_at dksX1_setTable_2 8 rfl rfl)
theorem dX1_setTable_56 : decode cX1_setTable 56 = .ok (.iload_n 2, 1) := dk_28 (dk_at dksX1_setTable_2 9 rfl rfl)
theorem dX1_setTable_57 : decode cX1_setTable 57 = .ok (.invokevirtual 52, 3) := dk_182 0 52 (dk_at dksX1_setTable_2 10 rfl rfl)
theorem dX1_setTable_60 : decode cX1_setTable 60 = .ok (.istore 5, 2) := dk_54 5 (dk_at dksX1_setTable_2 13 rfl rfl)
theorem dX1_setTable_62 : decode cX1_setTable 62 = .ok (.aload_n 0, 1) := dk_42 (dk_at dksX1_setTable_2 15 rfl rfl)
theorem dX1_setTable_63 : decode cX1_setTable 63 = .ok (.getfield 26, 3) := dk_180 0 26 (dk_at dksX1_setTable_2 16 rfl rfl)
theorem dX1_setTable_66 : decode cX1_setTable 66 = .ok (.iconst 4, 1) := dk_7 (dk_at dksX1_setTable_2 19 rfl rfl)
theorem dX1_setTable_67 : decode cX1_setTable 67 = .ok (.iload_n 1, 1) := dk_27 (dk_at dksX1_setTable_2 20 rfl rfl)
theorem dX1_setTable_68 : decode cX1_setTable 68 = .ok (.imul, 1) := dk_104 (dk_at dksX1_setTable_2 21 rfl rfl)
theorem dX1_setTable_69 : decode cX1_setTable 69 = .ok (.iload_n 2, 1) := dk_28 (dk_at dksX1_setTable_2 22 rfl rfl)
theorem dX1_setTable_70 : decode cX1_setTable 70 = .ok (.iadd, 1) := dk_96 (dk_at dksX1_setTable_2 23 rfl rfl)
theorem dX1_setTable_71 : decode cX1_setTable 71 = .ok (.bipush 100, 2) := dk_16 100 (dk_at dksX1_setTable_3 0 rfl rfl)
theorem dX1_setTable_73 : decode cX1_setTable 73 = .ok (.iload_n 3, 1) := dk_29 (dk_at dksX1_setTable_3 2 rfl rfl)
theorem dX1_setTable_74 : decode cX1_setTable 74 = .ok (.imul, 1) := dk_104 (dk_at dksX1_setTable_3 3 rfl rfl)
theorem dX1_setTable_75 : decode cX1_setTable 75 = .ok (.iload 4, 2) := dk_21 4 (dk_at dksX1_setTable_3 4 rfl rfl)
theorem dX1_setTable_77 : decode cX1_setTable 77 = .ok (.iadd, 1) := dk_96 (dk_at dksX1_setTable_3 6 rfl rfl)
theorem dX1_setTable_78 : decode cX1_setTable 78 = .ok (.iastore, 1) := dk_79 (dk_at dksX1_setTable_3 7 rfl rfl)
theorem dX1_setTable_79 : decode cX1_setTable 79 = .ok (.iload 5, 2) := dk_21 5 (dk_at dksX1_setTable_3 8 rfl rfl)
theorem dX1_setTable_81 : decode cX1_setTable 81 = .ok (.ireturn, 1) := dk_172 (dk_at dksX1_setTable_3 10 rfl rfl)
abbrev cX1_isPosition : ByteArray := prog_1_method_7_code
def yX1_isPosition : MethodName := ⟨RX1, "isPosition", "(I)Z"⟩
def dkwX1_isPosition_0 : List UInt8 := [27, 3, 42, 180, 0, 22, 4, 100, 184, 0, 15, 172]
abbrev dktX1_isPosition_0 : List UInt8 := dkwX1_isPosition_0 ++ []
theorem dksX1_isPosition_0 : cX1_isPosition.data.toList.drop 0 = dktX1_isPosition_0 := by decide +kernel
theorem dX1_isPosition_0 : decode cX1_isPosition 0 = .ok (.iload_n 1, 1) := dk_27 (dk_at dksX1_isPosition_0 0 rfl rfl)
theorem dX1_isPosition_1 : decode cX1_isPosition 1 = .ok (.iconst 0, 1) := dk_3 (dk_at dksX1_isPosition_0 1 rfl rfl)
theorem dX1_isPosition_2 : decode cX1_isPosition 2 = .ok (.aload_n 0, 1) := dk_42 (dk_at dksX1_isPosition_0 2 rfl rfl)
theorem dX1_isPosition_3 : decode cX1_isPosition 3 = .ok (.getfield 22, 3) := dk_180 0 22 (dk_at dksX1_isPosition_0 3 rfl rfl)
theorem dX1_isPosition_6 : decode cX1_isPosition 6 = .ok (.iconst 1, 1) := dk_4 (dk_at dksX1_isPosition_0 6 rfl rfl)
theorem dX1_isPosition_7 : decode cX1_isPosition 7 = .ok (.isub, 1) := dk_100 (dk_at dksX1_isPosition_0 7 rfl rfl)
theorem dX1_isPosition_8 : decode cX1_isPosition 8 = .ok (.invokestatic 15, 3) := dk_184 0 15 (dk_at dksX1_isPosition_0 8 rfl rfl)
theorem dX1_isPosition_11 : decode cX1_isPosition 11 = .ok (.ireturn, 1) := dk_172 (dk_at dksX1_isPosition_0 11 rfl rfl)
abbrev cX1_requireIndex : ByteArray := prog_1_method_4_code
def yX1_requireIndex : MethodName := ⟨RX1, "requireIndex", "(Z)V"⟩
def dkwX1_requireIndex_0 : List UInt8 := [26, 154, 0, 11, 187, 0, 10, 89, 183, 0, 12, 191, 177]
abbrev dktX1_requireIndex_0 : List UInt8 := dkwX1_requireIndex_0 ++ []
theorem dksX1_requireIndex_0 : cX1_requireIndex.data.toList.drop 0 = dktX1_requireIndex_0 := by decide +kernel
theorem dX1_requireIndex_0 : decode cX1_requireIndex 0 = .ok (.iload_n 0, 1) := dk_26 (dk_at dksX1_requireIndex_0 0 rfl rfl)
theorem dX1_requireIndex_1 : decode cX1_requireIndex 1 = .ok (.ifCond .ne 11, 3) := dk_154 0 11 (dk_at dksX1_requireIndex_0 1 rfl rfl)
theorem dX1_requireIndex_4 : decode cX1_requireIndex 4 = .ok (.new 10, 3) := dk_187 0 10 (dk_at dksX1_requireIndex_0 4 rfl rfl)
theorem dX1_requireIndex_7 : decode cX1_requireIndex 7 = .ok (.dup, 1) := dk_89 (dk_at dksX1_requireIndex_0 7 rfl rfl)
theorem dX1_requireIndex_8 : decode cX1_requireIndex 8 = .ok (.invokespecial 12, 3) := dk_183 0 12 (dk_at dksX1_requireIndex_0 8 rfl rfl)
theorem dX1_requireIndex_11 : decode cX1_requireIndex 11 = .ok (.athrow, 1) := dk_191 (dk_at dksX1_requireIndex_0 11 rfl rfl)
theorem dX1_requireIndex_12 : decode cX1_requireIndex 12 = .ok (.return_, 1) := dk_177 (dk_at dksX1_requireIndex_0 12 rfl rfl)
abbrev cX1_gear : ByteArray := prog_1_method_20_code
def yX1_gear : MethodName := ⟨RX1, "gear", "(IZ)I"⟩
def dkwX1_gear_1 : List UInt8 := [184, 0, 95, 172]
abbrev dktX1_gear_1 : List UInt8 := dkwX1_gear_1 ++ []
def dkwX1_gear_0 : List UInt8 := [27, 184, 0, 82, 184, 0, 88, 42, 42, 180, 0, 30, 27, 28, 184, 0, 91, 181, 0, 30, 42, 180, 0, 30]
abbrev dktX1_gear_0 : List UInt8 := dkwX1_gear_0 ++ dktX1_gear_1
theorem dksX1_gear_0 : cX1_gear.data.toList.drop 0 = dktX1_gear_0 := by decide +kernel
theorem dksX1_gear_1 : cX1_gear.data.toList.drop 24 = dktX1_gear_1 := dk_seg dksX1_gear_0 24 rfl rfl
theorem dX1_gear_0 : decode cX1_gear 0 = .ok (.iload_n 1, 1) := dk_27 (dk_at dksX1_gear_0 0 rfl rfl)
theorem dX1_gear_1 : decode cX1_gear 1 = .ok (.invokestatic 82, 3) := dk_184 0 82 (dk_at dksX1_gear_0 1 rfl rfl)
theorem dX1_gear_4 : decode cX1_gear 4 = .ok (.invokestatic 88, 3) := dk_184 0 88 (dk_at dksX1_gear_0 4 rfl rfl)
theorem dX1_gear_7 : decode cX1_gear 7 = .ok (.aload_n 0, 1) := dk_42 (dk_at dksX1_gear_0 7 rfl rfl)
theorem dX1_gear_8 : decode cX1_gear 8 = .ok (.aload_n 0, 1) := dk_42 (dk_at dksX1_gear_0 8 rfl rfl)
theorem dX1_gear_9 : decode cX1_gear 9 = .ok (.getfield 30, 3) := dk_180 0 30 (dk_at dksX1_gear_0 9 rfl rfl)
theorem dX1_gear_12 : decode cX1_gear 12 = .ok (.iload_n 1, 1) := dk_27 (dk_at dksX1_gear_0 12 rfl rfl)
theorem dX1_gear_13 : decode cX1_gear 13 = .ok (.iload_n 2, 1) := dk_28 (dk_at dksX1_gear_0 13 rfl rfl)
theorem dX1_gear_14 : decode cX1_gear 14 = .ok (.invokestatic 91, 3) := dk_184 0 91 (dk_at dksX1_gear_0 14 rfl rfl)
theorem dX1_gear_17 : decode cX1_gear 17 = .ok (.putfield 30, 3) := dk_181 0 30 (dk_at dksX1_gear_0 17 rfl rfl)
theorem dX1_gear_20 : decode cX1_gear 20 = .ok (.aload_n 0, 1) := dk_42 (dk_at dksX1_gear_0 20 rfl rfl)
theorem dX1_gear_21 : decode cX1_gear 21 = .ok (.getfield 30, 3) := dk_180 0 30 (dk_at dksX1_gear_0 21 rfl rfl)
theorem dX1_gear_24 : decode cX1_gear 24 = .ok (.invokestatic 95, 3) := dk_184 0 95 (dk_at dksX1_gear_1 0 rfl rfl)
theorem dX1_gear_27 : decode cX1_gear 27 = .ok (.ireturn, 1) := dk_172 (dk_at dksX1_gear_1 3 rfl rfl)
abbrev cX1_with : ByteArray := prog_1_method_19_code
def yX1_with : MethodName := ⟨RX1, "with", "(IIZ)I"⟩
def dkwX1_with_0 : List UInt8 := [28, 153, 0, 11, 26, 4, 27, 120, 128, 167, 0, 10, 26, 4, 27, 120, 2, 130, 126, 172]
abbrev dktX1_with_0 : List UInt8 := dkwX1_with_0 ++ []
theorem dksX1_with_0 : cX1_with.data.toList.drop 0 = dktX1_with_0 := by decide +kernel
theorem dX1_with_0 : decode cX1_with 0 = .ok (.iload_n 2, 1) := dk_28 (dk_at dksX1_with_0 0 rfl rfl)
theorem dX1_with_1 : decode cX1_with 1 = .ok (.ifCond .eq 11, 3) := dk_153 0 11 (dk_at dksX1_with_0 1 rfl rfl)
theorem dX1_with_4 : decode cX1_with 4 = .ok (.iload_n 0, 1) := dk_26 (dk_at dksX1_with_0 4 rfl rfl)
theorem dX1_with_5 : decode cX1_with 5 = .ok (.iconst 1, 1) := dk_4 (dk_at dksX1_with_0 5 rfl rfl)
theorem dX1_with_6 : decode cX1_with 6 = .ok (.iload_n 1, 1) := dk_27 (dk_at dksX1_with_0 6 rfl rfl)
theorem dX1_with_7 : decode cX1_with 7 = .ok (.ishl, 1) := dk_120 (dk_at dksX1_with_0 7 rfl rfl)
theorem dX1_with_8 : decode cX1_with 8 = .ok (.ior, 1) := dk_128 (dk_at dksX1_with_0 8 rfl rfl)
theorem dX1_with_9 : decode cX1_with 9 = .ok (.goto 10, 3) := dk_167 0 10 (dk_at dksX1_with_0 9 rfl rfl)
theorem dX1_with_12 : decode cX1_with 12 = .ok (.iload_n 0, 1) := dk_26 (dk_at dksX1_with_0 12 rfl rfl)
theorem dX1_with_13 : decode cX1_with 13 = .ok (.iconst 1, 1) := dk_4 (dk_at dksX1_with_0 13 rfl rfl)
theorem dX1_with_14 : decode cX1_with 14 = .ok (.iload_n 1, 1) := dk_27 (dk_at dksX1_with_0 14 rfl rfl)
theorem dX1_with_15 : decode cX1_with 15 = .ok (.ishl, 1) := dk_120 (dk_at dksX1_with_0 15 rfl rfl)
theorem dX1_with_16 : decode cX1_with 16 = .ok (.iconst (-1), 1) := dk_2 (dk_at dksX1_with_0 16 rfl rfl)
theorem dX1_with_17 : decode cX1_with 17 = .ok (.ixor, 1) := dk_130 (dk_at dksX1_with_0 17 rfl rfl)
theorem dX1_with_18 : decode cX1_with 18 = .ok (.iand, 1) := dk_126 (dk_at dksX1_with_0 18 rfl rfl)
theorem dX1_with_19 : decode cX1_with 19 = .ok (.ireturn, 1) := dk_172 (dk_at dksX1_with_0 19 rfl rfl)
abbrev cX1_pawl : ByteArray := prog_1_method_21_code
def yX1_pawl : MethodName := ⟨RX1, "pawl", "(IZ)I"⟩
def dkwX1_pawl_1 : List UInt8 := [180, 0, 49, 184, 0, 95, 172]
abbrev dktX1_pawl_1 : List UInt8 := dkwX1_pawl_1 ++ []
def dkwX1_pawl_0 : List UInt8 := [42, 27, 182, 0, 85, 184, 0, 88, 42, 42, 180, 0, 49, 27, 28, 184, 0, 91, 181, 0, 49, 42]
abbrev dktX1_pawl_0 : List UInt8 := dkwX1_pawl_0 ++ dktX1_pawl_1
theorem dksX1_pawl_0 : cX1_pawl.data.toList.drop 0 = dktX1_pawl_0 := by decide +kernel
theorem dksX1_pawl_1 : cX1_pawl.data.toList.drop 22 = dktX1_pawl_1 := dk_seg dksX1_pawl_0 22 rfl rfl
theorem dX1_pawl_0 : decode cX1_pawl 0 = .ok (.aload_n 0, 1) := dk_42 (dk_at dksX1_pawl_0 0 rfl rfl)
theorem dX1_pawl_1 : decode cX1_pawl 1 = .ok (.iload_n 1, 1) := dk_27 (dk_at dksX1_pawl_0 1 rfl rfl)
theorem dX1_pawl_2 : decode cX1_pawl 2 = .ok (.invokevirtual 85, 3) := dk_182 0 85 (dk_at dksX1_pawl_0 2 rfl rfl)
theorem dX1_pawl_5 : decode cX1_pawl 5 = .ok (.invokestatic 88, 3) := dk_184 0 88 (dk_at dksX1_pawl_0 5 rfl rfl)
theorem dX1_pawl_8 : decode cX1_pawl 8 = .ok (.aload_n 0, 1) := dk_42 (dk_at dksX1_pawl_0 8 rfl rfl)
theorem dX1_pawl_9 : decode cX1_pawl 9 = .ok (.aload_n 0, 1) := dk_42 (dk_at dksX1_pawl_0 9 rfl rfl)
theorem dX1_pawl_10 : decode cX1_pawl 10 = .ok (.getfield 49, 3) := dk_180 0 49 (dk_at dksX1_pawl_0 10 rfl rfl)
theorem dX1_pawl_13 : decode cX1_pawl 13 = .ok (.iload_n 1, 1) := dk_27 (dk_at dksX1_pawl_0 13 rfl rfl)
theorem dX1_pawl_14 : decode cX1_pawl 14 = .ok (.iload_n 2, 1) := dk_28 (dk_at dksX1_pawl_0 14 rfl rfl)
theorem dX1_pawl_15 : decode cX1_pawl 15 = .ok (.invokestatic 91, 3) := dk_184 0 91 (dk_at dksX1_pawl_0 15 rfl rfl)
theorem dX1_pawl_18 : decode cX1_pawl 18 = .ok (.putfield 49, 3) := dk_181 0 49 (dk_at dksX1_pawl_0 18 rfl rfl)
theorem dX1_pawl_21 : decode cX1_pawl 21 = .ok (.aload_n 0, 1) := dk_42 (dk_at dksX1_pawl_0 21 rfl rfl)
theorem dX1_pawl_22 : decode cX1_pawl 22 = .ok (.getfield 49, 3) := dk_180 0 49 (dk_at dksX1_pawl_1 0 rfl rfl)
theorem dX1_pawl_25 : decode cX1_pawl 25 = .ok (.invokestatic 95, 3) := dk_184 0 95 (dk_at dksX1_pawl_1 3 rfl rfl)
theorem dX1_pawl_28 : decode cX1_pawl 28 = .ok (.ireturn, 1) := dk_172 (dk_at dksX1_pawl_1 6 rfl rfl)
abbrev cX1_setProgram : ByteArray := prog_1_method_22_code
def yX1_setProgram : MethodName := ⟨RX1, "setProgram", "(I)I"⟩
def dkwX1_setProgram_0 : List UInt8 := [27, 184, 0, 100, 184, 0, 63, 42, 180, 0, 33, 61, 42, 27, 181, 0, 33, 42, 3, 181, 0, 67, 28, 172]
abbrev dktX1_setProgram_0 : List UInt8 := dkwX1_setProgram_0 ++ []
theorem dksX1_setProgram_0 : cX1_setProgram.data.toList.drop 0 = dktX1_setProgram_0 := by decide +kernel
theorem dX1_setProgram_0 : decode cX1_setProgram 0 = .ok (.iload_n 1, 1) := dk_27 (dk_at dksX1_setProgram_0 0 rfl rfl)
theorem dX1_setProgram_1 : decode cX1_setProgram 1 = .ok (.invokestatic 100, 3) := dk_184 0 100 (dk_at dksX1_setProgram_0 1 rfl rfl)
theorem dX1_setProgram_4 : decode cX1_setProgram 4 = .ok (.invokestatic 63, 3) := dk_184 0 63 (dk_at dksX1_setProgram_0 4 rfl rfl)
theorem dX1_setProgram_7 : decode cX1_setProgram 7 = .ok (.aload_n 0, 1) := dk_42 (dk_at dksX1_setProgram_0 7 rfl rfl)
theorem dX1_setProgram_8 : decode cX1_setProgram 8 = .ok (.getfield 33, 3) := dk_180 0 33 (dk_at dksX1_setProgram_0 8 rfl rfl)
theorem dX1_setProgram_11 : decode cX1_setProgram 11 = .ok (.istore_n 2, 1) := dk_61 (dk_at dksX1_setProgram_0 11 rfl rfl)
theorem dX1_setProgram_12 : decode cX1_setProgram 12 = .ok (.aload_n 0, 1) := dk_42 (dk_at dksX1_setProgram_0 12 rfl rfl)
theorem dX1_setProgram_13 : decode cX1_setProgram 13 = .ok (.iload_n 1, 1) := dk_27 (dk_at dksX1_setProgram_0 13 rfl rfl)
theorem dX1_setProgram_14 : decode cX1_setProgram 14 = .ok (.putfield 33, 3) := dk_181 0 33 (dk_at dksX1_setProgram_0 14 rfl rfl)
theorem dX1_setProgram_17 : decode cX1_setProgram 17 = .ok (.aload_n 0, 1) := dk_42 (dk_at dksX1_setProgram_0 17 rfl rfl)
theorem dX1_setProgram_18 : decode cX1_setProgram 18 = .ok (.iconst 0, 1) := dk_3 (dk_at dksX1_setProgram_0 18 rfl rfl)
theorem dX1_setProgram_19 : decode cX1_setProgram 19 = .ok (.putfield 67, 3) := dk_181 0 67 (dk_at dksX1_setProgram_0 19 rfl rfl)
theorem dX1_setProgram_22 : decode cX1_setProgram 22 = .ok (.iload_n 2, 1) := dk_28 (dk_at dksX1_setProgram_0 22 rfl rfl)
theorem dX1_setProgram_23 : decode cX1_setProgram 23 = .ok (.ireturn, 1) := dk_172 (dk_at dksX1_setProgram_0 23 rfl rfl)
abbrev cX1_restart : ByteArray := prog_1_method_23_code
def yX1_restart : MethodName := ⟨RX1, "restart", "(II)I"⟩
def dkwX1_restart_2 : List UInt8 := [181, 0, 79, 29, 172]
abbrev dktX1_restart_2 : List UInt8 := dkwX1_restart_2 ++ []
def dkwX1_restart_1 : List UInt8 := [42, 27, 181, 0, 70, 42, 28, 181, 0, 73, 42, 3, 181, 0, 67, 42, 3, 181, 0, 76, 42, 3]
abbrev dktX1_restart_1 : List UInt8 := dkwX1_restart_1 ++ dktX1_restart_2
def dkwX1_restart_0 : List UInt8 := [42, 27, 182, 0, 85, 184, 0, 88, 28, 3, 17, 3, 231, 184, 0, 15, 184, 0, 63, 42, 180, 0, 76, 62]
abbrev dktX1_restart_0 : List UInt8 := dkwX1_restart_0 ++ dktX1_restart_1
theorem dksX1_restart_0 : cX1_restart.data.toList.drop 0 = dktX1_restart_0 := by decide +kernel
theorem dksX1_restart_1 : cX1_restart.data.toList.drop 24 = dktX1_restart_1 := dk_seg dksX1_restart_0 24 rfl rfl
theorem dksX1_restart_2 : cX1_restart.data.toList.drop 46 = dktX1_restart_2 := dk_seg dksX1_restart_1 22 rfl rfl
theorem dX1_restart_0 : decode cX1_restart 0 = .ok (.aload_n 0, 1) := dk_42 (dk_at dksX1_restart_0 0 rfl rfl)
theorem dX1_restart_1 : decode cX1_restart 1 = .ok (.iload_n 1, 1) := dk_27 (dk_at dksX1_restart_0 1 rfl rfl)
theorem dX1_restart_2 : decode cX1_restart 2 = .ok (.invokevirtual 85, 3) := dk_182 0 85 (dk_at dksX1_restart_0 2 rfl rfl)
theorem dX1_restart_5 : decode cX1_restart 5 = .ok (.invokestatic 88, 3) := dk_184 0 88 (dk_at dksX1_restart_0 5 rfl rfl)
theorem dX1_restart_8 : decode cX1_restart 8 = .ok (.iload_n 2, 1) := dk_28 (dk_at dksX1_restart_0 8 rfl rfl)
theorem dX1_restart_9 : decode cX1_restart 9 = .ok (.iconst 0, 1) := dk_3 (dk_at dksX1_restart_0 9 rfl rfl)
theorem dX1_restart_10 : decode cX1_restart 10 = .ok (.sipush 999, 3) := dk_17 3 231 (dk_at dksX1_restart_0 10 rfl rfl)
theorem dX1_restart_13 : decode cX1_restart 13 = .ok (.invokestatic 15, 3) := dk_184 0 15 (dk_at dksX1_restart_0 13 rfl rfl)
theorem dX1_restart_16 : decode cX1_restart 16 = .ok (.invokestatic 63, 3) := dk_184 0 63 (dk_at dksX1_restart_0 16 rfl rfl)
theorem dX1_restart_19 : decode cX1_restart 19 = .ok (.aload_n 0, 1) := dk_42 (dk_at dksX1_restart_0 19 rfl rfl)
theorem dX1_restart_20 : decode cX1_restart 20 = .ok (.getfield 76, 3) := dk_180 0 76 (dk_at dksX1_restart_0 20 rfl rfl)
theorem dX1_restart_23 : decode cX1_restart 23 = .ok (.istore_n 3, 1) := dk_62 (dk_at dksX1_restart_0 23 rfl rfl)
theorem dX1_restart_24 : decode cX1_restart 24 = .ok (.aload_n 0, 1) := dk_42 (dk_at dksX1_restart_1 0 rfl rfl)
theorem dX1_restart_25 : decode cX1_restart 25 = .ok (.iload_n 1, 1) := dk_27 (dk_at dksX1_restart_1 1 rfl rfl)
theorem dX1_restart_26 : decode cX1_restart 26 = .ok (.putfield 70, 3) := dk_181 0 70 (dk_at dksX1_restart_1 2 rfl rfl)
theorem dX1_restart_29 : decode cX1_restart 29 = .ok (.aload_n 0, 1) := dk_42 (dk_at dksX1_restart_1 5 rfl rfl)
theorem dX1_restart_30 : decode cX1_restart 30 = .ok (.iload_n 2, 1) := dk_28 (dk_at dksX1_restart_1 6 rfl rfl)
theorem dX1_restart_31 : decode cX1_restart 31 = .ok (.putfield 73, 3) := dk_181 0 73 (dk_at dksX1_restart_1 7 rfl rfl)
theorem dX1_restart_34 : decode cX1_restart 34 = .ok (.aload_n 0, 1) := dk_42 (dk_at dksX1_restart_1 10 rfl rfl)
theorem dX1_restart_35 : decode cX1_restart 35 = .ok (.iconst 0, 1) := dk_3 (dk_at dksX1_restart_1 11 rfl rfl)
theorem dX1_restart_36 : decode cX1_restart 36 = .ok (.putfield 67, 3) := dk_181 0 67 (dk_at dksX1_restart_1 12 rfl rfl)
theorem dX1_restart_39 : decode cX1_restart 39 = .ok (.aload_n 0, 1) := dk_42 (dk_at dksX1_restart_1 15 rfl rfl)
theorem dX1_restart_40 : decode cX1_restart 40 = .ok (.iconst 0, 1) := dk_3 (dk_at dksX1_restart_1 16 rfl rfl)
theorem dX1_restart_41 : decode cX1_restart 41 = .ok (.putfield 76, 3) := dk_181 0 76 (dk_at dksX1_restart_1 17 rfl rfl)
theorem dX1_restart_44 : decode cX1_restart 44 = .ok (.aload_n 0, 1) := dk_42 (dk_at dksX1_restart_1 20 rfl rfl)
theorem dX1_restart_45 : decode cX1_restart 45 = .ok (.iconst 0, 1) := dk_3 (dk_at dksX1_restart_1 21 rfl rfl)
theorem dX1_restart_46 : decode cX1_restart 46 = .ok (.putfield 79, 3) := dk_181 0 79 (dk_at dksX1_restart_2 0 rfl rfl)
theorem dX1_restart_49 : decode cX1_restart 49 = .ok (.iload_n 3, 1) := dk_29 (dk_at dksX1_restart_2 3 rfl rfl)
theorem dX1_restart_50 : decode cX1_restart 50 = .ok (.ireturn, 1) := dk_172 (dk_at dksX1_restart_2 4 rfl rfl)
abbrev cX1_run : ByteArray := prog_1_method_24_code
def yX1_run : MethodName := ⟨RX1, "run", "(I)I"⟩
def dkwX1_run_4 : List UInt8 := [180, 0, 76, 172]
abbrev dktX1_run_4 : List UInt8 := dkwX1_run_4 ++ []
def dkwX1_run_3 : List UInt8 := [180, 0, 76, 44, 180, 0, 124, 96, 181, 0, 76, 42, 89, 180, 0, 79, 27, 96, 181, 0, 79, 42]
abbrev dktX1_run_3 : List UInt8 := dkwX1_run_3 ++ dktX1_run_4
def dkwX1_run_2 : List UInt8 := [180, 0, 115, 181, 0, 70, 42, 44, 180, 0, 118, 181, 0, 67, 42, 44, 180, 0, 121, 181, 0, 73, 42, 89]
abbrev dktX1_run_2 : List UInt8 := dkwX1_run_2 ++ dktX1_run_3
def dkwX1_run_1 : List UInt8 := [167, 0, 4, 3, 184, 0, 104, 187, 0, 107, 89, 42, 183, 0, 109, 77, 44, 27, 182, 0, 112, 42, 44]
abbrev dktX1_run_1 : List UInt8 := dkwX1_run_1 ++ dktX1_run_2
def dkwX1_run_0 : List UInt8 := [27, 4, 17, 1, 244, 184, 0, 15, 184, 0, 63, 42, 180, 0, 79, 27, 96, 18, 103, 163, 0, 7, 4]
abbrev dktX1_run_0 : List UInt8 := dkwX1_run_0 ++ dktX1_run_1
theorem dksX1_run_0 : cX1_run.data.toList.drop 0 = dktX1_run_0 := by decide +kernel
theorem dksX1_run_1 : cX1_run.data.toList.drop 23 = dktX1_run_1 := dk_seg dksX1_run_0 23 rfl rfl
theorem dksX1_run_2 : cX1_run.data.toList.drop 46 = dktX1_run_2 := dk_seg dksX1_run_1 23 rfl rfl
theorem dksX1_run_3 : cX1_run.data.toList.drop 70 = dktX1_run_3 := dk_seg dksX1_run_2 24 rfl rfl
theorem dksX1_run_4 : cX1_run.data.toList.drop 92 = dktX1_run_4 := dk_seg dksX1_run_3 22 rfl rfl
theorem dX1_run_0 : decode cX1_run 0 = .ok (.iload_n 1, 1) := dk_27 (dk_at dksX1_run_0 0 rfl rfl)
theorem dX1_run_1 : decode cX1_run 1 = .ok (.iconst 1, 1) := dk_4 (dk_at dksX1_run_0 1 rfl rfl)
theorem dX1_run_2 : decode cX1_run 2 = .ok (.sipush 500, 3) := dk_17 1 244 (dk_at dksX1_run_0 2 rfl rfl)
theorem dX1_run_5 : decode cX1_run 5 = .ok (.invokestatic 15, 3) := dk_184 0 15 (dk_at dksX1_run_0 5 rfl rfl)
theorem dX1_run_8 : decode cX1_run 8 = .ok (.invokestatic 63, 3) := dk_184 0 63 (dk_at dksX1_run_0 8 rfl rfl)
theorem dX1_run_11 : decode cX1_run 11 = .ok (.aload_n 0, 1) := dk_42 (dk_at dksX1_run_0 11 rfl rfl)
theorem dX1_run_12 : decode cX1_run 12 = .ok (.getfield 79, 3) := dk_180 0 79 (dk_at dksX1_run_0 12 rfl rfl)
theorem dX1_run_15 : decode cX1_run 15 = .ok (.iload_n 1, 1) := dk_27 (dk_at dksX1_run_0 15 rfl rfl)
theorem dX1_run_16 : decode cX1_run 16 = .ok (.iadd, 1) := dk_96 (dk_at dksX1_run_0 16 rfl rfl)
theorem dX1_run_17 : decode cX1_run 17 = .ok (.ldc 103, 2) := dk_18 103 (dk_at dksX1_run_0 17 rfl rfl)
theorem dX1_run_19 : decode cX1_run 19 = .ok (.if_icmp .gt 7, 3) := dk_163 0 7 (dk_at dksX1_run_0 19 rfl rfl)
theorem dX1_run_22 : decode cX1_run 22 = .ok (.iconst 1, 1) := dk_4 (dk_at dksX1_run_0 22 rfl rfl)
theorem dX1_run_23 : decode cX1_run 23 = .ok (.goto 4, 3) := dk_167 0 4 (dk_at dksX1_run_1 0 rfl rfl)
theorem dX1_run_26 : decode cX1_run 26 = .ok (.iconst 0, 1) := dk_3 (dk_at dksX1_run_1 3 rfl rfl)
theorem dX1_run_27 : decode cX1_run 27 = .ok (.invokestatic 104, 3) := dk_184 0 104 (dk_at dksX1_run_1 4 rfl rfl)
theorem dX1_run_30 : decode cX1_run 30 = .ok (.new 107, 3) := dk_187 0 107 (dk_at dksX1_run_1 7 rfl rfl)
theorem dX1_run_33 : decode cX1_run 33 = .ok (.dup, 1) := dk_89 (dk_at dksX1_run_1 10 rfl rfl)
theorem dX1_run_34 : decode cX1_run 34 = .ok (.aload_n 0, 1) := dk_42 (dk_at dksX1_run_1 11 rfl rfl)
theorem dX1_run_35 : decode cX1_run 35 = .ok (.invokespecial 109, 3) := dk_183 0 109 (dk_at dksX1_run_1 12 rfl rfl)
theorem dX1_run_38 : decode cX1_run 38 = .ok (.astore_n 2, 1) := dk_77 (dk_at dksX1_run_1 15 rfl rfl)
theorem dX1_run_39 : decode cX1_run 39 = .ok (.aload_n 2, 1) := dk_44 (dk_at dksX1_run_1 16 rfl rfl)
theorem dX1_run_40 : decode cX1_run 40 = .ok (.iload_n 1, 1) := dk_27 (dk_at dksX1_run_1 17 rfl rfl)
theorem dX1_run_41 : decode cX1_run 41 = .ok (.invokevirtual 112, 3) := dk_182 0 112 (dk_at dksX1_run_1 18 rfl rfl)
theorem dX1_run_44 : decode cX1_run 44 = .ok (.aload_n 0, 1) := dk_42 (dk_at dksX1_run_1 21 rfl rfl)
theorem dX1_run_45 : decode cX1_run 45 = .ok (.aload_n 2, 1) := dk_44 (dk_at dksX1_run_1 22 rfl rfl)
theorem dX1_run_46 : decode cX1_run 46 = .ok (.getfield 115, 3) := dk_180 0 115 (dk_at dksX1_run_2 0 rfl rfl)
theorem dX1_run_49 : decode cX1_run 49 = .ok (.putfield 70, 3) := dk_181 0 70 (dk_at dksX1_run_2 3 rfl rfl)
theorem dX1_run_52 : decode cX1_run 52 = .ok (.aload_n 0, 1) := dk_42 (dk_at dksX1_run_2 6 rfl rfl)
theorem dX1_run_53 : decode cX1_run 53 = .ok (.aload_n 2, 1) := dk_44 (dk_at dksX1_run_2 7 rfl rfl)
theorem dX1_run_54 : decode cX1_run 54 = .ok (.getfield 118, 3) := dk_180 0 118 (dk_at dksX1_run_2 8 rfl rfl)
theorem dX1_run_57 : decode cX1_run 57 = .ok (.putfield 67, 3) := dk_181 0 67 (dk_at dksX1_run_2 11 rfl rfl)
theorem dX1_run_60 : decode cX1_run 60 = .ok (.aload_n 0, 1) := dk_42 (dk_at dksX1_run_2 14 rfl rfl)
theorem dX1_run_61 : decode cX1_run 61 = .ok (.aload_n 2, 1) := dk_44 (dk_at dksX1_run_2 15 rfl rfl)
theorem dX1_run_62 : decode cX1_run 62 = .ok (.getfield 121, 3) := dk_180 0 121 (dk_at dksX1_run_2 16 rfl rfl)
theorem dX1_run_65 : decode cX1_run 65 = .ok (.putfield 73, 3) := dk_181 0 73 (dk_at dksX1_run_2 19 rfl rfl)
theorem dX1_run_68 : decode cX1_run 68 = .ok (.aload_n 0, 1) := dk_42 (dk_at dksX1_run_2 22 rfl rfl)
theorem dX1_run_69 : decode cX1_run 69 = .ok (.dup, 1) := dk_89 (dk_at dksX1_run_2 23 rfl rfl)
theorem dX1_run_70 : decode cX1_run 70 = .ok (.getfield 76, 3) := dk_180 0 76 (dk_at dksX1_run_3 0 rfl rfl)
theorem dX1_run_73 : decode cX1_run 73 = .ok (.aload_n 2, 1) := dk_44 (dk_at dksX1_run_3 3 rfl rfl)
theorem dX1_run_74 : decode cX1_run 74 = .ok (.getfield 124, 3) := dk_180 0 124 (dk_at dksX1_run_3 4 rfl rfl)
theorem dX1_run_77 : decode cX1_run 77 = .ok (.iadd, 1) := dk_96 (dk_at dksX1_run_3 7 rfl rfl)
theorem dX1_run_78 : decode cX1_run 78 = .ok (.putfield 76, 3) := dk_181 0 76 (dk_at dksX1_run_3 8 rfl rfl)
theorem dX1_run_81 : decode cX1_run 81 = .ok (.aload_n 0, 1) := dk_42 (dk_at dksX1_run_3 11 rfl rfl)
theorem dX1_run_82 : decode cX1_run 82 = .ok (.dup, 1) := dk_89 (dk_at dksX1_run_3 12 rfl rfl)
theorem dX1_run_83 : decode cX1_run 83 = .ok (.getfield 79, 3) := dk_180 0 79 (dk_at dksX1_run_3 13 rfl rfl)
theorem dX1_run_86 : decode cX1_run 86 = .ok (.iload_n 1, 1) := dk_27 (dk_at dksX1_run_3 16 rfl rfl)
theorem dX1_run_87 : decode cX1_run 87 = .ok (.iadd, 1) := dk_96 (dk_at dksX1_run_3 17 rfl rfl)
theorem dX1_run_88 : decode cX1_run 88 = .ok (.putfield 79, 3) := dk_181 0 79 (dk_at dksX1_run_3 18 rfl rfl)
theorem dX1_run_91 : decode cX1_run 91 = .ok (.aload_n 0, 1) := dk_42 (dk_at dksX1_run_3 21 rfl rfl)
theorem dX1_run_92 : decode cX1_run 92 = .ok (.getfield 76, 3) := dk_180 0 76 (dk_at dksX1_run_4 0 rfl rfl)
theorem dX1_run_95 : decode cX1_run 95 = .ok (.ireturn, 1) := dk_172 (dk_at dksX1_run_4 3 rfl rfl)
abbrev cX1_requireState : ByteArray := prog_1_method_3_code
def yX1_requireState : MethodName := ⟨RX1, "requireState", "(Z)V"⟩
def dkwX1_requireState_0 : List UInt8 := [26, 154, 0, 11, 187, 0, 7, 89, 183, 0, 9, 191, 177]
abbrev dktX1_requireState_0 : List UInt8 := dkwX1_requireState_0 ++ []
theorem dksX1_requireState_0 : cX1_requireState.data.toList.drop 0 = dktX1_requireState_0 := by decide +kernel
theorem dX1_requireState_0 : decode cX1_requireState 0 = .ok (.iload_n 0, 1) := dk_26 (dk_at dksX1_requireState_0 0 rfl rfl)
theorem dX1_requireState_1 : decode cX1_requireState 1 = .ok (.ifCond .ne 11, 3) := dk_154 0 11 (dk_at dksX1_requireState_0 1 rfl rfl)
theorem dX1_requireState_4 : decode cX1_requireState 4 = .ok (.new 7, 3) := dk_187 0 7 (dk_at dksX1_requireState_0 4 rfl rfl)
theorem dX1_requireState_7 : decode cX1_requireState 7 = .ok (.dup, 1) := dk_89 (dk_at dksX1_requireState_0 7 rfl rfl)
theorem dX1_requireState_8 : decode cX1_requireState 8 = .ok (.invokespecial 9, 3) := dk_183 0 9 (dk_at dksX1_requireState_0 8 rfl rfl)
theorem dX1_requireState_11 : decode cX1_requireState 11 = .ok (.athrow, 1) := dk_191 (dk_at dksX1_requireState_0 11 rfl rfl)
theorem dX1_requireState_12 : decode cX1_requireState 12 = .ok (.return_, 1) := dk_177 (dk_at dksX1_requireState_0 12 rfl rfl)
abbrev cX1_append : ByteArray := prog_1_method_28_code
def yX1_append : MethodName := ⟨RX1, "append", "(I)I"⟩
def dkwX1_append_2 : List UInt8 := [172]
abbrev dktX1_append_2 : List UInt8 := dkwX1_append_2 ++ []
def dkwX1_append_1 : List UInt8 := [167, 0, 4, 3, 184, 0, 104, 42, 180, 0, 41, 27, 146, 182, 0, 147, 87, 42, 180, 0, 41, 182, 0, 145]
abbrev dktX1_append_1 : List UInt8 := dkwX1_append_1 ++ dktX1_append_2
def dkwX1_append_0 : List UInt8 := [27, 16, 33, 16, 126, 184, 0, 15, 184, 0, 63, 42, 180, 0, 41, 182, 0, 145, 16, 60, 162, 0, 7, 4]
abbrev dktX1_append_0 : List UInt8 := dkwX1_append_0 ++ dktX1_append_1
theorem dksX1_append_0 : cX1_append.data.toList.drop 0 = dktX1_append_0 := by decide +kernel
theorem dksX1_append_1 : cX1_append.data.toList.drop 24 = dktX1_append_1 := dk_seg dksX1_append_0 24 rfl rfl
theorem dksX1_append_2 : cX1_append.data.toList.drop 48 = dktX1_append_2 := dk_seg dksX1_append_1 24 rfl rfl
theorem dX1_append_0 : decode cX1_append 0 = .ok (.iload_n 1, 1) := dk_27 (dk_at dksX1_append_0 0 rfl rfl)
theorem dX1_append_1 : decode cX1_append 1 = .ok (.bipush 33, 2) := dk_16 33 (dk_at dksX1_append_0 1 rfl rfl)
theorem dX1_append_3 : decode cX1_append 3 = .ok (.bipush 126, 2) := dk_16 126 (dk_at dksX1_append_0 3 rfl rfl)
theorem dX1_append_5 : decode cX1_append 5 = .ok (.invokestatic 15, 3) := dk_184 0 15 (dk_at dksX1_append_0 5 rfl rfl)
theorem dX1_append_8 : decode cX1_append 8 = .ok (.invokestatic 63, 3) := dk_184 0 63 (dk_at dksX1_append_0 8 rfl rfl)
theorem dX1_append_11 : decode cX1_append 11 = .ok (.aload_n 0, 1) := dk_42 (dk_at dksX1_append_0 11 rfl rfl)
theorem dX1_append_12 : decode cX1_append 12 = .ok (.getfield 41, 3) := dk_180 0 41 (dk_at dksX1_append_0 12 rfl rfl)
theorem dX1_append_15 : decode cX1_append 15 = .ok (.invokevirtual 145, 3) := dk_182 0 145 (dk_at dksX1_append_0 15 rfl rfl)
theorem dX1_append_18 : decode cX1_append 18 = .ok (.bipush 60, 2) := dk_16 60 (dk_at dksX1_append_0 18 rfl rfl)
theorem dX1_append_20 : decode cX1_append 20 = .ok (.if_icmp .ge 7, 3) := dk_162 0 7 (dk_at dksX1_append_0 20 rfl rfl)
theorem dX1_append_23 : decode cX1_append 23 = .ok (.iconst 1, 1) := dk_4 (dk_at dksX1_append_0 23 rfl rfl)
theorem dX1_append_24 : decode cX1_append 24 = .ok (.goto 4, 3) := dk_167 0 4 (dk_at dksX1_append_1 0 rfl rfl)
theorem dX1_append_27 : decode cX1_append 27 = .ok (.iconst 0, 1) := dk_3 (dk_at dksX1_append_1 3 rfl rfl)
theorem dX1_append_28 : decode cX1_append 28 = .ok (.invokestatic 104, 3) := dk_184 0 104 (dk_at dksX1_append_1 4 rfl rfl)
theorem dX1_append_31 : decode cX1_append 31 = .ok (.aload_n 0, 1) := dk_42 (dk_at dksX1_append_1 7 rfl rfl)
theorem dX1_append_32 : decode cX1_append 32 = .ok (.getfield 41, 3) := dk_180 0 41 (dk_at dksX1_append_1 8 rfl rfl)
theorem dX1_append_35 : decode cX1_append 35 = .ok (.iload_n 1, 1) := dk_27 (dk_at dksX1_append_1 11 rfl rfl)
theorem dX1_append_36 : decode cX1_append 36 = .ok (.i2c, 1) := dk_146 (dk_at dksX1_append_1 12 rfl rfl)
theorem dX1_append_37 : decode cX1_append 37 = .ok (.invokevirtual 147, 3) := dk_182 0 147 (dk_at dksX1_append_1 13 rfl rfl)
theorem dX1_append_40 : decode cX1_append 40 = .ok (.pop, 1) := dk_87 (dk_at dksX1_append_1 16 rfl rfl)
theorem dX1_append_41 : decode cX1_append 41 = .ok (.aload_n 0, 1) := dk_42 (dk_at dksX1_append_1 17 rfl rfl)
theorem dX1_append_42 : decode cX1_append 42 = .ok (.getfield 41, 3) := dk_180 0 41 (dk_at dksX1_append_1 18 rfl rfl)
theorem dX1_append_45 : decode cX1_append 45 = .ok (.invokevirtual 145, 3) := dk_182 0 145 (dk_at dksX1_append_1 21 rfl rfl)
theorem dX1_append_48 : decode cX1_append 48 = .ok (.ireturn, 1) := dk_172 (dk_at dksX1_append_2 0 rfl rfl)
abbrev cX1_load : ByteArray := prog_1_method_31_code
def yX1_load : MethodName := ⟨RX1, "load", "()I"⟩
def dkwX1_load_1 : List UInt8 := [180, 0, 41, 3, 182, 0, 151, 43, 180, 0, 169, 172]
abbrev dktX1_load_1 : List UInt8 := dkwX1_load_1 ++ []
def dkwX1_load_0 : List UInt8 := [187, 0, 154, 89, 42, 183, 0, 156, 182, 0, 157, 76, 43, 182, 0, 162, 184, 0, 63, 43, 182, 0, 166, 42]
abbrev dktX1_load_0 : List UInt8 := dkwX1_load_0 ++ dktX1_load_1
theorem dksX1_load_0 : cX1_load.data.toList.drop 0 = dktX1_load_0 := by decide +kernel
theorem dksX1_load_1 : cX1_load.data.toList.drop 24 = dktX1_load_1 := dk_seg dksX1_load_0 24 rfl rfl
theorem dX1_load_0 : decode cX1_load 0 = .ok (.new 154, 3) := dk_187 0 154 (dk_at dksX1_load_0 0 rfl rfl)
theorem dX1_load_3 : decode cX1_load 3 = .ok (.dup, 1) := dk_89 (dk_at dksX1_load_0 3 rfl rfl)
theorem dX1_load_4 : decode cX1_load 4 = .ok (.aload_n 0, 1) := dk_42 (dk_at dksX1_load_0 4 rfl rfl)
theorem dX1_load_5 : decode cX1_load 5 = .ok (.invokespecial 156, 3) := dk_183 0 156 (dk_at dksX1_load_0 5 rfl rfl)
theorem dX1_load_8 : decode cX1_load 8 = .ok (.invokevirtual 157, 3) := dk_182 0 157 (dk_at dksX1_load_0 8 rfl rfl)
theorem dX1_load_11 : decode cX1_load 11 = .ok (.astore_n 1, 1) := dk_76 (dk_at dksX1_load_0 11 rfl rfl)
theorem dX1_load_12 : decode cX1_load 12 = .ok (.aload_n 1, 1) := dk_43 (dk_at dksX1_load_0 12 rfl rfl)
theorem dX1_load_13 : decode cX1_load 13 = .ok (.invokevirtual 162, 3) := dk_182 0 162 (dk_at dksX1_load_0 13 rfl rfl)
theorem dX1_load_16 : decode cX1_load 16 = .ok (.invokestatic 63, 3) := dk_184 0 63 (dk_at dksX1_load_0 16 rfl rfl)
theorem dX1_load_19 : decode cX1_load 19 = .ok (.aload_n 1, 1) := dk_43 (dk_at dksX1_load_0 19 rfl rfl)
theorem dX1_load_20 : decode cX1_load 20 = .ok (.invokevirtual 166, 3) := dk_182 0 166 (dk_at dksX1_load_0 20 rfl rfl)
theorem dX1_load_23 : decode cX1_load 23 = .ok (.aload_n 0, 1) := dk_42 (dk_at dksX1_load_0 23 rfl rfl)
theorem dX1_load_24 : decode cX1_load 24 = .ok (.getfield 41, 3) := dk_180 0 41 (dk_at dksX1_load_1 0 rfl rfl)
theorem dX1_load_27 : decode cX1_load 27 = .ok (.iconst 0, 1) := dk_3 (dk_at dksX1_load_1 3 rfl rfl)
theorem dX1_load_28 : decode cX1_load 28 = .ok (.invokevirtual 151, 3) := dk_182 0 151 (dk_at dksX1_load_1 4 rfl rfl)
theorem dX1_load_31 : decode cX1_load 31 = .ok (.aload_n 1, 1) := dk_43 (dk_at dksX1_load_1 7 rfl rfl)
theorem dX1_load_32 : decode cX1_load 32 = .ok (.getfield 169, 3) := dk_180 0 169 (dk_at dksX1_load_1 8 rfl rfl)
theorem dX1_load_35 : decode cX1_load 35 = .ok (.ireturn, 1) := dk_172 (dk_at dksX1_load_1 11 rfl rfl)
abbrev cX1_cycle : ByteArray := prog_1_method_27_code
def yX1_cycle : MethodName := ⟨RX1, "cycle", "(I)I"⟩
def dkwX1_cycle_0 : List UInt8 := [27, 3, 5, 184, 0, 15, 184, 0, 63, 42, 27, 182, 0, 142, 172]
abbrev dktX1_cycle_0 : List UInt8 := dkwX1_cycle_0 ++ []
theorem dksX1_cycle_0 : cX1_cycle.data.toList.drop 0 = dktX1_cycle_0 := by decide +kernel
theorem dX1_cycle_0 : decode cX1_cycle 0 = .ok (.iload_n 1, 1) := dk_27 (dk_at dksX1_cycle_0 0 rfl rfl)
theorem dX1_cycle_1 : decode cX1_cycle 1 = .ok (.iconst 0, 1) := dk_3 (dk_at dksX1_cycle_0 1 rfl rfl)
theorem dX1_cycle_2 : decode cX1_cycle 2 = .ok (.iconst 2, 1) := dk_5 (dk_at dksX1_cycle_0 2 rfl rfl)
theorem dX1_cycle_3 : decode cX1_cycle 3 = .ok (.invokestatic 15, 3) := dk_184 0 15 (dk_at dksX1_cycle_0 3 rfl rfl)
theorem dX1_cycle_6 : decode cX1_cycle 6 = .ok (.invokestatic 63, 3) := dk_184 0 63 (dk_at dksX1_cycle_0 6 rfl rfl)
theorem dX1_cycle_9 : decode cX1_cycle 9 = .ok (.aload_n 0, 1) := dk_42 (dk_at dksX1_cycle_0 9 rfl rfl)
theorem dX1_cycle_10 : decode cX1_cycle 10 = .ok (.iload_n 1, 1) := dk_27 (dk_at dksX1_cycle_0 10 rfl rfl)
theorem dX1_cycle_11 : decode cX1_cycle 11 = .ok (.invokevirtual 142, 3) := dk_182 0 142 (dk_at dksX1_cycle_0 11 rfl rfl)
theorem dX1_cycle_14 : decode cX1_cycle 14 = .ok (.ireturn, 1) := dk_172 (dk_at dksX1_cycle_0 14 rfl rfl)
abbrev cX1_chance : ByteArray := prog_1_method_33_code
def yX1_chance : MethodName := ⟨RX1, "chance", "(II)J"⟩
def dkwX1_chance_1 : List UInt8 := [17, 252, 24, 17, 3, 232, 28, 182, 0, 182, 173]
abbrev dktX1_chance_1 : List UInt8 := dkwX1_chance_1 ++ []
def dkwX1_chance_0 : List UInt8 := [27, 3, 16, 15, 184, 0, 15, 184, 0, 63, 42, 28, 182, 0, 85, 184, 0, 88, 42, 27, 182, 0, 178]
abbrev dktX1_chance_0 : List UInt8 := dkwX1_chance_0 ++ dktX1_chance_1
theorem dksX1_chance_0 : cX1_chance.data.toList.drop 0 = dktX1_chance_0 := by decide +kernel
theorem dksX1_chance_1 : cX1_chance.data.toList.drop 23 = dktX1_chance_1 := dk_seg dksX1_chance_0 23 rfl rfl
theorem dX1_chance_0 : decode cX1_chance 0 = .ok (.iload_n 1, 1) := dk_27 (dk_at dksX1_chance_0 0 rfl rfl)
theorem dX1_chance_1 : decode cX1_chance 1 = .ok (.iconst 0, 1) := dk_3 (dk_at dksX1_chance_0 1 rfl rfl)
theorem dX1_chance_2 : decode cX1_chance 2 = .ok (.bipush 15, 2) := dk_16 15 (dk_at dksX1_chance_0 2 rfl rfl)
theorem dX1_chance_4 : decode cX1_chance 4 = .ok (.invokestatic 15, 3) := dk_184 0 15 (dk_at dksX1_chance_0 4 rfl rfl)
theorem dX1_chance_7 : decode cX1_chance 7 = .ok (.invokestatic 63, 3) := dk_184 0 63 (dk_at dksX1_chance_0 7 rfl rfl)
theorem dX1_chance_10 : decode cX1_chance 10 = .ok (.aload_n 0, 1) := dk_42 (dk_at dksX1_chance_0 10 rfl rfl)
theorem dX1_chance_11 : decode cX1_chance 11 = .ok (.iload_n 2, 1) := dk_28 (dk_at dksX1_chance_0 11 rfl rfl)
theorem dX1_chance_12 : decode cX1_chance 12 = .ok (.invokevirtual 85, 3) := dk_182 0 85 (dk_at dksX1_chance_0 12 rfl rfl)
theorem dX1_chance_15 : decode cX1_chance 15 = .ok (.invokestatic 88, 3) := dk_184 0 88 (dk_at dksX1_chance_0 15 rfl rfl)
theorem dX1_chance_18 : decode cX1_chance 18 = .ok (.aload_n 0, 1) := dk_42 (dk_at dksX1_chance_0 18 rfl rfl)
theorem dX1_chance_19 : decode cX1_chance 19 = .ok (.iload_n 1, 1) := dk_27 (dk_at dksX1_chance_0 19 rfl rfl)
theorem dX1_chance_20 : decode cX1_chance 20 = .ok (.invokevirtual 178, 3) := dk_182 0 178 (dk_at dksX1_chance_0 20 rfl rfl)
theorem dX1_chance_23 : decode cX1_chance 23 = .ok (.sipush (-1000), 3) := dk_17 252 24 (dk_at dksX1_chance_1 0 rfl rfl)
theorem dX1_chance_26 : decode cX1_chance 26 = .ok (.sipush 1000, 3) := dk_17 3 232 (dk_at dksX1_chance_1 3 rfl rfl)
theorem dX1_chance_29 : decode cX1_chance 29 = .ok (.iload_n 2, 1) := dk_28 (dk_at dksX1_chance_1 6 rfl rfl)
theorem dX1_chance_30 : decode cX1_chance 30 = .ok (.invokevirtual 182, 3) := dk_182 0 182 (dk_at dksX1_chance_1 7 rfl rfl)
theorem dX1_chance_33 : decode cX1_chance 33 = .ok (.lreturn, 1) := dk_173 (dk_at dksX1_chance_1 10 rfl rfl)
abbrev cX1_chanceOfGain : ByteArray := prog_1_method_34_code
def yX1_chanceOfGain : MethodName := ⟨RX1, "chanceOfGain", "(II)J"⟩
def dkwX1_chanceOfGain_0 : List UInt8 := [27, 3, 16, 15, 184, 0, 15, 184, 0, 63, 42, 27, 182, 0, 178, 28, 18, 186, 2, 182, 0, 182, 173]
abbrev dktX1_chanceOfGain_0 : List UInt8 := dkwX1_chanceOfGain_0 ++ []
theorem dksX1_chanceOfGain_0 : cX1_chanceOfGain.data.toList.drop 0 = dktX1_chanceOfGain_0 := by decide +kernel
theorem dX1_chanceOfGain_0 : decode cX1_chanceOfGain 0 = .ok (.iload_n 1, 1) := dk_27 (dk_at dksX1_chanceOfGain_0 0 rfl rfl)
theorem dX1_chanceOfGain_1 : decode cX1_chanceOfGain 1 = .ok (.iconst 0, 1) := dk_3 (dk_at dksX1_chanceOfGain_0 1 rfl rfl)
theorem dX1_chanceOfGain_2 : decode cX1_chanceOfGain 2 = .ok (.bipush 15, 2) := dk_16 15 (dk_at dksX1_chanceOfGain_0 2 rfl rfl)
theorem dX1_chanceOfGain_4 : decode cX1_chanceOfGain 4 = .ok (.invokestatic 15, 3) := dk_184 0 15 (dk_at dksX1_chanceOfGain_0 4 rfl rfl)
theorem dX1_chanceOfGain_7 : decode cX1_chanceOfGain 7 = .ok (.invokestatic 63, 3) := dk_184 0 63 (dk_at dksX1_chanceOfGain_0 7 rfl rfl)
theorem dX1_chanceOfGain_10 : decode cX1_chanceOfGain 10 = .ok (.aload_n 0, 1) := dk_42 (dk_at dksX1_chanceOfGain_0 10 rfl rfl)
theorem dX1_chanceOfGain_11 : decode cX1_chanceOfGain 11 = .ok (.iload_n 1, 1) := dk_27 (dk_at dksX1_chanceOfGain_0 11 rfl rfl)
theorem dX1_chanceOfGain_12 : decode cX1_chanceOfGain 12 = .ok (.invokevirtual 178, 3) := dk_182 0 178 (dk_at dksX1_chanceOfGain_0 12 rfl rfl)
theorem dX1_chanceOfGain_15 : decode cX1_chanceOfGain 15 = .ok (.iload_n 2, 1) := dk_28 (dk_at dksX1_chanceOfGain_0 15 rfl rfl)
theorem dX1_chanceOfGain_16 : decode cX1_chanceOfGain 16 = .ok (.ldc 186, 2) := dk_18 186 (dk_at dksX1_chanceOfGain_0 16 rfl rfl)
theorem dX1_chanceOfGain_18 : decode cX1_chanceOfGain 18 = .ok (.iconst (-1), 1) := dk_2 (dk_at dksX1_chanceOfGain_0 18 rfl rfl)
theorem dX1_chanceOfGain_19 : decode cX1_chanceOfGain 19 = .ok (.invokevirtual 182, 3) := dk_182 0 182 (dk_at dksX1_chanceOfGain_0 19 rfl rfl)
theorem dX1_chanceOfGain_22 : decode cX1_chanceOfGain 22 = .ok (.lreturn, 1) := dk_173 (dk_at dksX1_chanceOfGain_0 22 rfl rfl)
abbrev cX1_game : ByteArray := prog_1_method_36_code
def yX1_game : MethodName := ⟨RX1, "game", "(IIII)J"⟩
def dkwX1_game_2 : List UInt8 := [42, 187, 0, 172, 89, 42, 183, 0, 174, 29, 27, 116, 28, 182, 0, 175, 27, 28, 21, 4, 182, 0, 187, 173]
abbrev dktX1_game_2 : List UInt8 := dkwX1_game_2 ++ []
def dkwX1_game_1 : List UInt8 := [184, 0, 15, 153, 0, 17, 21, 4, 3, 5, 184, 0, 15, 153, 0, 7, 4, 167, 0, 4, 3, 184, 0, 63]
abbrev dktX1_game_1 : List UInt8 := dkwX1_game_1 ++ dktX1_game_2
def dkwX1_game_0 : List UInt8 := [27, 4, 16, 15, 184, 0, 15, 153, 0, 37, 28, 4, 16, 15, 184, 0, 15, 153, 0, 27, 29, 3, 16, 15]
abbrev dktX1_game_0 : List UInt8 := dkwX1_game_0 ++ dktX1_game_1
theorem dksX1_game_0 : cX1_game.data.toList.drop 0 = dktX1_game_0 := by decide +kernel
theorem dksX1_game_1 : cX1_game.data.toList.drop 24 = dktX1_game_1 := dk_seg dksX1_game_0 24 rfl rfl
theorem dksX1_game_2 : cX1_game.data.toList.drop 48 = dktX1_game_2 := dk_seg dksX1_game_1 24 rfl rfl
theorem dX1_game_0 : decode cX1_game 0 = .ok (.iload_n 1, 1) := dk_27 (dk_at dksX1_game_0 0 rfl rfl)
theorem dX1_game_1 : decode cX1_game 1 = .ok (.iconst 1, 1) := dk_4 (dk_at dksX1_game_0 1 rfl rfl)
theorem dX1_game_2 : decode cX1_game 2 = .ok (.bipush 15, 2) := dk_16 15 (dk_at dksX1_game_0 2 rfl rfl)
theorem dX1_game_4 : decode cX1_game 4 = .ok (.invokestatic 15, 3) := dk_184 0 15 (dk_at dksX1_game_0 4 rfl rfl)
theorem dX1_game_7 : decode cX1_game 7 = .ok (.ifCond .eq 37, 3) := dk_153 0 37 (dk_at dksX1_game_0 7 rfl rfl)
theorem dX1_game_10 : decode cX1_game 10 = .ok (.iload_n 2, 1) := dk_28 (dk_at dksX1_game_0 10 rfl rfl)
theorem dX1_game_11 : decode cX1_game 11 = .ok (.iconst 1, 1) := dk_4 (dk_at dksX1_game_0 11 rfl rfl)
theorem dX1_game_12 : decode cX1_game 12 = .ok (.bipush 15, 2) := dk_16 15 (dk_at dksX1_game_0 12 rfl rfl)
theorem dX1_game_14 : decode cX1_game 14 = .ok (.invokestatic 15, 3) := dk_184 0 15 (dk_at dksX1_game_0 14 rfl rfl)
theorem dX1_game_17 : decode cX1_game 17 = .ok (.ifCond .eq 27, 3) := dk_153 0 27 (dk_at dksX1_game_0 17 rfl rfl)
theorem dX1_game_20 : decode cX1_game 20 = .ok (.iload_n 3, 1) := dk_29 (dk_at dksX1_game_0 20 rfl rfl)
theorem dX1_game_21 : decode cX1_game 21 = .ok (.iconst 0, 1) := dk_3 (dk_at dksX1_game_0 21 rfl rfl)
theorem dX1_game_22 : decode cX1_game 22 = .ok (.bipush 15, 2) := dk_16 15 (dk_at dksX1_game_0 22 rfl rfl)
theorem dX1_game_24 : decode cX1_game 24 = .ok (.invokestatic 15, 3) := dk_184 0 15 (dk_at dksX1_game_1 0 rfl rfl)
theorem dX1_game_27 : decode cX1_game 27 = .ok (.ifCond .eq 17, 3) := dk_153 0 17 (dk_at dksX1_game_1 3 rfl rfl)
theorem dX1_game_30 : decode cX1_game 30 = .ok (.iload 4, 2) := dk_21 4 (dk_at dksX1_game_1 6 rfl rfl)
theorem dX1_game_32 : decode cX1_game 32 = .ok (.iconst 0, 1) := dk_3 (dk_at dksX1_game_1 8 rfl rfl)
theorem dX1_game_33 : decode cX1_game 33 = .ok (.iconst 2, 1) := dk_5 (dk_at dksX1_game_1 9 rfl rfl)
theorem dX1_game_34 : decode cX1_game 34 = .ok (.invokestatic 15, 3) := dk_184 0 15 (dk_at dksX1_game_1 10 rfl rfl)
theorem dX1_game_37 : decode cX1_game 37 = .ok (.ifCond .eq 7, 3) := dk_153 0 7 (dk_at dksX1_game_1 13 rfl rfl)
theorem dX1_game_40 : decode cX1_game 40 = .ok (.iconst 1, 1) := dk_4 (dk_at dksX1_game_1 16 rfl rfl)
theorem dX1_game_41 : decode cX1_game 41 = .ok (.goto 4, 3) := dk_167 0 4 (dk_at dksX1_game_1 17 rfl rfl)
theorem dX1_game_44 : decode cX1_game 44 = .ok (.iconst 0, 1) := dk_3 (dk_at dksX1_game_1 20 rfl rfl)
theorem dX1_game_45 : decode cX1_game 45 = .ok (.invokestatic 63, 3) := dk_184 0 63 (dk_at dksX1_game_1 21 rfl rfl)
theorem dX1_game_48 : decode cX1_game 48 = .ok (.aload_n 0, 1) := dk_42 (dk_at dksX1_game_2 0 rfl rfl)
theorem dX1_game_49 : decode cX1_game 49 = .ok (.new 172, 3) := dk_187 0 172 (dk_at dksX1_game_2 1 rfl rfl)
theorem dX1_game_52 : decode cX1_game 52 = .ok (.dup, 1) := dk_89 (dk_at dksX1_game_2 4 rfl rfl)
theorem dX1_game_53 : decode cX1_game 53 = .ok (.aload_n 0, 1) := dk_42 (dk_at dksX1_game_2 5 rfl rfl)
theorem dX1_game_54 : decode cX1_game 54 = .ok (.invokespecial 174, 3) := dk_183 0 174 (dk_at dksX1_game_2 6 rfl rfl)
theorem dX1_game_57 : decode cX1_game 57 = .ok (.iload_n 3, 1) := dk_29 (dk_at dksX1_game_2 9 rfl rfl)
theorem dX1_game_58 : decode cX1_game 58 = .ok (.iload_n 1, 1) := dk_27 (dk_at dksX1_game_2 10 rfl rfl)
theorem dX1_game_59 : decode cX1_game 59 = .ok (.ineg, 1) := dk_116 (dk_at dksX1_game_2 11 rfl rfl)
theorem dX1_game_60 : decode cX1_game 60 = .ok (.iload_n 2, 1) := dk_28 (dk_at dksX1_game_2 12 rfl rfl)
theorem dX1_game_61 : decode cX1_game 61 = .ok (.invokevirtual 175, 3) := dk_182 0 175 (dk_at dksX1_game_2 13 rfl rfl)
theorem dX1_game_64 : decode cX1_game 64 = .ok (.iload_n 1, 1) := dk_27 (dk_at dksX1_game_2 16 rfl rfl)
theorem dX1_game_65 : decode cX1_game 65 = .ok (.iload_n 2, 1) := dk_28 (dk_at dksX1_game_2 17 rfl rfl)
theorem dX1_game_66 : decode cX1_game 66 = .ok (.iload 4, 2) := dk_21 4 (dk_at dksX1_game_2 18 rfl rfl)
theorem dX1_game_68 : decode cX1_game 68 = .ok (.invokevirtual 187, 3) := dk_182 0 187 (dk_at dksX1_game_2 20 rfl rfl)
theorem dX1_game_71 : decode cX1_game 71 = .ok (.lreturn, 1) := dk_173 (dk_at dksX1_game_2 23 rfl rfl)
abbrev cX1_average : ByteArray := prog_1_method_37_code
def yX1_average : MethodName := ⟨RX1, "average", "(II)J"⟩
def dkwX1_average_2 : List UInt8 := [182, 0, 199, 28, 182, 0, 203, 173]
abbrev dktX1_average_2 : List UInt8 := dkwX1_average_2 ++ []
def dkwX1_average_1 : List UInt8 := [187, 0, 191, 89, 42, 27, 183, 0, 193, 78, 45, 182, 0, 196, 4, 164, 0, 7, 9, 167, 0, 11, 45]
abbrev dktX1_average_1 : List UInt8 := dkwX1_average_1 ++ dktX1_average_2
def dkwX1_average_0 : List UInt8 := [27, 184, 0, 100, 153, 0, 16, 28, 3, 4, 184, 0, 15, 153, 0, 7, 4, 167, 0, 4, 3, 184, 0, 63]
abbrev dktX1_average_0 : List UInt8 := dkwX1_average_0 ++ dktX1_average_1
theorem dksX1_average_0 : cX1_average.data.toList.drop 0 = dktX1_average_0 := by decide +kernel
theorem dksX1_average_1 : cX1_average.data.toList.drop 24 = dktX1_average_1 := dk_seg dksX1_average_0 24 rfl rfl
theorem dksX1_average_2 : cX1_average.data.toList.drop 47 = dktX1_average_2 := dk_seg dksX1_average_1 23 rfl rfl
theorem dX1_average_0 : decode cX1_average 0 = .ok (.iload_n 1, 1) := dk_27 (dk_at dksX1_average_0 0 rfl rfl)
theorem dX1_average_1 : decode cX1_average 1 = .ok (.invokestatic 100, 3) := dk_184 0 100 (dk_at dksX1_average_0 1 rfl rfl)
theorem dX1_average_4 : decode cX1_average 4 = .ok (.ifCond .eq 16, 3) := dk_153 0 16 (dk_at dksX1_average_0 4 rfl rfl)
theorem dX1_average_7 : decode cX1_average 7 = .ok (.iload_n 2, 1) := dk_28 (dk_at dksX1_average_0 7 rfl rfl)
theorem dX1_average_8 : decode cX1_average 8 = .ok (.iconst 0, 1) := dk_3 (dk_at dksX1_average_0 8 rfl rfl)
theorem dX1_average_9 : decode cX1_average 9 = .ok (.iconst 1, 1) := dk_4 (dk_at dksX1_average_0 9 rfl rfl)
theorem dX1_average_10 : decode cX1_average 10 = .ok (.invokestatic 15, 3) := dk_184 0 15 (dk_at dksX1_average_0 10 rfl rfl)
theorem dX1_average_13 : decode cX1_average 13 = .ok (.ifCond .eq 7, 3) := dk_153 0 7 (dk_at dksX1_average_0 13 rfl rfl)
theorem dX1_average_16 : decode cX1_average 16 = .ok (.iconst 1, 1) := dk_4 (dk_at dksX1_average_0 16 rfl rfl)
theorem dX1_average_17 : decode cX1_average 17 = .ok (.goto 4, 3) := dk_167 0 4 (dk_at dksX1_average_0 17 rfl rfl)
theorem dX1_average_20 : decode cX1_average 20 = .ok (.iconst 0, 1) := dk_3 (dk_at dksX1_average_0 20 rfl rfl)
theorem dX1_average_21 : decode cX1_average 21 = .ok (.invokestatic 63, 3) := dk_184 0 63 (dk_at dksX1_average_0 21 rfl rfl)
theorem dX1_average_24 : decode cX1_average 24 = .ok (.new 191, 3) := dk_187 0 191 (dk_at dksX1_average_1 0 rfl rfl)
theorem dX1_average_27 : decode cX1_average 27 = .ok (.dup, 1) := dk_89 (dk_at dksX1_average_1 3 rfl rfl)
theorem dX1_average_28 : decode cX1_average 28 = .ok (.aload_n 0, 1) := dk_42 (dk_at dksX1_average_1 4 rfl rfl)
theorem dX1_average_29 : decode cX1_average 29 = .ok (.iload_n 1, 1) := dk_27 (dk_at dksX1_average_1 5 rfl rfl)
theorem dX1_average_30 : decode cX1_average 30 = .ok (.invokespecial 193, 3) := dk_183 0 193 (dk_at dksX1_average_1 6 rfl rfl)
theorem dX1_average_33 : decode cX1_average 33 = .ok (.astore_n 3, 1) := dk_78 (dk_at dksX1_average_1 9 rfl rfl)
theorem dX1_average_34 : decode cX1_average 34 = .ok (.aload_n 3, 1) := dk_45 (dk_at dksX1_average_1 10 rfl rfl)
theorem dX1_average_35 : decode cX1_average 35 = .ok (.invokevirtual 196, 3) := dk_182 0 196 (dk_at dksX1_average_1 11 rfl rfl)
theorem dX1_average_38 : decode cX1_average 38 = .ok (.iconst 1, 1) := dk_4 (dk_at dksX1_average_1 14 rfl rfl)
theorem dX1_average_39 : decode cX1_average 39 = .ok (.if_icmp .le 7, 3) := dk_164 0 7 (dk_at dksX1_average_1 15 rfl rfl)
theorem dX1_average_42 : decode cX1_average 42 = .ok (.lconst 0, 1) := dk_9 (dk_at dksX1_average_1 18 rfl rfl)
theorem dX1_average_43 : decode cX1_average 43 = .ok (.goto 11, 3) := dk_167 0 11 (dk_at dksX1_average_1 19 rfl rfl)
theorem dX1_average_46 : decode cX1_average 46 = .ok (.aload_n 3, 1) := dk_45 (dk_at dksX1_average_1 22 rfl rfl)
theorem dX1_average_47 : decode cX1_average 47 = .ok (.invokevirtual 199, 3) := dk_182 0 199 (dk_at dksX1_average_2 0 rfl rfl)
theorem dX1_average_50 : decode cX1_average 50 = .ok (.iload_n 2, 1) := dk_28 (dk_at dksX1_average_2 3 rfl rfl)
theorem dX1_average_51 : decode cX1_average 51 = .ok (.invokevirtual 203, 3) := dk_182 0 203 (dk_at dksX1_average_2 4 rfl rfl)
theorem dX1_average_54 : decode cX1_average 54 = .ok (.lreturn, 1) := dk_173 (dk_at dksX1_average_2 7 rfl rfl)
abbrev cX1_share : ByteArray := prog_1_method_38_code
def yX1_share : MethodName := ⟨RX1, "share", "(III)J"⟩
def dkwX1_share_2 : List UInt8 := [4, 164, 0, 7, 9, 167, 0, 13, 25, 4, 28, 182, 0, 209, 29, 182, 0, 203, 173]
abbrev dktX1_share_2 : List UInt8 := dkwX1_share_2 ++ []
def dkwX1_share_1 : List UInt8 := [4, 167, 0, 4, 3, 184, 0, 63, 187, 0, 191, 89, 42, 27, 183, 0, 193, 58, 4, 25, 4, 182, 0, 196]
abbrev dktX1_share_1 : List UInt8 := dkwX1_share_1 ++ dktX1_share_2
def dkwX1_share_0 : List UInt8 := [42, 28, 182, 0, 85, 184, 0, 88, 27, 184, 0, 100, 153, 0, 16, 29, 3, 4, 184, 0, 15, 153, 0, 7]
abbrev dktX1_share_0 : List UInt8 := dkwX1_share_0 ++ dktX1_share_1
theorem dksX1_share_0 : cX1_share.data.toList.drop 0 = dktX1_share_0 := by decide +kernel
theorem dksX1_share_1 : cX1_share.data.toList.drop 24 = dktX1_share_1 := dk_seg dksX1_share_0 24 rfl rfl
theorem dksX1_share_2 : cX1_share.data.toList.drop 48 = dktX1_share_2 := dk_seg dksX1_share_1 24 rfl rfl
theorem dX1_share_0 : decode cX1_share 0 = .ok (.aload_n 0, 1) := dk_42 (dk_at dksX1_share_0 0 rfl rfl)
theorem dX1_share_1 : decode cX1_share 1 = .ok (.iload_n 2, 1) := dk_28 (dk_at dksX1_share_0 1 rfl rfl)
theorem dX1_share_2 : decode cX1_share 2 = .ok (.invokevirtual 85, 3) := dk_182 0 85 (dk_at dksX1_share_0 2 rfl rfl)
theorem dX1_share_5 : decode cX1_share 5 = .ok (.invokestatic 88, 3) := dk_184 0 88 (dk_at dksX1_share_0 5 rfl rfl)
theorem dX1_share_8 : decode cX1_share 8 = .ok (.iload_n 1, 1) := dk_27 (dk_at dksX1_share_0 8 rfl rfl)
theorem dX1_share_9 : decode cX1_share 9 = .ok (.invokestatic 100, 3) := dk_184 0 100 (dk_at dksX1_share_0 9 rfl rfl)
theorem dX1_share_12 : decode cX1_share 12 = .ok (.ifCond .eq 16, 3) := dk_153 0 16 (dk_at dksX1_share_0 12 rfl rfl)
theorem dX1_share_15 : decode cX1_share 15 = .ok (.iload_n 3, 1) := dk_29 (dk_at dksX1_share_0 15 rfl rfl)
theorem dX1_share_16 : decode cX1_share 16 = .ok (.iconst 0, 1) := dk_3 (dk_at dksX1_share_0 16 rfl rfl)
theorem dX1_share_17 : decode cX1_share 17 = .ok (.iconst 1, 1) := dk_4 (dk_at dksX1_share_0 17 rfl rfl)
theorem dX1_share_18 : decode cX1_share 18 = .ok (.invokestatic 15, 3) := dk_184 0 15 (dk_at dksX1_share_0 18 rfl rfl)
theorem dX1_share_21 : decode cX1_share 21 = .ok (.ifCond .eq 7, 3) := dk_153 0 7 (dk_at dksX1_share_0 21 rfl rfl)
theorem dX1_share_24 : decode cX1_share 24 = .ok (.iconst 1, 1) := dk_4 (dk_at dksX1_share_1 0 rfl rfl)
theorem dX1_share_25 : decode cX1_share 25 = .ok (.goto 4, 3) := dk_167 0 4 (dk_at dksX1_share_1 1 rfl rfl)
theorem dX1_share_28 : decode cX1_share 28 = .ok (.iconst 0, 1) := dk_3 (dk_at dksX1_share_1 4 rfl rfl)
theorem dX1_share_29 : decode cX1_share 29 = .ok (.invokestatic 63, 3) := dk_184 0 63 (dk_at dksX1_share_1 5 rfl rfl)
theorem dX1_share_32 : decode cX1_share 32 = .ok (.new 191, 3) := dk_187 0 191 (dk_at dksX1_share_1 8 rfl rfl)
theorem dX1_share_35 : decode cX1_share 35 = .ok (.dup, 1) := dk_89 (dk_at dksX1_share_1 11 rfl rfl)
theorem dX1_share_36 : decode cX1_share 36 = .ok (.aload_n 0, 1) := dk_42 (dk_at dksX1_share_1 12 rfl rfl)
theorem dX1_share_37 : decode cX1_share 37 = .ok (.iload_n 1, 1) := dk_27 (dk_at dksX1_share_1 13 rfl rfl)
theorem dX1_share_38 : decode cX1_share 38 = .ok (.invokespecial 193, 3) := dk_183 0 193 (dk_at dksX1_share_1 14 rfl rfl)
theorem dX1_share_41 : decode cX1_share 41 = .ok (.astore 4, 2) := dk_58 4 (dk_at dksX1_share_1 17 rfl rfl)
theorem dX1_share_43 : decode cX1_share 43 = .ok (.aload 4, 2) := dk_25 4 (dk_at dksX1_share_1 19 rfl rfl)
theorem dX1_share_45 : decode cX1_share 45 = .ok (.invokevirtual 196, 3) := dk_182 0 196 (dk_at dksX1_share_1 21 rfl rfl)
theorem dX1_share_48 : decode cX1_share 48 = .ok (.iconst 1, 1) := dk_4 (dk_at dksX1_share_2 0 rfl rfl)
theorem dX1_share_49 : decode cX1_share 49 = .ok (.if_icmp .le 7, 3) := dk_164 0 7 (dk_at dksX1_share_2 1 rfl rfl)
theorem dX1_share_52 : decode cX1_share 52 = .ok (.lconst 0, 1) := dk_9 (dk_at dksX1_share_2 4 rfl rfl)
theorem dX1_share_53 : decode cX1_share 53 = .ok (.goto 13, 3) := dk_167 0 13 (dk_at dksX1_share_2 5 rfl rfl)
theorem dX1_share_56 : decode cX1_share 56 = .ok (.aload 4, 2) := dk_25 4 (dk_at dksX1_share_2 8 rfl rfl)
theorem dX1_share_58 : decode cX1_share 58 = .ok (.iload_n 2, 1) := dk_28 (dk_at dksX1_share_2 10 rfl rfl)
theorem dX1_share_59 : decode cX1_share 59 = .ok (.invokevirtual 209, 3) := dk_182 0 209 (dk_at dksX1_share_2 11 rfl rfl)
theorem dX1_share_62 : decode cX1_share 62 = .ok (.iload_n 3, 1) := dk_29 (dk_at dksX1_share_2 14 rfl rfl)
theorem dX1_share_63 : decode cX1_share 63 = .ok (.invokevirtual 203, 3) := dk_182 0 203 (dk_at dksX1_share_2 15 rfl rfl)
theorem dX1_share_66 : decode cX1_share 66 = .ok (.lreturn, 1) := dk_173 (dk_at dksX1_share_2 18 rfl rfl)
abbrev cX1_classes : ByteArray := prog_1_method_39_code
def yX1_classes : MethodName := ⟨RX1, "classes", "(I)I"⟩
def dkwX1_classes_0 : List UInt8 := [27, 184, 0, 100, 184, 0, 63, 187, 0, 191, 89, 42, 27, 183, 0, 193, 182, 0, 196, 172]
abbrev dktX1_classes_0 : List UInt8 := dkwX1_classes_0 ++ []
theorem dksX1_classes_0 : cX1_classes.data.toList.drop 0 = dktX1_classes_0 := by decide +kernel
theorem dX1_classes_0 : decode cX1_classes 0 = .ok (.iload_n 1, 1) := dk_27 (dk_at dksX1_classes_0 0 rfl rfl)
theorem dX1_classes_1 : decode cX1_classes 1 = .ok (.invokestatic 100, 3) := dk_184 0 100 (dk_at dksX1_classes_0 1 rfl rfl)
theorem dX1_classes_4 : decode cX1_classes 4 = .ok (.invokestatic 63, 3) := dk_184 0 63 (dk_at dksX1_classes_0 4 rfl rfl)
theorem dX1_classes_7 : decode cX1_classes 7 = .ok (.new 191, 3) := dk_187 0 191 (dk_at dksX1_classes_0 7 rfl rfl)
theorem dX1_classes_10 : decode cX1_classes 10 = .ok (.dup, 1) := dk_89 (dk_at dksX1_classes_0 10 rfl rfl)
theorem dX1_classes_11 : decode cX1_classes 11 = .ok (.aload_n 0, 1) := dk_42 (dk_at dksX1_classes_0 11 rfl rfl)
theorem dX1_classes_12 : decode cX1_classes 12 = .ok (.iload_n 1, 1) := dk_27 (dk_at dksX1_classes_0 12 rfl rfl)
theorem dX1_classes_13 : decode cX1_classes 13 = .ok (.invokespecial 193, 3) := dk_183 0 193 (dk_at dksX1_classes_0 13 rfl rfl)
theorem dX1_classes_16 : decode cX1_classes 16 = .ok (.invokevirtual 196, 3) := dk_182 0 196 (dk_at dksX1_classes_0 16 rfl rfl)
theorem dX1_classes_19 : decode cX1_classes 19 = .ok (.ireturn, 1) := dk_172 (dk_at dksX1_classes_0 19 rfl rfl)
abbrev cX1_compare : ByteArray := prog_1_method_40_code
def yX1_compare : MethodName := ⟨RX1, "compare", "(II)I"⟩
def dkwX1_compare_3 : List UInt8 := [45, 182, 0, 199, 25, 4, 182, 0, 199, 182, 0, 213, 172]
abbrev dktX1_compare_3 : List UInt8 := dkwX1_compare_3 ++ []
def dkwX1_compare_2 : List UInt8 := [182, 0, 196, 4, 160, 0, 16, 25, 4, 182, 0, 196, 4, 160, 0, 7, 4, 167, 0, 4, 3, 184, 0, 104]
abbrev dktX1_compare_2 : List UInt8 := dkwX1_compare_2 ++ dktX1_compare_3
def dkwX1_compare_1 : List UInt8 := [187, 0, 191, 89, 42, 27, 183, 0, 193, 78, 187, 0, 191, 89, 42, 28, 183, 0, 193, 58, 4, 45]
abbrev dktX1_compare_1 : List UInt8 := dkwX1_compare_1 ++ dktX1_compare_2
def dkwX1_compare_0 : List UInt8 := [27, 184, 0, 100, 153, 0, 14, 28, 184, 0, 100, 153, 0, 7, 4, 167, 0, 4, 3, 184, 0, 63]
abbrev dktX1_compare_0 : List UInt8 := dkwX1_compare_0 ++ dktX1_compare_1
theorem dksX1_compare_0 : cX1_compare.data.toList.drop 0 = dktX1_compare_0 := by decide +kernel
theorem dksX1_compare_1 : cX1_compare.data.toList.drop 22 = dktX1_compare_1 := dk_seg dksX1_compare_0 22 rfl rfl
theorem dksX1_compare_2 : cX1_compare.data.toList.drop 44 = dktX1_compare_2 := dk_seg dksX1_compare_1 22 rfl rfl
theorem dksX1_compare_3 : cX1_compare.data.toList.drop 68 = dktX1_compare_3 := dk_seg dksX1_compare_2 24 rfl rfl
theorem dX1_compare_0 : decode cX1_compare 0 = .ok (.iload_n 1, 1) := dk_27 (dk_at dksX1_compare_0 0 rfl rfl)
theorem dX1_compare_1 : decode cX1_compare 1 = .ok (.invokestatic 100, 3) := dk_184 0 100 (dk_at dksX1_compare_0 1 rfl rfl)
theorem dX1_compare_4 : decode cX1_compare 4 = .ok (.ifCond .eq 14, 3) := dk_153 0 14 (dk_at dksX1_compare_0 4 rfl rfl)
theorem dX1_compare_7 : decode cX1_compare 7 = .ok (.iload_n 2, 1) := dk_28 (dk_at dksX1_compare_0 7 rfl rfl)
theorem dX1_compare_8 : decode cX1_compare 8 = .ok (.invokestatic 100, 3) := dk_184 0 100 (dk_at dksX1_compare_0 8 rfl rfl)
theorem dX1_compare_11 : decode cX1_compare 11 = .ok (.ifCond .eq 7, 3) := dk_153 0 7 (dk_at dksX1_compare_0 11 rfl rfl)
theorem dX1_compare_14 : decode cX1_compare 14 = .ok (.iconst 1, 1) := dk_4 (dk_at dksX1_compare_0 14 rfl rfl)
theorem dX1_compare_15 : decode cX1_compare 15 = .ok (.goto 4, 3) := dk_167 0 4 (dk_at dksX1_compare_0 15 rfl rfl)
theorem dX1_compare_18 : decode cX1_compare 18 = .ok (.iconst 0, 1) := dk_3 (dk_at dksX1_compare_0 18 rfl rfl)
theorem dX1_compare_19 : decode cX1_compare 19 = .ok (.invokestatic 63, 3) := dk_184 0 63 (dk_at dksX1_compare_0 19 rfl rfl)
theorem dX1_compare_22 : decode cX1_compare 22 = .ok (.new 191, 3) := dk_187 0 191 (dk_at dksX1_compare_1 0 rfl rfl)
theorem dX1_compare_25 : decode cX1_compare 25 = .ok (.dup, 1) := dk_89 (dk_at dksX1_compare_1 3 rfl rfl)
theorem dX1_compare_26 : decode cX1_compare 26 = .ok (.aload_n 0, 1) := dk_42 (dk_at dksX1_compare_1 4 rfl rfl)
theorem dX1_compare_27 : decode cX1_compare 27 = .ok (.iload_n 1, 1) := dk_27 (dk_at dksX1_compare_1 5 rfl rfl)
theorem dX1_compare_28 : decode cX1_compare 28 = .ok (.invokespecial 193, 3) := dk_183 0 193 (dk_at dksX1_compare_1 6 rfl rfl)
theorem dX1_compare_31 : decode cX1_compare 31 = .ok (.astore_n 3, 1) := dk_78 (dk_at dksX1_compare_1 9 rfl rfl)
theorem dX1_compare_32 : decode cX1_compare 32 = .ok (.new 191, 3) := dk_187 0 191 (dk_at dksX1_compare_1 10 rfl rfl)
theorem dX1_compare_35 : decode cX1_compare 35 = .ok (.dup, 1) := dk_89 (dk_at dksX1_compare_1 13 rfl rfl)
theorem dX1_compare_36 : decode cX1_compare 36 = .ok (.aload_n 0, 1) := dk_42 (dk_at dksX1_compare_1 14 rfl rfl)
theorem dX1_compare_37 : decode cX1_compare 37 = .ok (.iload_n 2, 1) := dk_28 (dk_at dksX1_compare_1 15 rfl rfl)
theorem dX1_compare_38 : decode cX1_compare 38 = .ok (.invokespecial 193, 3) := dk_183 0 193 (dk_at dksX1_compare_1 16 rfl rfl)
theorem dX1_compare_41 : decode cX1_compare 41 = .ok (.astore 4, 2) := dk_58 4 (dk_at dksX1_compare_1 19 rfl rfl)
theorem dX1_compare_43 : decode cX1_compare 43 = .ok (.aload_n 3, 1) := dk_45 (dk_at dksX1_compare_1 21 rfl rfl)
theorem dX1_compare_44 : decode cX1_compare 44 = .ok (.invokevirtual 196, 3) := dk_182 0 196 (dk_at dksX1_compare_2 0 rfl rfl)
theorem dX1_compare_47 : decode cX1_compare 47 = .ok (.iconst 1, 1) := dk_4 (dk_at dksX1_compare_2 3 rfl rfl)
theorem dX1_compare_48 : decode cX1_compare 48 = .ok (.if_icmp .ne 16, 3) := dk_160 0 16 (dk_at dksX1_compare_2 4 rfl rfl)
theorem dX1_compare_51 : decode cX1_compare 51 = .ok (.aload 4, 2) := dk_25 4 (dk_at dksX1_compare_2 7 rfl rfl)
theorem dX1_compare_53 : decode cX1_compare 53 = .ok (.invokevirtual 196, 3) := dk_182 0 196 (dk_at dksX1_compare_2 9 rfl rfl)
theorem dX1_compare_56 : decode cX1_compare 56 = .ok (.iconst 1, 1) := dk_4 (dk_at dksX1_compare_2 12 rfl rfl)
theorem dX1_compare_57 : decode cX1_compare 57 = .ok (.if_icmp .ne 7, 3) := dk_160 0 7 (dk_at dksX1_compare_2 13 rfl rfl)
theorem dX1_compare_60 : decode cX1_compare 60 = .ok (.iconst 1, 1) := dk_4 (dk_at dksX1_compare_2 16 rfl rfl)
theorem dX1_compare_61 : decode cX1_compare 61 = .ok (.goto 4, 3) := dk_167 0 4 (dk_at dksX1_compare_2 17 rfl rfl)
theorem dX1_compare_64 : decode cX1_compare 64 = .ok (.iconst 0, 1) := dk_3 (dk_at dksX1_compare_2 20 rfl rfl)
theorem dX1_compare_65 : decode cX1_compare 65 = .ok (.invokestatic 104, 3) := dk_184 0 104 (dk_at dksX1_compare_2 21 rfl rfl)
theorem dX1_compare_68 : decode cX1_compare 68 = .ok (.aload_n 3, 1) := dk_45 (dk_at dksX1_compare_3 0 rfl rfl)
theorem dX1_compare_69 : decode cX1_compare 69 = .ok (.invokevirtual 199, 3) := dk_182 0 199 (dk_at dksX1_compare_3 1 rfl rfl)
theorem dX1_compare_72 : decode cX1_compare 72 = .ok (.aload 4, 2) := dk_25 4 (dk_at dksX1_compare_3 4 rfl rfl)
theorem dX1_compare_74 : decode cX1_compare 74 = .ok (.invokevirtual 199, 3) := dk_182 0 199 (dk_at dksX1_compare_3 6 rfl rfl)
theorem dX1_compare_77 : decode cX1_compare 77 = .ok (.invokevirtual 213, 3) := dk_182 0 213 (dk_at dksX1_compare_3 9 rfl rfl)
theorem dX1_compare_80 : decode cX1_compare 80 = .ok (.ireturn, 1) := dk_172 (dk_at dksX1_compare_3 12 rfl rfl)
abbrev cX1_best : ByteArray := prog_1_method_43_code
def yX1_best : MethodName := ⟨RX1, "best", "(II)J"⟩
def dkwX1_best_1 : List UInt8 := [184, 0, 63, 42, 42, 27, 182, 0, 248, 28, 182, 0, 252, 173]
abbrev dktX1_best_1 : List UInt8 := dkwX1_best_1 ++ []
def dkwX1_best_0 : List UInt8 := [27, 4, 6, 184, 0, 15, 153, 0, 16, 28, 3, 5, 184, 0, 15, 153, 0, 7, 4, 167, 0, 4, 3]
abbrev dktX1_best_0 : List UInt8 := dkwX1_best_0 ++ dktX1_best_1
theorem dksX1_best_0 : cX1_best.data.toList.drop 0 = dktX1_best_0 := by decide +kernel
theorem dksX1_best_1 : cX1_best.data.toList.drop 23 = dktX1_best_1 := dk_seg dksX1_best_0 23 rfl rfl
theorem dX1_best_0 : decode cX1_best 0 = .ok (.iload_n 1, 1) := dk_27 (dk_at dksX1_best_0 0 rfl rfl)
theorem dX1_best_1 : decode cX1_best 1 = .ok (.iconst 1, 1) := dk_4 (dk_at dksX1_best_0 1 rfl rfl)
theorem dX1_best_2 : decode cX1_best 2 = .ok (.iconst 3, 1) := dk_6 (dk_at dksX1_best_0 2 rfl rfl)
theorem dX1_best_3 : decode cX1_best 3 = .ok (.invokestatic 15, 3) := dk_184 0 15 (dk_at dksX1_best_0 3 rfl rfl)
theorem dX1_best_6 : decode cX1_best 6 = .ok (.ifCond .eq 16, 3) := dk_153 0 16 (dk_at dksX1_best_0 6 rfl rfl)
theorem dX1_best_9 : decode cX1_best 9 = .ok (.iload_n 2, 1) := dk_28 (dk_at dksX1_best_0 9 rfl rfl)
theorem dX1_best_10 : decode cX1_best 10 = .ok (.iconst 0, 1) := dk_3 (dk_at dksX1_best_0 10 rfl rfl)
theorem dX1_best_11 : decode cX1_best 11 = .ok (.iconst 2, 1) := dk_5 (dk_at dksX1_best_0 11 rfl rfl)
theorem dX1_best_12 : decode cX1_best 12 = .ok (.invokestatic 15, 3) := dk_184 0 15 (dk_at dksX1_best_0 12 rfl rfl)
theorem dX1_best_15 : decode cX1_best 15 = .ok (.ifCond .eq 7, 3) := dk_153 0 7 (dk_at dksX1_best_0 15 rfl rfl)
theorem dX1_best_18 : decode cX1_best 18 = .ok (.iconst 1, 1) := dk_4 (dk_at dksX1_best_0 18 rfl rfl)
theorem dX1_best_19 : decode cX1_best 19 = .ok (.goto 4, 3) := dk_167 0 4 (dk_at dksX1_best_0 19 rfl rfl)
theorem dX1_best_22 : decode cX1_best 22 = .ok (.iconst 0, 1) := dk_3 (dk_at dksX1_best_0 22 rfl rfl)
theorem dX1_best_23 : decode cX1_best 23 = .ok (.invokestatic 63, 3) := dk_184 0 63 (dk_at dksX1_best_1 0 rfl rfl)
theorem dX1_best_26 : decode cX1_best 26 = .ok (.aload_n 0, 1) := dk_42 (dk_at dksX1_best_1 3 rfl rfl)
theorem dX1_best_27 : decode cX1_best 27 = .ok (.aload_n 0, 1) := dk_42 (dk_at dksX1_best_1 4 rfl rfl)
theorem dX1_best_28 : decode cX1_best 28 = .ok (.iload_n 1, 1) := dk_27 (dk_at dksX1_best_1 5 rfl rfl)
theorem dX1_best_29 : decode cX1_best 29 = .ok (.invokevirtual 248, 3) := dk_182 0 248 (dk_at dksX1_best_1 6 rfl rfl)
theorem dX1_best_32 : decode cX1_best 32 = .ok (.iload_n 2, 1) := dk_28 (dk_at dksX1_best_1 9 rfl rfl)
theorem dX1_best_33 : decode cX1_best 33 = .ok (.invokevirtual 252, 3) := dk_182 0 252 (dk_at dksX1_best_1 10 rfl rfl)
theorem dX1_best_36 : decode cX1_best 36 = .ok (.lreturn, 1) := dk_173 (dk_at dksX1_best_1 13 rfl rfl)
abbrev cX1_count : ByteArray := prog_1_method_48_code
def yX1_count : MethodName := ⟨RX1, "count", "(I)I"⟩
def dkwX1_count_0 : List UInt8 := [27, 3, 16, 9, 184, 0, 15, 184, 0, 63, 42, 27, 182, 1, 10, 172]
abbrev dktX1_count_0 : List UInt8 := dkwX1_count_0 ++ []
theorem dksX1_count_0 : cX1_count.data.toList.drop 0 = dktX1_count_0 := by decide +kernel
theorem dX1_count_0 : decode cX1_count 0 = .ok (.iload_n 1, 1) := dk_27 (dk_at dksX1_count_0 0 rfl rfl)
theorem dX1_count_1 : decode cX1_count 1 = .ok (.iconst 0, 1) := dk_3 (dk_at dksX1_count_0 1 rfl rfl)
theorem dX1_count_2 : decode cX1_count 2 = .ok (.bipush 9, 2) := dk_16 9 (dk_at dksX1_count_0 2 rfl rfl)
theorem dX1_count_4 : decode cX1_count 4 = .ok (.invokestatic 15, 3) := dk_184 0 15 (dk_at dksX1_count_0 4 rfl rfl)
theorem dX1_count_7 : decode cX1_count 7 = .ok (.invokestatic 63, 3) := dk_184 0 63 (dk_at dksX1_count_0 7 rfl rfl)
theorem dX1_count_10 : decode cX1_count 10 = .ok (.aload_n 0, 1) := dk_42 (dk_at dksX1_count_0 10 rfl rfl)
theorem dX1_count_11 : decode cX1_count 11 = .ok (.iload_n 1, 1) := dk_27 (dk_at dksX1_count_0 11 rfl rfl)
theorem dX1_count_12 : decode cX1_count 12 = .ok (.invokevirtual 266, 3) := dk_182 1 10 (dk_at dksX1_count_0 12 rfl rfl)
theorem dX1_count_15 : decode cX1_count 15 = .ok (.ireturn, 1) := dk_172 (dk_at dksX1_count_0 15 rfl rfl)
abbrev cX1_table : ByteArray := prog_1_method_49_code
def yX1_table : MethodName := ⟨RX1, "table", "(II)I"⟩
def dkwX1_table_1 : List UInt8 := [27, 28, 182, 0, 52, 172]
abbrev dktX1_table_1 : List UInt8 := dkwX1_table_1 ++ []
def dkwX1_table_0 : List UInt8 := [27, 184, 0, 82, 153, 0, 15, 42, 28, 182, 0, 85, 153, 0, 7, 4, 167, 0, 4, 3, 184, 0, 88, 42]
abbrev dktX1_table_0 : List UInt8 := dkwX1_table_0 ++ dktX1_table_1
theorem dksX1_table_0 : cX1_table.data.toList.drop 0 = dktX1_table_0 := by decide +kernel
theorem dksX1_table_1 : cX1_table.data.toList.drop 24 = dktX1_table_1 := dk_seg dksX1_table_0 24 rfl rfl
theorem dX1_table_0 : decode cX1_table 0 = .ok (.iload_n 1, 1) := dk_27 (dk_at dksX1_table_0 0 rfl rfl)
theorem dX1_table_1 : decode cX1_table 1 = .ok (.invokestatic 82, 3) := dk_184 0 82 (dk_at dksX1_table_0 1 rfl rfl)
theorem dX1_table_4 : decode cX1_table 4 = .ok (.ifCond .eq 15, 3) := dk_153 0 15 (dk_at dksX1_table_0 4 rfl rfl)
theorem dX1_table_7 : decode cX1_table 7 = .ok (.aload_n 0, 1) := dk_42 (dk_at dksX1_table_0 7 rfl rfl)
theorem dX1_table_8 : decode cX1_table 8 = .ok (.iload_n 2, 1) := dk_28 (dk_at dksX1_table_0 8 rfl rfl)
theorem dX1_table_9 : decode cX1_table 9 = .ok (.invokevirtual 85, 3) := dk_182 0 85 (dk_at dksX1_table_0 9 rfl rfl)
theorem dX1_table_12 : decode cX1_table 12 = .ok (.ifCond .eq 7, 3) := dk_153 0 7 (dk_at dksX1_table_0 12 rfl rfl)
theorem dX1_table_15 : decode cX1_table 15 = .ok (.iconst 1, 1) := dk_4 (dk_at dksX1_table_0 15 rfl rfl)
theorem dX1_table_16 : decode cX1_table 16 = .ok (.goto 4, 3) := dk_167 0 4 (dk_at dksX1_table_0 16 rfl rfl)
theorem dX1_table_19 : decode cX1_table 19 = .ok (.iconst 0, 1) := dk_3 (dk_at dksX1_table_0 19 rfl rfl)
theorem dX1_table_20 : decode cX1_table 20 = .ok (.invokestatic 88, 3) := dk_184 0 88 (dk_at dksX1_table_0 20 rfl rfl)
theorem dX1_table_23 : decode cX1_table 23 = .ok (.aload_n 0, 1) := dk_42 (dk_at dksX1_table_0 23 rfl rfl)
theorem dX1_table_24 : decode cX1_table 24 = .ok (.iload_n 1, 1) := dk_27 (dk_at dksX1_table_1 0 rfl rfl)
theorem dX1_table_25 : decode cX1_table 25 = .ok (.iload_n 2, 1) := dk_28 (dk_at dksX1_table_1 1 rfl rfl)
theorem dX1_table_26 : decode cX1_table 26 = .ok (.invokevirtual 52, 3) := dk_182 0 52 (dk_at dksX1_table_1 2 rfl rfl)
theorem dX1_table_29 : decode cX1_table 29 = .ok (.ireturn, 1) := dk_172 (dk_at dksX1_table_1 5 rfl rfl)
theorem q85 : (Jvm.Cond.initialized "FlashRatchet") ∈ lw_all := lw_g (lw_at lw_m1 1 rfl) rfl
theorem q131 : (Jvm.Cond.instantiable "FlashRatchet" (12 : Nat)) ∈ lw_all := lw_g (lw_at lw_m1 47 rfl) rfl
theorem q133 : (Jvm.Cond.instanceMethod ({ cls := "FlashRatchet", name := "<init>", desc := "()V" } : Jvm.MethodName)) ∈ lw_all := lw_g (lw_at lw_m1 49 rfl) rfl
theorem q134 : (Jvm.Cond.code ({ cls := "FlashRatchet", name := "<init>", desc := "()V" } : Jvm.MethodName) prog_1_method_6_code (1 : Nat) (Option.none : Option Jvm.ClassFile.FieldType)) ∈ lw_all := lw_g (lw_at lw_m1 50 rfl) rfl
theorem q135 : (Jvm.Cond.methodLink "FlashRatchet" (19 : Nat) ({ cls := "java/lang/Object", name := "<init>", desc := "()V" } : Jvm.MethodName)) ∈ lw_all := lw_g (lw_at lw_m1 51 rfl) rfl
theorem q138 : (Jvm.Cond.classLink "FlashRatchet" (36 : Nat) "java/lang/StringBuilder") ∈ lw_all := lw_g (lw_at lw_m1 54 rfl) rfl
theorem q140 : (Jvm.Cond.methodLink "FlashRatchet" (38 : Nat) ({ cls := "java/lang/StringBuilder", name := "<init>", desc := "(I)V" } : Jvm.MethodName)) ∈ lw_all := lw_g (lw_at lw_m1 56 rfl) rfl
theorem q173 : (Jvm.Cond.fieldLink "FlashRatchet" (22 : Nat) "FlashRatchet" "positions" "I") ∈ lw_all := lw_g (lw_at lw_m1 89 rfl) rfl
theorem q175 : (Jvm.Cond.fieldLink "FlashRatchet" (26 : Nat) "FlashRatchet" "numbers" "[I") ∈ lw_all := lw_g (lw_at lw_m1 91 rfl) rfl
theorem q177 : (Jvm.Cond.fieldLink "FlashRatchet" (30 : Nat) "FlashRatchet" "geared" "I") ∈ lw_all := lw_g (lw_at lw_m1 93 rfl) rfl
theorem q178 : (Jvm.Cond.fieldLink "FlashRatchet" (49 : Nat) "FlashRatchet" "pawls" "I") ∈ lw_all := lw_g (lw_at lw_m1 94 rfl) rfl
theorem q181 : (Jvm.Cond.fieldLink "FlashRatchet" (33 : Nat) "FlashRatchet" "program" "I") ∈ lw_all := lw_g (lw_at lw_m1 97 rfl) rfl
theorem q186 : (Jvm.Cond.fieldLink "FlashRatchet" (67 : Nat) "FlashRatchet" "index" "I") ∈ lw_all := lw_g (lw_at lw_m1 102 rfl) rfl
theorem q189 : (Jvm.Cond.fieldLink "FlashRatchet" (70 : Nat) "FlashRatchet" "position" "I") ∈ lw_all := lw_g (lw_at lw_m1 105 rfl) rfl
theorem q191 : (Jvm.Cond.fieldLink "FlashRatchet" (73 : Nat) "FlashRatchet" "seed" "I") ∈ lw_all := lw_g (lw_at lw_m1 107 rfl) rfl
theorem q192 : (Jvm.Cond.fieldLink "FlashRatchet" (76 : Nat) "FlashRatchet" "gain" "I") ∈ lw_all := lw_g (lw_at lw_m1 108 rfl) rfl
theorem q193 : (Jvm.Cond.fieldLink "FlashRatchet" (79 : Nat) "FlashRatchet" "ticks" "I") ∈ lw_all := lw_g (lw_at lw_m1 109 rfl) rfl
theorem q194 : (Jvm.Cond.fieldLink "FlashRatchet" (41 : Nat) "FlashRatchet" "buffer" "Ljava/lang/StringBuilder;") ∈ lw_all := lw_g (lw_at lw_m1 110 rfl) rfl
theorem q196 : (Jvm.Cond.fieldLink "FlashRatchet" (271 : Nat) "FlashRatchet" "hash" "J") ∈ lw_all := lw_g (lw_at lw_m1 112 rfl) rfl
theorem q197 : (Jvm.Cond.lays "FlashRatchet" "FlashRatchet" "positions" "I") ∈ lw_all := lw_g (lw_at lw_m1 113 rfl) rfl
theorem q198 : (Jvm.Cond.soleField "FlashRatchet" "positions") ∈ lw_all := lw_g (lw_at lw_m1 114 rfl) rfl
theorem q199 : (Jvm.Cond.laysFinal "FlashRatchet" "FlashRatchet" "numbers" "[I") ∈ lw_all := lw_g (lw_at lw_m1 115 rfl) rfl
theorem q200 : (Jvm.Cond.soleField "FlashRatchet" "numbers") ∈ lw_all := lw_g (lw_at lw_m1 116 rfl) rfl
theorem q201 : (Jvm.Cond.lays "FlashRatchet" "FlashRatchet" "geared" "I") ∈ lw_all := lw_g (lw_at lw_m1 117 rfl) rfl
theorem q202 : (Jvm.Cond.soleField "FlashRatchet" "geared") ∈ lw_all := lw_g (lw_at lw_m1 118 rfl) rfl
theorem q203 : (Jvm.Cond.lays "FlashRatchet" "FlashRatchet" "pawls" "I") ∈ lw_all := lw_g (lw_at lw_m1 119 rfl) rfl
theorem q204 : (Jvm.Cond.soleField "FlashRatchet" "pawls") ∈ lw_all := lw_g (lw_at lw_m1 120 rfl) rfl
theorem q205 : (Jvm.Cond.lays "FlashRatchet" "FlashRatchet" "program" "I") ∈ lw_all := lw_g (lw_at lw_m1 121 rfl) rfl
theorem q206 : (Jvm.Cond.soleField "FlashRatchet" "program") ∈ lw_all := lw_g (lw_at lw_m1 122 rfl) rfl
theorem q207 : (Jvm.Cond.lays "FlashRatchet" "FlashRatchet" "index" "I") ∈ lw_all := lw_g (lw_at lw_m1 123 rfl) rfl
theorem q208 : (Jvm.Cond.soleField "FlashRatchet" "index") ∈ lw_all := lw_g (lw_at lw_m1 124 rfl) rfl
theorem q209 : (Jvm.Cond.lays "FlashRatchet" "FlashRatchet" "position" "I") ∈ lw_all := lw_g (lw_at lw_m1 125 rfl) rfl
theorem q210 : (Jvm.Cond.soleField "FlashRatchet" "position") ∈ lw_all := lw_g (lw_at lw_m1 126 rfl) rfl
theorem q211 : (Jvm.Cond.lays "FlashRatchet" "FlashRatchet" "seed" "I") ∈ lw_all := lw_g (lw_at lw_m1 127 rfl) rfl
theorem q212 : (Jvm.Cond.soleField "FlashRatchet" "seed") ∈ lw_all := lw_g (lw_at lw_m1 128 rfl) rfl
theorem q213 : (Jvm.Cond.lays "FlashRatchet" "FlashRatchet" "gain" "I") ∈ lw_all := lw_g (lw_at lw_m1 129 rfl) rfl
theorem q214 : (Jvm.Cond.soleField "FlashRatchet" "gain") ∈ lw_all := lw_g (lw_at lw_m1 130 rfl) rfl
theorem q215 : (Jvm.Cond.lays "FlashRatchet" "FlashRatchet" "ticks" "I") ∈ lw_all := lw_g (lw_at lw_m1 131 rfl) rfl
theorem q216 : (Jvm.Cond.soleField "FlashRatchet" "ticks") ∈ lw_all := lw_g (lw_at lw_m1 132 rfl) rfl
theorem q217 : (Jvm.Cond.laysFinal "FlashRatchet" "FlashRatchet" "buffer" "Ljava/lang/StringBuilder;") ∈ lw_all := lw_g (lw_at lw_m1 133 rfl) rfl
theorem q218 : (Jvm.Cond.soleField "FlashRatchet" "buffer") ∈ lw_all := lw_g (lw_at lw_m1 134 rfl) rfl
theorem q219 : (Jvm.Cond.lays "FlashRatchet" "FlashRatchet" "hash" "J") ∈ lw_all := lw_g (lw_at lw_m1 135 rfl) rfl
theorem q220 : (Jvm.Cond.soleField "FlashRatchet" "hash") ∈ lw_all := lw_g (lw_at lw_m1 136 rfl) rfl
theorem q221 : (Jvm.Cond.superclass "FlashRatchet" "java/lang/Object") ∈ lw_all := lw_g (lw_at lw_m1 137 rfl) rfl
theorem q223 : (Jvm.Cond.instanceMethod ({ cls := "FlashRatchet", name := "clearBuffer", desc := "()I" } : Jvm.MethodName)) ∈ lw_all := lw_g (lw_at lw_m1 139 rfl) rfl
theorem q224 : (Jvm.Cond.selects "FlashRatchet" ({ cls := "FlashRatchet", name := "clearBuffer", desc := "()I" } : Jvm.MethodName) ({ cls := "FlashRatchet", name := "clearBuffer", desc := "()I" } : Jvm.MethodName)) ∈ lw_all := lw_g (lw_at lw_m1 140 rfl) rfl
theorem q225 : (Jvm.Cond.code ({ cls := "FlashRatchet", name := "clearBuffer", desc := "()I" } : Jvm.MethodName) prog_1_method_29_code (2 : Nat) (Option.some Jvm.ClassFile.FieldType.int)) ∈ lw_all := lw_g (lw_at lw_m1 141 rfl) rfl
theorem q226 : (Jvm.Cond.methodLink "FlashRatchet" (145 : Nat) ({ cls := "java/lang/StringBuilder", name := "length", desc := "()I" } : Jvm.MethodName)) ∈ lw_all := lw_g (lw_at lw_m1 142 rfl) rfl
theorem q233 : (Jvm.Cond.methodLink "FlashRatchet" (151 : Nat) ({ cls := "java/lang/StringBuilder", name := "setLength", desc := "(I)V" } : Jvm.MethodName)) ∈ lw_all := lw_g (lw_at lw_m1 149 rfl) rfl
theorem q573 : (Jvm.Cond.instanceMethod ({ cls := "FlashRatchet", name := "firstError", desc := "()I" } : Jvm.MethodName)) ∈ lw_all := lw_g (lw_at lw_m3 9 rfl) rfl
theorem q574 : (Jvm.Cond.selects "FlashRatchet" ({ cls := "FlashRatchet", name := "firstError", desc := "()I" } : Jvm.MethodName) ({ cls := "FlashRatchet", name := "firstError", desc := "()I" } : Jvm.MethodName)) ∈ lw_all := lw_g (lw_at lw_m3 10 rfl) rfl
theorem q575 : (Jvm.Cond.code ({ cls := "FlashRatchet", name := "firstError", desc := "()I" } : Jvm.MethodName) prog_1_method_30_code (1 : Nat) (Option.some Jvm.ClassFile.FieldType.int)) ∈ lw_all := lw_g (lw_at lw_m3 11 rfl) rfl
theorem q576 : (Jvm.Cond.classLink "FlashRatchet" (154 : Nat) "FlashRatchet$Reader") ∈ lw_all := lw_g (lw_at lw_m3 12 rfl) rfl
theorem q578 : (Jvm.Cond.methodLinkNest "FlashRatchet" (156 : Nat) ({ cls := "FlashRatchet$Reader", name := "<init>", desc := "(LFlashRatchet;)V" } : Jvm.MethodName) "FlashRatchet") ∈ lw_tbl := lw_at lw_m3 14 rfl
theorem q586 : (Jvm.Cond.fieldLinkNest "FlashRatchet" (169 : Nat) "FlashRatchet$Reader" "items" "I" "FlashRatchet") ∈ lw_tbl := lw_at lw_m3 22 rfl
theorem q588 : (Jvm.Cond.fieldLinkNest "FlashRatchet" (161 : Nat) "FlashRatchet$Reader" "at" "I" "FlashRatchet") ∈ lw_tbl := lw_at lw_m3 24 rfl
theorem q615 : (Jvm.Cond.methodLink "FlashRatchet" (157 : Nat) ({ cls := "FlashRatchet$Reader", name := "all", desc := "()LFlashRatchet$Reader;" } : Jvm.MethodName)) ∈ lw_all := lw_g (lw_at lw_m3 51 rfl) rfl
theorem q656 : (Jvm.Cond.static ({ cls := "FlashRatchet", name := "isLever", desc := "(I)Z" } : Jvm.MethodName)) ∈ lw_all := lw_g (lw_at lw_m3 92 rfl) rfl
theorem q657 : (Jvm.Cond.code ({ cls := "FlashRatchet", name := "isLever", desc := "(I)Z" } : Jvm.MethodName) prog_1_method_5_code (1 : Nat) (Option.some Jvm.ClassFile.FieldType.boolean)) ∈ lw_all := lw_g (lw_at lw_m3 93 rfl) rfl
theorem q658 : (Jvm.Cond.methodLink "FlashRatchet" (15 : Nat) ({ cls := "FlashRatchet", name := "inRange", desc := "(III)Z" } : Jvm.MethodName)) ∈ lw_all := lw_g (lw_at lw_m3 94 rfl) rfl
theorem q659 : (Jvm.Cond.static ({ cls := "FlashRatchet", name := "inRange", desc := "(III)Z" } : Jvm.MethodName)) ∈ lw_all := lw_g (lw_at lw_m3 95 rfl) rfl
theorem q660 : (Jvm.Cond.code ({ cls := "FlashRatchet", name := "inRange", desc := "(III)Z" } : Jvm.MethodName) prog_1_method_1_code (3 : Nat) (Option.some Jvm.ClassFile.FieldType.boolean)) ∈ lw_all := lw_g (lw_at lw_m3 96 rfl) rfl
theorem q679 : (Jvm.Cond.static ({ cls := "FlashRatchet", name := "length", desc := "(I)I" } : Jvm.MethodName)) ∈ lw_all := lw_g (lw_at lw_m3 115 rfl) rfl
theorem q680 : (Jvm.Cond.code ({ cls := "FlashRatchet", name := "length", desc := "(I)I" } : Jvm.MethodName) prog_1_method_13_code (3 : Nat) (Option.some Jvm.ClassFile.FieldType.int)) ∈ lw_all := lw_g (lw_at lw_m3 116 rfl) rfl
theorem q682 : (Jvm.Cond.instanceMethod ({ cls := "FlashRatchet", name := "paradox", desc := "()I" } : Jvm.MethodName)) ∈ lw_all := lw_g (lw_at lw_m3 118 rfl) rfl
theorem q683 : (Jvm.Cond.selects "FlashRatchet" ({ cls := "FlashRatchet", name := "paradox", desc := "()I" } : Jvm.MethodName) ({ cls := "FlashRatchet", name := "paradox", desc := "()I" } : Jvm.MethodName)) ∈ lw_all := lw_g (lw_at lw_m3 119 rfl) rfl
theorem q684 : (Jvm.Cond.code ({ cls := "FlashRatchet", name := "paradox", desc := "()I" } : Jvm.MethodName) prog_1_method_46_code (1 : Nat) (Option.some Jvm.ClassFile.FieldType.int)) ∈ lw_all := lw_g (lw_at lw_m3 120 rfl) rfl
theorem q685 : (Jvm.Cond.methodLink "FlashRatchet" (263 : Nat) ({ cls := "FlashRatchet", name := "paradoxical", desc := "()I" } : Jvm.MethodName)) ∈ lw_all := lw_g (lw_at lw_m3 121 rfl) rfl
theorem q686 : (Jvm.Cond.privateMethod ({ cls := "FlashRatchet", name := "paradoxical", desc := "()I" } : Jvm.MethodName)) ∈ lw_tbl := lw_at lw_m3 122 rfl
theorem q687 : (Jvm.Cond.instanceMethod ({ cls := "FlashRatchet", name := "paradoxical", desc := "()I" } : Jvm.MethodName)) ∈ lw_all := lw_g (lw_at lw_m3 123 rfl) rfl
theorem q688 : (Jvm.Cond.code ({ cls := "FlashRatchet", name := "paradoxical", desc := "()I" } : Jvm.MethodName) prog_1_method_45_code (3 : Nat) (Option.some Jvm.ClassFile.FieldType.int)) ∈ lw_all := lw_g (lw_at lw_m3 124 rfl) rfl
theorem q689 : (Jvm.Cond.methodLink "FlashRatchet" (260 : Nat) ({ cls := "FlashRatchet", name := "losesAlone", desc := "(I)Z" } : Jvm.MethodName)) ∈ lw_all := lw_g (lw_at lw_m3 125 rfl) rfl
theorem q690 : (Jvm.Cond.privateMethod ({ cls := "FlashRatchet", name := "losesAlone", desc := "(I)Z" } : Jvm.MethodName)) ∈ lw_tbl := lw_at lw_m3 126 rfl
theorem q691 : (Jvm.Cond.instanceMethod ({ cls := "FlashRatchet", name := "losesAlone", desc := "(I)Z" } : Jvm.MethodName)) ∈ lw_all := lw_g (lw_at lw_m3 127 rfl) rfl
theorem q692 : (Jvm.Cond.code ({ cls := "FlashRatchet", name := "losesAlone", desc := "(I)Z" } : Jvm.MethodName) prog_1_method_44_code (3 : Nat) (Option.some Jvm.ClassFile.FieldType.boolean)) ∈ lw_all := lw_g (lw_at lw_m3 128 rfl) rfl
theorem q693 : (Jvm.Cond.classLink "FlashRatchet" (191 : Nat) "FlashRatchet$Rounds") ∈ lw_all := lw_g (lw_at lw_m3 129 rfl) rfl
theorem q695 : (Jvm.Cond.methodLink "FlashRatchet" (193 : Nat) ({ cls := "FlashRatchet$Rounds", name := "<init>", desc := "(LFlashRatchet;I)V" } : Jvm.MethodName)) ∈ lw_all := lw_g (lw_at lw_m3 131 rfl) rfl
theorem q704 : (Jvm.Cond.static ({ cls := "FlashRatchet", name := "lever", desc := "(II)I" } : Jvm.MethodName)) ∈ lw_all := lw_g (lw_at lw_m3 140 rfl) rfl
theorem q705 : (Jvm.Cond.code ({ cls := "FlashRatchet", name := "lever", desc := "(II)I" } : Jvm.MethodName) prog_1_method_14_code (4 : Nat) (Option.some Jvm.ClassFile.FieldType.int)) ∈ lw_all := lw_g (lw_at lw_m3 141 rfl) rfl
theorem q706 : (Jvm.Cond.methodLink "FlashRatchet" (56 : Nat) ({ cls := "FlashRatchet", name := "length", desc := "(I)I" } : Jvm.MethodName)) ∈ lw_all := lw_g (lw_at lw_m3 142 rfl) rfl
theorem q717 : (Jvm.Cond.privateMethod ({ cls := "FlashRatchet", name := "draws", desc := "(III)I" } : Jvm.MethodName)) ∈ lw_tbl := lw_at lw_m3 153 rfl
theorem q718 : (Jvm.Cond.instanceMethod ({ cls := "FlashRatchet", name := "draws", desc := "(III)I" } : Jvm.MethodName)) ∈ lw_all := lw_g (lw_at lw_m3 154 rfl) rfl
theorem q719 : (Jvm.Cond.code ({ cls := "FlashRatchet", name := "draws", desc := "(III)I" } : Jvm.MethodName) prog_1_method_10_code (6 : Nat) (Option.some Jvm.ClassFile.FieldType.int)) ∈ lw_all := lw_g (lw_at lw_m3 155 rfl) rfl
theorem q720 : (Jvm.Cond.methodLink "FlashRatchet" (45 : Nat) ({ cls := "FlashRatchet", name := "isGeared", desc := "(I)Z" } : Jvm.MethodName)) ∈ lw_all := lw_g (lw_at lw_m3 156 rfl) rfl
theorem q721 : (Jvm.Cond.privateMethod ({ cls := "FlashRatchet", name := "isGeared", desc := "(I)Z" } : Jvm.MethodName)) ∈ lw_tbl := lw_at lw_m3 157 rfl
theorem q722 : (Jvm.Cond.instanceMethod ({ cls := "FlashRatchet", name := "isGeared", desc := "(I)Z" } : Jvm.MethodName)) ∈ lw_all := lw_g (lw_at lw_m3 158 rfl) rfl
theorem q723 : (Jvm.Cond.code ({ cls := "FlashRatchet", name := "isGeared", desc := "(I)Z" } : Jvm.MethodName) prog_1_method_8_code (2 : Nat) (Option.some Jvm.ClassFile.FieldType.boolean)) ∈ lw_all := lw_g (lw_at lw_m3 159 rfl) rfl
theorem q724 : (Jvm.Cond.methodLink "FlashRatchet" (52 : Nat) ({ cls := "FlashRatchet", name := "number", desc := "(II)I" } : Jvm.MethodName)) ∈ lw_all := lw_g (lw_at lw_m3 160 rfl) rfl
theorem q725 : (Jvm.Cond.privateMethod ({ cls := "FlashRatchet", name := "number", desc := "(II)I" } : Jvm.MethodName)) ∈ lw_tbl := lw_at lw_m3 161 rfl
theorem q726 : (Jvm.Cond.instanceMethod ({ cls := "FlashRatchet", name := "number", desc := "(II)I" } : Jvm.MethodName)) ∈ lw_all := lw_g (lw_at lw_m3 162 rfl) rfl
theorem q727 : (Jvm.Cond.code ({ cls := "FlashRatchet", name := "number", desc := "(II)I" } : Jvm.MethodName) prog_1_method_9_code (3 : Nat) (Option.some Jvm.ClassFile.FieldType.int)) ∈ lw_all := lw_g (lw_at lw_m3 163 rfl) rfl
theorem q729 : (Jvm.Cond.privateMethod ({ cls := "FlashRatchet", name := "moved", desc := "(II)I" } : Jvm.MethodName)) ∈ lw_tbl := lw_at lw_m3 165 rfl
theorem q730 : (Jvm.Cond.instanceMethod ({ cls := "FlashRatchet", name := "moved", desc := "(II)I" } : Jvm.MethodName)) ∈ lw_all := lw_g (lw_at lw_m3 166 rfl) rfl
theorem q731 : (Jvm.Cond.code ({ cls := "FlashRatchet", name := "moved", desc := "(II)I" } : Jvm.MethodName) prog_1_method_12_code (3 : Nat) (Option.some Jvm.ClassFile.FieldType.int)) ∈ lw_all := lw_g (lw_at lw_m3 167 rfl) rfl
theorem q752 : (Jvm.Cond.methodLink "FlashRatchet" (196 : Nat) ({ cls := "FlashRatchet$Rounds", name := "classCount", desc := "()I" } : Jvm.MethodName)) ∈ lw_all := lw_g (lw_at lw_m3 188 rfl) rfl
theorem q764 : (Jvm.Cond.methodLink "FlashRatchet" (199 : Nat) ({ cls := "FlashRatchet$Rounds", name := "mean", desc := "()LFlashRatchet$Fraction;" } : Jvm.MethodName)) ∈ lw_all := lw_g (lw_at lw_m3 200 rfl) rfl
theorem q793 : (Jvm.Cond.fieldLinkNest "FlashRatchet" (256 : Nat) "FlashRatchet$Fraction" "above" "J" "FlashRatchet") ∈ lw_tbl := lw_at lw_m3 229 rfl
theorem q800 : (Jvm.Cond.methodLink "FlashRatchet" (248 : Nat) ({ cls := "FlashRatchet", name := "bestOf", desc := "(I)LFlashRatchet$Candidate;" } : Jvm.MethodName)) ∈ lw_all := lw_g (lw_at lw_m3 236 rfl) rfl
theorem q801 : (Jvm.Cond.privateMethod ({ cls := "FlashRatchet", name := "bestOf", desc := "(I)LFlashRatchet$Candidate;" } : Jvm.MethodName)) ∈ lw_tbl := lw_at lw_m3 237 rfl
theorem q802 : (Jvm.Cond.instanceMethod ({ cls := "FlashRatchet", name := "bestOf", desc := "(I)LFlashRatchet$Candidate;" } : Jvm.MethodName)) ∈ lw_all := lw_g (lw_at lw_m3 238 rfl) rfl
theorem q803 : (Jvm.Cond.code ({ cls := "FlashRatchet", name := "bestOf", desc := "(I)LFlashRatchet$Candidate;" } : Jvm.MethodName) prog_1_method_41_code (5 : Nat) (Option.some (Jvm.ClassFile.FieldType.object "FlashRatchet$Candidate"))) ∈ lw_all := lw_g (lw_at lw_m3 239 rfl) rfl
theorem q804 : (Jvm.Cond.classLink "FlashRatchet" (217 : Nat) "java/util/PriorityQueue") ∈ lw_all := lw_g (lw_at lw_m4 0 rfl) rfl
theorem q806 : (Jvm.Cond.classLink "FlashRatchet" (219 : Nat) "FlashRatchet$BestFirst") ∈ lw_all := lw_g (lw_at lw_m4 2 rfl) rfl
theorem q808 : (Jvm.Cond.methodLinkNest "FlashRatchet" (221 : Nat) ({ cls := "FlashRatchet$BestFirst", name := "<init>", desc := "()V" } : Jvm.MethodName) "FlashRatchet") ∈ lw_tbl := lw_at lw_m4 4 rfl
theorem q813 : (Jvm.Cond.methodLink "FlashRatchet" (222 : Nat) ({ cls := "java/util/PriorityQueue", name := "<init>", desc := "(Ljava/util/Comparator;)V" } : Jvm.MethodName)) ∈ lw_all := lw_g (lw_at lw_m4 9 rfl) rfl
theorem q852 : (Jvm.Cond.methodLink "FlashRatchet" (100 : Nat) ({ cls := "FlashRatchet", name := "isProgram", desc := "(I)Z" } : Jvm.MethodName)) ∈ lw_all := lw_g (lw_at lw_m4 48 rfl) rfl
theorem q853 : (Jvm.Cond.static ({ cls := "FlashRatchet", name := "isProgram", desc := "(I)Z" } : Jvm.MethodName)) ∈ lw_all := lw_g (lw_at lw_m4 49 rfl) rfl
theorem q854 : (Jvm.Cond.code ({ cls := "FlashRatchet", name := "isProgram", desc := "(I)Z" } : Jvm.MethodName) prog_1_method_15_code (3 : Nat) (Option.some Jvm.ClassFile.FieldType.boolean)) ∈ lw_all := lw_g (lw_at lw_m4 50 rfl) rfl
theorem q855 : (Jvm.Cond.methodLink "FlashRatchet" (225 : Nat) ({ cls := "FlashRatchet", name := "usesGeared", desc := "(I)Z" } : Jvm.MethodName)) ∈ lw_all := lw_g (lw_at lw_m4 51 rfl) rfl
theorem q856 : (Jvm.Cond.privateMethod ({ cls := "FlashRatchet", name := "usesGeared", desc := "(I)Z" } : Jvm.MethodName)) ∈ lw_tbl := lw_at lw_m4 52 rfl
theorem q857 : (Jvm.Cond.instanceMethod ({ cls := "FlashRatchet", name := "usesGeared", desc := "(I)Z" } : Jvm.MethodName)) ∈ lw_all := lw_g (lw_at lw_m4 53 rfl) rfl
theorem q858 : (Jvm.Cond.code ({ cls := "FlashRatchet", name := "usesGeared", desc := "(I)Z" } : Jvm.MethodName) prog_1_method_16_code (4 : Nat) (Option.some Jvm.ClassFile.FieldType.boolean)) ∈ lw_all := lw_g (lw_at lw_m4 54 rfl) rfl
theorem q859 : (Jvm.Cond.methodLink "FlashRatchet" (60 : Nat) ({ cls := "FlashRatchet", name := "lever", desc := "(II)I" } : Jvm.MethodName)) ∈ lw_all := lw_g (lw_at lw_m4 55 rfl) rfl
theorem q860 : (Jvm.Cond.classLink "FlashRatchet" (228 : Nat) "FlashRatchet$Candidate") ∈ lw_all := lw_g (lw_at lw_m4 56 rfl) rfl
theorem q862 : (Jvm.Cond.methodLink "FlashRatchet" (230 : Nat) ({ cls := "FlashRatchet$Candidate", name := "<init>", desc := "(ILFlashRatchet$Fraction;)V" } : Jvm.MethodName)) ∈ lw_all := lw_g (lw_at lw_m4 58 rfl) rfl
theorem q868 : (Jvm.Cond.fieldLinkNest "FlashRatchet" (243 : Nat) "FlashRatchet$Candidate" "program" "I" "FlashRatchet") ∈ lw_tbl := lw_at lw_m4 64 rfl
theorem q871 : (Jvm.Cond.fieldLinkNest "FlashRatchet" (244 : Nat) "FlashRatchet$Candidate" "average" "LFlashRatchet$Fraction;" "FlashRatchet") ∈ lw_tbl := lw_at lw_m4 67 rfl
theorem q877 : (Jvm.Cond.methodLink "FlashRatchet" (233 : Nat) ({ cls := "java/util/PriorityQueue", name := "add", desc := "(Ljava/lang/Object;)Z" } : Jvm.MethodName)) ∈ lw_all := lw_g (lw_at lw_m4 73 rfl) rfl
theorem q896 : (Jvm.Cond.selects "FlashRatchet" ({ cls := "java/lang/Object", name := "getClass", desc := "()Ljava/lang/Class;" } : Jvm.MethodName) ({ cls := "java/lang/Object", name := "getClass", desc := "()Ljava/lang/Class;" } : Jvm.MethodName)) ∈ lw_all := lw_g (lw_at lw_m4 92 rfl) rfl
theorem q1176 : (Jvm.Cond.methodLink "FlashRatchet" (237 : Nat) ({ cls := "java/util/PriorityQueue", name := "peek", desc := "()Ljava/lang/Object;" } : Jvm.MethodName)) ∈ lw_all := lw_g (lw_at lw_m5 132 rfl) rfl
theorem q1181 : (Jvm.Cond.instanceMethod ({ cls := "FlashRatchet", name := "meanGain", desc := "()D" } : Jvm.MethodName)) ∈ lw_all := lw_g (lw_at lw_m5 137 rfl) rfl
theorem q1182 : (Jvm.Cond.selects "FlashRatchet" ({ cls := "FlashRatchet", name := "meanGain", desc := "()D" } : Jvm.MethodName) ({ cls := "FlashRatchet", name := "meanGain", desc := "()D" } : Jvm.MethodName)) ∈ lw_all := lw_g (lw_at lw_m5 138 rfl) rfl
theorem q1183 : (Jvm.Cond.code ({ cls := "FlashRatchet", name := "meanGain", desc := "()D" } : Jvm.MethodName) prog_1_method_50_code (1 : Nat) (Option.some Jvm.ClassFile.FieldType.double)) ∈ lw_all := lw_g (lw_at lw_m5 139 rfl) rfl
theorem q1185 : (Jvm.Cond.instanceMethod ({ cls := "FlashRatchet", name := "digest", desc := "()J" } : Jvm.MethodName)) ∈ lw_all := lw_g (lw_at lw_m5 141 rfl) rfl
theorem q1186 : (Jvm.Cond.selects "FlashRatchet" ({ cls := "FlashRatchet", name := "digest", desc := "()J" } : Jvm.MethodName) ({ cls := "FlashRatchet", name := "digest", desc := "()J" } : Jvm.MethodName)) ∈ lw_all := lw_g (lw_at lw_m5 142 rfl) rfl
theorem q1187 : (Jvm.Cond.code ({ cls := "FlashRatchet", name := "digest", desc := "()J" } : Jvm.MethodName) prog_1_method_54_code (2 : Nat) (Option.some Jvm.ClassFile.FieldType.long)) ∈ lw_all := lw_g (lw_at lw_m5 143 rfl) rfl
theorem q1188 : (Jvm.Cond.constantLong "FlashRatchet" (278 : Nat) (2029 : Int64)) ∈ lw_all := lw_g (lw_at lw_m5 144 rfl) rfl
theorem q1189 : (Jvm.Cond.methodLink "FlashRatchet" (266 : Nat) ({ cls := "FlashRatchet", name := "counted", desc := "(I)I" } : Jvm.MethodName)) ∈ lw_all := lw_g (lw_at lw_m5 145 rfl) rfl
theorem q1190 : (Jvm.Cond.privateMethod ({ cls := "FlashRatchet", name := "counted", desc := "(I)I" } : Jvm.MethodName)) ∈ lw_tbl := lw_at lw_m5 146 rfl
theorem q1191 : (Jvm.Cond.instanceMethod ({ cls := "FlashRatchet", name := "counted", desc := "(I)I" } : Jvm.MethodName)) ∈ lw_all := lw_g (lw_at lw_m5 147 rfl) rfl
theorem q1192 : (Jvm.Cond.code ({ cls := "FlashRatchet", name := "counted", desc := "(I)I" } : Jvm.MethodName) prog_1_method_47_code (2 : Nat) (Option.some Jvm.ClassFile.FieldType.int)) ∈ lw_all := lw_g (lw_at lw_m5 148 rfl) rfl
theorem q1193 : (Jvm.Cond.methodLink "FlashRatchet" (274 : Nat) ({ cls := "FlashRatchet", name := "mix", desc := "(J)V" } : Jvm.MethodName)) ∈ lw_all := lw_g (lw_at lw_m5 149 rfl) rfl
theorem q1194 : (Jvm.Cond.privateMethod ({ cls := "FlashRatchet", name := "mix", desc := "(J)V" } : Jvm.MethodName)) ∈ lw_tbl := lw_at lw_m5 150 rfl
theorem q1195 : (Jvm.Cond.instanceMethod ({ cls := "FlashRatchet", name := "mix", desc := "(J)V" } : Jvm.MethodName)) ∈ lw_all := lw_g (lw_at lw_m5 151 rfl) rfl
theorem q1196 : (Jvm.Cond.code ({ cls := "FlashRatchet", name := "mix", desc := "(J)V" } : Jvm.MethodName) prog_1_method_51_code (3 : Nat) (Option.none : Option Jvm.ClassFile.FieldType)) ∈ lw_all := lw_g (lw_at lw_m5 152 rfl) rfl
theorem q1197 : (Jvm.Cond.constantLong "FlashRatchet" (269 : Nat) (31 : Int64)) ∈ lw_all := lw_g (lw_at lw_m5 153 rfl) rfl
theorem q1198 : (Jvm.Cond.methodLink "FlashRatchet" (142 : Nat) ({ cls := "FlashRatchet", name := "told", desc := "(I)I" } : Jvm.MethodName)) ∈ lw_all := lw_g (lw_at lw_m5 154 rfl) rfl
theorem q1199 : (Jvm.Cond.privateMethod ({ cls := "FlashRatchet", name := "told", desc := "(I)I" } : Jvm.MethodName)) ∈ lw_tbl := lw_at lw_m5 155 rfl
theorem q1200 : (Jvm.Cond.instanceMethod ({ cls := "FlashRatchet", name := "told", desc := "(I)I" } : Jvm.MethodName)) ∈ lw_all := lw_g (lw_at lw_m5 156 rfl) rfl
theorem q1201 : (Jvm.Cond.code ({ cls := "FlashRatchet", name := "told", desc := "(I)I" } : Jvm.MethodName) prog_1_method_26_code (7 : Nat) (Option.some Jvm.ClassFile.FieldType.int)) ∈ lw_all := lw_g (lw_at lw_m5 157 rfl) rfl
theorem q1202 : (Jvm.Cond.methodLink "FlashRatchet" (138 : Nat) ({ cls := "FlashRatchet", name := "cycleLength", desc := "()I" } : Jvm.MethodName)) ∈ lw_all := lw_g (lw_at lw_m5 158 rfl) rfl
theorem q1203 : (Jvm.Cond.privateMethod ({ cls := "FlashRatchet", name := "cycleLength", desc := "()I" } : Jvm.MethodName)) ∈ lw_tbl := lw_at lw_m5 159 rfl
theorem q1204 : (Jvm.Cond.instanceMethod ({ cls := "FlashRatchet", name := "cycleLength", desc := "()I" } : Jvm.MethodName)) ∈ lw_all := lw_g (lw_at lw_m5 160 rfl) rfl
theorem q1205 : (Jvm.Cond.code ({ cls := "FlashRatchet", name := "cycleLength", desc := "()I" } : Jvm.MethodName) prog_1_method_25_code (5 : Nat) (Option.some Jvm.ClassFile.FieldType.int)) ∈ lw_all := lw_g (lw_at lw_m5 161 rfl) rfl
theorem q1206 : (Jvm.Cond.classLink "FlashRatchet" (107 : Nat) "FlashRatchet$Runner") ∈ lw_all := lw_g (lw_at lw_m5 162 rfl) rfl
theorem q1208 : (Jvm.Cond.methodLink "FlashRatchet" (109 : Nat) ({ cls := "FlashRatchet$Runner", name := "<init>", desc := "(LFlashRatchet;)V" } : Jvm.MethodName)) ∈ lw_all := lw_g (lw_at lw_m5 164 rfl) rfl
theorem q1213 : (Jvm.Cond.fieldLinkNest "FlashRatchet" (115 : Nat) "FlashRatchet$Runner" "at" "I" "FlashRatchet") ∈ lw_tbl := lw_at lw_m5 169 rfl
theorem q1215 : (Jvm.Cond.fieldLinkNest "FlashRatchet" (118 : Nat) "FlashRatchet$Runner" "next" "I" "FlashRatchet") ∈ lw_tbl := lw_at lw_m5 171 rfl
theorem q1217 : (Jvm.Cond.fieldLinkNest "FlashRatchet" (121 : Nat) "FlashRatchet$Runner" "drawn" "I" "FlashRatchet") ∈ lw_tbl := lw_at lw_m5 173 rfl
theorem q1219 : (Jvm.Cond.fieldLinkNest "FlashRatchet" (124 : Nat) "FlashRatchet$Runner" "won" "I" "FlashRatchet") ∈ lw_tbl := lw_at lw_m5 175 rfl
theorem q1232 : (Jvm.Cond.methodLink "FlashRatchet" (127 : Nat) ({ cls := "FlashRatchet$Runner", name := "take", desc := "(LFlashRatchet$Runner;)V" } : Jvm.MethodName)) ∈ lw_all := lw_g (lw_at lw_m5 188 rfl) rfl
theorem q1236 : (Jvm.Cond.methodLink "FlashRatchet" (131 : Nat) ({ cls := "FlashRatchet$Runner", name := "tick", desc := "()V" } : Jvm.MethodName)) ∈ lw_all := lw_g (lw_at lw_m5 192 rfl) rfl
theorem q1242 : (Jvm.Cond.privateMethod ({ cls := "FlashRatchet", name := "moveBy", desc := "(III)I" } : Jvm.MethodName)) ∈ lw_tbl := lw_at lw_m5 198 rfl
theorem q1243 : (Jvm.Cond.instanceMethod ({ cls := "FlashRatchet", name := "moveBy", desc := "(III)I" } : Jvm.MethodName)) ∈ lw_all := lw_g (lw_at lw_m5 199 rfl) rfl
theorem q1244 : (Jvm.Cond.code ({ cls := "FlashRatchet", name := "moveBy", desc := "(III)I" } : Jvm.MethodName) prog_1_method_11_code (4 : Nat) (Option.some Jvm.ClassFile.FieldType.int)) ∈ lw_all := lw_g (lw_at lw_m5 200 rfl) rfl
theorem q1247 : (Jvm.Cond.methodLink "FlashRatchet" (134 : Nat) ({ cls := "FlashRatchet$Runner", name := "isLike", desc := "(LFlashRatchet$Runner;)Z" } : Jvm.MethodName)) ∈ lw_all := lw_g (lw_at lw_m5 203 rfl) rfl
theorem q1251 : (Jvm.Cond.methodLink "FlashRatchet" (112 : Nat) ({ cls := "FlashRatchet$Runner", name := "go", desc := "(I)V" } : Jvm.MethodName)) ∈ lw_all := lw_g (lw_at lw_m5 207 rfl) rfl
theorem q1256 : (Jvm.Cond.methodLink "FlashRatchet" (280 : Nat) ({ cls := "FlashRatchet", name := "mixChances", desc := "()V" } : Jvm.MethodName)) ∈ lw_all := lw_g (lw_at lw_m5 212 rfl) rfl
theorem q1257 : (Jvm.Cond.privateMethod ({ cls := "FlashRatchet", name := "mixChances", desc := "()V" } : Jvm.MethodName)) ∈ lw_tbl := lw_at lw_m5 213 rfl
theorem q1258 : (Jvm.Cond.instanceMethod ({ cls := "FlashRatchet", name := "mixChances", desc := "()V" } : Jvm.MethodName)) ∈ lw_all := lw_g (lw_at lw_m5 214 rfl) rfl
theorem q1259 : (Jvm.Cond.code ({ cls := "FlashRatchet", name := "mixChances", desc := "()V" } : Jvm.MethodName) prog_1_method_52_code (4 : Nat) (Option.none : Option Jvm.ClassFile.FieldType)) ∈ lw_all := lw_g (lw_at lw_m5 215 rfl) rfl
theorem q1260 : (Jvm.Cond.methodLink "FlashRatchet" (178 : Nat) ({ cls := "FlashRatchet", name := "freeWays", desc := "(I)LFlashRatchet$Ways;" } : Jvm.MethodName)) ∈ lw_all := lw_g (lw_at lw_m5 216 rfl) rfl
theorem q1261 : (Jvm.Cond.privateMethod ({ cls := "FlashRatchet", name := "freeWays", desc := "(I)LFlashRatchet$Ways;" } : Jvm.MethodName)) ∈ lw_tbl := lw_at lw_m5 217 rfl
theorem q1262 : (Jvm.Cond.instanceMethod ({ cls := "FlashRatchet", name := "freeWays", desc := "(I)LFlashRatchet$Ways;" } : Jvm.MethodName)) ∈ lw_all := lw_g (lw_at lw_m5 218 rfl) rfl
theorem q1263 : (Jvm.Cond.code ({ cls := "FlashRatchet", name := "freeWays", desc := "(I)LFlashRatchet$Ways;" } : Jvm.MethodName) prog_1_method_32_code (2 : Nat) (Option.some (Jvm.ClassFile.FieldType.object "FlashRatchet$Ways"))) ∈ lw_all := lw_g (lw_at lw_m5 219 rfl) rfl
theorem q1264 : (Jvm.Cond.classLink "FlashRatchet" (172 : Nat) "FlashRatchet$Ways") ∈ lw_all := lw_g (lw_at lw_m5 220 rfl) rfl
theorem q1266 : (Jvm.Cond.methodLink "FlashRatchet" (174 : Nat) ({ cls := "FlashRatchet$Ways", name := "<init>", desc := "(LFlashRatchet;)V" } : Jvm.MethodName)) ∈ lw_all := lw_g (lw_at lw_m5 222 rfl) rfl
theorem q1430 : (Jvm.Cond.methodLink "FlashRatchet" (175 : Nat) ({ cls := "FlashRatchet$Ways", name := "go", desc := "(III)LFlashRatchet$Ways;" } : Jvm.MethodName)) ∈ lw_all := lw_g (lw_at lw_m6 146 rfl) rfl
theorem q1580 : (Jvm.Cond.methodLink "FlashRatchet" (182 : Nat) ({ cls := "FlashRatchet$Ways", name := "many", desc := "(III)J" } : Jvm.MethodName)) ∈ lw_all := lw_g (lw_at lw_m7 56 rfl) rfl
theorem q1584 : (Jvm.Cond.methodLink "FlashRatchet" (187 : Nat) ({ cls := "FlashRatchet", name := "outcome", desc := "(LFlashRatchet$Ways;III)J" } : Jvm.MethodName)) ∈ lw_all := lw_g (lw_at lw_m7 60 rfl) rfl
theorem q1585 : (Jvm.Cond.privateMethod ({ cls := "FlashRatchet", name := "outcome", desc := "(LFlashRatchet$Ways;III)J" } : Jvm.MethodName)) ∈ lw_tbl := lw_at lw_m7 61 rfl
theorem q1586 : (Jvm.Cond.instanceMethod ({ cls := "FlashRatchet", name := "outcome", desc := "(LFlashRatchet$Ways;III)J" } : Jvm.MethodName)) ∈ lw_all := lw_g (lw_at lw_m7 62 rfl) rfl
theorem q1587 : (Jvm.Cond.code ({ cls := "FlashRatchet", name := "outcome", desc := "(LFlashRatchet$Ways;III)J" } : Jvm.MethodName) prog_1_method_35_code (5 : Nat) (Option.some Jvm.ClassFile.FieldType.long)) ∈ lw_all := lw_g (lw_at lw_m7 63 rfl) rfl
theorem q1588 : (Jvm.Cond.methodLink "FlashRatchet" (283 : Nat) ({ cls := "FlashRatchet", name := "mixAverages", desc := "()V" } : Jvm.MethodName)) ∈ lw_all := lw_g (lw_at lw_m7 64 rfl) rfl
theorem q1589 : (Jvm.Cond.privateMethod ({ cls := "FlashRatchet", name := "mixAverages", desc := "()V" } : Jvm.MethodName)) ∈ lw_tbl := lw_at lw_m7 65 rfl
theorem q1590 : (Jvm.Cond.instanceMethod ({ cls := "FlashRatchet", name := "mixAverages", desc := "()V" } : Jvm.MethodName)) ∈ lw_all := lw_g (lw_at lw_m7 66 rfl) rfl
theorem q1591 : (Jvm.Cond.code ({ cls := "FlashRatchet", name := "mixAverages", desc := "()V" } : Jvm.MethodName) prog_1_method_53_code (5 : Nat) (Option.none : Option Jvm.ClassFile.FieldType)) ∈ lw_all := lw_g (lw_at lw_m7 67 rfl) rfl
theorem q1592 : (Jvm.Cond.methodLink "FlashRatchet" (203 : Nat) ({ cls := "FlashRatchet$Fraction", name := "part", desc := "(I)J" } : Jvm.MethodName)) ∈ lw_all := lw_g (lw_at lw_m7 68 rfl) rfl
theorem q1596 : (Jvm.Cond.methodLink "FlashRatchet" (209 : Nat) ({ cls := "FlashRatchet$Rounds", name := "shareOf", desc := "(I)LFlashRatchet$Fraction;" } : Jvm.MethodName)) ∈ lw_all := lw_g (lw_at lw_m7 72 rfl) rfl
theorem q1600 : (Jvm.Cond.methodLink "FlashRatchet" (252 : Nat) ({ cls := "FlashRatchet", name := "partOf", desc := "(LFlashRatchet$Candidate;I)J" } : Jvm.MethodName)) ∈ lw_all := lw_g (lw_at lw_m7 76 rfl) rfl
theorem q1601 : (Jvm.Cond.privateMethod ({ cls := "FlashRatchet", name := "partOf", desc := "(LFlashRatchet$Candidate;I)J" } : Jvm.MethodName)) ∈ lw_tbl := lw_at lw_m7 77 rfl
theorem q1602 : (Jvm.Cond.instanceMethod ({ cls := "FlashRatchet", name := "partOf", desc := "(LFlashRatchet$Candidate;I)J" } : Jvm.MethodName)) ∈ lw_all := lw_g (lw_at lw_m7 78 rfl) rfl
theorem q1603 : (Jvm.Cond.code ({ cls := "FlashRatchet", name := "partOf", desc := "(LFlashRatchet$Candidate;I)J" } : Jvm.MethodName) prog_1_method_42_code (3 : Nat) (Option.some Jvm.ClassFile.FieldType.long)) ∈ lw_all := lw_g (lw_at lw_m7 79 rfl) rfl
theorem q1604 : (Jvm.Cond.constantLong "FlashRatchet" (241 : Nat) (-1 : Int64)) ∈ lw_all := lw_g (lw_at lw_m7 80 rfl) rfl
theorem q1605 : (Jvm.Cond.methodLink "FlashRatchet" (286 : Nat) ({ cls := "java/lang/StringBuilder", name := "charAt", desc := "(I)C" } : Jvm.MethodName)) ∈ lw_all := lw_g (lw_at lw_m7 81 rfl) rfl
theorem q1611 : (Jvm.Cond.instanceMethod ({ cls := "FlashRatchet", name := "begin", desc := "(I)I" } : Jvm.MethodName)) ∈ lw_all := lw_g (lw_at lw_m7 87 rfl) rfl
theorem q1612 : (Jvm.Cond.selects "FlashRatchet" ({ cls := "FlashRatchet", name := "begin", desc := "(I)I" } : Jvm.MethodName) ({ cls := "FlashRatchet", name := "begin", desc := "(I)I" } : Jvm.MethodName)) ∈ lw_all := lw_g (lw_at lw_m7 88 rfl) rfl
theorem q1613 : (Jvm.Cond.code ({ cls := "FlashRatchet", name := "begin", desc := "(I)I" } : Jvm.MethodName) prog_1_method_17_code (4 : Nat) (Option.some Jvm.ClassFile.FieldType.int)) ∈ lw_all := lw_g (lw_at lw_m7 89 rfl) rfl
theorem q1614 : (Jvm.Cond.methodLink "FlashRatchet" (63 : Nat) ({ cls := "FlashRatchet", name := "require", desc := "(Z)V" } : Jvm.MethodName)) ∈ lw_all := lw_g (lw_at lw_m7 90 rfl) rfl
theorem q1615 : (Jvm.Cond.static ({ cls := "FlashRatchet", name := "require", desc := "(Z)V" } : Jvm.MethodName)) ∈ lw_all := lw_g (lw_at lw_m7 91 rfl) rfl
theorem q1616 : (Jvm.Cond.code ({ cls := "FlashRatchet", name := "require", desc := "(Z)V" } : Jvm.MethodName) prog_1_method_2_code (1 : Nat) (Option.none : Option Jvm.ClassFile.FieldType)) ∈ lw_all := lw_g (lw_at lw_m7 92 rfl) rfl
theorem q1617 : (Jvm.Cond.classLink "FlashRatchet" (1 : Nat) "java/lang/IllegalArgumentException") ∈ lw_all := lw_g (lw_at lw_m7 93 rfl) rfl
theorem q1618 : (Jvm.Cond.methodLink "FlashRatchet" (3 : Nat) ({ cls := "java/lang/IllegalArgumentException", name := "<init>", desc := "()V" } : Jvm.MethodName)) ∈ lw_all := lw_g (lw_at lw_m7 94 rfl) rfl
theorem q1626 : (Jvm.Cond.instanceMethod ({ cls := "FlashRatchet", name := "setTable", desc := "(IIII)I" } : Jvm.MethodName)) ∈ lw_all := lw_g (lw_at lw_m7 102 rfl) rfl
theorem q1627 : (Jvm.Cond.selects "FlashRatchet" ({ cls := "FlashRatchet", name := "setTable", desc := "(IIII)I" } : Jvm.MethodName) ({ cls := "FlashRatchet", name := "setTable", desc := "(IIII)I" } : Jvm.MethodName)) ∈ lw_all := lw_g (lw_at lw_m7 103 rfl) rfl
theorem q1628 : (Jvm.Cond.code ({ cls := "FlashRatchet", name := "setTable", desc := "(IIII)I" } : Jvm.MethodName) prog_1_method_18_code (6 : Nat) (Option.some Jvm.ClassFile.FieldType.int)) ∈ lw_all := lw_g (lw_at lw_m7 104 rfl) rfl
theorem q1629 : (Jvm.Cond.methodLink "FlashRatchet" (82 : Nat) ({ cls := "FlashRatchet", name := "isLever", desc := "(I)Z" } : Jvm.MethodName)) ∈ lw_all := lw_g (lw_at lw_m7 105 rfl) rfl
theorem q1630 : (Jvm.Cond.methodLink "FlashRatchet" (85 : Nat) ({ cls := "FlashRatchet", name := "isPosition", desc := "(I)Z" } : Jvm.MethodName)) ∈ lw_all := lw_g (lw_at lw_m7 106 rfl) rfl
theorem q1631 : (Jvm.Cond.privateMethod ({ cls := "FlashRatchet", name := "isPosition", desc := "(I)Z" } : Jvm.MethodName)) ∈ lw_tbl := lw_at lw_m7 107 rfl
theorem q1632 : (Jvm.Cond.instanceMethod ({ cls := "FlashRatchet", name := "isPosition", desc := "(I)Z" } : Jvm.MethodName)) ∈ lw_all := lw_g (lw_at lw_m7 108 rfl) rfl
theorem q1633 : (Jvm.Cond.code ({ cls := "FlashRatchet", name := "isPosition", desc := "(I)Z" } : Jvm.MethodName) prog_1_method_7_code (2 : Nat) (Option.some Jvm.ClassFile.FieldType.boolean)) ∈ lw_all := lw_g (lw_at lw_m7 109 rfl) rfl
theorem q1634 : (Jvm.Cond.methodLink "FlashRatchet" (88 : Nat) ({ cls := "FlashRatchet", name := "requireIndex", desc := "(Z)V" } : Jvm.MethodName)) ∈ lw_all := lw_g (lw_at lw_m7 110 rfl) rfl
theorem q1635 : (Jvm.Cond.static ({ cls := "FlashRatchet", name := "requireIndex", desc := "(Z)V" } : Jvm.MethodName)) ∈ lw_all := lw_g (lw_at lw_m7 111 rfl) rfl
theorem q1636 : (Jvm.Cond.code ({ cls := "FlashRatchet", name := "requireIndex", desc := "(Z)V" } : Jvm.MethodName) prog_1_method_4_code (1 : Nat) (Option.none : Option Jvm.ClassFile.FieldType)) ∈ lw_all := lw_g (lw_at lw_m7 112 rfl) rfl
theorem q1637 : (Jvm.Cond.classLink "FlashRatchet" (10 : Nat) "java/lang/IndexOutOfBoundsException") ∈ lw_all := lw_g (lw_at lw_m7 113 rfl) rfl
theorem q1646 : (Jvm.Cond.methodLink "FlashRatchet" (12 : Nat) ({ cls := "java/lang/IndexOutOfBoundsException", name := "<init>", desc := "()V" } : Jvm.MethodName)) ∈ lw_all := lw_g (lw_at lw_m7 122 rfl) rfl
theorem q1656 : (Jvm.Cond.instanceMethod ({ cls := "FlashRatchet", name := "gear", desc := "(IZ)I" } : Jvm.MethodName)) ∈ lw_all := lw_g (lw_at lw_m7 132 rfl) rfl
theorem q1657 : (Jvm.Cond.selects "FlashRatchet" ({ cls := "FlashRatchet", name := "gear", desc := "(IZ)I" } : Jvm.MethodName) ({ cls := "FlashRatchet", name := "gear", desc := "(IZ)I" } : Jvm.MethodName)) ∈ lw_all := lw_g (lw_at lw_m7 133 rfl) rfl
theorem q1658 : (Jvm.Cond.code ({ cls := "FlashRatchet", name := "gear", desc := "(IZ)I" } : Jvm.MethodName) prog_1_method_20_code (3 : Nat) (Option.some Jvm.ClassFile.FieldType.int)) ∈ lw_all := lw_g (lw_at lw_m7 134 rfl) rfl
theorem q1659 : (Jvm.Cond.methodLink "FlashRatchet" (91 : Nat) ({ cls := "FlashRatchet", name := "with", desc := "(IIZ)I" } : Jvm.MethodName)) ∈ lw_all := lw_g (lw_at lw_m7 135 rfl) rfl
theorem q1660 : (Jvm.Cond.static ({ cls := "FlashRatchet", name := "with", desc := "(IIZ)I" } : Jvm.MethodName)) ∈ lw_all := lw_g (lw_at lw_m7 136 rfl) rfl
theorem q1661 : (Jvm.Cond.code ({ cls := "FlashRatchet", name := "with", desc := "(IIZ)I" } : Jvm.MethodName) prog_1_method_19_code (3 : Nat) (Option.some Jvm.ClassFile.FieldType.int)) ∈ lw_all := lw_g (lw_at lw_m7 137 rfl) rfl
theorem q1662 : (Jvm.Cond.methodLink "FlashRatchet" (95 : Nat) ({ cls := "java/lang/Integer", name := "bitCount", desc := "(I)I" } : Jvm.MethodName)) ∈ lw_all := lw_g (lw_at lw_m7 138 rfl) rfl
theorem q1672 : (Jvm.Cond.instanceMethod ({ cls := "FlashRatchet", name := "pawl", desc := "(IZ)I" } : Jvm.MethodName)) ∈ lw_all := lw_g (lw_at lw_m7 148 rfl) rfl
theorem q1673 : (Jvm.Cond.selects "FlashRatchet" ({ cls := "FlashRatchet", name := "pawl", desc := "(IZ)I" } : Jvm.MethodName) ({ cls := "FlashRatchet", name := "pawl", desc := "(IZ)I" } : Jvm.MethodName)) ∈ lw_all := lw_g (lw_at lw_m7 149 rfl) rfl
theorem q1674 : (Jvm.Cond.code ({ cls := "FlashRatchet", name := "pawl", desc := "(IZ)I" } : Jvm.MethodName) prog_1_method_21_code (3 : Nat) (Option.some Jvm.ClassFile.FieldType.int)) ∈ lw_all := lw_g (lw_at lw_m7 150 rfl) rfl
theorem q1679 : (Jvm.Cond.instanceMethod ({ cls := "FlashRatchet", name := "setProgram", desc := "(I)I" } : Jvm.MethodName)) ∈ lw_all := lw_g (lw_at lw_m7 155 rfl) rfl
theorem q1680 : (Jvm.Cond.selects "FlashRatchet" ({ cls := "FlashRatchet", name := "setProgram", desc := "(I)I" } : Jvm.MethodName) ({ cls := "FlashRatchet", name := "setProgram", desc := "(I)I" } : Jvm.MethodName)) ∈ lw_all := lw_g (lw_at lw_m7 156 rfl) rfl
theorem q1681 : (Jvm.Cond.code ({ cls := "FlashRatchet", name := "setProgram", desc := "(I)I" } : Jvm.MethodName) prog_1_method_22_code (3 : Nat) (Option.some Jvm.ClassFile.FieldType.int)) ∈ lw_all := lw_g (lw_at lw_m7 157 rfl) rfl
theorem q1686 : (Jvm.Cond.instanceMethod ({ cls := "FlashRatchet", name := "restart", desc := "(II)I" } : Jvm.MethodName)) ∈ lw_all := lw_g (lw_at lw_m7 162 rfl) rfl
theorem q1687 : (Jvm.Cond.selects "FlashRatchet" ({ cls := "FlashRatchet", name := "restart", desc := "(II)I" } : Jvm.MethodName) ({ cls := "FlashRatchet", name := "restart", desc := "(II)I" } : Jvm.MethodName)) ∈ lw_all := lw_g (lw_at lw_m7 163 rfl) rfl
theorem q1688 : (Jvm.Cond.code ({ cls := "FlashRatchet", name := "restart", desc := "(II)I" } : Jvm.MethodName) prog_1_method_23_code (4 : Nat) (Option.some Jvm.ClassFile.FieldType.int)) ∈ lw_all := lw_g (lw_at lw_m7 164 rfl) rfl
theorem q1694 : (Jvm.Cond.instanceMethod ({ cls := "FlashRatchet", name := "run", desc := "(I)I" } : Jvm.MethodName)) ∈ lw_all := lw_g (lw_at lw_m7 170 rfl) rfl
theorem q1695 : (Jvm.Cond.selects "FlashRatchet" ({ cls := "FlashRatchet", name := "run", desc := "(I)I" } : Jvm.MethodName) ({ cls := "FlashRatchet", name := "run", desc := "(I)I" } : Jvm.MethodName)) ∈ lw_all := lw_g (lw_at lw_m7 171 rfl) rfl
theorem q1696 : (Jvm.Cond.code ({ cls := "FlashRatchet", name := "run", desc := "(I)I" } : Jvm.MethodName) prog_1_method_24_code (3 : Nat) (Option.some Jvm.ClassFile.FieldType.int)) ∈ lw_all := lw_g (lw_at lw_m7 172 rfl) rfl
theorem q1697 : (Jvm.Cond.constant "FlashRatchet" (103 : Nat) (1000000 : Int32)) ∈ lw_all := lw_g (lw_at lw_m7 173 rfl) rfl
theorem q1698 : (Jvm.Cond.methodLink "FlashRatchet" (104 : Nat) ({ cls := "FlashRatchet", name := "requireState", desc := "(Z)V" } : Jvm.MethodName)) ∈ lw_all := lw_g (lw_at lw_m7 174 rfl) rfl
theorem q1699 : (Jvm.Cond.static ({ cls := "FlashRatchet", name := "requireState", desc := "(Z)V" } : Jvm.MethodName)) ∈ lw_all := lw_g (lw_at lw_m7 175 rfl) rfl
theorem q1700 : (Jvm.Cond.code ({ cls := "FlashRatchet", name := "requireState", desc := "(Z)V" } : Jvm.MethodName) prog_1_method_3_code (1 : Nat) (Option.none : Option Jvm.ClassFile.FieldType)) ∈ lw_all := lw_g (lw_at lw_m7 176 rfl) rfl
theorem q1701 : (Jvm.Cond.classLink "FlashRatchet" (7 : Nat) "java/lang/IllegalStateException") ∈ lw_all := lw_g (lw_at lw_m7 177 rfl) rfl
theorem q1710 : (Jvm.Cond.methodLink "FlashRatchet" (9 : Nat) ({ cls := "java/lang/IllegalStateException", name := "<init>", desc := "()V" } : Jvm.MethodName)) ∈ lw_all := lw_g (lw_at lw_m7 186 rfl) rfl
theorem q1720 : (Jvm.Cond.instanceMethod ({ cls := "FlashRatchet", name := "append", desc := "(I)I" } : Jvm.MethodName)) ∈ lw_all := lw_g (lw_at lw_m7 196 rfl) rfl
theorem q1721 : (Jvm.Cond.selects "FlashRatchet" ({ cls := "FlashRatchet", name := "append", desc := "(I)I" } : Jvm.MethodName) ({ cls := "FlashRatchet", name := "append", desc := "(I)I" } : Jvm.MethodName)) ∈ lw_all := lw_g (lw_at lw_m7 197 rfl) rfl
theorem q1722 : (Jvm.Cond.code ({ cls := "FlashRatchet", name := "append", desc := "(I)I" } : Jvm.MethodName) prog_1_method_28_code (2 : Nat) (Option.some Jvm.ClassFile.FieldType.int)) ∈ lw_all := lw_g (lw_at lw_m7 198 rfl) rfl
theorem q1723 : (Jvm.Cond.methodLink "FlashRatchet" (147 : Nat) ({ cls := "java/lang/StringBuilder", name := "append", desc := "(C)Ljava/lang/StringBuilder;" } : Jvm.MethodName)) ∈ lw_all := lw_g (lw_at lw_m7 199 rfl) rfl
theorem q1744 : (Jvm.Cond.instanceMethod ({ cls := "FlashRatchet", name := "load", desc := "()I" } : Jvm.MethodName)) ∈ lw_all := lw_g (lw_at lw_m7 220 rfl) rfl
theorem q1745 : (Jvm.Cond.selects "FlashRatchet" ({ cls := "FlashRatchet", name := "load", desc := "()I" } : Jvm.MethodName) ({ cls := "FlashRatchet", name := "load", desc := "()I" } : Jvm.MethodName)) ∈ lw_all := lw_g (lw_at lw_m7 221 rfl) rfl
theorem q1746 : (Jvm.Cond.code ({ cls := "FlashRatchet", name := "load", desc := "()I" } : Jvm.MethodName) prog_1_method_31_code (2 : Nat) (Option.some Jvm.ClassFile.FieldType.int)) ∈ lw_all := lw_g (lw_at lw_m7 222 rfl) rfl
theorem q1747 : (Jvm.Cond.methodLink "FlashRatchet" (162 : Nat) ({ cls := "FlashRatchet$Reader", name := "isComplete", desc := "()Z" } : Jvm.MethodName)) ∈ lw_all := lw_g (lw_at lw_m7 223 rfl) rfl
theorem q1751 : (Jvm.Cond.methodLink "FlashRatchet" (166 : Nat) ({ cls := "FlashRatchet$Reader", name := "carryOut", desc := "()V" } : Jvm.MethodName)) ∈ lw_all := lw_g (lw_at lw_m7 227 rfl) rfl
theorem q1759 : (Jvm.Cond.instanceMethod ({ cls := "FlashRatchet", name := "cycle", desc := "(I)I" } : Jvm.MethodName)) ∈ lw_all := lw_g (lw_at lw_m7 235 rfl) rfl
theorem q1760 : (Jvm.Cond.selects "FlashRatchet" ({ cls := "FlashRatchet", name := "cycle", desc := "(I)I" } : Jvm.MethodName) ({ cls := "FlashRatchet", name := "cycle", desc := "(I)I" } : Jvm.MethodName)) ∈ lw_all := lw_g (lw_at lw_m7 236 rfl) rfl
theorem q1761 : (Jvm.Cond.code ({ cls := "FlashRatchet", name := "cycle", desc := "(I)I" } : Jvm.MethodName) prog_1_method_27_code (2 : Nat) (Option.some Jvm.ClassFile.FieldType.int)) ∈ lw_all := lw_g (lw_at lw_m7 237 rfl) rfl
theorem q1766 : (Jvm.Cond.instanceMethod ({ cls := "FlashRatchet", name := "chance", desc := "(II)J" } : Jvm.MethodName)) ∈ lw_all := lw_g (lw_at lw_m8 2 rfl) rfl
theorem q1767 : (Jvm.Cond.selects "FlashRatchet" ({ cls := "FlashRatchet", name := "chance", desc := "(II)J" } : Jvm.MethodName) ({ cls := "FlashRatchet", name := "chance", desc := "(II)J" } : Jvm.MethodName)) ∈ lw_all := lw_g (lw_at lw_m8 3 rfl) rfl
theorem q1768 : (Jvm.Cond.code ({ cls := "FlashRatchet", name := "chance", desc := "(II)J" } : Jvm.MethodName) prog_1_method_33_code (3 : Nat) (Option.some Jvm.ClassFile.FieldType.long)) ∈ lw_all := lw_g (lw_at lw_m8 4 rfl) rfl
theorem q1773 : (Jvm.Cond.instanceMethod ({ cls := "FlashRatchet", name := "chanceOfGain", desc := "(II)J" } : Jvm.MethodName)) ∈ lw_all := lw_g (lw_at lw_m8 9 rfl) rfl
theorem q1774 : (Jvm.Cond.selects "FlashRatchet" ({ cls := "FlashRatchet", name := "chanceOfGain", desc := "(II)J" } : Jvm.MethodName) ({ cls := "FlashRatchet", name := "chanceOfGain", desc := "(II)J" } : Jvm.MethodName)) ∈ lw_all := lw_g (lw_at lw_m8 10 rfl) rfl
theorem q1775 : (Jvm.Cond.code ({ cls := "FlashRatchet", name := "chanceOfGain", desc := "(II)J" } : Jvm.MethodName) prog_1_method_34_code (3 : Nat) (Option.some Jvm.ClassFile.FieldType.long)) ∈ lw_all := lw_g (lw_at lw_m8 11 rfl) rfl
theorem q1776 : (Jvm.Cond.constant "FlashRatchet" (186 : Nat) (2147483647 : Int32)) ∈ lw_all := lw_g (lw_at lw_m8 12 rfl) rfl
theorem q1781 : (Jvm.Cond.instanceMethod ({ cls := "FlashRatchet", name := "game", desc := "(IIII)J" } : Jvm.MethodName)) ∈ lw_all := lw_g (lw_at lw_m8 17 rfl) rfl
theorem q1782 : (Jvm.Cond.selects "FlashRatchet" ({ cls := "FlashRatchet", name := "game", desc := "(IIII)J" } : Jvm.MethodName) ({ cls := "FlashRatchet", name := "game", desc := "(IIII)J" } : Jvm.MethodName)) ∈ lw_all := lw_g (lw_at lw_m8 18 rfl) rfl
theorem q1783 : (Jvm.Cond.code ({ cls := "FlashRatchet", name := "game", desc := "(IIII)J" } : Jvm.MethodName) prog_1_method_36_code (5 : Nat) (Option.some Jvm.ClassFile.FieldType.long)) ∈ lw_all := lw_g (lw_at lw_m8 19 rfl) rfl
theorem q1788 : (Jvm.Cond.instanceMethod ({ cls := "FlashRatchet", name := "average", desc := "(II)J" } : Jvm.MethodName)) ∈ lw_all := lw_g (lw_at lw_m8 24 rfl) rfl
theorem q1789 : (Jvm.Cond.selects "FlashRatchet" ({ cls := "FlashRatchet", name := "average", desc := "(II)J" } : Jvm.MethodName) ({ cls := "FlashRatchet", name := "average", desc := "(II)J" } : Jvm.MethodName)) ∈ lw_all := lw_g (lw_at lw_m8 25 rfl) rfl
theorem q1790 : (Jvm.Cond.code ({ cls := "FlashRatchet", name := "average", desc := "(II)J" } : Jvm.MethodName) prog_1_method_37_code (4 : Nat) (Option.some Jvm.ClassFile.FieldType.long)) ∈ lw_all := lw_g (lw_at lw_m8 26 rfl) rfl
theorem q1795 : (Jvm.Cond.instanceMethod ({ cls := "FlashRatchet", name := "share", desc := "(III)J" } : Jvm.MethodName)) ∈ lw_all := lw_g (lw_at lw_m8 31 rfl) rfl
theorem q1796 : (Jvm.Cond.selects "FlashRatchet" ({ cls := "FlashRatchet", name := "share", desc := "(III)J" } : Jvm.MethodName) ({ cls := "FlashRatchet", name := "share", desc := "(III)J" } : Jvm.MethodName)) ∈ lw_all := lw_g (lw_at lw_m8 32 rfl) rfl
theorem q1797 : (Jvm.Cond.code ({ cls := "FlashRatchet", name := "share", desc := "(III)J" } : Jvm.MethodName) prog_1_method_38_code (5 : Nat) (Option.some Jvm.ClassFile.FieldType.long)) ∈ lw_all := lw_g (lw_at lw_m8 33 rfl) rfl
theorem q1802 : (Jvm.Cond.instanceMethod ({ cls := "FlashRatchet", name := "classes", desc := "(I)I" } : Jvm.MethodName)) ∈ lw_all := lw_g (lw_at lw_m8 38 rfl) rfl
theorem q1803 : (Jvm.Cond.selects "FlashRatchet" ({ cls := "FlashRatchet", name := "classes", desc := "(I)I" } : Jvm.MethodName) ({ cls := "FlashRatchet", name := "classes", desc := "(I)I" } : Jvm.MethodName)) ∈ lw_all := lw_g (lw_at lw_m8 39 rfl) rfl
theorem q1804 : (Jvm.Cond.code ({ cls := "FlashRatchet", name := "classes", desc := "(I)I" } : Jvm.MethodName) prog_1_method_39_code (2 : Nat) (Option.some Jvm.ClassFile.FieldType.int)) ∈ lw_all := lw_g (lw_at lw_m8 40 rfl) rfl
theorem q1809 : (Jvm.Cond.instanceMethod ({ cls := "FlashRatchet", name := "compare", desc := "(II)I" } : Jvm.MethodName)) ∈ lw_all := lw_g (lw_at lw_m8 45 rfl) rfl
theorem q1810 : (Jvm.Cond.selects "FlashRatchet" ({ cls := "FlashRatchet", name := "compare", desc := "(II)I" } : Jvm.MethodName) ({ cls := "FlashRatchet", name := "compare", desc := "(II)I" } : Jvm.MethodName)) ∈ lw_all := lw_g (lw_at lw_m8 46 rfl) rfl
theorem q1811 : (Jvm.Cond.code ({ cls := "FlashRatchet", name := "compare", desc := "(II)I" } : Jvm.MethodName) prog_1_method_40_code (5 : Nat) (Option.some Jvm.ClassFile.FieldType.int)) ∈ lw_all := lw_g (lw_at lw_m8 47 rfl) rfl
theorem q1812 : (Jvm.Cond.methodLink "FlashRatchet" (213 : Nat) ({ cls := "FlashRatchet$Fraction", name := "compareTo", desc := "(LFlashRatchet$Fraction;)I" } : Jvm.MethodName)) ∈ lw_all := lw_g (lw_at lw_m8 48 rfl) rfl
theorem q1817 : (Jvm.Cond.instanceMethod ({ cls := "FlashRatchet", name := "best", desc := "(II)J" } : Jvm.MethodName)) ∈ lw_all := lw_g (lw_at lw_m8 53 rfl) rfl
theorem q1818 : (Jvm.Cond.selects "FlashRatchet" ({ cls := "FlashRatchet", name := "best", desc := "(II)J" } : Jvm.MethodName) ({ cls := "FlashRatchet", name := "best", desc := "(II)J" } : Jvm.MethodName)) ∈ lw_all := lw_g (lw_at lw_m8 54 rfl) rfl
theorem q1819 : (Jvm.Cond.code ({ cls := "FlashRatchet", name := "best", desc := "(II)J" } : Jvm.MethodName) prog_1_method_43_code (3 : Nat) (Option.some Jvm.ClassFile.FieldType.long)) ∈ lw_all := lw_g (lw_at lw_m8 55 rfl) rfl
theorem q1824 : (Jvm.Cond.instanceMethod ({ cls := "FlashRatchet", name := "count", desc := "(I)I" } : Jvm.MethodName)) ∈ lw_all := lw_g (lw_at lw_m8 60 rfl) rfl
theorem q1825 : (Jvm.Cond.selects "FlashRatchet" ({ cls := "FlashRatchet", name := "count", desc := "(I)I" } : Jvm.MethodName) ({ cls := "FlashRatchet", name := "count", desc := "(I)I" } : Jvm.MethodName)) ∈ lw_all := lw_g (lw_at lw_m8 61 rfl) rfl
theorem q1826 : (Jvm.Cond.code ({ cls := "FlashRatchet", name := "count", desc := "(I)I" } : Jvm.MethodName) prog_1_method_48_code (2 : Nat) (Option.some Jvm.ClassFile.FieldType.int)) ∈ lw_all := lw_g (lw_at lw_m8 62 rfl) rfl
theorem q1831 : (Jvm.Cond.instanceMethod ({ cls := "FlashRatchet", name := "table", desc := "(II)I" } : Jvm.MethodName)) ∈ lw_all := lw_g (lw_at lw_m8 67 rfl) rfl
theorem q1832 : (Jvm.Cond.selects "FlashRatchet" ({ cls := "FlashRatchet", name := "table", desc := "(II)I" } : Jvm.MethodName) ({ cls := "FlashRatchet", name := "table", desc := "(II)I" } : Jvm.MethodName)) ∈ lw_all := lw_g (lw_at lw_m8 68 rfl) rfl
theorem q1833 : (Jvm.Cond.code ({ cls := "FlashRatchet", name := "table", desc := "(II)I" } : Jvm.MethodName) prog_1_method_49_code (3 : Nat) (Option.some Jvm.ClassFile.FieldType.int)) ∈ lw_all := lw_g (lw_at lw_m8 69 rfl) rfl
theorem q2279 : (Jvm.Cond.castable "FlashRatchet" "java/lang/Object") ∈ lw_tbl := lw_at lw_m10 35 rfl
theorem in_X1 : ∀ w ∈ wsX10, w ∈ lw_all := lw_in wsX10 [197, 199, 201, 203, 205, 207, 209, 211, 213, 215, 217, 219] (by decide +kernel) (by decide +kernel)
/-! FlashRatchet$Runner -/
set_option maxRecDepth 100000
def RX3 : String := "FlashRatchet$Runner"
def TX3 : u_T := fun k => match k with
  | 0 => ("FlashRatchet$Runner", "at", "I", false)
  | 1 => ("FlashRatchet$Runner", "next", "I", false)
  | 2 => ("FlashRatchet$Runner", "drawn", "I", false)
  | 3 => ("FlashRatchet$Runner", "won", "I", false)
  | _ => ("FlashRatchet$Runner", "this$0", "LFlashRatchet;", true)
def tyX3 : Nat → FieldType := fun k => match k with
  | 0 => .int
  | 1 => .int
  | 2 => .int
  | 3 => .int
  | _ => .object "FlashRatchet"
abbrev wsX30 : List Cond := u_ws RX3 TX3 5
theorem nmX3 : ∀ a, a < 5 → ∀ b, b < 5 → a ≠ b → (TX3 a).2.1 ≠ (TX3 b).2.1 := by decide +kernel
theorem tyX3_ok : ∀ k, k < 5 → parseFieldDescriptor (TX3 k).2.2.1 = some (tyX3 k) := by decide +kernel
abbrev cX3_init : ByteArray := prog_7_method_1_code
def yX3_init : MethodName := ⟨RX3, "<init>", "(LFlashRatchet;)V"⟩
def dkwX3_init_1 : List UInt8 := [180, 0, 3, 180, 0, 22, 181, 0, 25, 42, 42, 180, 0, 3, 180, 0, 28, 181, 0, 31, 177]
abbrev dktX3_init_1 : List UInt8 := dkwX3_init_1 ++ []
def dkwX3_init_0 : List UInt8 := [42, 43, 181, 0, 3, 42, 183, 0, 9, 42, 42, 180, 0, 3, 180, 0, 15, 181, 0, 19, 42, 42]
abbrev dktX3_init_0 : List UInt8 := dkwX3_init_0 ++ dktX3_init_1
theorem dksX3_init_0 : cX3_init.data.toList.drop 0 = dktX3_init_0 := by decide +kernel
theorem dksX3_init_1 : cX3_init.data.toList.drop 22 = dktX3_init_1 := dk_seg dksX3_init_0 22 rfl rfl
theorem dX3_init_0 : decode cX3_init 0 = .ok (.aload_n 0, 1) := dk_42 (dk_at dksX3_init_0 0 rfl rfl)
theorem dX3_init_1 : decode cX3_init 1 = .ok (.aload_n 1, 1) := dk_43 (dk_at dksX3_init_0 1 rfl rfl)
theorem dX3_init_2 : decode cX3_init 2 = .ok (.putfield 3, 3) := dk_181 0 3 (dk_at dksX3_init_0 2 rfl rfl)
theorem dX3_init_5 : decode cX3_init 5 = .ok (.aload_n 0, 1) := dk_42 (dk_at dksX3_init_0 5 rfl rfl)
theorem dX3_init_6 : decode cX3_init 6 = .ok (.invokespecial 9, 3) := dk_183 0 9 (dk_at dksX3_init_0 6 rfl rfl)
theorem dX3_init_9 : decode cX3_init 9 = .ok (.aload_n 0, 1) := dk_42 (dk_at dksX3_init_0 9 rfl rfl)
theorem dX3_init_10 : decode cX3_init 10 = .ok (.aload_n 0, 1) := dk_42 (dk_at dksX3_init_0 10 rfl rfl)
theorem dX3_init_11 : decode cX3_init 11 = .ok (.getfield 3, 3) := dk_180 0 3 (dk_at dksX3_init_0 11 rfl rfl)
theorem dX3_init_14 : decode cX3_init 14 = .ok (.getfield 15, 3) := dk_180 0 15 (dk_at dksX3_init_0 14 rfl rfl)
theorem dX3_init_17 : decode cX3_init 17 = .ok (.putfield 19, 3) := dk_181 0 19 (dk_at dksX3_init_0 17 rfl rfl)
theorem dX3_init_20 : decode cX3_init 20 = .ok (.aload_n 0, 1) := dk_42 (dk_at dksX3_init_0 20 rfl rfl)
theorem dX3_init_21 : decode cX3_init 21 = .ok (.aload_n 0, 1) := dk_42 (dk_at dksX3_init_0 21 rfl rfl)
theorem dX3_init_22 : decode cX3_init 22 = .ok (.getfield 3, 3) := dk_180 0 3 (dk_at dksX3_init_1 0 rfl rfl)
theorem dX3_init_25 : decode cX3_init 25 = .ok (.getfield 22, 3) := dk_180 0 22 (dk_at dksX3_init_1 3 rfl rfl)
theorem dX3_init_28 : decode cX3_init 28 = .ok (.putfield 25, 3) := dk_181 0 25 (dk_at dksX3_init_1 6 rfl rfl)
theorem dX3_init_31 : decode cX3_init 31 = .ok (.aload_n 0, 1) := dk_42 (dk_at dksX3_init_1 9 rfl rfl)
theorem dX3_init_32 : decode cX3_init 32 = .ok (.aload_n 0, 1) := dk_42 (dk_at dksX3_init_1 10 rfl rfl)
theorem dX3_init_33 : decode cX3_init 33 = .ok (.getfield 3, 3) := dk_180 0 3 (dk_at dksX3_init_1 11 rfl rfl)
theorem dX3_init_36 : decode cX3_init 36 = .ok (.getfield 28, 3) := dk_180 0 28 (dk_at dksX3_init_1 14 rfl rfl)
theorem dX3_init_39 : decode cX3_init 39 = .ok (.putfield 31, 3) := dk_181 0 31 (dk_at dksX3_init_1 17 rfl rfl)
theorem dX3_init_42 : decode cX3_init 42 = .ok (.return_, 1) := dk_177 (dk_at dksX3_init_1 20 rfl rfl)
abbrev cX3_take : ByteArray := prog_7_method_5_code
def yX3_take : MethodName := ⟨RX3, "take", "(LFlashRatchet$Runner;)V"⟩
def dkwX3_take_1 : List UInt8 := [177]
abbrev dktX3_take_1 : List UInt8 := dkwX3_take_1 ++ []
def dkwX3_take_0 : List UInt8 := [42, 43, 180, 0, 19, 181, 0, 19, 42, 43, 180, 0, 25, 181, 0, 25, 42, 43, 180, 0, 31, 181, 0, 31]
abbrev dktX3_take_0 : List UInt8 := dkwX3_take_0 ++ dktX3_take_1
theorem dksX3_take_0 : cX3_take.data.toList.drop 0 = dktX3_take_0 := by decide +kernel
theorem dksX3_take_1 : cX3_take.data.toList.drop 24 = dktX3_take_1 := dk_seg dksX3_take_0 24 rfl rfl
theorem dX3_take_0 : decode cX3_take 0 = .ok (.aload_n 0, 1) := dk_42 (dk_at dksX3_take_0 0 rfl rfl)
theorem dX3_take_1 : decode cX3_take 1 = .ok (.aload_n 1, 1) := dk_43 (dk_at dksX3_take_0 1 rfl rfl)
theorem dX3_take_2 : decode cX3_take 2 = .ok (.getfield 19, 3) := dk_180 0 19 (dk_at dksX3_take_0 2 rfl rfl)
theorem dX3_take_5 : decode cX3_take 5 = .ok (.putfield 19, 3) := dk_181 0 19 (dk_at dksX3_take_0 5 rfl rfl)
theorem dX3_take_8 : decode cX3_take 8 = .ok (.aload_n 0, 1) := dk_42 (dk_at dksX3_take_0 8 rfl rfl)
theorem dX3_take_9 : decode cX3_take 9 = .ok (.aload_n 1, 1) := dk_43 (dk_at dksX3_take_0 9 rfl rfl)
theorem dX3_take_10 : decode cX3_take 10 = .ok (.getfield 25, 3) := dk_180 0 25 (dk_at dksX3_take_0 10 rfl rfl)
theorem dX3_take_13 : decode cX3_take 13 = .ok (.putfield 25, 3) := dk_181 0 25 (dk_at dksX3_take_0 13 rfl rfl)
theorem dX3_take_16 : decode cX3_take 16 = .ok (.aload_n 0, 1) := dk_42 (dk_at dksX3_take_0 16 rfl rfl)
theorem dX3_take_17 : decode cX3_take 17 = .ok (.aload_n 1, 1) := dk_43 (dk_at dksX3_take_0 17 rfl rfl)
theorem dX3_take_18 : decode cX3_take 18 = .ok (.getfield 31, 3) := dk_180 0 31 (dk_at dksX3_take_0 18 rfl rfl)
theorem dX3_take_21 : decode cX3_take 21 = .ok (.putfield 31, 3) := dk_181 0 31 (dk_at dksX3_take_0 21 rfl rfl)
theorem dX3_take_24 : decode cX3_take 24 = .ok (.return_, 1) := dk_177 (dk_at dksX3_take_1 0 rfl rfl)
abbrev cX3_tick : ByteArray := prog_7_method_2_code
def yX3_tick : MethodName := ⟨RX3, "tick", "()V"⟩
def dkwX3_tick_4 : List UInt8 := [184, 0, 51, 112, 181, 0, 25, 177]
abbrev dktX3_tick_4 : List UInt8 := dkwX3_tick_4 ++ []
def dkwX3_tick_3 : List UInt8 := [180, 0, 48, 27, 96, 181, 0, 48, 42, 42, 180, 0, 25, 4, 96, 42, 180, 0, 3, 180, 0, 34]
abbrev dktX3_tick_3 : List UInt8 := dkwX3_tick_3 ++ dktX3_tick_4
def dkwX3_tick_2 : List UInt8 := [108, 182, 0, 41, 60, 42, 42, 180, 0, 3, 42, 180, 0, 19, 27, 182, 0, 45, 181, 0, 19, 42, 89]
abbrev dktX3_tick_2 : List UInt8 := dkwX3_tick_2 ++ dktX3_tick_3
def dkwX3_tick_1 : List UInt8 := [42, 180, 0, 3, 180, 0, 34, 42, 180, 0, 25, 184, 0, 37, 42, 180, 0, 19, 42, 180, 0, 31, 16, 100]
abbrev dktX3_tick_1 : List UInt8 := dkwX3_tick_1 ++ dktX3_tick_2
def dkwX3_tick_0 : List UInt8 := [42, 17, 0, 141, 42, 180, 0, 31, 104, 17, 0, 187, 96, 17, 3, 232, 112, 181, 0, 31, 42, 180, 0, 3]
abbrev dktX3_tick_0 : List UInt8 := dkwX3_tick_0 ++ dktX3_tick_1
theorem dksX3_tick_0 : cX3_tick.data.toList.drop 0 = dktX3_tick_0 := by decide +kernel
theorem dksX3_tick_1 : cX3_tick.data.toList.drop 24 = dktX3_tick_1 := dk_seg dksX3_tick_0 24 rfl rfl
theorem dksX3_tick_2 : cX3_tick.data.toList.drop 48 = dktX3_tick_2 := dk_seg dksX3_tick_1 24 rfl rfl
theorem dksX3_tick_3 : cX3_tick.data.toList.drop 71 = dktX3_tick_3 := dk_seg dksX3_tick_2 23 rfl rfl
theorem dksX3_tick_4 : cX3_tick.data.toList.drop 93 = dktX3_tick_4 := dk_seg dksX3_tick_3 22 rfl rfl
theorem dX3_tick_0 : decode cX3_tick 0 = .ok (.aload_n 0, 1) := dk_42 (dk_at dksX3_tick_0 0 rfl rfl)
theorem dX3_tick_1 : decode cX3_tick 1 = .ok (.sipush 141, 3) := dk_17 0 141 (dk_at dksX3_tick_0 1 rfl rfl)
theorem dX3_tick_4 : decode cX3_tick 4 = .ok (.aload_n 0, 1) := dk_42 (dk_at dksX3_tick_0 4 rfl rfl)
theorem dX3_tick_5 : decode cX3_tick 5 = .ok (.getfield 31, 3) := dk_180 0 31 (dk_at dksX3_tick_0 5 rfl rfl)
theorem dX3_tick_8 : decode cX3_tick 8 = .ok (.imul, 1) := dk_104 (dk_at dksX3_tick_0 8 rfl rfl)
theorem dX3_tick_9 : decode cX3_tick 9 = .ok (.sipush 187, 3) := dk_17 0 187 (dk_at dksX3_tick_0 9 rfl rfl)
theorem dX3_tick_12 : decode cX3_tick 12 = .ok (.iadd, 1) := dk_96 (dk_at dksX3_tick_0 12 rfl rfl)
theorem dX3_tick_13 : decode cX3_tick 13 = .ok (.sipush 1000, 3) := dk_17 3 232 (dk_at dksX3_tick_0 13 rfl rfl)
theorem dX3_tick_16 : decode cX3_tick 16 = .ok (.irem, 1) := dk_112 (dk_at dksX3_tick_0 16 rfl rfl)
theorem dX3_tick_17 : decode cX3_tick 17 = .ok (.putfield 31, 3) := dk_181 0 31 (dk_at dksX3_tick_0 17 rfl rfl)
theorem dX3_tick_20 : decode cX3_tick 20 = .ok (.aload_n 0, 1) := dk_42 (dk_at dksX3_tick_0 20 rfl rfl)
theorem dX3_tick_21 : decode cX3_tick 21 = .ok (.getfield 3, 3) := dk_180 0 3 (dk_at dksX3_tick_0 21 rfl rfl)
theorem dX3_tick_24 : decode cX3_tick 24 = .ok (.aload_n 0, 1) := dk_42 (dk_at dksX3_tick_1 0 rfl rfl)
theorem dX3_tick_25 : decode cX3_tick 25 = .ok (.getfield 3, 3) := dk_180 0 3 (dk_at dksX3_tick_1 1 rfl rfl)
theorem dX3_tick_28 : decode cX3_tick 28 = .ok (.getfield 34, 3) := dk_180 0 34 (dk_at dksX3_tick_1 4 rfl rfl)
theorem dX3_tick_31 : decode cX3_tick 31 = .ok (.aload_n 0, 1) := dk_42 (dk_at dksX3_tick_1 7 rfl rfl)
theorem dX3_tick_32 : decode cX3_tick 32 = .ok (.getfield 25, 3) := dk_180 0 25 (dk_at dksX3_tick_1 8 rfl rfl)
theorem dX3_tick_35 : decode cX3_tick 35 = .ok (.invokestatic 37, 3) := dk_184 0 37 (dk_at dksX3_tick_1 11 rfl rfl)
theorem dX3_tick_38 : decode cX3_tick 38 = .ok (.aload_n 0, 1) := dk_42 (dk_at dksX3_tick_1 14 rfl rfl)
theorem dX3_tick_39 : decode cX3_tick 39 = .ok (.getfield 19, 3) := dk_180 0 19 (dk_at dksX3_tick_1 15 rfl rfl)
theorem dX3_tick_42 : decode cX3_tick 42 = .ok (.aload_n 0, 1) := dk_42 (dk_at dksX3_tick_1 18 rfl rfl)
theorem dX3_tick_43 : decode cX3_tick 43 = .ok (.getfield 31, 3) := dk_180 0 31 (dk_at dksX3_tick_1 19 rfl rfl)
theorem dX3_tick_46 : decode cX3_tick 46 = .ok (.bipush 100, 2) := dk_16 100 (dk_at dksX3_tick_1 22 rfl rfl)
theorem dX3_tick_48 : decode cX3_tick 48 = .ok (.idiv, 1) := dk_108 (dk_at dksX3_tick_2 0 rfl rfl)
theorem dX3_tick_49 : decode cX3_tick 49 = .ok (.invokevirtual 41, 3) := dk_182 0 41 (dk_at dksX3_tick_2 1 rfl rfl)
theorem dX3_tick_52 : decode cX3_tick 52 = .ok (.istore_n 1, 1) := dk_60 (dk_at dksX3_tick_2 4 rfl rfl)
theorem dX3_tick_53 : decode cX3_tick 53 = .ok (.aload_n 0, 1) := dk_42 (dk_at dksX3_tick_2 5 rfl rfl)
theorem dX3_tick_54 : decode cX3_tick 54 = .ok (.aload_n 0, 1) := dk_42 (dk_at dksX3_tick_2 6 rfl rfl)
theorem dX3_tick_55 : decode cX3_tick 55 = .ok (.getfield 3, 3) := dk_180 0 3 (dk_at dksX3_tick_2 7 rfl rfl)
theorem dX3_tick_58 : decode cX3_tick 58 = .ok (.aload_n 0, 1) := dk_42 (dk_at dksX3_tick_2 10 rfl rfl)
theorem dX3_tick_59 : decode cX3_tick 59 = .ok (.getfield 19, 3) := dk_180 0 19 (dk_at dksX3_tick_2 11 rfl rfl)
theorem dX3_tick_62 : decode cX3_tick 62 = .ok (.iload_n 1, 1) := dk_27 (dk_at dksX3_tick_2 14 rfl rfl)
theorem dX3_tick_63 : decode cX3_tick 63 = .ok (.invokevirtual 45, 3) := dk_182 0 45 (dk_at dksX3_tick_2 15 rfl rfl)
theorem dX3_tick_66 : decode cX3_tick 66 = .ok (.putfield 19, 3) := dk_181 0 19 (dk_at dksX3_tick_2 18 rfl rfl)
theorem dX3_tick_69 : decode cX3_tick 69 = .ok (.aload_n 0, 1) := dk_42 (dk_at dksX3_tick_2 21 rfl rfl)
theorem dX3_tick_70 : decode cX3_tick 70 = .ok (.dup, 1) := dk_89 (dk_at dksX3_tick_2 22 rfl rfl)
theorem dX3_tick_71 : decode cX3_tick 71 = .ok (.getfield 48, 3) := dk_180 0 48 (dk_at dksX3_tick_3 0 rfl rfl)
theorem dX3_tick_74 : decode cX3_tick 74 = .ok (.iload_n 1, 1) := dk_27 (dk_at dksX3_tick_3 3 rfl rfl)
theorem dX3_tick_75 : decode cX3_tick 75 = .ok (.iadd, 1) := dk_96 (dk_at dksX3_tick_3 4 rfl rfl)
theorem dX3_tick_76 : decode cX3_tick 76 = .ok (.putfield 48, 3) := dk_181 0 48 (dk_at dksX3_tick_3 5 rfl rfl)
theorem dX3_tick_79 : decode cX3_tick 79 = .ok (.aload_n 0, 1) := dk_42 (dk_at dksX3_tick_3 8 rfl rfl)
theorem dX3_tick_80 : decode cX3_tick 80 = .ok (.aload_n 0, 1) := dk_42 (dk_at dksX3_tick_3 9 rfl rfl)
theorem dX3_tick_81 : decode cX3_tick 81 = .ok (.getfield 25, 3) := dk_180 0 25 (dk_at dksX3_tick_3 10 rfl rfl)
theorem dX3_tick_84 : decode cX3_tick 84 = .ok (.iconst 1, 1) := dk_4 (dk_at dksX3_tick_3 13 rfl rfl)
theorem dX3_tick_85 : decode cX3_tick 85 = .ok (.iadd, 1) := dk_96 (dk_at dksX3_tick_3 14 rfl rfl)
theorem dX3_tick_86 : decode cX3_tick 86 = .ok (.aload_n 0, 1) := dk_42 (dk_at dksX3_tick_3 15 rfl rfl)
theorem dX3_tick_87 : decode cX3_tick 87 = .ok (.getfield 3, 3) := dk_180 0 3 (dk_at dksX3_tick_3 16 rfl rfl)
theorem dX3_tick_90 : decode cX3_tick 90 = .ok (.getfield 34, 3) := dk_180 0 34 (dk_at dksX3_tick_3 19 rfl rfl)
theorem dX3_tick_93 : decode cX3_tick 93 = .ok (.invokestatic 51, 3) := dk_184 0 51 (dk_at dksX3_tick_4 0 rfl rfl)
theorem dX3_tick_96 : decode cX3_tick 96 = .ok (.irem, 1) := dk_112 (dk_at dksX3_tick_4 3 rfl rfl)
theorem dX3_tick_97 : decode cX3_tick 97 = .ok (.putfield 25, 3) := dk_181 0 25 (dk_at dksX3_tick_4 4 rfl rfl)
theorem dX3_tick_100 : decode cX3_tick 100 = .ok (.return_, 1) := dk_177 (dk_at dksX3_tick_4 7 rfl rfl)
abbrev cX3_isLike : ByteArray := prog_7_method_4_code
def yX3_isLike : MethodName := ⟨RX3, "isLike", "(LFlashRatchet$Runner;)Z"⟩
def dkwX3_isLike_1 : List UInt8 := [180, 0, 31, 43, 180, 0, 31, 160, 0, 7, 4, 167, 0, 4, 3, 172]
abbrev dktX3_isLike_1 : List UInt8 := dkwX3_isLike_1 ++ []
def dkwX3_isLike_0 : List UInt8 := [42, 180, 0, 19, 43, 180, 0, 19, 160, 0, 29, 42, 180, 0, 25, 43, 180, 0, 25, 160, 0, 18, 42]
abbrev dktX3_isLike_0 : List UInt8 := dkwX3_isLike_0 ++ dktX3_isLike_1
theorem dksX3_isLike_0 : cX3_isLike.data.toList.drop 0 = dktX3_isLike_0 := by decide +kernel
theorem dksX3_isLike_1 : cX3_isLike.data.toList.drop 23 = dktX3_isLike_1 := dk_seg dksX3_isLike_0 23 rfl rfl
theorem dX3_isLike_0 : decode cX3_isLike 0 = .ok (.aload_n 0, 1) := dk_42 (dk_at dksX3_isLike_0 0 rfl rfl)
theorem dX3_isLike_1 : decode cX3_isLike 1 = .ok (.getfield 19, 3) := dk_180 0 19 (dk_at dksX3_isLike_0 1 rfl rfl)
theorem dX3_isLike_4 : decode cX3_isLike 4 = .ok (.aload_n 1, 1) := dk_43 (dk_at dksX3_isLike_0 4 rfl rfl)
theorem dX3_isLike_5 : decode cX3_isLike 5 = .ok (.getfield 19, 3) := dk_180 0 19 (dk_at dksX3_isLike_0 5 rfl rfl)
theorem dX3_isLike_8 : decode cX3_isLike 8 = .ok (.if_icmp .ne 29, 3) := dk_160 0 29 (dk_at dksX3_isLike_0 8 rfl rfl)
theorem dX3_isLike_11 : decode cX3_isLike 11 = .ok (.aload_n 0, 1) := dk_42 (dk_at dksX3_isLike_0 11 rfl rfl)
theorem dX3_isLike_12 : decode cX3_isLike 12 = .ok (.getfield 25, 3) := dk_180 0 25 (dk_at dksX3_isLike_0 12 rfl rfl)
theorem dX3_isLike_15 : decode cX3_isLike 15 = .ok (.aload_n 1, 1) := dk_43 (dk_at dksX3_isLike_0 15 rfl rfl)
theorem dX3_isLike_16 : decode cX3_isLike 16 = .ok (.getfield 25, 3) := dk_180 0 25 (dk_at dksX3_isLike_0 16 rfl rfl)
theorem dX3_isLike_19 : decode cX3_isLike 19 = .ok (.if_icmp .ne 18, 3) := dk_160 0 18 (dk_at dksX3_isLike_0 19 rfl rfl)
theorem dX3_isLike_22 : decode cX3_isLike 22 = .ok (.aload_n 0, 1) := dk_42 (dk_at dksX3_isLike_0 22 rfl rfl)
theorem dX3_isLike_23 : decode cX3_isLike 23 = .ok (.getfield 31, 3) := dk_180 0 31 (dk_at dksX3_isLike_1 0 rfl rfl)
theorem dX3_isLike_26 : decode cX3_isLike 26 = .ok (.aload_n 1, 1) := dk_43 (dk_at dksX3_isLike_1 3 rfl rfl)
theorem dX3_isLike_27 : decode cX3_isLike 27 = .ok (.getfield 31, 3) := dk_180 0 31 (dk_at dksX3_isLike_1 4 rfl rfl)
theorem dX3_isLike_30 : decode cX3_isLike 30 = .ok (.if_icmp .ne 7, 3) := dk_160 0 7 (dk_at dksX3_isLike_1 7 rfl rfl)
theorem dX3_isLike_33 : decode cX3_isLike 33 = .ok (.iconst 1, 1) := dk_4 (dk_at dksX3_isLike_1 10 rfl rfl)
theorem dX3_isLike_34 : decode cX3_isLike 34 = .ok (.goto 4, 3) := dk_167 0 4 (dk_at dksX3_isLike_1 11 rfl rfl)
theorem dX3_isLike_37 : decode cX3_isLike 37 = .ok (.iconst 0, 1) := dk_3 (dk_at dksX3_isLike_1 14 rfl rfl)
theorem dX3_isLike_38 : decode cX3_isLike 38 = .ok (.ireturn, 1) := dk_172 (dk_at dksX3_isLike_1 15 rfl rfl)
abbrev cX3_go : ByteArray := prog_7_method_3_code
def yX3_go : MethodName := ⟨RX3, "go", "(I)V"⟩
def dkwX3_go_0 : List UInt8 := [3, 61, 28, 27, 162, 0, 13, 42, 182, 0, 55, 132, 2, 1, 167, 255, 244, 177]
abbrev dktX3_go_0 : List UInt8 := dkwX3_go_0 ++ []
theorem dksX3_go_0 : cX3_go.data.toList.drop 0 = dktX3_go_0 := by decide +kernel
theorem dX3_go_0 : decode cX3_go 0 = .ok (.iconst 0, 1) := dk_3 (dk_at dksX3_go_0 0 rfl rfl)
theorem dX3_go_1 : decode cX3_go 1 = .ok (.istore_n 2, 1) := dk_61 (dk_at dksX3_go_0 1 rfl rfl)
theorem dX3_go_2 : decode cX3_go 2 = .ok (.iload_n 2, 1) := dk_28 (dk_at dksX3_go_0 2 rfl rfl)
theorem dX3_go_3 : decode cX3_go 3 = .ok (.iload_n 1, 1) := dk_27 (dk_at dksX3_go_0 3 rfl rfl)
theorem dX3_go_4 : decode cX3_go 4 = .ok (.if_icmp .ge 13, 3) := dk_162 0 13 (dk_at dksX3_go_0 4 rfl rfl)
theorem dX3_go_7 : decode cX3_go 7 = .ok (.aload_n 0, 1) := dk_42 (dk_at dksX3_go_0 7 rfl rfl)
theorem dX3_go_8 : decode cX3_go 8 = .ok (.invokevirtual 55, 3) := dk_182 0 55 (dk_at dksX3_go_0 8 rfl rfl)
theorem dX3_go_11 : decode cX3_go 11 = .ok (.iinc 2 1, 3) := dk_132 2 1 (dk_at dksX3_go_0 11 rfl rfl)
theorem dX3_go_14 : decode cX3_go 14 = .ok (.goto (-12), 3) := dk_167 255 244 (dk_at dksX3_go_0 14 rfl rfl)
theorem dX3_go_17 : decode cX3_go 17 = .ok (.return_, 1) := dk_177 (dk_at dksX3_go_0 17 rfl rfl)
theorem q100 : (Jvm.Cond.initialized "FlashRatchet$Runner") ∈ lw_all := lw_g (lw_at lw_m1 16 rfl) rfl
theorem q179 : (Jvm.Cond.fieldLinkNest "FlashRatchet$Runner" (34 : Nat) "FlashRatchet" "program" "I" "FlashRatchet") ∈ lw_tbl := lw_at lw_m1 95 rfl
theorem q183 : (Jvm.Cond.fieldLinkNest "FlashRatchet$Runner" (22 : Nat) "FlashRatchet" "index" "I" "FlashRatchet") ∈ lw_tbl := lw_at lw_m1 99 rfl
theorem q187 : (Jvm.Cond.fieldLinkNest "FlashRatchet$Runner" (15 : Nat) "FlashRatchet" "position" "I" "FlashRatchet") ∈ lw_tbl := lw_at lw_m1 103 rfl
theorem q190 : (Jvm.Cond.fieldLinkNest "FlashRatchet$Runner" (28 : Nat) "FlashRatchet" "seed" "I" "FlashRatchet") ∈ lw_tbl := lw_at lw_m1 106 rfl
theorem q902 : (Jvm.Cond.selects "FlashRatchet$Runner" ({ cls := "java/lang/Object", name := "getClass", desc := "()Ljava/lang/Class;" } : Jvm.MethodName) ({ cls := "java/lang/Object", name := "getClass", desc := "()Ljava/lang/Class;" } : Jvm.MethodName)) ∈ lw_all := lw_g (lw_at lw_m4 98 rfl) rfl
theorem q1207 : (Jvm.Cond.instantiable "FlashRatchet$Runner" (5 : Nat)) ∈ lw_all := lw_g (lw_at lw_m5 163 rfl) rfl
theorem q1209 : (Jvm.Cond.instanceMethod ({ cls := "FlashRatchet$Runner", name := "<init>", desc := "(LFlashRatchet;)V" } : Jvm.MethodName)) ∈ lw_all := lw_g (lw_at lw_m5 165 rfl) rfl
theorem q1210 : (Jvm.Cond.code ({ cls := "FlashRatchet$Runner", name := "<init>", desc := "(LFlashRatchet;)V" } : Jvm.MethodName) prog_7_method_1_code (2 : Nat) (Option.none : Option Jvm.ClassFile.FieldType)) ∈ lw_all := lw_g (lw_at lw_m5 166 rfl) rfl
theorem q1211 : (Jvm.Cond.methodLink "FlashRatchet$Runner" (9 : Nat) ({ cls := "java/lang/Object", name := "<init>", desc := "()V" } : Jvm.MethodName)) ∈ lw_all := lw_g (lw_at lw_m5 167 rfl) rfl
theorem q1212 : (Jvm.Cond.fieldLink "FlashRatchet$Runner" (19 : Nat) "FlashRatchet$Runner" "at" "I") ∈ lw_all := lw_g (lw_at lw_m5 168 rfl) rfl
theorem q1214 : (Jvm.Cond.fieldLink "FlashRatchet$Runner" (25 : Nat) "FlashRatchet$Runner" "next" "I") ∈ lw_all := lw_g (lw_at lw_m5 170 rfl) rfl
theorem q1216 : (Jvm.Cond.fieldLink "FlashRatchet$Runner" (31 : Nat) "FlashRatchet$Runner" "drawn" "I") ∈ lw_all := lw_g (lw_at lw_m5 172 rfl) rfl
theorem q1218 : (Jvm.Cond.fieldLink "FlashRatchet$Runner" (48 : Nat) "FlashRatchet$Runner" "won" "I") ∈ lw_all := lw_g (lw_at lw_m5 174 rfl) rfl
theorem q1220 : (Jvm.Cond.fieldLink "FlashRatchet$Runner" (3 : Nat) "FlashRatchet$Runner" "this$0" "LFlashRatchet;") ∈ lw_all := lw_g (lw_at lw_m5 176 rfl) rfl
theorem q1221 : (Jvm.Cond.lays "FlashRatchet$Runner" "FlashRatchet$Runner" "at" "I") ∈ lw_all := lw_g (lw_at lw_m5 177 rfl) rfl
theorem q1222 : (Jvm.Cond.soleField "FlashRatchet$Runner" "at") ∈ lw_all := lw_g (lw_at lw_m5 178 rfl) rfl
theorem q1223 : (Jvm.Cond.lays "FlashRatchet$Runner" "FlashRatchet$Runner" "next" "I") ∈ lw_all := lw_g (lw_at lw_m5 179 rfl) rfl
theorem q1224 : (Jvm.Cond.soleField "FlashRatchet$Runner" "next") ∈ lw_all := lw_g (lw_at lw_m5 180 rfl) rfl
theorem q1225 : (Jvm.Cond.lays "FlashRatchet$Runner" "FlashRatchet$Runner" "drawn" "I") ∈ lw_all := lw_g (lw_at lw_m5 181 rfl) rfl
theorem q1226 : (Jvm.Cond.soleField "FlashRatchet$Runner" "drawn") ∈ lw_all := lw_g (lw_at lw_m5 182 rfl) rfl
theorem q1227 : (Jvm.Cond.lays "FlashRatchet$Runner" "FlashRatchet$Runner" "won" "I") ∈ lw_all := lw_g (lw_at lw_m5 183 rfl) rfl
theorem q1228 : (Jvm.Cond.soleField "FlashRatchet$Runner" "won") ∈ lw_all := lw_g (lw_at lw_m5 184 rfl) rfl
theorem q1229 : (Jvm.Cond.laysFinal "FlashRatchet$Runner" "FlashRatchet$Runner" "this$0" "LFlashRatchet;") ∈ lw_all := lw_g (lw_at lw_m5 185 rfl) rfl
theorem q1230 : (Jvm.Cond.soleField "FlashRatchet$Runner" "this$0") ∈ lw_all := lw_g (lw_at lw_m5 186 rfl) rfl
theorem q1231 : (Jvm.Cond.superclass "FlashRatchet$Runner" "java/lang/Object") ∈ lw_all := lw_g (lw_at lw_m5 187 rfl) rfl
theorem q1233 : (Jvm.Cond.instanceMethod ({ cls := "FlashRatchet$Runner", name := "take", desc := "(LFlashRatchet$Runner;)V" } : Jvm.MethodName)) ∈ lw_all := lw_g (lw_at lw_m5 189 rfl) rfl
theorem q1234 : (Jvm.Cond.selects "FlashRatchet$Runner" ({ cls := "FlashRatchet$Runner", name := "take", desc := "(LFlashRatchet$Runner;)V" } : Jvm.MethodName) ({ cls := "FlashRatchet$Runner", name := "take", desc := "(LFlashRatchet$Runner;)V" } : Jvm.MethodName)) ∈ lw_all := lw_g (lw_at lw_m5 190 rfl) rfl
theorem q1235 : (Jvm.Cond.code ({ cls := "FlashRatchet$Runner", name := "take", desc := "(LFlashRatchet$Runner;)V" } : Jvm.MethodName) prog_7_method_5_code (2 : Nat) (Option.none : Option Jvm.ClassFile.FieldType)) ∈ lw_all := lw_g (lw_at lw_m5 191 rfl) rfl
theorem q1237 : (Jvm.Cond.instanceMethod ({ cls := "FlashRatchet$Runner", name := "tick", desc := "()V" } : Jvm.MethodName)) ∈ lw_all := lw_g (lw_at lw_m5 193 rfl) rfl
theorem q1238 : (Jvm.Cond.selects "FlashRatchet$Runner" ({ cls := "FlashRatchet$Runner", name := "tick", desc := "()V" } : Jvm.MethodName) ({ cls := "FlashRatchet$Runner", name := "tick", desc := "()V" } : Jvm.MethodName)) ∈ lw_all := lw_g (lw_at lw_m5 194 rfl) rfl
theorem q1239 : (Jvm.Cond.code ({ cls := "FlashRatchet$Runner", name := "tick", desc := "()V" } : Jvm.MethodName) prog_7_method_2_code (2 : Nat) (Option.none : Option Jvm.ClassFile.FieldType)) ∈ lw_all := lw_g (lw_at lw_m5 195 rfl) rfl
theorem q1240 : (Jvm.Cond.methodLinkNest "FlashRatchet$Runner" (37 : Nat) ({ cls := "FlashRatchet", name := "lever", desc := "(II)I" } : Jvm.MethodName) "FlashRatchet") ∈ lw_tbl := lw_at lw_m5 196 rfl
theorem q1241 : (Jvm.Cond.methodLinkNest "FlashRatchet$Runner" (41 : Nat) ({ cls := "FlashRatchet", name := "moveBy", desc := "(III)I" } : Jvm.MethodName) "FlashRatchet") ∈ lw_tbl := lw_at lw_m5 197 rfl
theorem q1245 : (Jvm.Cond.methodLinkNest "FlashRatchet$Runner" (45 : Nat) ({ cls := "FlashRatchet", name := "moved", desc := "(II)I" } : Jvm.MethodName) "FlashRatchet") ∈ lw_tbl := lw_at lw_m5 201 rfl
theorem q1246 : (Jvm.Cond.methodLinkNest "FlashRatchet$Runner" (51 : Nat) ({ cls := "FlashRatchet", name := "length", desc := "(I)I" } : Jvm.MethodName) "FlashRatchet") ∈ lw_tbl := lw_at lw_m5 202 rfl
theorem q1248 : (Jvm.Cond.instanceMethod ({ cls := "FlashRatchet$Runner", name := "isLike", desc := "(LFlashRatchet$Runner;)Z" } : Jvm.MethodName)) ∈ lw_all := lw_g (lw_at lw_m5 204 rfl) rfl
theorem q1249 : (Jvm.Cond.selects "FlashRatchet$Runner" ({ cls := "FlashRatchet$Runner", name := "isLike", desc := "(LFlashRatchet$Runner;)Z" } : Jvm.MethodName) ({ cls := "FlashRatchet$Runner", name := "isLike", desc := "(LFlashRatchet$Runner;)Z" } : Jvm.MethodName)) ∈ lw_all := lw_g (lw_at lw_m5 205 rfl) rfl
theorem q1250 : (Jvm.Cond.code ({ cls := "FlashRatchet$Runner", name := "isLike", desc := "(LFlashRatchet$Runner;)Z" } : Jvm.MethodName) prog_7_method_4_code (2 : Nat) (Option.some Jvm.ClassFile.FieldType.boolean)) ∈ lw_all := lw_g (lw_at lw_m5 206 rfl) rfl
theorem q1252 : (Jvm.Cond.instanceMethod ({ cls := "FlashRatchet$Runner", name := "go", desc := "(I)V" } : Jvm.MethodName)) ∈ lw_all := lw_g (lw_at lw_m5 208 rfl) rfl
theorem q1253 : (Jvm.Cond.selects "FlashRatchet$Runner" ({ cls := "FlashRatchet$Runner", name := "go", desc := "(I)V" } : Jvm.MethodName) ({ cls := "FlashRatchet$Runner", name := "go", desc := "(I)V" } : Jvm.MethodName)) ∈ lw_all := lw_g (lw_at lw_m5 209 rfl) rfl
theorem q1254 : (Jvm.Cond.code ({ cls := "FlashRatchet$Runner", name := "go", desc := "(I)V" } : Jvm.MethodName) prog_7_method_3_code (3 : Nat) (Option.none : Option Jvm.ClassFile.FieldType)) ∈ lw_all := lw_g (lw_at lw_m5 210 rfl) rfl
theorem q1255 : (Jvm.Cond.methodLink "FlashRatchet$Runner" (55 : Nat) ({ cls := "FlashRatchet$Runner", name := "tick", desc := "()V" } : Jvm.MethodName)) ∈ lw_all := lw_g (lw_at lw_m5 211 rfl) rfl
theorem q2286 : (Jvm.Cond.castable "FlashRatchet$Runner" "java/lang/Object") ∈ lw_tbl := lw_at lw_m10 42 rfl
theorem in_X3 : ∀ w ∈ wsX30, w ∈ lw_all := lw_in wsX30 [1221, 1223, 1225, 1227, 1229] (by decide +kernel) (by decide +kernel)
/-! FlashRatchet$Reader -/
set_option maxRecDepth 100000
def RX4 : String := "FlashRatchet$Reader"
def TX4 : u_T := fun k => match k with
  | 0 => ("FlashRatchet$Reader", "what", "[I", true)
  | 1 => ("FlashRatchet$Reader", "value", "[I", true)
  | 2 => ("FlashRatchet$Reader", "read", "I", false)
  | 3 => ("FlashRatchet$Reader", "items", "I", false)
  | 4 => ("FlashRatchet$Reader", "at", "I", false)
  | 5 => ("FlashRatchet$Reader", "part", "I", false)
  | 6 => ("FlashRatchet$Reader", "lever", "I", false)
  | 7 => ("FlashRatchet$Reader", "pairs", "I", false)
  | 8 => ("FlashRatchet$Reader", "number", "I", false)
  | _ => ("FlashRatchet$Reader", "this$0", "LFlashRatchet;", true)
def tyX4 : Nat → FieldType := fun k => match k with
  | 0 => .array .int
  | 1 => .array .int
  | 2 => .int
  | 3 => .int
  | 4 => .int
  | 5 => .int
  | 6 => .int
  | 7 => .int
  | 8 => .int
  | _ => .object "FlashRatchet"
abbrev wsX40 : List Cond := u_ws RX4 TX4 10
theorem nmX4 : ∀ a, a < 10 → ∀ b, b < 10 → a ≠ b → (TX4 a).2.1 ≠ (TX4 b).2.1 := by decide +kernel
theorem tyX4_ok : ∀ k, k < 10 → parseFieldDescriptor (TX4 k).2.2.1 = some (tyX4 k) := by decide +kernel
abbrev cX4_init : ByteArray := prog_5_method_1_code
def yX4_init : MethodName := ⟨RX4, "<init>", "(LFlashRatchet;)V"⟩
def dkwX4_init_1 : List UInt8 := [181, 0, 19, 177]
abbrev dktX4_init_1 : List UInt8 := dkwX4_init_1 ++ []
def dkwX4_init_0 : List UInt8 := [42, 43, 181, 0, 3, 42, 183, 0, 9, 42, 16, 60, 188, 10, 181, 0, 15, 42, 16, 60, 188, 10]
abbrev dktX4_init_0 : List UInt8 := dkwX4_init_0 ++ dktX4_init_1
theorem dksX4_init_0 : cX4_init.data.toList.drop 0 = dktX4_init_0 := by decide +kernel
theorem dksX4_init_1 : cX4_init.data.toList.drop 22 = dktX4_init_1 := dk_seg dksX4_init_0 22 rfl rfl
theorem dX4_init_0 : decode cX4_init 0 = .ok (.aload_n 0, 1) := dk_42 (dk_at dksX4_init_0 0 rfl rfl)
theorem dX4_init_1 : decode cX4_init 1 = .ok (.aload_n 1, 1) := dk_43 (dk_at dksX4_init_0 1 rfl rfl)
theorem dX4_init_2 : decode cX4_init 2 = .ok (.putfield 3, 3) := dk_181 0 3 (dk_at dksX4_init_0 2 rfl rfl)
theorem dX4_init_5 : decode cX4_init 5 = .ok (.aload_n 0, 1) := dk_42 (dk_at dksX4_init_0 5 rfl rfl)
theorem dX4_init_6 : decode cX4_init 6 = .ok (.invokespecial 9, 3) := dk_183 0 9 (dk_at dksX4_init_0 6 rfl rfl)
theorem dX4_init_9 : decode cX4_init 9 = .ok (.aload_n 0, 1) := dk_42 (dk_at dksX4_init_0 9 rfl rfl)
theorem dX4_init_10 : decode cX4_init 10 = .ok (.bipush 60, 2) := dk_16 60 (dk_at dksX4_init_0 10 rfl rfl)
theorem dX4_init_12 : decode cX4_init 12 = .ok (.newarray .int, 2) := dk_188_10 (dk_at dksX4_init_0 12 rfl rfl)
theorem dX4_init_14 : decode cX4_init 14 = .ok (.putfield 15, 3) := dk_181 0 15 (dk_at dksX4_init_0 14 rfl rfl)
theorem dX4_init_17 : decode cX4_init 17 = .ok (.aload_n 0, 1) := dk_42 (dk_at dksX4_init_0 17 rfl rfl)
theorem dX4_init_18 : decode cX4_init 18 = .ok (.bipush 60, 2) := dk_16 60 (dk_at dksX4_init_0 18 rfl rfl)
theorem dX4_init_20 : decode cX4_init 20 = .ok (.newarray .int, 2) := dk_188_10 (dk_at dksX4_init_0 20 rfl rfl)
theorem dX4_init_22 : decode cX4_init 22 = .ok (.putfield 19, 3) := dk_181 0 19 (dk_at dksX4_init_1 0 rfl rfl)
theorem dX4_init_25 : decode cX4_init 25 = .ok (.return_, 1) := dk_177 (dk_at dksX4_init_1 3 rfl rfl)
abbrev cX4_all : ByteArray := prog_5_method_11_code
def yX4_all : MethodName := ⟨RX4, "all", "()LFlashRatchet$Reader;"⟩
def dkwX4_all_2 : List UInt8 := [181, 0, 84, 167, 255, 208, 42, 176]
abbrev dktX4_all_2 : List UInt8 := dkwX4_all_2 ++ []
def dkwX4_all_1 : List UInt8 := [180, 0, 87, 42, 180, 0, 84, 182, 0, 96, 182, 0, 100, 153, 0, 16, 42, 89, 180, 0, 84, 4, 96]
abbrev dktX4_all_1 : List UInt8 := dkwX4_all_1 ++ dktX4_all_2
def dkwX4_all_0 : List UInt8 := [42, 180, 0, 84, 42, 180, 0, 3, 180, 0, 87, 182, 0, 91, 162, 0, 37, 42, 42, 180, 0, 3]
abbrev dktX4_all_0 : List UInt8 := dkwX4_all_0 ++ dktX4_all_1
theorem dksX4_all_0 : cX4_all.data.toList.drop 0 = dktX4_all_0 := by decide +kernel
theorem dksX4_all_1 : cX4_all.data.toList.drop 22 = dktX4_all_1 := dk_seg dksX4_all_0 22 rfl rfl
theorem dksX4_all_2 : cX4_all.data.toList.drop 45 = dktX4_all_2 := dk_seg dksX4_all_1 23 rfl rfl
theorem dX4_all_0 : decode cX4_all 0 = .ok (.aload_n 0, 1) := dk_42 (dk_at dksX4_all_0 0 rfl rfl)
theorem dX4_all_1 : decode cX4_all 1 = .ok (.getfield 84, 3) := dk_180 0 84 (dk_at dksX4_all_0 1 rfl rfl)
theorem dX4_all_4 : decode cX4_all 4 = .ok (.aload_n 0, 1) := dk_42 (dk_at dksX4_all_0 4 rfl rfl)
theorem dX4_all_5 : decode cX4_all 5 = .ok (.getfield 3, 3) := dk_180 0 3 (dk_at dksX4_all_0 5 rfl rfl)
theorem dX4_all_8 : decode cX4_all 8 = .ok (.getfield 87, 3) := dk_180 0 87 (dk_at dksX4_all_0 8 rfl rfl)
theorem dX4_all_11 : decode cX4_all 11 = .ok (.invokevirtual 91, 3) := dk_182 0 91 (dk_at dksX4_all_0 11 rfl rfl)
theorem dX4_all_14 : decode cX4_all 14 = .ok (.if_icmp .ge 37, 3) := dk_162 0 37 (dk_at dksX4_all_0 14 rfl rfl)
theorem dX4_all_17 : decode cX4_all 17 = .ok (.aload_n 0, 1) := dk_42 (dk_at dksX4_all_0 17 rfl rfl)
theorem dX4_all_18 : decode cX4_all 18 = .ok (.aload_n 0, 1) := dk_42 (dk_at dksX4_all_0 18 rfl rfl)
theorem dX4_all_19 : decode cX4_all 19 = .ok (.getfield 3, 3) := dk_180 0 3 (dk_at dksX4_all_0 19 rfl rfl)
theorem dX4_all_22 : decode cX4_all 22 = .ok (.getfield 87, 3) := dk_180 0 87 (dk_at dksX4_all_1 0 rfl rfl)
theorem dX4_all_25 : decode cX4_all 25 = .ok (.aload_n 0, 1) := dk_42 (dk_at dksX4_all_1 3 rfl rfl)
theorem dX4_all_26 : decode cX4_all 26 = .ok (.getfield 84, 3) := dk_180 0 84 (dk_at dksX4_all_1 4 rfl rfl)
theorem dX4_all_29 : decode cX4_all 29 = .ok (.invokevirtual 96, 3) := dk_182 0 96 (dk_at dksX4_all_1 7 rfl rfl)
theorem dX4_all_32 : decode cX4_all 32 = .ok (.invokevirtual 100, 3) := dk_182 0 100 (dk_at dksX4_all_1 10 rfl rfl)
theorem dX4_all_35 : decode cX4_all 35 = .ok (.ifCond .eq 16, 3) := dk_153 0 16 (dk_at dksX4_all_1 13 rfl rfl)
theorem dX4_all_38 : decode cX4_all 38 = .ok (.aload_n 0, 1) := dk_42 (dk_at dksX4_all_1 16 rfl rfl)
theorem dX4_all_39 : decode cX4_all 39 = .ok (.dup, 1) := dk_89 (dk_at dksX4_all_1 17 rfl rfl)
theorem dX4_all_40 : decode cX4_all 40 = .ok (.getfield 84, 3) := dk_180 0 84 (dk_at dksX4_all_1 18 rfl rfl)
theorem dX4_all_43 : decode cX4_all 43 = .ok (.iconst 1, 1) := dk_4 (dk_at dksX4_all_1 21 rfl rfl)
theorem dX4_all_44 : decode cX4_all 44 = .ok (.iadd, 1) := dk_96 (dk_at dksX4_all_1 22 rfl rfl)
theorem dX4_all_45 : decode cX4_all 45 = .ok (.putfield 84, 3) := dk_181 0 84 (dk_at dksX4_all_2 0 rfl rfl)
theorem dX4_all_48 : decode cX4_all 48 = .ok (.goto (-48), 3) := dk_167 255 208 (dk_at dksX4_all_2 3 rfl rfl)
theorem dX4_all_51 : decode cX4_all 51 = .ok (.aload_n 0, 1) := dk_42 (dk_at dksX4_all_2 6 rfl rfl)
theorem dX4_all_52 : decode cX4_all 52 = .ok (.areturn, 1) := dk_176 (dk_at dksX4_all_2 7 rfl rfl)
abbrev cX4_takes : ByteArray := prog_5_method_10_code
def yX4_takes : MethodName := ⟨RX4, "takes", "(C)Z"⟩
def dkwX4_takes_5 : List UInt8 := [167, 0, 4, 3, 5, 182, 0, 39, 172, 42, 27, 182, 0, 81, 172]
abbrev dktX4_takes_5 : List UInt8 := dkwX4_takes_5 ++ []
def dkwX4_takes_4 : List UInt8 := [42, 27, 16, 44, 160, 0, 21, 42, 180, 0, 29, 42, 180, 0, 3, 180, 0, 58, 162, 0, 7, 4]
abbrev dktX4_takes_4 : List UInt8 := dkwX4_takes_4 ++ dktX4_takes_5
def dkwX4_takes_3 : List UInt8 := [160, 0, 7, 8, 167, 0, 4, 5, 182, 0, 39, 172, 42, 27, 182, 0, 75, 172, 42, 27, 182, 0, 78, 172]
abbrev dktX4_takes_3 : List UInt8 := dkwX4_takes_3 ++ dktX4_takes_4
def dkwX4_takes_2 : List UInt8 := [42, 27, 182, 0, 71, 172, 42, 27, 16, 58, 160, 0, 7, 4, 167, 0, 4, 3, 42, 180, 0, 26, 2]
abbrev dktX4_takes_2 : List UInt8 := dkwX4_takes_2 ++ dktX4_takes_3
def dkwX4_takes_1 : List UInt8 := [170, 0, 0, 0, 111, 0, 0, 0, 0, 0, 0, 0, 4, 0, 0, 0, 33, 0, 0, 0, 39, 0, 0, 0, 68, 0, 0, 0, 74, 0, 0, 0, 80]
abbrev dktX4_takes_1 : List UInt8 := dkwX4_takes_1 ++ dktX4_takes_2
def dkwX4_takes_0 : List UInt8 := [27, 16, 59, 160, 0, 16, 42, 182, 0, 64, 153, 0, 9, 42, 182, 0, 68, 4, 172, 42, 180, 0, 22]
abbrev dktX4_takes_0 : List UInt8 := dkwX4_takes_0 ++ dktX4_takes_1
theorem dksX4_takes_0 : cX4_takes.data.toList.drop 0 = dktX4_takes_0 := by decide +kernel
theorem dksX4_takes_1 : cX4_takes.data.toList.drop 23 = dktX4_takes_1 := dk_seg dksX4_takes_0 23 rfl rfl
theorem dksX4_takes_2 : cX4_takes.data.toList.drop 56 = dktX4_takes_2 := dk_seg dksX4_takes_1 33 rfl rfl
theorem dksX4_takes_3 : cX4_takes.data.toList.drop 79 = dktX4_takes_3 := dk_seg dksX4_takes_2 23 rfl rfl
theorem dksX4_takes_4 : cX4_takes.data.toList.drop 103 = dktX4_takes_4 := dk_seg dksX4_takes_3 24 rfl rfl
theorem dksX4_takes_5 : cX4_takes.data.toList.drop 125 = dktX4_takes_5 := dk_seg dksX4_takes_4 22 rfl rfl
theorem dX4_takes_0 : decode cX4_takes 0 = .ok (.iload_n 1, 1) := dk_27 (dk_at dksX4_takes_0 0 rfl rfl)
theorem dX4_takes_1 : decode cX4_takes 1 = .ok (.bipush 59, 2) := dk_16 59 (dk_at dksX4_takes_0 1 rfl rfl)
theorem dX4_takes_3 : decode cX4_takes 3 = .ok (.if_icmp .ne 16, 3) := dk_160 0 16 (dk_at dksX4_takes_0 3 rfl rfl)
theorem dX4_takes_6 : decode cX4_takes 6 = .ok (.aload_n 0, 1) := dk_42 (dk_at dksX4_takes_0 6 rfl rfl)
theorem dX4_takes_7 : decode cX4_takes 7 = .ok (.invokevirtual 64, 3) := dk_182 0 64 (dk_at dksX4_takes_0 7 rfl rfl)
theorem dX4_takes_10 : decode cX4_takes 10 = .ok (.ifCond .eq 9, 3) := dk_153 0 9 (dk_at dksX4_takes_0 10 rfl rfl)
theorem dX4_takes_13 : decode cX4_takes 13 = .ok (.aload_n 0, 1) := dk_42 (dk_at dksX4_takes_0 13 rfl rfl)
theorem dX4_takes_14 : decode cX4_takes 14 = .ok (.invokevirtual 68, 3) := dk_182 0 68 (dk_at dksX4_takes_0 14 rfl rfl)
theorem dX4_takes_17 : decode cX4_takes 17 = .ok (.iconst 1, 1) := dk_4 (dk_at dksX4_takes_0 17 rfl rfl)
theorem dX4_takes_18 : decode cX4_takes 18 = .ok (.ireturn, 1) := dk_172 (dk_at dksX4_takes_0 18 rfl rfl)
theorem dX4_takes_19 : decode cX4_takes 19 = .ok (.aload_n 0, 1) := dk_42 (dk_at dksX4_takes_0 19 rfl rfl)
theorem dX4_takes_20 : decode cX4_takes 20 = .ok (.getfield 22, 3) := dk_180 0 22 (dk_at dksX4_takes_0 20 rfl rfl)
theorem dX4_takes_23 : decode cX4_takes 23 = .ok (.tableswitch 111 0 4 #[33, 39, 68, 74, 80], 33) := by decide +kernel
theorem dX4_takes_56 : decode cX4_takes 56 = .ok (.aload_n 0, 1) := dk_42 (dk_at dksX4_takes_2 0 rfl rfl)
theorem dX4_takes_57 : decode cX4_takes 57 = .ok (.iload_n 1, 1) := dk_27 (dk_at dksX4_takes_2 1 rfl rfl)
theorem dX4_takes_58 : decode cX4_takes 58 = .ok (.invokevirtual 71, 3) := dk_182 0 71 (dk_at dksX4_takes_2 2 rfl rfl)
theorem dX4_takes_61 : decode cX4_takes 61 = .ok (.ireturn, 1) := dk_172 (dk_at dksX4_takes_2 5 rfl rfl)
theorem dX4_takes_62 : decode cX4_takes 62 = .ok (.aload_n 0, 1) := dk_42 (dk_at dksX4_takes_2 6 rfl rfl)
theorem dX4_takes_63 : decode cX4_takes 63 = .ok (.iload_n 1, 1) := dk_27 (dk_at dksX4_takes_2 7 rfl rfl)
theorem dX4_takes_64 : decode cX4_takes 64 = .ok (.bipush 58, 2) := dk_16 58 (dk_at dksX4_takes_2 8 rfl rfl)
theorem dX4_takes_66 : decode cX4_takes 66 = .ok (.if_icmp .ne 7, 3) := dk_160 0 7 (dk_at dksX4_takes_2 10 rfl rfl)
theorem dX4_takes_69 : decode cX4_takes 69 = .ok (.iconst 1, 1) := dk_4 (dk_at dksX4_takes_2 13 rfl rfl)
theorem dX4_takes_70 : decode cX4_takes 70 = .ok (.goto 4, 3) := dk_167 0 4 (dk_at dksX4_takes_2 14 rfl rfl)
theorem dX4_takes_73 : decode cX4_takes 73 = .ok (.iconst 0, 1) := dk_3 (dk_at dksX4_takes_2 17 rfl rfl)
theorem dX4_takes_74 : decode cX4_takes 74 = .ok (.aload_n 0, 1) := dk_42 (dk_at dksX4_takes_2 18 rfl rfl)
theorem dX4_takes_75 : decode cX4_takes 75 = .ok (.getfield 26, 3) := dk_180 0 26 (dk_at dksX4_takes_2 19 rfl rfl)
theorem dX4_takes_78 : decode cX4_takes 78 = .ok (.iconst (-1), 1) := dk_2 (dk_at dksX4_takes_2 22 rfl rfl)
theorem dX4_takes_79 : decode cX4_takes 79 = .ok (.if_icmp .ne 7, 3) := dk_160 0 7 (dk_at dksX4_takes_3 0 rfl rfl)
theorem dX4_takes_82 : decode cX4_takes 82 = .ok (.iconst 5, 1) := dk_8 (dk_at dksX4_takes_3 3 rfl rfl)
theorem dX4_takes_83 : decode cX4_takes 83 = .ok (.goto 4, 3) := dk_167 0 4 (dk_at dksX4_takes_3 4 rfl rfl)
theorem dX4_takes_86 : decode cX4_takes 86 = .ok (.iconst 2, 1) := dk_5 (dk_at dksX4_takes_3 7 rfl rfl)
theorem dX4_takes_87 : decode cX4_takes 87 = .ok (.invokevirtual 39, 3) := dk_182 0 39 (dk_at dksX4_takes_3 8 rfl rfl)
theorem dX4_takes_90 : decode cX4_takes 90 = .ok (.ireturn, 1) := dk_172 (dk_at dksX4_takes_3 11 rfl rfl)
theorem dX4_takes_91 : decode cX4_takes 91 = .ok (.aload_n 0, 1) := dk_42 (dk_at dksX4_takes_3 12 rfl rfl)
theorem dX4_takes_92 : decode cX4_takes 92 = .ok (.iload_n 1, 1) := dk_27 (dk_at dksX4_takes_3 13 rfl rfl)
theorem dX4_takes_93 : decode cX4_takes 93 = .ok (.invokevirtual 75, 3) := dk_182 0 75 (dk_at dksX4_takes_3 14 rfl rfl)
theorem dX4_takes_96 : decode cX4_takes 96 = .ok (.ireturn, 1) := dk_172 (dk_at dksX4_takes_3 17 rfl rfl)
theorem dX4_takes_97 : decode cX4_takes 97 = .ok (.aload_n 0, 1) := dk_42 (dk_at dksX4_takes_3 18 rfl rfl)
theorem dX4_takes_98 : decode cX4_takes 98 = .ok (.iload_n 1, 1) := dk_27 (dk_at dksX4_takes_3 19 rfl rfl)
theorem dX4_takes_99 : decode cX4_takes 99 = .ok (.invokevirtual 78, 3) := dk_182 0 78 (dk_at dksX4_takes_3 20 rfl rfl)
theorem dX4_takes_102 : decode cX4_takes 102 = .ok (.ireturn, 1) := dk_172 (dk_at dksX4_takes_3 23 rfl rfl)
theorem dX4_takes_103 : decode cX4_takes 103 = .ok (.aload_n 0, 1) := dk_42 (dk_at dksX4_takes_4 0 rfl rfl)
theorem dX4_takes_104 : decode cX4_takes 104 = .ok (.iload_n 1, 1) := dk_27 (dk_at dksX4_takes_4 1 rfl rfl)
theorem dX4_takes_105 : decode cX4_takes 105 = .ok (.bipush 44, 2) := dk_16 44 (dk_at dksX4_takes_4 2 rfl rfl)
theorem dX4_takes_107 : decode cX4_takes 107 = .ok (.if_icmp .ne 21, 3) := dk_160 0 21 (dk_at dksX4_takes_4 4 rfl rfl)
theorem dX4_takes_110 : decode cX4_takes 110 = .ok (.aload_n 0, 1) := dk_42 (dk_at dksX4_takes_4 7 rfl rfl)
theorem dX4_takes_111 : decode cX4_takes 111 = .ok (.getfield 29, 3) := dk_180 0 29 (dk_at dksX4_takes_4 8 rfl rfl)
theorem dX4_takes_114 : decode cX4_takes 114 = .ok (.aload_n 0, 1) := dk_42 (dk_at dksX4_takes_4 11 rfl rfl)
theorem dX4_takes_115 : decode cX4_takes 115 = .ok (.getfield 3, 3) := dk_180 0 3 (dk_at dksX4_takes_4 12 rfl rfl)
theorem dX4_takes_118 : decode cX4_takes 118 = .ok (.getfield 58, 3) := dk_180 0 58 (dk_at dksX4_takes_4 15 rfl rfl)
theorem dX4_takes_121 : decode cX4_takes 121 = .ok (.if_icmp .ge 7, 3) := dk_162 0 7 (dk_at dksX4_takes_4 18 rfl rfl)
theorem dX4_takes_124 : decode cX4_takes 124 = .ok (.iconst 1, 1) := dk_4 (dk_at dksX4_takes_4 21 rfl rfl)
theorem dX4_takes_125 : decode cX4_takes 125 = .ok (.goto 4, 3) := dk_167 0 4 (dk_at dksX4_takes_5 0 rfl rfl)
theorem dX4_takes_128 : decode cX4_takes 128 = .ok (.iconst 0, 1) := dk_3 (dk_at dksX4_takes_5 3 rfl rfl)
theorem dX4_takes_129 : decode cX4_takes 129 = .ok (.iconst 2, 1) := dk_5 (dk_at dksX4_takes_5 4 rfl rfl)
theorem dX4_takes_130 : decode cX4_takes 130 = .ok (.invokevirtual 39, 3) := dk_182 0 39 (dk_at dksX4_takes_5 5 rfl rfl)
theorem dX4_takes_133 : decode cX4_takes 133 = .ok (.ireturn, 1) := dk_172 (dk_at dksX4_takes_5 8 rfl rfl)
theorem dX4_takes_134 : decode cX4_takes 134 = .ok (.aload_n 0, 1) := dk_42 (dk_at dksX4_takes_5 9 rfl rfl)
theorem dX4_takes_135 : decode cX4_takes 135 = .ok (.iload_n 1, 1) := dk_27 (dk_at dksX4_takes_5 10 rfl rfl)
theorem dX4_takes_136 : decode cX4_takes 136 = .ok (.invokevirtual 81, 3) := dk_182 0 81 (dk_at dksX4_takes_5 11 rfl rfl)
theorem dX4_takes_139 : decode cX4_takes 139 = .ok (.ireturn, 1) := dk_172 (dk_at dksX4_takes_5 14 rfl rfl)
abbrev cX4_isOver : ByteArray := prog_5_method_8_code
def yX4_isOver : MethodName := ⟨RX4, "isOver", "()Z"⟩
def dkwX4_isOver_1 : List UInt8 := [180, 0, 22, 8, 160, 0, 14, 42, 180, 0, 32, 158, 0, 7, 4, 167, 0, 4, 3, 172]
abbrev dktX4_isOver_1 : List UInt8 := dkwX4_isOver_1 ++ []
def dkwX4_isOver_0 : List UInt8 := [42, 180, 0, 22, 7, 160, 0, 17, 42, 180, 0, 29, 42, 180, 0, 3, 180, 0, 58, 159, 0, 18, 42]
abbrev dktX4_isOver_0 : List UInt8 := dkwX4_isOver_0 ++ dktX4_isOver_1
theorem dksX4_isOver_0 : cX4_isOver.data.toList.drop 0 = dktX4_isOver_0 := by decide +kernel
theorem dksX4_isOver_1 : cX4_isOver.data.toList.drop 23 = dktX4_isOver_1 := dk_seg dksX4_isOver_0 23 rfl rfl
theorem dX4_isOver_0 : decode cX4_isOver 0 = .ok (.aload_n 0, 1) := dk_42 (dk_at dksX4_isOver_0 0 rfl rfl)
theorem dX4_isOver_1 : decode cX4_isOver 1 = .ok (.getfield 22, 3) := dk_180 0 22 (dk_at dksX4_isOver_0 1 rfl rfl)
theorem dX4_isOver_4 : decode cX4_isOver 4 = .ok (.iconst 4, 1) := dk_7 (dk_at dksX4_isOver_0 4 rfl rfl)
theorem dX4_isOver_5 : decode cX4_isOver 5 = .ok (.if_icmp .ne 17, 3) := dk_160 0 17 (dk_at dksX4_isOver_0 5 rfl rfl)
theorem dX4_isOver_8 : decode cX4_isOver 8 = .ok (.aload_n 0, 1) := dk_42 (dk_at dksX4_isOver_0 8 rfl rfl)
theorem dX4_isOver_9 : decode cX4_isOver 9 = .ok (.getfield 29, 3) := dk_180 0 29 (dk_at dksX4_isOver_0 9 rfl rfl)
theorem dX4_isOver_12 : decode cX4_isOver 12 = .ok (.aload_n 0, 1) := dk_42 (dk_at dksX4_isOver_0 12 rfl rfl)
theorem dX4_isOver_13 : decode cX4_isOver 13 = .ok (.getfield 3, 3) := dk_180 0 3 (dk_at dksX4_isOver_0 13 rfl rfl)
theorem dX4_isOver_16 : decode cX4_isOver 16 = .ok (.getfield 58, 3) := dk_180 0 58 (dk_at dksX4_isOver_0 16 rfl rfl)
theorem dX4_isOver_19 : decode cX4_isOver 19 = .ok (.if_icmp .eq 18, 3) := dk_159 0 18 (dk_at dksX4_isOver_0 19 rfl rfl)
theorem dX4_isOver_22 : decode cX4_isOver 22 = .ok (.aload_n 0, 1) := dk_42 (dk_at dksX4_isOver_0 22 rfl rfl)
theorem dX4_isOver_23 : decode cX4_isOver 23 = .ok (.getfield 22, 3) := dk_180 0 22 (dk_at dksX4_isOver_1 0 rfl rfl)
theorem dX4_isOver_26 : decode cX4_isOver 26 = .ok (.iconst 5, 1) := dk_8 (dk_at dksX4_isOver_1 3 rfl rfl)
theorem dX4_isOver_27 : decode cX4_isOver 27 = .ok (.if_icmp .ne 14, 3) := dk_160 0 14 (dk_at dksX4_isOver_1 4 rfl rfl)
theorem dX4_isOver_30 : decode cX4_isOver 30 = .ok (.aload_n 0, 1) := dk_42 (dk_at dksX4_isOver_1 7 rfl rfl)
theorem dX4_isOver_31 : decode cX4_isOver 31 = .ok (.getfield 32, 3) := dk_180 0 32 (dk_at dksX4_isOver_1 8 rfl rfl)
theorem dX4_isOver_34 : decode cX4_isOver 34 = .ok (.ifCond .le 7, 3) := dk_158 0 7 (dk_at dksX4_isOver_1 11 rfl rfl)
theorem dX4_isOver_37 : decode cX4_isOver 37 = .ok (.iconst 1, 1) := dk_4 (dk_at dksX4_isOver_1 14 rfl rfl)
theorem dX4_isOver_38 : decode cX4_isOver 38 = .ok (.goto 4, 3) := dk_167 0 4 (dk_at dksX4_isOver_1 15 rfl rfl)
theorem dX4_isOver_41 : decode cX4_isOver 41 = .ok (.iconst 0, 1) := dk_3 (dk_at dksX4_isOver_1 18 rfl rfl)
theorem dX4_isOver_42 : decode cX4_isOver 42 = .ok (.ireturn, 1) := dk_172 (dk_at dksX4_isOver_1 19 rfl rfl)
abbrev cX4_end : ByteArray := prog_5_method_9_code
def yX4_end : MethodName := ⟨RX4, "end", "()V"⟩
def dkwX4_end_1 : List UInt8 := [181, 0, 61, 42, 3, 181, 0, 22, 177]
abbrev dktX4_end_1 : List UInt8 := dkwX4_end_1 ++ []
def dkwX4_end_0 : List UInt8 := [42, 180, 0, 22, 8, 160, 0, 12, 42, 2, 42, 180, 0, 32, 182, 0, 47, 42, 89, 180, 0, 61, 4, 96]
abbrev dktX4_end_0 : List UInt8 := dkwX4_end_0 ++ dktX4_end_1
theorem dksX4_end_0 : cX4_end.data.toList.drop 0 = dktX4_end_0 := by decide +kernel
theorem dksX4_end_1 : cX4_end.data.toList.drop 24 = dktX4_end_1 := dk_seg dksX4_end_0 24 rfl rfl
theorem dX4_end_0 : decode cX4_end 0 = .ok (.aload_n 0, 1) := dk_42 (dk_at dksX4_end_0 0 rfl rfl)
theorem dX4_end_1 : decode cX4_end 1 = .ok (.getfield 22, 3) := dk_180 0 22 (dk_at dksX4_end_0 1 rfl rfl)
theorem dX4_end_4 : decode cX4_end 4 = .ok (.iconst 5, 1) := dk_8 (dk_at dksX4_end_0 4 rfl rfl)
theorem dX4_end_5 : decode cX4_end 5 = .ok (.if_icmp .ne 12, 3) := dk_160 0 12 (dk_at dksX4_end_0 5 rfl rfl)
theorem dX4_end_8 : decode cX4_end 8 = .ok (.aload_n 0, 1) := dk_42 (dk_at dksX4_end_0 8 rfl rfl)
theorem dX4_end_9 : decode cX4_end 9 = .ok (.iconst (-1), 1) := dk_2 (dk_at dksX4_end_0 9 rfl rfl)
theorem dX4_end_10 : decode cX4_end 10 = .ok (.aload_n 0, 1) := dk_42 (dk_at dksX4_end_0 10 rfl rfl)
theorem dX4_end_11 : decode cX4_end 11 = .ok (.getfield 32, 3) := dk_180 0 32 (dk_at dksX4_end_0 11 rfl rfl)
theorem dX4_end_14 : decode cX4_end 14 = .ok (.invokevirtual 47, 3) := dk_182 0 47 (dk_at dksX4_end_0 14 rfl rfl)
theorem dX4_end_17 : decode cX4_end 17 = .ok (.aload_n 0, 1) := dk_42 (dk_at dksX4_end_0 17 rfl rfl)
theorem dX4_end_18 : decode cX4_end 18 = .ok (.dup, 1) := dk_89 (dk_at dksX4_end_0 18 rfl rfl)
theorem dX4_end_19 : decode cX4_end 19 = .ok (.getfield 61, 3) := dk_180 0 61 (dk_at dksX4_end_0 19 rfl rfl)
theorem dX4_end_22 : decode cX4_end 22 = .ok (.iconst 1, 1) := dk_4 (dk_at dksX4_end_0 22 rfl rfl)
theorem dX4_end_23 : decode cX4_end 23 = .ok (.iadd, 1) := dk_96 (dk_at dksX4_end_0 23 rfl rfl)
theorem dX4_end_24 : decode cX4_end 24 = .ok (.putfield 61, 3) := dk_181 0 61 (dk_at dksX4_end_1 0 rfl rfl)
theorem dX4_end_27 : decode cX4_end 27 = .ok (.aload_n 0, 1) := dk_42 (dk_at dksX4_end_1 3 rfl rfl)
theorem dX4_end_28 : decode cX4_end 28 = .ok (.iconst 0, 1) := dk_3 (dk_at dksX4_end_1 4 rfl rfl)
theorem dX4_end_29 : decode cX4_end 29 = .ok (.putfield 22, 3) := dk_181 0 22 (dk_at dksX4_end_1 5 rfl rfl)
theorem dX4_end_32 : decode cX4_end 32 = .ok (.return_, 1) := dk_177 (dk_at dksX4_end_1 8 rfl rfl)
abbrev cX4_put : ByteArray := prog_5_method_6_code
def yX4_put : MethodName := ⟨RX4, "put", "(II)V"⟩
def dkwX4_put_1 : List UInt8 := [180, 0, 51, 4, 96, 181, 0, 51, 177]
abbrev dktX4_put_1 : List UInt8 := dkwX4_put_1 ++ []
def dkwX4_put_0 : List UInt8 := [42, 180, 0, 15, 42, 180, 0, 51, 27, 79, 42, 180, 0, 19, 42, 180, 0, 51, 28, 79, 42, 89]
abbrev dktX4_put_0 : List UInt8 := dkwX4_put_0 ++ dktX4_put_1
theorem dksX4_put_0 : cX4_put.data.toList.drop 0 = dktX4_put_0 := by decide +kernel
theorem dksX4_put_1 : cX4_put.data.toList.drop 22 = dktX4_put_1 := dk_seg dksX4_put_0 22 rfl rfl
theorem dX4_put_0 : decode cX4_put 0 = .ok (.aload_n 0, 1) := dk_42 (dk_at dksX4_put_0 0 rfl rfl)
theorem dX4_put_1 : decode cX4_put 1 = .ok (.getfield 15, 3) := dk_180 0 15 (dk_at dksX4_put_0 1 rfl rfl)
theorem dX4_put_4 : decode cX4_put 4 = .ok (.aload_n 0, 1) := dk_42 (dk_at dksX4_put_0 4 rfl rfl)
theorem dX4_put_5 : decode cX4_put 5 = .ok (.getfield 51, 3) := dk_180 0 51 (dk_at dksX4_put_0 5 rfl rfl)
theorem dX4_put_8 : decode cX4_put 8 = .ok (.iload_n 1, 1) := dk_27 (dk_at dksX4_put_0 8 rfl rfl)
theorem dX4_put_9 : decode cX4_put 9 = .ok (.iastore, 1) := dk_79 (dk_at dksX4_put_0 9 rfl rfl)
theorem dX4_put_10 : decode cX4_put 10 = .ok (.aload_n 0, 1) := dk_42 (dk_at dksX4_put_0 10 rfl rfl)
theorem dX4_put_11 : decode cX4_put 11 = .ok (.getfield 19, 3) := dk_180 0 19 (dk_at dksX4_put_0 11 rfl rfl)
theorem dX4_put_14 : decode cX4_put 14 = .ok (.aload_n 0, 1) := dk_42 (dk_at dksX4_put_0 14 rfl rfl)
theorem dX4_put_15 : decode cX4_put 15 = .ok (.getfield 51, 3) := dk_180 0 51 (dk_at dksX4_put_0 15 rfl rfl)
theorem dX4_put_18 : decode cX4_put 18 = .ok (.iload_n 2, 1) := dk_28 (dk_at dksX4_put_0 18 rfl rfl)
theorem dX4_put_19 : decode cX4_put 19 = .ok (.iastore, 1) := dk_79 (dk_at dksX4_put_0 19 rfl rfl)
theorem dX4_put_20 : decode cX4_put 20 = .ok (.aload_n 0, 1) := dk_42 (dk_at dksX4_put_0 20 rfl rfl)
theorem dX4_put_21 : decode cX4_put 21 = .ok (.dup, 1) := dk_89 (dk_at dksX4_put_0 21 rfl rfl)
theorem dX4_put_22 : decode cX4_put 22 = .ok (.getfield 51, 3) := dk_180 0 51 (dk_at dksX4_put_1 0 rfl rfl)
theorem dX4_put_25 : decode cX4_put 25 = .ok (.iconst 1, 1) := dk_4 (dk_at dksX4_put_1 3 rfl rfl)
theorem dX4_put_26 : decode cX4_put 26 = .ok (.iadd, 1) := dk_96 (dk_at dksX4_put_1 4 rfl rfl)
theorem dX4_put_27 : decode cX4_put 27 = .ok (.putfield 51, 3) := dk_181 0 51 (dk_at dksX4_put_1 5 rfl rfl)
theorem dX4_put_30 : decode cX4_put 30 = .ok (.return_, 1) := dk_177 (dk_at dksX4_put_1 8 rfl rfl)
abbrev cX4_begins : ByteArray := prog_5_method_3_code
def yX4_begins : MethodName := ⟨RX4, "begins", "(C)Z"⟩
def dkwX4_begins_2 : List UInt8 := [167, 0, 4, 3, 4, 182, 0, 39, 172]
abbrev dktX4_begins_2 : List UInt8 := dkwX4_begins_2 ++ []
def dkwX4_begins_1 : List UInt8 := [3, 181, 0, 32, 42, 27, 16, 80, 159, 0, 13, 42, 180, 0, 26, 184, 0, 35, 153, 0, 7, 4]
abbrev dktX4_begins_1 : List UInt8 := dkwX4_begins_1 ++ dktX4_begins_2
def dkwX4_begins_0 : List UInt8 := [42, 27, 16, 80, 160, 0, 7, 2, 167, 0, 7, 27, 16, 65, 100, 181, 0, 26, 42, 3, 181, 0, 29, 42]
abbrev dktX4_begins_0 : List UInt8 := dkwX4_begins_0 ++ dktX4_begins_1
theorem dksX4_begins_0 : cX4_begins.data.toList.drop 0 = dktX4_begins_0 := by decide +kernel
theorem dksX4_begins_1 : cX4_begins.data.toList.drop 24 = dktX4_begins_1 := dk_seg dksX4_begins_0 24 rfl rfl
theorem dksX4_begins_2 : cX4_begins.data.toList.drop 46 = dktX4_begins_2 := dk_seg dksX4_begins_1 22 rfl rfl
theorem dX4_begins_0 : decode cX4_begins 0 = .ok (.aload_n 0, 1) := dk_42 (dk_at dksX4_begins_0 0 rfl rfl)
theorem dX4_begins_1 : decode cX4_begins 1 = .ok (.iload_n 1, 1) := dk_27 (dk_at dksX4_begins_0 1 rfl rfl)
theorem dX4_begins_2 : decode cX4_begins 2 = .ok (.bipush 80, 2) := dk_16 80 (dk_at dksX4_begins_0 2 rfl rfl)
theorem dX4_begins_4 : decode cX4_begins 4 = .ok (.if_icmp .ne 7, 3) := dk_160 0 7 (dk_at dksX4_begins_0 4 rfl rfl)
theorem dX4_begins_7 : decode cX4_begins 7 = .ok (.iconst (-1), 1) := dk_2 (dk_at dksX4_begins_0 7 rfl rfl)
theorem dX4_begins_8 : decode cX4_begins 8 = .ok (.goto 7, 3) := dk_167 0 7 (dk_at dksX4_begins_0 8 rfl rfl)
theorem dX4_begins_11 : decode cX4_begins 11 = .ok (.iload_n 1, 1) := dk_27 (dk_at dksX4_begins_0 11 rfl rfl)
theorem dX4_begins_12 : decode cX4_begins 12 = .ok (.bipush 65, 2) := dk_16 65 (dk_at dksX4_begins_0 12 rfl rfl)
theorem dX4_begins_14 : decode cX4_begins 14 = .ok (.isub, 1) := dk_100 (dk_at dksX4_begins_0 14 rfl rfl)
theorem dX4_begins_15 : decode cX4_begins 15 = .ok (.putfield 26, 3) := dk_181 0 26 (dk_at dksX4_begins_0 15 rfl rfl)
theorem dX4_begins_18 : decode cX4_begins 18 = .ok (.aload_n 0, 1) := dk_42 (dk_at dksX4_begins_0 18 rfl rfl)
theorem dX4_begins_19 : decode cX4_begins 19 = .ok (.iconst 0, 1) := dk_3 (dk_at dksX4_begins_0 19 rfl rfl)
theorem dX4_begins_20 : decode cX4_begins 20 = .ok (.putfield 29, 3) := dk_181 0 29 (dk_at dksX4_begins_0 20 rfl rfl)
theorem dX4_begins_23 : decode cX4_begins 23 = .ok (.aload_n 0, 1) := dk_42 (dk_at dksX4_begins_0 23 rfl rfl)
theorem dX4_begins_24 : decode cX4_begins 24 = .ok (.iconst 0, 1) := dk_3 (dk_at dksX4_begins_1 0 rfl rfl)
theorem dX4_begins_25 : decode cX4_begins 25 = .ok (.putfield 32, 3) := dk_181 0 32 (dk_at dksX4_begins_1 1 rfl rfl)
theorem dX4_begins_28 : decode cX4_begins 28 = .ok (.aload_n 0, 1) := dk_42 (dk_at dksX4_begins_1 4 rfl rfl)
theorem dX4_begins_29 : decode cX4_begins 29 = .ok (.iload_n 1, 1) := dk_27 (dk_at dksX4_begins_1 5 rfl rfl)
theorem dX4_begins_30 : decode cX4_begins 30 = .ok (.bipush 80, 2) := dk_16 80 (dk_at dksX4_begins_1 6 rfl rfl)
theorem dX4_begins_32 : decode cX4_begins 32 = .ok (.if_icmp .eq 13, 3) := dk_159 0 13 (dk_at dksX4_begins_1 8 rfl rfl)
theorem dX4_begins_35 : decode cX4_begins 35 = .ok (.aload_n 0, 1) := dk_42 (dk_at dksX4_begins_1 11 rfl rfl)
theorem dX4_begins_36 : decode cX4_begins 36 = .ok (.getfield 26, 3) := dk_180 0 26 (dk_at dksX4_begins_1 12 rfl rfl)
theorem dX4_begins_39 : decode cX4_begins 39 = .ok (.invokestatic 35, 3) := dk_184 0 35 (dk_at dksX4_begins_1 15 rfl rfl)
theorem dX4_begins_42 : decode cX4_begins 42 = .ok (.ifCond .eq 7, 3) := dk_153 0 7 (dk_at dksX4_begins_1 18 rfl rfl)
theorem dX4_begins_45 : decode cX4_begins 45 = .ok (.iconst 1, 1) := dk_4 (dk_at dksX4_begins_1 21 rfl rfl)
theorem dX4_begins_46 : decode cX4_begins 46 = .ok (.goto 4, 3) := dk_167 0 4 (dk_at dksX4_begins_2 0 rfl rfl)
theorem dX4_begins_49 : decode cX4_begins 49 = .ok (.iconst 0, 1) := dk_3 (dk_at dksX4_begins_2 3 rfl rfl)
theorem dX4_begins_50 : decode cX4_begins 50 = .ok (.iconst 1, 1) := dk_4 (dk_at dksX4_begins_2 4 rfl rfl)
theorem dX4_begins_51 : decode cX4_begins 51 = .ok (.invokevirtual 39, 3) := dk_182 0 39 (dk_at dksX4_begins_2 5 rfl rfl)
theorem dX4_begins_54 : decode cX4_begins 54 = .ok (.ireturn, 1) := dk_172 (dk_at dksX4_begins_2 8 rfl rfl)
abbrev cX4_go : ByteArray := prog_5_method_2_code
def yX4_go : MethodName := ⟨RX4, "go", "(ZI)Z"⟩
def dkwX4_go_0 : List UInt8 := [42, 27, 153, 0, 7, 28, 167, 0, 7, 42, 180, 0, 22, 181, 0, 22, 27, 172]
abbrev dktX4_go_0 : List UInt8 := dkwX4_go_0 ++ []
theorem dksX4_go_0 : cX4_go.data.toList.drop 0 = dktX4_go_0 := by decide +kernel
theorem dX4_go_0 : decode cX4_go 0 = .ok (.aload_n 0, 1) := dk_42 (dk_at dksX4_go_0 0 rfl rfl)
theorem dX4_go_1 : decode cX4_go 1 = .ok (.iload_n 1, 1) := dk_27 (dk_at dksX4_go_0 1 rfl rfl)
theorem dX4_go_2 : decode cX4_go 2 = .ok (.ifCond .eq 7, 3) := dk_153 0 7 (dk_at dksX4_go_0 2 rfl rfl)
theorem dX4_go_5 : decode cX4_go 5 = .ok (.iload_n 2, 1) := dk_28 (dk_at dksX4_go_0 5 rfl rfl)
theorem dX4_go_6 : decode cX4_go 6 = .ok (.goto 7, 3) := dk_167 0 7 (dk_at dksX4_go_0 6 rfl rfl)
theorem dX4_go_9 : decode cX4_go 9 = .ok (.aload_n 0, 1) := dk_42 (dk_at dksX4_go_0 9 rfl rfl)
theorem dX4_go_10 : decode cX4_go 10 = .ok (.getfield 22, 3) := dk_180 0 22 (dk_at dksX4_go_0 10 rfl rfl)
theorem dX4_go_13 : decode cX4_go 13 = .ok (.putfield 22, 3) := dk_181 0 22 (dk_at dksX4_go_0 13 rfl rfl)
theorem dX4_go_16 : decode cX4_go 16 = .ok (.iload_n 1, 1) := dk_27 (dk_at dksX4_go_0 16 rfl rfl)
theorem dX4_go_17 : decode cX4_go 17 = .ok (.ireturn, 1) := dk_172 (dk_at dksX4_go_0 17 rfl rfl)
abbrev cX4_takesBack : ByteArray := prog_5_method_4_code
def yX4_takesBack : MethodName := ⟨RX4, "takesBack", "(C)Z"⟩
def dkwX4_takesBack_1 : List UInt8 := [172]
abbrev dktX4_takesBack_1 : List UInt8 := dkwX4_takesBack_1 ++ []
def dkwX4_takesBack_0 : List UInt8 := [42, 16, 100, 27, 16, 48, 100, 104, 181, 0, 32, 42, 27, 16, 48, 16, 57, 184, 0, 43, 6, 182, 0, 39]
abbrev dktX4_takesBack_0 : List UInt8 := dkwX4_takesBack_0 ++ dktX4_takesBack_1
theorem dksX4_takesBack_0 : cX4_takesBack.data.toList.drop 0 = dktX4_takesBack_0 := by decide +kernel
theorem dksX4_takesBack_1 : cX4_takesBack.data.toList.drop 24 = dktX4_takesBack_1 := dk_seg dksX4_takesBack_0 24 rfl rfl
theorem dX4_takesBack_0 : decode cX4_takesBack 0 = .ok (.aload_n 0, 1) := dk_42 (dk_at dksX4_takesBack_0 0 rfl rfl)
theorem dX4_takesBack_1 : decode cX4_takesBack 1 = .ok (.bipush 100, 2) := dk_16 100 (dk_at dksX4_takesBack_0 1 rfl rfl)
theorem dX4_takesBack_3 : decode cX4_takesBack 3 = .ok (.iload_n 1, 1) := dk_27 (dk_at dksX4_takesBack_0 3 rfl rfl)
theorem dX4_takesBack_4 : decode cX4_takesBack 4 = .ok (.bipush 48, 2) := dk_16 48 (dk_at dksX4_takesBack_0 4 rfl rfl)
theorem dX4_takesBack_6 : decode cX4_takesBack 6 = .ok (.isub, 1) := dk_100 (dk_at dksX4_takesBack_0 6 rfl rfl)
theorem dX4_takesBack_7 : decode cX4_takesBack 7 = .ok (.imul, 1) := dk_104 (dk_at dksX4_takesBack_0 7 rfl rfl)
theorem dX4_takesBack_8 : decode cX4_takesBack 8 = .ok (.putfield 32, 3) := dk_181 0 32 (dk_at dksX4_takesBack_0 8 rfl rfl)
theorem dX4_takesBack_11 : decode cX4_takesBack 11 = .ok (.aload_n 0, 1) := dk_42 (dk_at dksX4_takesBack_0 11 rfl rfl)
theorem dX4_takesBack_12 : decode cX4_takesBack 12 = .ok (.iload_n 1, 1) := dk_27 (dk_at dksX4_takesBack_0 12 rfl rfl)
theorem dX4_takesBack_13 : decode cX4_takesBack 13 = .ok (.bipush 48, 2) := dk_16 48 (dk_at dksX4_takesBack_0 13 rfl rfl)
theorem dX4_takesBack_15 : decode cX4_takesBack 15 = .ok (.bipush 57, 2) := dk_16 57 (dk_at dksX4_takesBack_0 15 rfl rfl)
theorem dX4_takesBack_17 : decode cX4_takesBack 17 = .ok (.invokestatic 43, 3) := dk_184 0 43 (dk_at dksX4_takesBack_0 17 rfl rfl)
theorem dX4_takesBack_20 : decode cX4_takesBack 20 = .ok (.iconst 3, 1) := dk_6 (dk_at dksX4_takesBack_0 20 rfl rfl)
theorem dX4_takesBack_21 : decode cX4_takesBack 21 = .ok (.invokevirtual 39, 3) := dk_182 0 39 (dk_at dksX4_takesBack_0 21 rfl rfl)
theorem dX4_takesBack_24 : decode cX4_takesBack 24 = .ok (.ireturn, 1) := dk_172 (dk_at dksX4_takesBack_1 0 rfl rfl)
abbrev cX4_takesForward : ByteArray := prog_5_method_5_code
def yX4_takesForward : MethodName := ⟨RX4, "takesForward", "(C)Z"⟩
def dkwX4_takesForward_3 : List UInt8 := [181, 0, 29, 42, 28, 7, 182, 0, 39, 172]
abbrev dktX4_takesForward_3 : List UInt8 := dkwX4_takesForward_3 ++ []
def dkwX4_takesForward_2 : List UInt8 := [180, 0, 29, 96, 42, 180, 0, 32, 27, 96, 16, 48, 100, 182, 0, 47, 42, 89, 180, 0, 29, 4, 96]
abbrev dktX4_takesForward_2 : List UInt8 := dkwX4_takesForward_2 ++ dktX4_takesForward_3
def dkwX4_takesForward_1 : List UInt8 := [100, 163, 0, 7, 4, 167, 0, 4, 3, 61, 28, 153, 0, 37, 42, 7, 42, 180, 0, 26, 104, 42]
abbrev dktX4_takesForward_1 : List UInt8 := dkwX4_takesForward_1 ++ dktX4_takesForward_2
def dkwX4_takesForward_0 : List UInt8 := [27, 16, 48, 16, 57, 184, 0, 43, 153, 0, 24, 27, 16, 48, 100, 16, 10, 42, 180, 0, 32, 16, 100, 108]
abbrev dktX4_takesForward_0 : List UInt8 := dkwX4_takesForward_0 ++ dktX4_takesForward_1
theorem dksX4_takesForward_0 : cX4_takesForward.data.toList.drop 0 = dktX4_takesForward_0 := by decide +kernel
theorem dksX4_takesForward_1 : cX4_takesForward.data.toList.drop 24 = dktX4_takesForward_1 := dk_seg dksX4_takesForward_0 24 rfl rfl
theorem dksX4_takesForward_2 : cX4_takesForward.data.toList.drop 46 = dktX4_takesForward_2 := dk_seg dksX4_takesForward_1 22 rfl rfl
theorem dksX4_takesForward_3 : cX4_takesForward.data.toList.drop 69 = dktX4_takesForward_3 := dk_seg dksX4_takesForward_2 23 rfl rfl
theorem dX4_takesForward_0 : decode cX4_takesForward 0 = .ok (.iload_n 1, 1) := dk_27 (dk_at dksX4_takesForward_0 0 rfl rfl)
theorem dX4_takesForward_1 : decode cX4_takesForward 1 = .ok (.bipush 48, 2) := dk_16 48 (dk_at dksX4_takesForward_0 1 rfl rfl)
theorem dX4_takesForward_3 : decode cX4_takesForward 3 = .ok (.bipush 57, 2) := dk_16 57 (dk_at dksX4_takesForward_0 3 rfl rfl)
theorem dX4_takesForward_5 : decode cX4_takesForward 5 = .ok (.invokestatic 43, 3) := dk_184 0 43 (dk_at dksX4_takesForward_0 5 rfl rfl)
theorem dX4_takesForward_8 : decode cX4_takesForward 8 = .ok (.ifCond .eq 24, 3) := dk_153 0 24 (dk_at dksX4_takesForward_0 8 rfl rfl)
theorem dX4_takesForward_11 : decode cX4_takesForward 11 = .ok (.iload_n 1, 1) := dk_27 (dk_at dksX4_takesForward_0 11 rfl rfl)
theorem dX4_takesForward_12 : decode cX4_takesForward 12 = .ok (.bipush 48, 2) := dk_16 48 (dk_at dksX4_takesForward_0 12 rfl rfl)
theorem dX4_takesForward_14 : decode cX4_takesForward 14 = .ok (.isub, 1) := dk_100 (dk_at dksX4_takesForward_0 14 rfl rfl)
theorem dX4_takesForward_15 : decode cX4_takesForward 15 = .ok (.bipush 10, 2) := dk_16 10 (dk_at dksX4_takesForward_0 15 rfl rfl)
theorem dX4_takesForward_17 : decode cX4_takesForward 17 = .ok (.aload_n 0, 1) := dk_42 (dk_at dksX4_takesForward_0 17 rfl rfl)
theorem dX4_takesForward_18 : decode cX4_takesForward 18 = .ok (.getfield 32, 3) := dk_180 0 32 (dk_at dksX4_takesForward_0 18 rfl rfl)
theorem dX4_takesForward_21 : decode cX4_takesForward 21 = .ok (.bipush 100, 2) := dk_16 100 (dk_at dksX4_takesForward_0 21 rfl rfl)
theorem dX4_takesForward_23 : decode cX4_takesForward 23 = .ok (.idiv, 1) := dk_108 (dk_at dksX4_takesForward_0 23 rfl rfl)
theorem dX4_takesForward_24 : decode cX4_takesForward 24 = .ok (.isub, 1) := dk_100 (dk_at dksX4_takesForward_1 0 rfl rfl)
theorem dX4_takesForward_25 : decode cX4_takesForward 25 = .ok (.if_icmp .gt 7, 3) := dk_163 0 7 (dk_at dksX4_takesForward_1 1 rfl rfl)
theorem dX4_takesForward_28 : decode cX4_takesForward 28 = .ok (.iconst 1, 1) := dk_4 (dk_at dksX4_takesForward_1 4 rfl rfl)
theorem dX4_takesForward_29 : decode cX4_takesForward 29 = .ok (.goto 4, 3) := dk_167 0 4 (dk_at dksX4_takesForward_1 5 rfl rfl)
theorem dX4_takesForward_32 : decode cX4_takesForward 32 = .ok (.iconst 0, 1) := dk_3 (dk_at dksX4_takesForward_1 8 rfl rfl)
theorem dX4_takesForward_33 : decode cX4_takesForward 33 = .ok (.istore_n 2, 1) := dk_61 (dk_at dksX4_takesForward_1 9 rfl rfl)
theorem dX4_takesForward_34 : decode cX4_takesForward 34 = .ok (.iload_n 2, 1) := dk_28 (dk_at dksX4_takesForward_1 10 rfl rfl)
theorem dX4_takesForward_35 : decode cX4_takesForward 35 = .ok (.ifCond .eq 37, 3) := dk_153 0 37 (dk_at dksX4_takesForward_1 11 rfl rfl)
theorem dX4_takesForward_38 : decode cX4_takesForward 38 = .ok (.aload_n 0, 1) := dk_42 (dk_at dksX4_takesForward_1 14 rfl rfl)
theorem dX4_takesForward_39 : decode cX4_takesForward 39 = .ok (.iconst 4, 1) := dk_7 (dk_at dksX4_takesForward_1 15 rfl rfl)
theorem dX4_takesForward_40 : decode cX4_takesForward 40 = .ok (.aload_n 0, 1) := dk_42 (dk_at dksX4_takesForward_1 16 rfl rfl)
theorem dX4_takesForward_41 : decode cX4_takesForward 41 = .ok (.getfield 26, 3) := dk_180 0 26 (dk_at dksX4_takesForward_1 17 rfl rfl)
theorem dX4_takesForward_44 : decode cX4_takesForward 44 = .ok (.imul, 1) := dk_104 (dk_at dksX4_takesForward_1 20 rfl rfl)
theorem dX4_takesForward_45 : decode cX4_takesForward 45 = .ok (.aload_n 0, 1) := dk_42 (dk_at dksX4_takesForward_1 21 rfl rfl)
theorem dX4_takesForward_46 : decode cX4_takesForward 46 = .ok (.getfield 29, 3) := dk_180 0 29 (dk_at dksX4_takesForward_2 0 rfl rfl)
theorem dX4_takesForward_49 : decode cX4_takesForward 49 = .ok (.iadd, 1) := dk_96 (dk_at dksX4_takesForward_2 3 rfl rfl)
theorem dX4_takesForward_50 : decode cX4_takesForward 50 = .ok (.aload_n 0, 1) := dk_42 (dk_at dksX4_takesForward_2 4 rfl rfl)
theorem dX4_takesForward_51 : decode cX4_takesForward 51 = .ok (.getfield 32, 3) := dk_180 0 32 (dk_at dksX4_takesForward_2 5 rfl rfl)
theorem dX4_takesForward_54 : decode cX4_takesForward 54 = .ok (.iload_n 1, 1) := dk_27 (dk_at dksX4_takesForward_2 8 rfl rfl)
theorem dX4_takesForward_55 : decode cX4_takesForward 55 = .ok (.iadd, 1) := dk_96 (dk_at dksX4_takesForward_2 9 rfl rfl)
theorem dX4_takesForward_56 : decode cX4_takesForward 56 = .ok (.bipush 48, 2) := dk_16 48 (dk_at dksX4_takesForward_2 10 rfl rfl)
theorem dX4_takesForward_58 : decode cX4_takesForward 58 = .ok (.isub, 1) := dk_100 (dk_at dksX4_takesForward_2 12 rfl rfl)
theorem dX4_takesForward_59 : decode cX4_takesForward 59 = .ok (.invokevirtual 47, 3) := dk_182 0 47 (dk_at dksX4_takesForward_2 13 rfl rfl)
theorem dX4_takesForward_62 : decode cX4_takesForward 62 = .ok (.aload_n 0, 1) := dk_42 (dk_at dksX4_takesForward_2 16 rfl rfl)
theorem dX4_takesForward_63 : decode cX4_takesForward 63 = .ok (.dup, 1) := dk_89 (dk_at dksX4_takesForward_2 17 rfl rfl)
theorem dX4_takesForward_64 : decode cX4_takesForward 64 = .ok (.getfield 29, 3) := dk_180 0 29 (dk_at dksX4_takesForward_2 18 rfl rfl)
theorem dX4_takesForward_67 : decode cX4_takesForward 67 = .ok (.iconst 1, 1) := dk_4 (dk_at dksX4_takesForward_2 21 rfl rfl)
theorem dX4_takesForward_68 : decode cX4_takesForward 68 = .ok (.iadd, 1) := dk_96 (dk_at dksX4_takesForward_2 22 rfl rfl)
theorem dX4_takesForward_69 : decode cX4_takesForward 69 = .ok (.putfield 29, 3) := dk_181 0 29 (dk_at dksX4_takesForward_3 0 rfl rfl)
theorem dX4_takesForward_72 : decode cX4_takesForward 72 = .ok (.aload_n 0, 1) := dk_42 (dk_at dksX4_takesForward_3 3 rfl rfl)
theorem dX4_takesForward_73 : decode cX4_takesForward 73 = .ok (.iload_n 2, 1) := dk_28 (dk_at dksX4_takesForward_3 4 rfl rfl)
theorem dX4_takesForward_74 : decode cX4_takesForward 74 = .ok (.iconst 4, 1) := dk_7 (dk_at dksX4_takesForward_3 5 rfl rfl)
theorem dX4_takesForward_75 : decode cX4_takesForward 75 = .ok (.invokevirtual 39, 3) := dk_182 0 39 (dk_at dksX4_takesForward_3 6 rfl rfl)
theorem dX4_takesForward_78 : decode cX4_takesForward 78 = .ok (.ireturn, 1) := dk_172 (dk_at dksX4_takesForward_3 9 rfl rfl)
abbrev cX4_takesLetter : ByteArray := prog_5_method_7_code
def yX4_takesLetter : MethodName := ⟨RX4, "takesLetter", "(C)Z"⟩
def dkwX4_takesLetter_2 : List UInt8 := [167, 0, 7, 42, 180, 0, 32, 181, 0, 32, 28, 172]
abbrev dktX4_takesLetter_2 : List UInt8 := dkwX4_takesLetter_2 ++ []
def dkwX4_takesLetter_1 : List UInt8 := [167, 0, 4, 3, 61, 42, 28, 153, 0, 19, 7, 42, 180, 0, 32, 104, 27, 96, 16, 65, 100, 4, 96]
abbrev dktX4_takesLetter_1 : List UInt8 := dkwX4_takesLetter_1 ++ dktX4_takesLetter_2
def dkwX4_takesLetter_0 : List UInt8 := [27, 16, 65, 100, 184, 0, 35, 153, 0, 18, 42, 180, 0, 32, 184, 0, 54, 7, 162, 0, 7, 4]
abbrev dktX4_takesLetter_0 : List UInt8 := dkwX4_takesLetter_0 ++ dktX4_takesLetter_1
theorem dksX4_takesLetter_0 : cX4_takesLetter.data.toList.drop 0 = dktX4_takesLetter_0 := by decide +kernel
theorem dksX4_takesLetter_1 : cX4_takesLetter.data.toList.drop 22 = dktX4_takesLetter_1 := dk_seg dksX4_takesLetter_0 22 rfl rfl
theorem dksX4_takesLetter_2 : cX4_takesLetter.data.toList.drop 45 = dktX4_takesLetter_2 := dk_seg dksX4_takesLetter_1 23 rfl rfl
theorem dX4_takesLetter_0 : decode cX4_takesLetter 0 = .ok (.iload_n 1, 1) := dk_27 (dk_at dksX4_takesLetter_0 0 rfl rfl)
theorem dX4_takesLetter_1 : decode cX4_takesLetter 1 = .ok (.bipush 65, 2) := dk_16 65 (dk_at dksX4_takesLetter_0 1 rfl rfl)
theorem dX4_takesLetter_3 : decode cX4_takesLetter 3 = .ok (.isub, 1) := dk_100 (dk_at dksX4_takesLetter_0 3 rfl rfl)
theorem dX4_takesLetter_4 : decode cX4_takesLetter 4 = .ok (.invokestatic 35, 3) := dk_184 0 35 (dk_at dksX4_takesLetter_0 4 rfl rfl)
theorem dX4_takesLetter_7 : decode cX4_takesLetter 7 = .ok (.ifCond .eq 18, 3) := dk_153 0 18 (dk_at dksX4_takesLetter_0 7 rfl rfl)
theorem dX4_takesLetter_10 : decode cX4_takesLetter 10 = .ok (.aload_n 0, 1) := dk_42 (dk_at dksX4_takesLetter_0 10 rfl rfl)
theorem dX4_takesLetter_11 : decode cX4_takesLetter 11 = .ok (.getfield 32, 3) := dk_180 0 32 (dk_at dksX4_takesLetter_0 11 rfl rfl)
theorem dX4_takesLetter_14 : decode cX4_takesLetter 14 = .ok (.invokestatic 54, 3) := dk_184 0 54 (dk_at dksX4_takesLetter_0 14 rfl rfl)
theorem dX4_takesLetter_17 : decode cX4_takesLetter 17 = .ok (.iconst 4, 1) := dk_7 (dk_at dksX4_takesLetter_0 17 rfl rfl)
theorem dX4_takesLetter_18 : decode cX4_takesLetter 18 = .ok (.if_icmp .ge 7, 3) := dk_162 0 7 (dk_at dksX4_takesLetter_0 18 rfl rfl)
theorem dX4_takesLetter_21 : decode cX4_takesLetter 21 = .ok (.iconst 1, 1) := dk_4 (dk_at dksX4_takesLetter_0 21 rfl rfl)
theorem dX4_takesLetter_22 : decode cX4_takesLetter 22 = .ok (.goto 4, 3) := dk_167 0 4 (dk_at dksX4_takesLetter_1 0 rfl rfl)
theorem dX4_takesLetter_25 : decode cX4_takesLetter 25 = .ok (.iconst 0, 1) := dk_3 (dk_at dksX4_takesLetter_1 3 rfl rfl)
theorem dX4_takesLetter_26 : decode cX4_takesLetter 26 = .ok (.istore_n 2, 1) := dk_61 (dk_at dksX4_takesLetter_1 4 rfl rfl)
theorem dX4_takesLetter_27 : decode cX4_takesLetter 27 = .ok (.aload_n 0, 1) := dk_42 (dk_at dksX4_takesLetter_1 5 rfl rfl)
theorem dX4_takesLetter_28 : decode cX4_takesLetter 28 = .ok (.iload_n 2, 1) := dk_28 (dk_at dksX4_takesLetter_1 6 rfl rfl)
theorem dX4_takesLetter_29 : decode cX4_takesLetter 29 = .ok (.ifCond .eq 19, 3) := dk_153 0 19 (dk_at dksX4_takesLetter_1 7 rfl rfl)
theorem dX4_takesLetter_32 : decode cX4_takesLetter 32 = .ok (.iconst 4, 1) := dk_7 (dk_at dksX4_takesLetter_1 10 rfl rfl)
theorem dX4_takesLetter_33 : decode cX4_takesLetter 33 = .ok (.aload_n 0, 1) := dk_42 (dk_at dksX4_takesLetter_1 11 rfl rfl)
theorem dX4_takesLetter_34 : decode cX4_takesLetter 34 = .ok (.getfield 32, 3) := dk_180 0 32 (dk_at dksX4_takesLetter_1 12 rfl rfl)
theorem dX4_takesLetter_37 : decode cX4_takesLetter 37 = .ok (.imul, 1) := dk_104 (dk_at dksX4_takesLetter_1 15 rfl rfl)
theorem dX4_takesLetter_38 : decode cX4_takesLetter 38 = .ok (.iload_n 1, 1) := dk_27 (dk_at dksX4_takesLetter_1 16 rfl rfl)
theorem dX4_takesLetter_39 : decode cX4_takesLetter 39 = .ok (.iadd, 1) := dk_96 (dk_at dksX4_takesLetter_1 17 rfl rfl)
theorem dX4_takesLetter_40 : decode cX4_takesLetter 40 = .ok (.bipush 65, 2) := dk_16 65 (dk_at dksX4_takesLetter_1 18 rfl rfl)
theorem dX4_takesLetter_42 : decode cX4_takesLetter 42 = .ok (.isub, 1) := dk_100 (dk_at dksX4_takesLetter_1 20 rfl rfl)
theorem dX4_takesLetter_43 : decode cX4_takesLetter 43 = .ok (.iconst 1, 1) := dk_4 (dk_at dksX4_takesLetter_1 21 rfl rfl)
theorem dX4_takesLetter_44 : decode cX4_takesLetter 44 = .ok (.iadd, 1) := dk_96 (dk_at dksX4_takesLetter_1 22 rfl rfl)
theorem dX4_takesLetter_45 : decode cX4_takesLetter 45 = .ok (.goto 7, 3) := dk_167 0 7 (dk_at dksX4_takesLetter_2 0 rfl rfl)
theorem dX4_takesLetter_48 : decode cX4_takesLetter 48 = .ok (.aload_n 0, 1) := dk_42 (dk_at dksX4_takesLetter_2 3 rfl rfl)
theorem dX4_takesLetter_49 : decode cX4_takesLetter 49 = .ok (.getfield 32, 3) := dk_180 0 32 (dk_at dksX4_takesLetter_2 4 rfl rfl)
theorem dX4_takesLetter_52 : decode cX4_takesLetter 52 = .ok (.putfield 32, 3) := dk_181 0 32 (dk_at dksX4_takesLetter_2 7 rfl rfl)
theorem dX4_takesLetter_55 : decode cX4_takesLetter 55 = .ok (.iload_n 2, 1) := dk_28 (dk_at dksX4_takesLetter_2 10 rfl rfl)
theorem dX4_takesLetter_56 : decode cX4_takesLetter 56 = .ok (.ireturn, 1) := dk_172 (dk_at dksX4_takesLetter_2 11 rfl rfl)
abbrev cX4_isComplete : ByteArray := prog_5_method_12_code
def yX4_isComplete : MethodName := ⟨RX4, "isComplete", "()Z"⟩
def dkwX4_isComplete_1 : List UInt8 := [4, 167, 0, 4, 3, 60, 27, 153, 0, 7, 42, 182, 0, 68, 27, 172]
abbrev dktX4_isComplete_1 : List UInt8 := dkwX4_isComplete_1 ++ []
def dkwX4_isComplete_0 : List UInt8 := [42, 180, 0, 84, 42, 180, 0, 3, 180, 0, 87, 182, 0, 91, 160, 0, 14, 42, 182, 0, 64, 153, 0, 7]
abbrev dktX4_isComplete_0 : List UInt8 := dkwX4_isComplete_0 ++ dktX4_isComplete_1
theorem dksX4_isComplete_0 : cX4_isComplete.data.toList.drop 0 = dktX4_isComplete_0 := by decide +kernel
theorem dksX4_isComplete_1 : cX4_isComplete.data.toList.drop 24 = dktX4_isComplete_1 := dk_seg dksX4_isComplete_0 24 rfl rfl
theorem dX4_isComplete_0 : decode cX4_isComplete 0 = .ok (.aload_n 0, 1) := dk_42 (dk_at dksX4_isComplete_0 0 rfl rfl)
theorem dX4_isComplete_1 : decode cX4_isComplete 1 = .ok (.getfield 84, 3) := dk_180 0 84 (dk_at dksX4_isComplete_0 1 rfl rfl)
theorem dX4_isComplete_4 : decode cX4_isComplete 4 = .ok (.aload_n 0, 1) := dk_42 (dk_at dksX4_isComplete_0 4 rfl rfl)
theorem dX4_isComplete_5 : decode cX4_isComplete 5 = .ok (.getfield 3, 3) := dk_180 0 3 (dk_at dksX4_isComplete_0 5 rfl rfl)
theorem dX4_isComplete_8 : decode cX4_isComplete 8 = .ok (.getfield 87, 3) := dk_180 0 87 (dk_at dksX4_isComplete_0 8 rfl rfl)
theorem dX4_isComplete_11 : decode cX4_isComplete 11 = .ok (.invokevirtual 91, 3) := dk_182 0 91 (dk_at dksX4_isComplete_0 11 rfl rfl)
theorem dX4_isComplete_14 : decode cX4_isComplete 14 = .ok (.if_icmp .ne 14, 3) := dk_160 0 14 (dk_at dksX4_isComplete_0 14 rfl rfl)
theorem dX4_isComplete_17 : decode cX4_isComplete 17 = .ok (.aload_n 0, 1) := dk_42 (dk_at dksX4_isComplete_0 17 rfl rfl)
theorem dX4_isComplete_18 : decode cX4_isComplete 18 = .ok (.invokevirtual 64, 3) := dk_182 0 64 (dk_at dksX4_isComplete_0 18 rfl rfl)
theorem dX4_isComplete_21 : decode cX4_isComplete 21 = .ok (.ifCond .eq 7, 3) := dk_153 0 7 (dk_at dksX4_isComplete_0 21 rfl rfl)
theorem dX4_isComplete_24 : decode cX4_isComplete 24 = .ok (.iconst 1, 1) := dk_4 (dk_at dksX4_isComplete_1 0 rfl rfl)
theorem dX4_isComplete_25 : decode cX4_isComplete 25 = .ok (.goto 4, 3) := dk_167 0 4 (dk_at dksX4_isComplete_1 1 rfl rfl)
theorem dX4_isComplete_28 : decode cX4_isComplete 28 = .ok (.iconst 0, 1) := dk_3 (dk_at dksX4_isComplete_1 4 rfl rfl)
theorem dX4_isComplete_29 : decode cX4_isComplete 29 = .ok (.istore_n 1, 1) := dk_60 (dk_at dksX4_isComplete_1 5 rfl rfl)
theorem dX4_isComplete_30 : decode cX4_isComplete 30 = .ok (.iload_n 1, 1) := dk_27 (dk_at dksX4_isComplete_1 6 rfl rfl)
theorem dX4_isComplete_31 : decode cX4_isComplete 31 = .ok (.ifCond .eq 7, 3) := dk_153 0 7 (dk_at dksX4_isComplete_1 7 rfl rfl)
theorem dX4_isComplete_34 : decode cX4_isComplete 34 = .ok (.aload_n 0, 1) := dk_42 (dk_at dksX4_isComplete_1 10 rfl rfl)
theorem dX4_isComplete_35 : decode cX4_isComplete 35 = .ok (.invokevirtual 68, 3) := dk_182 0 68 (dk_at dksX4_isComplete_1 11 rfl rfl)
theorem dX4_isComplete_38 : decode cX4_isComplete 38 = .ok (.iload_n 1, 1) := dk_27 (dk_at dksX4_isComplete_1 14 rfl rfl)
theorem dX4_isComplete_39 : decode cX4_isComplete 39 = .ok (.ireturn, 1) := dk_172 (dk_at dksX4_isComplete_1 15 rfl rfl)
abbrev cX4_carryOut : ByteArray := prog_5_method_13_code
def yX4_carryOut : MethodName := ⟨RX4, "carryOut", "()V"⟩
def dkwX4_carryOut_2 : List UInt8 := [180, 0, 109, 42, 180, 0, 15, 27, 46, 42, 180, 0, 19, 27, 46, 79, 132, 1, 1, 167, 255, 191, 177]
abbrev dktX4_carryOut_2 : List UInt8 := dkwX4_carryOut_2 ++ []
def dkwX4_carryOut_1 : List UInt8 := [42, 180, 0, 19, 27, 46, 181, 0, 103, 42, 180, 0, 3, 3, 181, 0, 106, 167, 0, 23, 42, 180, 0, 3]
abbrev dktX4_carryOut_1 : List UInt8 := dkwX4_carryOut_1 ++ dktX4_carryOut_2
def dkwX4_carryOut_0 : List UInt8 := [3, 60, 27, 42, 180, 0, 51, 162, 0, 63, 42, 180, 0, 15, 27, 46, 2, 160, 0, 27, 42, 180, 0, 3]
abbrev dktX4_carryOut_0 : List UInt8 := dkwX4_carryOut_0 ++ dktX4_carryOut_1
theorem dksX4_carryOut_0 : cX4_carryOut.data.toList.drop 0 = dktX4_carryOut_0 := by decide +kernel
theorem dksX4_carryOut_1 : cX4_carryOut.data.toList.drop 24 = dktX4_carryOut_1 := dk_seg dksX4_carryOut_0 24 rfl rfl
theorem dksX4_carryOut_2 : cX4_carryOut.data.toList.drop 48 = dktX4_carryOut_2 := dk_seg dksX4_carryOut_1 24 rfl rfl
theorem dX4_carryOut_0 : decode cX4_carryOut 0 = .ok (.iconst 0, 1) := dk_3 (dk_at dksX4_carryOut_0 0 rfl rfl)
theorem dX4_carryOut_1 : decode cX4_carryOut 1 = .ok (.istore_n 1, 1) := dk_60 (dk_at dksX4_carryOut_0 1 rfl rfl)
theorem dX4_carryOut_2 : decode cX4_carryOut 2 = .ok (.iload_n 1, 1) := dk_27 (dk_at dksX4_carryOut_0 2 rfl rfl)
theorem dX4_carryOut_3 : decode cX4_carryOut 3 = .ok (.aload_n 0, 1) := dk_42 (dk_at dksX4_carryOut_0 3 rfl rfl)
theorem dX4_carryOut_4 : decode cX4_carryOut 4 = .ok (.getfield 51, 3) := dk_180 0 51 (dk_at dksX4_carryOut_0 4 rfl rfl)
theorem dX4_carryOut_7 : decode cX4_carryOut 7 = .ok (.if_icmp .ge 63, 3) := dk_162 0 63 (dk_at dksX4_carryOut_0 7 rfl rfl)
theorem dX4_carryOut_10 : decode cX4_carryOut 10 = .ok (.aload_n 0, 1) := dk_42 (dk_at dksX4_carryOut_0 10 rfl rfl)
theorem dX4_carryOut_11 : decode cX4_carryOut 11 = .ok (.getfield 15, 3) := dk_180 0 15 (dk_at dksX4_carryOut_0 11 rfl rfl)
theorem dX4_carryOut_14 : decode cX4_carryOut 14 = .ok (.iload_n 1, 1) := dk_27 (dk_at dksX4_carryOut_0 14 rfl rfl)
theorem dX4_carryOut_15 : decode cX4_carryOut 15 = .ok (.iaload, 1) := dk_46 (dk_at dksX4_carryOut_0 15 rfl rfl)
theorem dX4_carryOut_16 : decode cX4_carryOut 16 = .ok (.iconst (-1), 1) := dk_2 (dk_at dksX4_carryOut_0 16 rfl rfl)
theorem dX4_carryOut_17 : decode cX4_carryOut 17 = .ok (.if_icmp .ne 27, 3) := dk_160 0 27 (dk_at dksX4_carryOut_0 17 rfl rfl)
theorem dX4_carryOut_20 : decode cX4_carryOut 20 = .ok (.aload_n 0, 1) := dk_42 (dk_at dksX4_carryOut_0 20 rfl rfl)
theorem dX4_carryOut_21 : decode cX4_carryOut 21 = .ok (.getfield 3, 3) := dk_180 0 3 (dk_at dksX4_carryOut_0 21 rfl rfl)
theorem dX4_carryOut_24 : decode cX4_carryOut 24 = .ok (.aload_n 0, 1) := dk_42 (dk_at dksX4_carryOut_1 0 rfl rfl)
theorem dX4_carryOut_25 : decode cX4_carryOut 25 = .ok (.getfield 19, 3) := dk_180 0 19 (dk_at dksX4_carryOut_1 1 rfl rfl)
theorem dX4_carryOut_28 : decode cX4_carryOut 28 = .ok (.iload_n 1, 1) := dk_27 (dk_at dksX4_carryOut_1 4 rfl rfl)
theorem dX4_carryOut_29 : decode cX4_carryOut 29 = .ok (.iaload, 1) := dk_46 (dk_at dksX4_carryOut_1 5 rfl rfl)
theorem dX4_carryOut_30 : decode cX4_carryOut 30 = .ok (.putfield 103, 3) := dk_181 0 103 (dk_at dksX4_carryOut_1 6 rfl rfl)
theorem dX4_carryOut_33 : decode cX4_carryOut 33 = .ok (.aload_n 0, 1) := dk_42 (dk_at dksX4_carryOut_1 9 rfl rfl)
theorem dX4_carryOut_34 : decode cX4_carryOut 34 = .ok (.getfield 3, 3) := dk_180 0 3 (dk_at dksX4_carryOut_1 10 rfl rfl)
theorem dX4_carryOut_37 : decode cX4_carryOut 37 = .ok (.iconst 0, 1) := dk_3 (dk_at dksX4_carryOut_1 13 rfl rfl)
theorem dX4_carryOut_38 : decode cX4_carryOut 38 = .ok (.putfield 106, 3) := dk_181 0 106 (dk_at dksX4_carryOut_1 14 rfl rfl)
theorem dX4_carryOut_41 : decode cX4_carryOut 41 = .ok (.goto 23, 3) := dk_167 0 23 (dk_at dksX4_carryOut_1 17 rfl rfl)
theorem dX4_carryOut_44 : decode cX4_carryOut 44 = .ok (.aload_n 0, 1) := dk_42 (dk_at dksX4_carryOut_1 20 rfl rfl)
theorem dX4_carryOut_45 : decode cX4_carryOut 45 = .ok (.getfield 3, 3) := dk_180 0 3 (dk_at dksX4_carryOut_1 21 rfl rfl)
theorem dX4_carryOut_48 : decode cX4_carryOut 48 = .ok (.getfield 109, 3) := dk_180 0 109 (dk_at dksX4_carryOut_2 0 rfl rfl)
theorem dX4_carryOut_51 : decode cX4_carryOut 51 = .ok (.aload_n 0, 1) := dk_42 (dk_at dksX4_carryOut_2 3 rfl rfl)
theorem dX4_carryOut_52 : decode cX4_carryOut 52 = .ok (.getfield 15, 3) := dk_180 0 15 (dk_at dksX4_carryOut_2 4 rfl rfl)
theorem dX4_carryOut_55 : decode cX4_carryOut 55 = .ok (.iload_n 1, 1) := dk_27 (dk_at dksX4_carryOut_2 7 rfl rfl)
theorem dX4_carryOut_56 : decode cX4_carryOut 56 = .ok (.iaload, 1) := dk_46 (dk_at dksX4_carryOut_2 8 rfl rfl)
theorem dX4_carryOut_57 : decode cX4_carryOut 57 = .ok (.aload_n 0, 1) := dk_42 (dk_at dksX4_carryOut_2 9 rfl rfl)
theorem dX4_carryOut_58 : decode cX4_carryOut 58 = .ok (.getfield 19, 3) := dk_180 0 19 (dk_at dksX4_carryOut_2 10 rfl rfl)
theorem dX4_carryOut_61 : decode cX4_carryOut 61 = .ok (.iload_n 1, 1) := dk_27 (dk_at dksX4_carryOut_2 13 rfl rfl)
theorem dX4_carryOut_62 : decode cX4_carryOut 62 = .ok (.iaload, 1) := dk_46 (dk_at dksX4_carryOut_2 14 rfl rfl)
theorem dX4_carryOut_63 : decode cX4_carryOut 63 = .ok (.iastore, 1) := dk_79 (dk_at dksX4_carryOut_2 15 rfl rfl)
theorem dX4_carryOut_64 : decode cX4_carryOut 64 = .ok (.iinc 1 1, 3) := dk_132 1 1 (dk_at dksX4_carryOut_2 16 rfl rfl)
theorem dX4_carryOut_67 : decode cX4_carryOut 67 = .ok (.goto (-65), 3) := dk_167 255 191 (dk_at dksX4_carryOut_2 19 rfl rfl)
theorem dX4_carryOut_70 : decode cX4_carryOut 70 = .ok (.return_, 1) := dk_177 (dk_at dksX4_carryOut_2 22 rfl rfl)
theorem q108 : (Jvm.Cond.initialized "FlashRatchet$Reader") ∈ lw_all := lw_g (lw_at lw_m1 24 rfl) rfl
theorem q174 : (Jvm.Cond.fieldLinkNest "FlashRatchet$Reader" (58 : Nat) "FlashRatchet" "positions" "I" "FlashRatchet") ∈ lw_tbl := lw_at lw_m1 90 rfl
theorem q176 : (Jvm.Cond.fieldLinkNest "FlashRatchet$Reader" (109 : Nat) "FlashRatchet" "numbers" "[I" "FlashRatchet") ∈ lw_tbl := lw_at lw_m1 92 rfl
theorem q182 : (Jvm.Cond.fieldLinkNest "FlashRatchet$Reader" (103 : Nat) "FlashRatchet" "program" "I" "FlashRatchet") ∈ lw_tbl := lw_at lw_m1 98 rfl
theorem q185 : (Jvm.Cond.fieldLinkNest "FlashRatchet$Reader" (106 : Nat) "FlashRatchet" "index" "I" "FlashRatchet") ∈ lw_tbl := lw_at lw_m1 101 rfl
theorem q195 : (Jvm.Cond.fieldLinkNest "FlashRatchet$Reader" (87 : Nat) "FlashRatchet" "buffer" "Ljava/lang/StringBuilder;" "FlashRatchet") ∈ lw_tbl := lw_at lw_m1 111 rfl
theorem q577 : (Jvm.Cond.instantiable "FlashRatchet$Reader" (10 : Nat)) ∈ lw_all := lw_g (lw_at lw_m3 13 rfl) rfl
theorem q579 : (Jvm.Cond.instanceMethod ({ cls := "FlashRatchet$Reader", name := "<init>", desc := "(LFlashRatchet;)V" } : Jvm.MethodName)) ∈ lw_all := lw_g (lw_at lw_m3 15 rfl) rfl
theorem q580 : (Jvm.Cond.code ({ cls := "FlashRatchet$Reader", name := "<init>", desc := "(LFlashRatchet;)V" } : Jvm.MethodName) prog_5_method_1_code (2 : Nat) (Option.none : Option Jvm.ClassFile.FieldType)) ∈ lw_all := lw_g (lw_at lw_m3 16 rfl) rfl
theorem q581 : (Jvm.Cond.methodLink "FlashRatchet$Reader" (9 : Nat) ({ cls := "java/lang/Object", name := "<init>", desc := "()V" } : Jvm.MethodName)) ∈ lw_all := lw_g (lw_at lw_m3 17 rfl) rfl
theorem q582 : (Jvm.Cond.fieldLink "FlashRatchet$Reader" (15 : Nat) "FlashRatchet$Reader" "what" "[I") ∈ lw_all := lw_g (lw_at lw_m3 18 rfl) rfl
theorem q583 : (Jvm.Cond.fieldLink "FlashRatchet$Reader" (19 : Nat) "FlashRatchet$Reader" "value" "[I") ∈ lw_all := lw_g (lw_at lw_m3 19 rfl) rfl
theorem q584 : (Jvm.Cond.fieldLink "FlashRatchet$Reader" (51 : Nat) "FlashRatchet$Reader" "read" "I") ∈ lw_all := lw_g (lw_at lw_m3 20 rfl) rfl
theorem q585 : (Jvm.Cond.fieldLink "FlashRatchet$Reader" (61 : Nat) "FlashRatchet$Reader" "items" "I") ∈ lw_all := lw_g (lw_at lw_m3 21 rfl) rfl
theorem q587 : (Jvm.Cond.fieldLink "FlashRatchet$Reader" (84 : Nat) "FlashRatchet$Reader" "at" "I") ∈ lw_all := lw_g (lw_at lw_m3 23 rfl) rfl
theorem q589 : (Jvm.Cond.fieldLink "FlashRatchet$Reader" (22 : Nat) "FlashRatchet$Reader" "part" "I") ∈ lw_all := lw_g (lw_at lw_m3 25 rfl) rfl
theorem q590 : (Jvm.Cond.fieldLink "FlashRatchet$Reader" (26 : Nat) "FlashRatchet$Reader" "lever" "I") ∈ lw_all := lw_g (lw_at lw_m3 26 rfl) rfl
theorem q591 : (Jvm.Cond.fieldLink "FlashRatchet$Reader" (29 : Nat) "FlashRatchet$Reader" "pairs" "I") ∈ lw_all := lw_g (lw_at lw_m3 27 rfl) rfl
theorem q592 : (Jvm.Cond.fieldLink "FlashRatchet$Reader" (32 : Nat) "FlashRatchet$Reader" "number" "I") ∈ lw_all := lw_g (lw_at lw_m3 28 rfl) rfl
theorem q593 : (Jvm.Cond.fieldLink "FlashRatchet$Reader" (3 : Nat) "FlashRatchet$Reader" "this$0" "LFlashRatchet;") ∈ lw_all := lw_g (lw_at lw_m3 29 rfl) rfl
theorem q594 : (Jvm.Cond.laysFinal "FlashRatchet$Reader" "FlashRatchet$Reader" "what" "[I") ∈ lw_all := lw_g (lw_at lw_m3 30 rfl) rfl
theorem q595 : (Jvm.Cond.soleField "FlashRatchet$Reader" "what") ∈ lw_all := lw_g (lw_at lw_m3 31 rfl) rfl
theorem q596 : (Jvm.Cond.laysFinal "FlashRatchet$Reader" "FlashRatchet$Reader" "value" "[I") ∈ lw_all := lw_g (lw_at lw_m3 32 rfl) rfl
theorem q597 : (Jvm.Cond.soleField "FlashRatchet$Reader" "value") ∈ lw_all := lw_g (lw_at lw_m3 33 rfl) rfl
theorem q598 : (Jvm.Cond.lays "FlashRatchet$Reader" "FlashRatchet$Reader" "read" "I") ∈ lw_all := lw_g (lw_at lw_m3 34 rfl) rfl
theorem q599 : (Jvm.Cond.soleField "FlashRatchet$Reader" "read") ∈ lw_all := lw_g (lw_at lw_m3 35 rfl) rfl
theorem q600 : (Jvm.Cond.lays "FlashRatchet$Reader" "FlashRatchet$Reader" "items" "I") ∈ lw_all := lw_g (lw_at lw_m3 36 rfl) rfl
theorem q601 : (Jvm.Cond.soleField "FlashRatchet$Reader" "items") ∈ lw_all := lw_g (lw_at lw_m3 37 rfl) rfl
theorem q602 : (Jvm.Cond.lays "FlashRatchet$Reader" "FlashRatchet$Reader" "at" "I") ∈ lw_all := lw_g (lw_at lw_m3 38 rfl) rfl
theorem q603 : (Jvm.Cond.soleField "FlashRatchet$Reader" "at") ∈ lw_all := lw_g (lw_at lw_m3 39 rfl) rfl
theorem q604 : (Jvm.Cond.lays "FlashRatchet$Reader" "FlashRatchet$Reader" "part" "I") ∈ lw_all := lw_g (lw_at lw_m3 40 rfl) rfl
theorem q605 : (Jvm.Cond.soleField "FlashRatchet$Reader" "part") ∈ lw_all := lw_g (lw_at lw_m3 41 rfl) rfl
theorem q606 : (Jvm.Cond.lays "FlashRatchet$Reader" "FlashRatchet$Reader" "lever" "I") ∈ lw_all := lw_g (lw_at lw_m3 42 rfl) rfl
theorem q607 : (Jvm.Cond.soleField "FlashRatchet$Reader" "lever") ∈ lw_all := lw_g (lw_at lw_m3 43 rfl) rfl
theorem q608 : (Jvm.Cond.lays "FlashRatchet$Reader" "FlashRatchet$Reader" "pairs" "I") ∈ lw_all := lw_g (lw_at lw_m3 44 rfl) rfl
theorem q609 : (Jvm.Cond.soleField "FlashRatchet$Reader" "pairs") ∈ lw_all := lw_g (lw_at lw_m3 45 rfl) rfl
theorem q610 : (Jvm.Cond.lays "FlashRatchet$Reader" "FlashRatchet$Reader" "number" "I") ∈ lw_all := lw_g (lw_at lw_m3 46 rfl) rfl
theorem q611 : (Jvm.Cond.soleField "FlashRatchet$Reader" "number") ∈ lw_all := lw_g (lw_at lw_m3 47 rfl) rfl
theorem q612 : (Jvm.Cond.laysFinal "FlashRatchet$Reader" "FlashRatchet$Reader" "this$0" "LFlashRatchet;") ∈ lw_all := lw_g (lw_at lw_m3 48 rfl) rfl
theorem q613 : (Jvm.Cond.soleField "FlashRatchet$Reader" "this$0") ∈ lw_all := lw_g (lw_at lw_m3 49 rfl) rfl
theorem q614 : (Jvm.Cond.superclass "FlashRatchet$Reader" "java/lang/Object") ∈ lw_all := lw_g (lw_at lw_m3 50 rfl) rfl
theorem q616 : (Jvm.Cond.instanceMethod ({ cls := "FlashRatchet$Reader", name := "all", desc := "()LFlashRatchet$Reader;" } : Jvm.MethodName)) ∈ lw_all := lw_g (lw_at lw_m3 52 rfl) rfl
theorem q617 : (Jvm.Cond.selects "FlashRatchet$Reader" ({ cls := "FlashRatchet$Reader", name := "all", desc := "()LFlashRatchet$Reader;" } : Jvm.MethodName) ({ cls := "FlashRatchet$Reader", name := "all", desc := "()LFlashRatchet$Reader;" } : Jvm.MethodName)) ∈ lw_all := lw_g (lw_at lw_m3 53 rfl) rfl
theorem q618 : (Jvm.Cond.code ({ cls := "FlashRatchet$Reader", name := "all", desc := "()LFlashRatchet$Reader;" } : Jvm.MethodName) prog_5_method_11_code (1 : Nat) (Option.some (Jvm.ClassFile.FieldType.object "FlashRatchet$Reader"))) ∈ lw_all := lw_g (lw_at lw_m3 54 rfl) rfl
theorem q619 : (Jvm.Cond.methodLink "FlashRatchet$Reader" (91 : Nat) ({ cls := "java/lang/StringBuilder", name := "length", desc := "()I" } : Jvm.MethodName)) ∈ lw_all := lw_g (lw_at lw_m3 55 rfl) rfl
theorem q620 : (Jvm.Cond.methodLink "FlashRatchet$Reader" (96 : Nat) ({ cls := "java/lang/StringBuilder", name := "charAt", desc := "(I)C" } : Jvm.MethodName)) ∈ lw_all := lw_g (lw_at lw_m3 56 rfl) rfl
theorem q635 : (Jvm.Cond.methodLink "FlashRatchet$Reader" (100 : Nat) ({ cls := "FlashRatchet$Reader", name := "takes", desc := "(C)Z" } : Jvm.MethodName)) ∈ lw_all := lw_g (lw_at lw_m3 71 rfl) rfl
theorem q636 : (Jvm.Cond.privateMethod ({ cls := "FlashRatchet$Reader", name := "takes", desc := "(C)Z" } : Jvm.MethodName)) ∈ lw_tbl := lw_at lw_m3 72 rfl
theorem q637 : (Jvm.Cond.instanceMethod ({ cls := "FlashRatchet$Reader", name := "takes", desc := "(C)Z" } : Jvm.MethodName)) ∈ lw_all := lw_g (lw_at lw_m3 73 rfl) rfl
theorem q638 : (Jvm.Cond.code ({ cls := "FlashRatchet$Reader", name := "takes", desc := "(C)Z" } : Jvm.MethodName) prog_5_method_10_code (2 : Nat) (Option.some Jvm.ClassFile.FieldType.boolean)) ∈ lw_all := lw_g (lw_at lw_m3 74 rfl) rfl
theorem q639 : (Jvm.Cond.methodLink "FlashRatchet$Reader" (64 : Nat) ({ cls := "FlashRatchet$Reader", name := "isOver", desc := "()Z" } : Jvm.MethodName)) ∈ lw_all := lw_g (lw_at lw_m3 75 rfl) rfl
theorem q640 : (Jvm.Cond.privateMethod ({ cls := "FlashRatchet$Reader", name := "isOver", desc := "()Z" } : Jvm.MethodName)) ∈ lw_tbl := lw_at lw_m3 76 rfl
theorem q641 : (Jvm.Cond.instanceMethod ({ cls := "FlashRatchet$Reader", name := "isOver", desc := "()Z" } : Jvm.MethodName)) ∈ lw_all := lw_g (lw_at lw_m3 77 rfl) rfl
theorem q642 : (Jvm.Cond.code ({ cls := "FlashRatchet$Reader", name := "isOver", desc := "()Z" } : Jvm.MethodName) prog_5_method_8_code (1 : Nat) (Option.some Jvm.ClassFile.FieldType.boolean)) ∈ lw_all := lw_g (lw_at lw_m3 78 rfl) rfl
theorem q643 : (Jvm.Cond.methodLink "FlashRatchet$Reader" (68 : Nat) ({ cls := "FlashRatchet$Reader", name := "end", desc := "()V" } : Jvm.MethodName)) ∈ lw_all := lw_g (lw_at lw_m3 79 rfl) rfl
theorem q644 : (Jvm.Cond.privateMethod ({ cls := "FlashRatchet$Reader", name := "end", desc := "()V" } : Jvm.MethodName)) ∈ lw_tbl := lw_at lw_m3 80 rfl
theorem q645 : (Jvm.Cond.instanceMethod ({ cls := "FlashRatchet$Reader", name := "end", desc := "()V" } : Jvm.MethodName)) ∈ lw_all := lw_g (lw_at lw_m3 81 rfl) rfl
theorem q646 : (Jvm.Cond.code ({ cls := "FlashRatchet$Reader", name := "end", desc := "()V" } : Jvm.MethodName) prog_5_method_9_code (1 : Nat) (Option.none : Option Jvm.ClassFile.FieldType)) ∈ lw_all := lw_g (lw_at lw_m3 82 rfl) rfl
theorem q647 : (Jvm.Cond.methodLink "FlashRatchet$Reader" (47 : Nat) ({ cls := "FlashRatchet$Reader", name := "put", desc := "(II)V" } : Jvm.MethodName)) ∈ lw_all := lw_g (lw_at lw_m3 83 rfl) rfl
theorem q648 : (Jvm.Cond.privateMethod ({ cls := "FlashRatchet$Reader", name := "put", desc := "(II)V" } : Jvm.MethodName)) ∈ lw_tbl := lw_at lw_m3 84 rfl
theorem q649 : (Jvm.Cond.instanceMethod ({ cls := "FlashRatchet$Reader", name := "put", desc := "(II)V" } : Jvm.MethodName)) ∈ lw_all := lw_g (lw_at lw_m3 85 rfl) rfl
theorem q650 : (Jvm.Cond.code ({ cls := "FlashRatchet$Reader", name := "put", desc := "(II)V" } : Jvm.MethodName) prog_5_method_6_code (3 : Nat) (Option.none : Option Jvm.ClassFile.FieldType)) ∈ lw_all := lw_g (lw_at lw_m3 86 rfl) rfl
theorem q651 : (Jvm.Cond.methodLink "FlashRatchet$Reader" (71 : Nat) ({ cls := "FlashRatchet$Reader", name := "begins", desc := "(C)Z" } : Jvm.MethodName)) ∈ lw_all := lw_g (lw_at lw_m3 87 rfl) rfl
theorem q652 : (Jvm.Cond.privateMethod ({ cls := "FlashRatchet$Reader", name := "begins", desc := "(C)Z" } : Jvm.MethodName)) ∈ lw_tbl := lw_at lw_m3 88 rfl
theorem q653 : (Jvm.Cond.instanceMethod ({ cls := "FlashRatchet$Reader", name := "begins", desc := "(C)Z" } : Jvm.MethodName)) ∈ lw_all := lw_g (lw_at lw_m3 89 rfl) rfl
theorem q654 : (Jvm.Cond.code ({ cls := "FlashRatchet$Reader", name := "begins", desc := "(C)Z" } : Jvm.MethodName) prog_5_method_3_code (2 : Nat) (Option.some Jvm.ClassFile.FieldType.boolean)) ∈ lw_all := lw_g (lw_at lw_m3 90 rfl) rfl
theorem q655 : (Jvm.Cond.methodLinkNest "FlashRatchet$Reader" (35 : Nat) ({ cls := "FlashRatchet", name := "isLever", desc := "(I)Z" } : Jvm.MethodName) "FlashRatchet") ∈ lw_tbl := lw_at lw_m3 91 rfl
theorem q661 : (Jvm.Cond.methodLink "FlashRatchet$Reader" (39 : Nat) ({ cls := "FlashRatchet$Reader", name := "go", desc := "(ZI)Z" } : Jvm.MethodName)) ∈ lw_all := lw_g (lw_at lw_m3 97 rfl) rfl
theorem q662 : (Jvm.Cond.privateMethod ({ cls := "FlashRatchet$Reader", name := "go", desc := "(ZI)Z" } : Jvm.MethodName)) ∈ lw_tbl := lw_at lw_m3 98 rfl
theorem q663 : (Jvm.Cond.instanceMethod ({ cls := "FlashRatchet$Reader", name := "go", desc := "(ZI)Z" } : Jvm.MethodName)) ∈ lw_all := lw_g (lw_at lw_m3 99 rfl) rfl
theorem q664 : (Jvm.Cond.code ({ cls := "FlashRatchet$Reader", name := "go", desc := "(ZI)Z" } : Jvm.MethodName) prog_5_method_2_code (3 : Nat) (Option.some Jvm.ClassFile.FieldType.boolean)) ∈ lw_all := lw_g (lw_at lw_m3 100 rfl) rfl
theorem q665 : (Jvm.Cond.methodLink "FlashRatchet$Reader" (75 : Nat) ({ cls := "FlashRatchet$Reader", name := "takesBack", desc := "(C)Z" } : Jvm.MethodName)) ∈ lw_all := lw_g (lw_at lw_m3 101 rfl) rfl
theorem q666 : (Jvm.Cond.privateMethod ({ cls := "FlashRatchet$Reader", name := "takesBack", desc := "(C)Z" } : Jvm.MethodName)) ∈ lw_tbl := lw_at lw_m3 102 rfl
theorem q667 : (Jvm.Cond.instanceMethod ({ cls := "FlashRatchet$Reader", name := "takesBack", desc := "(C)Z" } : Jvm.MethodName)) ∈ lw_all := lw_g (lw_at lw_m3 103 rfl) rfl
theorem q668 : (Jvm.Cond.code ({ cls := "FlashRatchet$Reader", name := "takesBack", desc := "(C)Z" } : Jvm.MethodName) prog_5_method_4_code (2 : Nat) (Option.some Jvm.ClassFile.FieldType.boolean)) ∈ lw_all := lw_g (lw_at lw_m3 104 rfl) rfl
theorem q669 : (Jvm.Cond.methodLinkNest "FlashRatchet$Reader" (43 : Nat) ({ cls := "FlashRatchet", name := "inRange", desc := "(III)Z" } : Jvm.MethodName) "FlashRatchet") ∈ lw_tbl := lw_at lw_m3 105 rfl
theorem q670 : (Jvm.Cond.methodLink "FlashRatchet$Reader" (78 : Nat) ({ cls := "FlashRatchet$Reader", name := "takesForward", desc := "(C)Z" } : Jvm.MethodName)) ∈ lw_all := lw_g (lw_at lw_m3 106 rfl) rfl
theorem q671 : (Jvm.Cond.privateMethod ({ cls := "FlashRatchet$Reader", name := "takesForward", desc := "(C)Z" } : Jvm.MethodName)) ∈ lw_tbl := lw_at lw_m3 107 rfl
theorem q672 : (Jvm.Cond.instanceMethod ({ cls := "FlashRatchet$Reader", name := "takesForward", desc := "(C)Z" } : Jvm.MethodName)) ∈ lw_all := lw_g (lw_at lw_m3 108 rfl) rfl
theorem q673 : (Jvm.Cond.code ({ cls := "FlashRatchet$Reader", name := "takesForward", desc := "(C)Z" } : Jvm.MethodName) prog_5_method_5_code (3 : Nat) (Option.some Jvm.ClassFile.FieldType.boolean)) ∈ lw_all := lw_g (lw_at lw_m3 109 rfl) rfl
theorem q674 : (Jvm.Cond.methodLink "FlashRatchet$Reader" (81 : Nat) ({ cls := "FlashRatchet$Reader", name := "takesLetter", desc := "(C)Z" } : Jvm.MethodName)) ∈ lw_all := lw_g (lw_at lw_m3 110 rfl) rfl
theorem q675 : (Jvm.Cond.privateMethod ({ cls := "FlashRatchet$Reader", name := "takesLetter", desc := "(C)Z" } : Jvm.MethodName)) ∈ lw_tbl := lw_at lw_m3 111 rfl
theorem q676 : (Jvm.Cond.instanceMethod ({ cls := "FlashRatchet$Reader", name := "takesLetter", desc := "(C)Z" } : Jvm.MethodName)) ∈ lw_all := lw_g (lw_at lw_m3 112 rfl) rfl
theorem q677 : (Jvm.Cond.code ({ cls := "FlashRatchet$Reader", name := "takesLetter", desc := "(C)Z" } : Jvm.MethodName) prog_5_method_7_code (3 : Nat) (Option.some Jvm.ClassFile.FieldType.boolean)) ∈ lw_all := lw_g (lw_at lw_m3 113 rfl) rfl
theorem q678 : (Jvm.Cond.methodLinkNest "FlashRatchet$Reader" (54 : Nat) ({ cls := "FlashRatchet", name := "length", desc := "(I)I" } : Jvm.MethodName) "FlashRatchet") ∈ lw_tbl := lw_at lw_m3 114 rfl
theorem q900 : (Jvm.Cond.selects "FlashRatchet$Reader" ({ cls := "java/lang/Object", name := "getClass", desc := "()Ljava/lang/Class;" } : Jvm.MethodName) ({ cls := "java/lang/Object", name := "getClass", desc := "()Ljava/lang/Class;" } : Jvm.MethodName)) ∈ lw_all := lw_g (lw_at lw_m4 96 rfl) rfl
theorem q1748 : (Jvm.Cond.instanceMethod ({ cls := "FlashRatchet$Reader", name := "isComplete", desc := "()Z" } : Jvm.MethodName)) ∈ lw_all := lw_g (lw_at lw_m7 224 rfl) rfl
theorem q1749 : (Jvm.Cond.selects "FlashRatchet$Reader" ({ cls := "FlashRatchet$Reader", name := "isComplete", desc := "()Z" } : Jvm.MethodName) ({ cls := "FlashRatchet$Reader", name := "isComplete", desc := "()Z" } : Jvm.MethodName)) ∈ lw_all := lw_g (lw_at lw_m7 225 rfl) rfl
theorem q1750 : (Jvm.Cond.code ({ cls := "FlashRatchet$Reader", name := "isComplete", desc := "()Z" } : Jvm.MethodName) prog_5_method_12_code (2 : Nat) (Option.some Jvm.ClassFile.FieldType.boolean)) ∈ lw_all := lw_g (lw_at lw_m7 226 rfl) rfl
theorem q1752 : (Jvm.Cond.instanceMethod ({ cls := "FlashRatchet$Reader", name := "carryOut", desc := "()V" } : Jvm.MethodName)) ∈ lw_all := lw_g (lw_at lw_m7 228 rfl) rfl
theorem q1753 : (Jvm.Cond.selects "FlashRatchet$Reader" ({ cls := "FlashRatchet$Reader", name := "carryOut", desc := "()V" } : Jvm.MethodName) ({ cls := "FlashRatchet$Reader", name := "carryOut", desc := "()V" } : Jvm.MethodName)) ∈ lw_all := lw_g (lw_at lw_m7 229 rfl) rfl
theorem q1754 : (Jvm.Cond.code ({ cls := "FlashRatchet$Reader", name := "carryOut", desc := "()V" } : Jvm.MethodName) prog_5_method_13_code (2 : Nat) (Option.none : Option Jvm.ClassFile.FieldType)) ∈ lw_all := lw_g (lw_at lw_m7 230 rfl) rfl
theorem q2289 : (Jvm.Cond.castable "FlashRatchet$Reader" "java/lang/Object") ∈ lw_tbl := lw_at lw_m10 45 rfl
theorem in_X4 : ∀ w ∈ wsX40, w ∈ lw_all := lw_in wsX40 [594, 596, 598, 600, 602, 604, 606, 608, 610, 612] (by decide +kernel) (by decide +kernel)
/-! FlashRatchet$Ways -/
set_option maxRecDepth 100000
def RX5 : String := "FlashRatchet$Ways"
def TX5 : u_T := fun k => match k with
  | 0 => ("FlashRatchet$Ways", "ways", "Ljava/util/TreeMap;", false)
  | _ => ("FlashRatchet$Ways", "this$0", "LFlashRatchet;", true)
def tyX5 : Nat → FieldType := fun k => match k with
  | 0 => .object "java/util/TreeMap"
  | _ => .object "FlashRatchet"
abbrev wsX50 : List Cond := u_ws RX5 TX5 2
theorem nmX5 : ∀ a, a < 2 → ∀ b, b < 2 → a ≠ b → (TX5 a).2.1 ≠ (TX5 b).2.1 := by decide +kernel
theorem tyX5_ok : ∀ k, k < 2 → parseFieldDescriptor (TX5 k).2.2.1 = some (tyX5 k) := by decide +kernel
abbrev cX5_init : ByteArray := prog_8_method_1_code
def yX5_init : MethodName := ⟨RX5, "<init>", "(LFlashRatchet;)V"⟩
def dkwX5_init_1 : List UInt8 := [43, 180, 0, 22, 184, 0, 26, 10, 184, 0, 32, 182, 0, 37, 87, 177]
abbrev dktX5_init_1 : List UInt8 := dkwX5_init_1 ++ []
def dkwX5_init_0 : List UInt8 := [42, 43, 181, 0, 3, 42, 183, 0, 9, 42, 187, 0, 15, 89, 183, 0, 17, 181, 0, 18, 42, 180, 0, 18]
abbrev dktX5_init_0 : List UInt8 := dkwX5_init_0 ++ dktX5_init_1
theorem dksX5_init_0 : cX5_init.data.toList.drop 0 = dktX5_init_0 := by decide +kernel
theorem dksX5_init_1 : cX5_init.data.toList.drop 24 = dktX5_init_1 := dk_seg dksX5_init_0 24 rfl rfl
theorem dX5_init_0 : decode cX5_init 0 = .ok (.aload_n 0, 1) := dk_42 (dk_at dksX5_init_0 0 rfl rfl)
theorem dX5_init_1 : decode cX5_init 1 = .ok (.aload_n 1, 1) := dk_43 (dk_at dksX5_init_0 1 rfl rfl)
theorem dX5_init_2 : decode cX5_init 2 = .ok (.putfield 3, 3) := dk_181 0 3 (dk_at dksX5_init_0 2 rfl rfl)
theorem dX5_init_5 : decode cX5_init 5 = .ok (.aload_n 0, 1) := dk_42 (dk_at dksX5_init_0 5 rfl rfl)
theorem dX5_init_6 : decode cX5_init 6 = .ok (.invokespecial 9, 3) := dk_183 0 9 (dk_at dksX5_init_0 6 rfl rfl)
theorem dX5_init_9 : decode cX5_init 9 = .ok (.aload_n 0, 1) := dk_42 (dk_at dksX5_init_0 9 rfl rfl)
theorem dX5_init_10 : decode cX5_init 10 = .ok (.new 15, 3) := dk_187 0 15 (dk_at dksX5_init_0 10 rfl rfl)
theorem dX5_init_13 : decode cX5_init 13 = .ok (.dup, 1) := dk_89 (dk_at dksX5_init_0 13 rfl rfl)
theorem dX5_init_14 : decode cX5_init 14 = .ok (.invokespecial 17, 3) := dk_183 0 17 (dk_at dksX5_init_0 14 rfl rfl)
theorem dX5_init_17 : decode cX5_init 17 = .ok (.putfield 18, 3) := dk_181 0 18 (dk_at dksX5_init_0 17 rfl rfl)
theorem dX5_init_20 : decode cX5_init 20 = .ok (.aload_n 0, 1) := dk_42 (dk_at dksX5_init_0 20 rfl rfl)
theorem dX5_init_21 : decode cX5_init 21 = .ok (.getfield 18, 3) := dk_180 0 18 (dk_at dksX5_init_0 21 rfl rfl)
theorem dX5_init_24 : decode cX5_init 24 = .ok (.aload_n 1, 1) := dk_43 (dk_at dksX5_init_1 0 rfl rfl)
theorem dX5_init_25 : decode cX5_init 25 = .ok (.getfield 22, 3) := dk_180 0 22 (dk_at dksX5_init_1 1 rfl rfl)
theorem dX5_init_28 : decode cX5_init 28 = .ok (.invokestatic 26, 3) := dk_184 0 26 (dk_at dksX5_init_1 4 rfl rfl)
theorem dX5_init_31 : decode cX5_init 31 = .ok (.lconst 1, 1) := dk_10 (dk_at dksX5_init_1 7 rfl rfl)
theorem dX5_init_32 : decode cX5_init 32 = .ok (.invokestatic 32, 3) := dk_184 0 32 (dk_at dksX5_init_1 8 rfl rfl)
theorem dX5_init_35 : decode cX5_init 35 = .ok (.invokevirtual 37, 3) := dk_182 0 37 (dk_at dksX5_init_1 11 rfl rfl)
theorem dX5_init_38 : decode cX5_init 38 = .ok (.pop, 1) := dk_87 (dk_at dksX5_init_1 14 rfl rfl)
theorem dX5_init_39 : decode cX5_init 39 = .ok (.return_, 1) := dk_177 (dk_at dksX5_init_1 15 rfl rfl)
abbrev cX5_go : ByteArray := prog_8_method_4_code
def yX5_go : MethodName := ⟨RX5, "go", "(III)LFlashRatchet$Ways;"⟩
def dkwX5_go_2 : List UInt8 := [132, 4, 1, 167, 255, 210, 42, 176]
abbrev dktX5_go_2 : List UInt8 := dkwX5_go_2 ++ []
def dkwX5_go_1 : List UInt8 := [21, 4, 96, 42, 180, 0, 3, 180, 0, 103, 184, 0, 109, 112, 184, 0, 113, 28, 29, 182, 0, 116]
abbrev dktX5_go_1 : List UInt8 := dkwX5_go_1 ++ dktX5_go_2
def dkwX5_go_0 : List UInt8 := [3, 54, 4, 21, 4, 27, 162, 0, 46, 42, 42, 180, 0, 3, 180, 0, 103, 42, 180, 0, 3, 180, 0, 106]
abbrev dktX5_go_0 : List UInt8 := dkwX5_go_0 ++ dktX5_go_1
theorem dksX5_go_0 : cX5_go.data.toList.drop 0 = dktX5_go_0 := by decide +kernel
theorem dksX5_go_1 : cX5_go.data.toList.drop 24 = dktX5_go_1 := dk_seg dksX5_go_0 24 rfl rfl
theorem dksX5_go_2 : cX5_go.data.toList.drop 46 = dktX5_go_2 := dk_seg dksX5_go_1 22 rfl rfl
theorem dX5_go_0 : decode cX5_go 0 = .ok (.iconst 0, 1) := dk_3 (dk_at dksX5_go_0 0 rfl rfl)
theorem dX5_go_1 : decode cX5_go 1 = .ok (.istore 4, 2) := dk_54 4 (dk_at dksX5_go_0 1 rfl rfl)
theorem dX5_go_3 : decode cX5_go 3 = .ok (.iload 4, 2) := dk_21 4 (dk_at dksX5_go_0 3 rfl rfl)
theorem dX5_go_5 : decode cX5_go 5 = .ok (.iload_n 1, 1) := dk_27 (dk_at dksX5_go_0 5 rfl rfl)
theorem dX5_go_6 : decode cX5_go 6 = .ok (.if_icmp .ge 46, 3) := dk_162 0 46 (dk_at dksX5_go_0 6 rfl rfl)
theorem dX5_go_9 : decode cX5_go 9 = .ok (.aload_n 0, 1) := dk_42 (dk_at dksX5_go_0 9 rfl rfl)
theorem dX5_go_10 : decode cX5_go 10 = .ok (.aload_n 0, 1) := dk_42 (dk_at dksX5_go_0 10 rfl rfl)
theorem dX5_go_11 : decode cX5_go 11 = .ok (.getfield 3, 3) := dk_180 0 3 (dk_at dksX5_go_0 11 rfl rfl)
theorem dX5_go_14 : decode cX5_go 14 = .ok (.getfield 103, 3) := dk_180 0 103 (dk_at dksX5_go_0 14 rfl rfl)
theorem dX5_go_17 : decode cX5_go 17 = .ok (.aload_n 0, 1) := dk_42 (dk_at dksX5_go_0 17 rfl rfl)
theorem dX5_go_18 : decode cX5_go 18 = .ok (.getfield 3, 3) := dk_180 0 3 (dk_at dksX5_go_0 18 rfl rfl)
theorem dX5_go_21 : decode cX5_go 21 = .ok (.getfield 106, 3) := dk_180 0 106 (dk_at dksX5_go_0 21 rfl rfl)
theorem dX5_go_24 : decode cX5_go 24 = .ok (.iload 4, 2) := dk_21 4 (dk_at dksX5_go_1 0 rfl rfl)
theorem dX5_go_26 : decode cX5_go 26 = .ok (.iadd, 1) := dk_96 (dk_at dksX5_go_1 2 rfl rfl)
theorem dX5_go_27 : decode cX5_go 27 = .ok (.aload_n 0, 1) := dk_42 (dk_at dksX5_go_1 3 rfl rfl)
theorem dX5_go_28 : decode cX5_go 28 = .ok (.getfield 3, 3) := dk_180 0 3 (dk_at dksX5_go_1 4 rfl rfl)
theorem dX5_go_31 : decode cX5_go 31 = .ok (.getfield 103, 3) := dk_180 0 103 (dk_at dksX5_go_1 7 rfl rfl)
theorem dX5_go_34 : decode cX5_go 34 = .ok (.invokestatic 109, 3) := dk_184 0 109 (dk_at dksX5_go_1 10 rfl rfl)
theorem dX5_go_37 : decode cX5_go 37 = .ok (.irem, 1) := dk_112 (dk_at dksX5_go_1 13 rfl rfl)
theorem dX5_go_38 : decode cX5_go 38 = .ok (.invokestatic 113, 3) := dk_184 0 113 (dk_at dksX5_go_1 14 rfl rfl)
theorem dX5_go_41 : decode cX5_go 41 = .ok (.iload_n 2, 1) := dk_28 (dk_at dksX5_go_1 17 rfl rfl)
theorem dX5_go_42 : decode cX5_go 42 = .ok (.iload_n 3, 1) := dk_29 (dk_at dksX5_go_1 18 rfl rfl)
theorem dX5_go_43 : decode cX5_go 43 = .ok (.invokevirtual 116, 3) := dk_182 0 116 (dk_at dksX5_go_1 19 rfl rfl)
theorem dX5_go_46 : decode cX5_go 46 = .ok (.iinc 4 1, 3) := dk_132 4 1 (dk_at dksX5_go_2 0 rfl rfl)
theorem dX5_go_49 : decode cX5_go 49 = .ok (.goto (-46), 3) := dk_167 255 210 (dk_at dksX5_go_2 3 rfl rfl)
theorem dX5_go_52 : decode cX5_go 52 = .ok (.aload_n 0, 1) := dk_42 (dk_at dksX5_go_2 6 rfl rfl)
theorem dX5_go_53 : decode cX5_go 53 = .ok (.areturn, 1) := dk_176 (dk_at dksX5_go_2 7 rfl rfl)
abbrev cX5_tick : ByteArray := prog_8_method_3_code
def yX5_tick : MethodName := ⟨RX5, "tick", "(III)V"⟩
def dkwX5_tick_8 : List UInt8 := [182, 0, 45, 105, 182, 0, 92, 132, 9, 1, 167, 255, 195, 167, 255, 78, 42, 25, 4, 181, 0, 18, 177]
abbrev dktX5_tick_8 : List UInt8 := dkwX5_tick_8 ++ []
def dkwX5_tick_7 : List UInt8 := [96, 42, 180, 0, 3, 27, 21, 8, 21, 9, 182, 0, 99, 133, 25, 6, 185, 0, 89, 1, 0, 192, 0, 33]
abbrev dktX5_tick_7 : List UInt8 := dkwX5_tick_7 ++ dktX5_tick_8
def dkwX5_tick_6 : List UInt8 := [163, 0, 61, 42, 25, 4, 7, 21, 7, 21, 9, 96, 104, 42, 180, 0, 3, 21, 8, 21, 9, 182, 0, 96]
abbrev dktX5_tick_6 : List UInt8 := dkwX5_tick_6 ++ dktX5_tick_7
def dkwX5_tick_5 : List UInt8 := [185, 0, 89, 1, 0, 192, 0, 33, 182, 0, 45, 105, 182, 0, 92, 167, 0, 70, 2, 54, 9, 21, 9, 4]
abbrev dktX5_tick_5 : List UInt8 := dkwX5_tick_5 ++ dktX5_tick_6
def dkwX5_tick_4 : List UInt8 := [42, 25, 4, 25, 6, 185, 0, 71, 1, 0, 192, 0, 27, 182, 0, 74, 20, 0, 87, 25, 6]
abbrev dktX5_tick_4 : List UInt8 := dkwX5_tick_4 ++ dktX5_tick_5
def dkwX5_tick_3 : List UInt8 := [192, 0, 27, 182, 0, 74, 7, 184, 0, 84, 54, 8, 21, 7, 28, 159, 0, 9, 21, 7, 29, 160, 0, 42]
abbrev dktX5_tick_3 : List UInt8 := dkwX5_tick_3 ++ dktX5_tick_4
def dkwX5_tick_2 : List UInt8 := [185, 0, 71, 1, 0, 192, 0, 27, 182, 0, 74, 7, 184, 0, 78, 54, 7, 25, 6, 185, 0, 71, 1, 0]
abbrev dktX5_tick_2 : List UInt8 := dkwX5_tick_2 ++ dktX5_tick_3
def dkwX5_tick_1 : List UInt8 := [25, 5, 185, 0, 59, 1, 0, 153, 0, 174, 25, 5, 185, 0, 65, 1, 0, 192, 0, 69, 58, 6, 25, 6]
abbrev dktX5_tick_1 : List UInt8 := dkwX5_tick_1 ++ dktX5_tick_2
def dkwX5_tick_0 : List UInt8 := [187, 0, 15, 89, 183, 0, 17, 58, 4, 42, 180, 0, 18, 182, 0, 49, 185, 0, 53, 1, 0, 58, 5]
abbrev dktX5_tick_0 : List UInt8 := dkwX5_tick_0 ++ dktX5_tick_1
theorem dksX5_tick_0 : cX5_tick.data.toList.drop 0 = dktX5_tick_0 := by decide +kernel
theorem dksX5_tick_1 : cX5_tick.data.toList.drop 23 = dktX5_tick_1 := dk_seg dksX5_tick_0 23 rfl rfl
theorem dksX5_tick_2 : cX5_tick.data.toList.drop 47 = dktX5_tick_2 := dk_seg dksX5_tick_1 24 rfl rfl
theorem dksX5_tick_3 : cX5_tick.data.toList.drop 71 = dktX5_tick_3 := dk_seg dksX5_tick_2 24 rfl rfl
theorem dksX5_tick_4 : cX5_tick.data.toList.drop 95 = dktX5_tick_4 := dk_seg dksX5_tick_3 24 rfl rfl
theorem dksX5_tick_5 : cX5_tick.data.toList.drop 116 = dktX5_tick_5 := dk_seg dksX5_tick_4 21 rfl rfl
theorem dksX5_tick_6 : cX5_tick.data.toList.drop 140 = dktX5_tick_6 := dk_seg dksX5_tick_5 24 rfl rfl
theorem dksX5_tick_7 : cX5_tick.data.toList.drop 164 = dktX5_tick_7 := dk_seg dksX5_tick_6 24 rfl rfl
theorem dksX5_tick_8 : cX5_tick.data.toList.drop 188 = dktX5_tick_8 := dk_seg dksX5_tick_7 24 rfl rfl
theorem dX5_tick_0 : decode cX5_tick 0 = .ok (.new 15, 3) := dk_187 0 15 (dk_at dksX5_tick_0 0 rfl rfl)
theorem dX5_tick_3 : decode cX5_tick 3 = .ok (.dup, 1) := dk_89 (dk_at dksX5_tick_0 3 rfl rfl)
theorem dX5_tick_4 : decode cX5_tick 4 = .ok (.invokespecial 17, 3) := dk_183 0 17 (dk_at dksX5_tick_0 4 rfl rfl)
theorem dX5_tick_7 : decode cX5_tick 7 = .ok (.astore 4, 2) := dk_58 4 (dk_at dksX5_tick_0 7 rfl rfl)
theorem dX5_tick_9 : decode cX5_tick 9 = .ok (.aload_n 0, 1) := dk_42 (dk_at dksX5_tick_0 9 rfl rfl)
theorem dX5_tick_10 : decode cX5_tick 10 = .ok (.getfield 18, 3) := dk_180 0 18 (dk_at dksX5_tick_0 10 rfl rfl)
theorem dX5_tick_13 : decode cX5_tick 13 = .ok (.invokevirtual 49, 3) := dk_182 0 49 (dk_at dksX5_tick_0 13 rfl rfl)
theorem dX5_tick_16 : decode cX5_tick 16 = .ok (.invokeinterface 53 1, 5) := by decide +kernel
theorem dX5_tick_21 : decode cX5_tick 21 = .ok (.astore 5, 2) := dk_58 5 (dk_at dksX5_tick_0 21 rfl rfl)
theorem dX5_tick_23 : decode cX5_tick 23 = .ok (.aload 5, 2) := dk_25 5 (dk_at dksX5_tick_1 0 rfl rfl)
theorem dX5_tick_25 : decode cX5_tick 25 = .ok (.invokeinterface 59 1, 5) := by decide +kernel
theorem dX5_tick_30 : decode cX5_tick 30 = .ok (.ifCond .eq 174, 3) := dk_153 0 174 (dk_at dksX5_tick_1 7 rfl rfl)
theorem dX5_tick_33 : decode cX5_tick 33 = .ok (.aload 5, 2) := dk_25 5 (dk_at dksX5_tick_1 10 rfl rfl)
theorem dX5_tick_35 : decode cX5_tick 35 = .ok (.invokeinterface 65 1, 5) := by decide +kernel
theorem dX5_tick_40 : decode cX5_tick 40 = .ok (.checkcast 69, 3) := dk_192 0 69 (dk_at dksX5_tick_1 17 rfl rfl)
theorem dX5_tick_43 : decode cX5_tick 43 = .ok (.astore 6, 2) := dk_58 6 (dk_at dksX5_tick_1 20 rfl rfl)
theorem dX5_tick_45 : decode cX5_tick 45 = .ok (.aload 6, 2) := dk_25 6 (dk_at dksX5_tick_1 22 rfl rfl)
theorem dX5_tick_47 : decode cX5_tick 47 = .ok (.invokeinterface 71 1, 5) := by decide +kernel
theorem dX5_tick_52 : decode cX5_tick 52 = .ok (.checkcast 27, 3) := dk_192 0 27 (dk_at dksX5_tick_2 5 rfl rfl)
theorem dX5_tick_55 : decode cX5_tick 55 = .ok (.invokevirtual 74, 3) := dk_182 0 74 (dk_at dksX5_tick_2 8 rfl rfl)
theorem dX5_tick_58 : decode cX5_tick 58 = .ok (.iconst 4, 1) := dk_7 (dk_at dksX5_tick_2 11 rfl rfl)
theorem dX5_tick_59 : decode cX5_tick 59 = .ok (.invokestatic 78, 3) := dk_184 0 78 (dk_at dksX5_tick_2 12 rfl rfl)
theorem dX5_tick_62 : decode cX5_tick 62 = .ok (.istore 7, 2) := dk_54 7 (dk_at dksX5_tick_2 15 rfl rfl)
theorem dX5_tick_64 : decode cX5_tick 64 = .ok (.aload 6, 2) := dk_25 6 (dk_at dksX5_tick_2 17 rfl rfl)
theorem dX5_tick_66 : decode cX5_tick 66 = .ok (.invokeinterface 71 1, 5) := by decide +kernel
theorem dX5_tick_71 : decode cX5_tick 71 = .ok (.checkcast 27, 3) := dk_192 0 27 (dk_at dksX5_tick_3 0 rfl rfl)
theorem dX5_tick_74 : decode cX5_tick 74 = .ok (.invokevirtual 74, 3) := dk_182 0 74 (dk_at dksX5_tick_3 3 rfl rfl)
theorem dX5_tick_77 : decode cX5_tick 77 = .ok (.iconst 4, 1) := dk_7 (dk_at dksX5_tick_3 6 rfl rfl)
theorem dX5_tick_78 : decode cX5_tick 78 = .ok (.invokestatic 84, 3) := dk_184 0 84 (dk_at dksX5_tick_3 7 rfl rfl)
theorem dX5_tick_81 : decode cX5_tick 81 = .ok (.istore 8, 2) := dk_54 8 (dk_at dksX5_tick_3 10 rfl rfl)
theorem dX5_tick_83 : decode cX5_tick 83 = .ok (.iload 7, 2) := dk_21 7 (dk_at dksX5_tick_3 12 rfl rfl)
theorem dX5_tick_85 : decode cX5_tick 85 = .ok (.iload_n 2, 1) := dk_28 (dk_at dksX5_tick_3 14 rfl rfl)
theorem dX5_tick_86 : decode cX5_tick 86 = .ok (.if_icmp .eq 9, 3) := dk_159 0 9 (dk_at dksX5_tick_3 15 rfl rfl)
theorem dX5_tick_89 : decode cX5_tick 89 = .ok (.iload 7, 2) := dk_21 7 (dk_at dksX5_tick_3 18 rfl rfl)
theorem dX5_tick_91 : decode cX5_tick 91 = .ok (.iload_n 3, 1) := dk_29 (dk_at dksX5_tick_3 20 rfl rfl)
theorem dX5_tick_92 : decode cX5_tick 92 = .ok (.if_icmp .ne 42, 3) := dk_160 0 42 (dk_at dksX5_tick_3 21 rfl rfl)
theorem dX5_tick_95 : decode cX5_tick 95 = .ok (.aload_n 0, 1) := dk_42 (dk_at dksX5_tick_4 0 rfl rfl)
theorem dX5_tick_96 : decode cX5_tick 96 = .ok (.aload 4, 2) := dk_25 4 (dk_at dksX5_tick_4 1 rfl rfl)
theorem dX5_tick_98 : decode cX5_tick 98 = .ok (.aload 6, 2) := dk_25 6 (dk_at dksX5_tick_4 3 rfl rfl)
theorem dX5_tick_100 : decode cX5_tick 100 = .ok (.invokeinterface 71 1, 5) := by decide +kernel
theorem dX5_tick_105 : decode cX5_tick 105 = .ok (.checkcast 27, 3) := dk_192 0 27 (dk_at dksX5_tick_4 10 rfl rfl)
theorem dX5_tick_108 : decode cX5_tick 108 = .ok (.invokevirtual 74, 3) := dk_182 0 74 (dk_at dksX5_tick_4 13 rfl rfl)
theorem dX5_tick_111 : decode cX5_tick 111 = .ok (.ldc2_w 87, 3) := dk_20 0 87 (dk_at dksX5_tick_4 16 rfl rfl)
theorem dX5_tick_114 : decode cX5_tick 114 = .ok (.aload 6, 2) := dk_25 6 (dk_at dksX5_tick_4 19 rfl rfl)
theorem dX5_tick_116 : decode cX5_tick 116 = .ok (.invokeinterface 89 1, 5) := by decide +kernel
theorem dX5_tick_121 : decode cX5_tick 121 = .ok (.checkcast 33, 3) := dk_192 0 33 (dk_at dksX5_tick_5 5 rfl rfl)
theorem dX5_tick_124 : decode cX5_tick 124 = .ok (.invokevirtual 45, 3) := dk_182 0 45 (dk_at dksX5_tick_5 8 rfl rfl)
theorem dX5_tick_127 : decode cX5_tick 127 = .ok (.lmul, 1) := dk_105 (dk_at dksX5_tick_5 11 rfl rfl)
theorem dX5_tick_128 : decode cX5_tick 128 = .ok (.invokevirtual 92, 3) := dk_182 0 92 (dk_at dksX5_tick_5 12 rfl rfl)
theorem dX5_tick_131 : decode cX5_tick 131 = .ok (.goto 70, 3) := dk_167 0 70 (dk_at dksX5_tick_5 15 rfl rfl)
theorem dX5_tick_134 : decode cX5_tick 134 = .ok (.iconst (-1), 1) := dk_2 (dk_at dksX5_tick_5 18 rfl rfl)
theorem dX5_tick_135 : decode cX5_tick 135 = .ok (.istore 9, 2) := dk_54 9 (dk_at dksX5_tick_5 19 rfl rfl)
theorem dX5_tick_137 : decode cX5_tick 137 = .ok (.iload 9, 2) := dk_21 9 (dk_at dksX5_tick_5 21 rfl rfl)
theorem dX5_tick_139 : decode cX5_tick 139 = .ok (.iconst 1, 1) := dk_4 (dk_at dksX5_tick_5 23 rfl rfl)
theorem dX5_tick_140 : decode cX5_tick 140 = .ok (.if_icmp .gt 61, 3) := dk_163 0 61 (dk_at dksX5_tick_6 0 rfl rfl)
theorem dX5_tick_143 : decode cX5_tick 143 = .ok (.aload_n 0, 1) := dk_42 (dk_at dksX5_tick_6 3 rfl rfl)
theorem dX5_tick_144 : decode cX5_tick 144 = .ok (.aload 4, 2) := dk_25 4 (dk_at dksX5_tick_6 4 rfl rfl)
theorem dX5_tick_146 : decode cX5_tick 146 = .ok (.iconst 4, 1) := dk_7 (dk_at dksX5_tick_6 6 rfl rfl)
theorem dX5_tick_147 : decode cX5_tick 147 = .ok (.iload 7, 2) := dk_21 7 (dk_at dksX5_tick_6 7 rfl rfl)
theorem dX5_tick_149 : decode cX5_tick 149 = .ok (.iload 9, 2) := dk_21 9 (dk_at dksX5_tick_6 9 rfl rfl)
theorem dX5_tick_151 : decode cX5_tick 151 = .ok (.iadd, 1) := dk_96 (dk_at dksX5_tick_6 11 rfl rfl)
theorem dX5_tick_152 : decode cX5_tick 152 = .ok (.imul, 1) := dk_104 (dk_at dksX5_tick_6 12 rfl rfl)
theorem dX5_tick_153 : decode cX5_tick 153 = .ok (.aload_n 0, 1) := dk_42 (dk_at dksX5_tick_6 13 rfl rfl)
theorem dX5_tick_154 : decode cX5_tick 154 = .ok (.getfield 3, 3) := dk_180 0 3 (dk_at dksX5_tick_6 14 rfl rfl)
theorem dX5_tick_157 : decode cX5_tick 157 = .ok (.iload 8, 2) := dk_21 8 (dk_at dksX5_tick_6 17 rfl rfl)
theorem dX5_tick_159 : decode cX5_tick 159 = .ok (.iload 9, 2) := dk_21 9 (dk_at dksX5_tick_6 19 rfl rfl)
theorem dX5_tick_161 : decode cX5_tick 161 = .ok (.invokevirtual 96, 3) := dk_182 0 96 (dk_at dksX5_tick_6 21 rfl rfl)
theorem dX5_tick_164 : decode cX5_tick 164 = .ok (.iadd, 1) := dk_96 (dk_at dksX5_tick_7 0 rfl rfl)
theorem dX5_tick_165 : decode cX5_tick 165 = .ok (.aload_n 0, 1) := dk_42 (dk_at dksX5_tick_7 1 rfl rfl)
theorem dX5_tick_166 : decode cX5_tick 166 = .ok (.getfield 3, 3) := dk_180 0 3 (dk_at dksX5_tick_7 2 rfl rfl)
theorem dX5_tick_169 : decode cX5_tick 169 = .ok (.iload_n 1, 1) := dk_27 (dk_at dksX5_tick_7 5 rfl rfl)
theorem dX5_tick_170 : decode cX5_tick 170 = .ok (.iload 8, 2) := dk_21 8 (dk_at dksX5_tick_7 6 rfl rfl)
theorem dX5_tick_172 : decode cX5_tick 172 = .ok (.iload 9, 2) := dk_21 9 (dk_at dksX5_tick_7 8 rfl rfl)
theorem dX5_tick_174 : decode cX5_tick 174 = .ok (.invokevirtual 99, 3) := dk_182 0 99 (dk_at dksX5_tick_7 10 rfl rfl)
theorem dX5_tick_177 : decode cX5_tick 177 = .ok (.i2l, 1) := dk_133 (dk_at dksX5_tick_7 13 rfl rfl)
theorem dX5_tick_178 : decode cX5_tick 178 = .ok (.aload 6, 2) := dk_25 6 (dk_at dksX5_tick_7 14 rfl rfl)
theorem dX5_tick_180 : decode cX5_tick 180 = .ok (.invokeinterface 89 1, 5) := by decide +kernel
theorem dX5_tick_185 : decode cX5_tick 185 = .ok (.checkcast 33, 3) := dk_192 0 33 (dk_at dksX5_tick_7 21 rfl rfl)
theorem dX5_tick_188 : decode cX5_tick 188 = .ok (.invokevirtual 45, 3) := dk_182 0 45 (dk_at dksX5_tick_8 0 rfl rfl)
theorem dX5_tick_191 : decode cX5_tick 191 = .ok (.lmul, 1) := dk_105 (dk_at dksX5_tick_8 3 rfl rfl)
theorem dX5_tick_192 : decode cX5_tick 192 = .ok (.invokevirtual 92, 3) := dk_182 0 92 (dk_at dksX5_tick_8 4 rfl rfl)
theorem dX5_tick_195 : decode cX5_tick 195 = .ok (.iinc 9 1, 3) := dk_132 9 1 (dk_at dksX5_tick_8 7 rfl rfl)
theorem dX5_tick_198 : decode cX5_tick 198 = .ok (.goto (-61), 3) := dk_167 255 195 (dk_at dksX5_tick_8 10 rfl rfl)
theorem dX5_tick_201 : decode cX5_tick 201 = .ok (.goto (-178), 3) := dk_167 255 78 (dk_at dksX5_tick_8 13 rfl rfl)
theorem dX5_tick_204 : decode cX5_tick 204 = .ok (.aload_n 0, 1) := dk_42 (dk_at dksX5_tick_8 16 rfl rfl)
theorem dX5_tick_205 : decode cX5_tick 205 = .ok (.aload 4, 2) := dk_25 4 (dk_at dksX5_tick_8 17 rfl rfl)
theorem dX5_tick_207 : decode cX5_tick 207 = .ok (.putfield 18, 3) := dk_181 0 18 (dk_at dksX5_tick_8 19 rfl rfl)
theorem dX5_tick_210 : decode cX5_tick 210 = .ok (.return_, 1) := dk_177 (dk_at dksX5_tick_8 22 rfl rfl)
abbrev cX5_add : ByteArray := prog_8_method_2_code
def yX5_add : MethodName := ⟨RX5, "add", "(Ljava/util/TreeMap;IJ)V"⟩
def dkwX5_add_1 : List UInt8 := [25, 5, 199, 0, 7, 33, 167, 0, 10, 25, 5, 182, 0, 45, 33, 97, 184, 0, 32, 182, 0, 37, 87, 177]
abbrev dktX5_add_1 : List UInt8 := dkwX5_add_1 ++ []
def dkwX5_add_0 : List UInt8 := [33, 9, 148, 158, 0, 44, 43, 28, 184, 0, 26, 182, 0, 41, 192, 0, 33, 58, 5, 43, 28, 184, 0, 26]
abbrev dktX5_add_0 : List UInt8 := dkwX5_add_0 ++ dktX5_add_1
theorem dksX5_add_0 : cX5_add.data.toList.drop 0 = dktX5_add_0 := by decide +kernel
theorem dksX5_add_1 : cX5_add.data.toList.drop 24 = dktX5_add_1 := dk_seg dksX5_add_0 24 rfl rfl
theorem dX5_add_0 : decode cX5_add 0 = .ok (.lload_n 3, 1) := dk_33 (dk_at dksX5_add_0 0 rfl rfl)
theorem dX5_add_1 : decode cX5_add 1 = .ok (.lconst 0, 1) := dk_9 (dk_at dksX5_add_0 1 rfl rfl)
theorem dX5_add_2 : decode cX5_add 2 = .ok (.lcmp, 1) := dk_148 (dk_at dksX5_add_0 2 rfl rfl)
theorem dX5_add_3 : decode cX5_add 3 = .ok (.ifCond .le 44, 3) := dk_158 0 44 (dk_at dksX5_add_0 3 rfl rfl)
theorem dX5_add_6 : decode cX5_add 6 = .ok (.aload_n 1, 1) := dk_43 (dk_at dksX5_add_0 6 rfl rfl)
theorem dX5_add_7 : decode cX5_add 7 = .ok (.iload_n 2, 1) := dk_28 (dk_at dksX5_add_0 7 rfl rfl)
theorem dX5_add_8 : decode cX5_add 8 = .ok (.invokestatic 26, 3) := dk_184 0 26 (dk_at dksX5_add_0 8 rfl rfl)
theorem dX5_add_11 : decode cX5_add 11 = .ok (.invokevirtual 41, 3) := dk_182 0 41 (dk_at dksX5_add_0 11 rfl rfl)
theorem dX5_add_14 : decode cX5_add 14 = .ok (.checkcast 33, 3) := dk_192 0 33 (dk_at dksX5_add_0 14 rfl rfl)
theorem dX5_add_17 : decode cX5_add 17 = .ok (.astore 5, 2) := dk_58 5 (dk_at dksX5_add_0 17 rfl rfl)
theorem dX5_add_19 : decode cX5_add 19 = .ok (.aload_n 1, 1) := dk_43 (dk_at dksX5_add_0 19 rfl rfl)
theorem dX5_add_20 : decode cX5_add 20 = .ok (.iload_n 2, 1) := dk_28 (dk_at dksX5_add_0 20 rfl rfl)
theorem dX5_add_21 : decode cX5_add 21 = .ok (.invokestatic 26, 3) := dk_184 0 26 (dk_at dksX5_add_0 21 rfl rfl)
theorem dX5_add_24 : decode cX5_add 24 = .ok (.aload 5, 2) := dk_25 5 (dk_at dksX5_add_1 0 rfl rfl)
theorem dX5_add_26 : decode cX5_add 26 = .ok (.ifnonnull 7, 3) := dk_199 0 7 (dk_at dksX5_add_1 2 rfl rfl)
theorem dX5_add_29 : decode cX5_add 29 = .ok (.lload_n 3, 1) := dk_33 (dk_at dksX5_add_1 5 rfl rfl)
theorem dX5_add_30 : decode cX5_add 30 = .ok (.goto 10, 3) := dk_167 0 10 (dk_at dksX5_add_1 6 rfl rfl)
theorem dX5_add_33 : decode cX5_add 33 = .ok (.aload 5, 2) := dk_25 5 (dk_at dksX5_add_1 9 rfl rfl)
theorem dX5_add_35 : decode cX5_add 35 = .ok (.invokevirtual 45, 3) := dk_182 0 45 (dk_at dksX5_add_1 11 rfl rfl)
theorem dX5_add_38 : decode cX5_add 38 = .ok (.lload_n 3, 1) := dk_33 (dk_at dksX5_add_1 14 rfl rfl)
theorem dX5_add_39 : decode cX5_add 39 = .ok (.ladd, 1) := dk_97 (dk_at dksX5_add_1 15 rfl rfl)
theorem dX5_add_40 : decode cX5_add 40 = .ok (.invokestatic 32, 3) := dk_184 0 32 (dk_at dksX5_add_1 16 rfl rfl)
theorem dX5_add_43 : decode cX5_add 43 = .ok (.invokevirtual 37, 3) := dk_182 0 37 (dk_at dksX5_add_1 19 rfl rfl)
theorem dX5_add_46 : decode cX5_add 46 = .ok (.pop, 1) := dk_87 (dk_at dksX5_add_1 22 rfl rfl)
theorem dX5_add_47 : decode cX5_add 47 = .ok (.return_, 1) := dk_177 (dk_at dksX5_add_1 23 rfl rfl)
abbrev cX5_many : ByteArray := prog_8_method_5_code
def yX5_many : MethodName := ⟨RX5, "many", "(III)J"⟩
def dkwX5_many_5 : List UInt8 := [192, 0, 33, 182, 0, 45, 167, 0, 4, 9, 97, 55, 4, 167, 255, 143, 22, 4, 173]
abbrev dktX5_many_5 : List UInt8 := dkwX5_many_5 ++ []
def dkwX5_many_4 : List UInt8 := [160, 0, 7, 4, 167, 0, 4, 3, 54, 9, 22, 4, 21, 9, 153, 0, 19, 25, 7, 185, 0, 89, 1, 0]
abbrev dktX5_many_4 : List UInt8 := dkwX5_many_4 ++ dktX5_many_5
def dkwX5_many_3 : List UInt8 := [29, 2, 159, 0, 24, 25, 7, 185, 0, 71, 1, 0, 192, 0, 27, 182, 0, 74, 7, 184, 0, 84, 29]
abbrev dktX5_many_3 : List UInt8 := dkwX5_many_3 ++ dktX5_many_4
def dkwX5_many_2 : List UInt8 := [192, 0, 27, 182, 0, 74, 7, 184, 0, 78, 54, 8, 21, 8, 27, 161, 0, 39, 21, 8, 28, 163, 0, 33]
abbrev dktX5_many_2 : List UInt8 := dkwX5_many_2 ++ dktX5_many_3
def dkwX5_many_1 : List UInt8 := [153, 0, 109, 25, 6, 185, 0, 65, 1, 0, 192, 0, 69, 58, 7, 25, 7, 185, 0, 71, 1, 0]
abbrev dktX5_many_1 : List UInt8 := dkwX5_many_1 ++ dktX5_many_2
def dkwX5_many_0 : List UInt8 := [9, 55, 4, 42, 180, 0, 18, 182, 0, 49, 185, 0, 53, 1, 0, 58, 6, 25, 6, 185, 0, 59, 1, 0]
abbrev dktX5_many_0 : List UInt8 := dkwX5_many_0 ++ dktX5_many_1
theorem dksX5_many_0 : cX5_many.data.toList.drop 0 = dktX5_many_0 := by decide +kernel
theorem dksX5_many_1 : cX5_many.data.toList.drop 24 = dktX5_many_1 := dk_seg dksX5_many_0 24 rfl rfl
theorem dksX5_many_2 : cX5_many.data.toList.drop 46 = dktX5_many_2 := dk_seg dksX5_many_1 22 rfl rfl
theorem dksX5_many_3 : cX5_many.data.toList.drop 70 = dktX5_many_3 := dk_seg dksX5_many_2 24 rfl rfl
theorem dksX5_many_4 : cX5_many.data.toList.drop 93 = dktX5_many_4 := dk_seg dksX5_many_3 23 rfl rfl
theorem dksX5_many_5 : cX5_many.data.toList.drop 117 = dktX5_many_5 := dk_seg dksX5_many_4 24 rfl rfl
theorem dX5_many_0 : decode cX5_many 0 = .ok (.lconst 0, 1) := dk_9 (dk_at dksX5_many_0 0 rfl rfl)
theorem dX5_many_1 : decode cX5_many 1 = .ok (.lstore 4, 2) := dk_55 4 (dk_at dksX5_many_0 1 rfl rfl)
theorem dX5_many_3 : decode cX5_many 3 = .ok (.aload_n 0, 1) := dk_42 (dk_at dksX5_many_0 3 rfl rfl)
theorem dX5_many_4 : decode cX5_many 4 = .ok (.getfield 18, 3) := dk_180 0 18 (dk_at dksX5_many_0 4 rfl rfl)
theorem dX5_many_7 : decode cX5_many 7 = .ok (.invokevirtual 49, 3) := dk_182 0 49 (dk_at dksX5_many_0 7 rfl rfl)
theorem dX5_many_10 : decode cX5_many 10 = .ok (.invokeinterface 53 1, 5) := by decide +kernel
theorem dX5_many_15 : decode cX5_many 15 = .ok (.astore 6, 2) := dk_58 6 (dk_at dksX5_many_0 15 rfl rfl)
theorem dX5_many_17 : decode cX5_many 17 = .ok (.aload 6, 2) := dk_25 6 (dk_at dksX5_many_0 17 rfl rfl)
theorem dX5_many_19 : decode cX5_many 19 = .ok (.invokeinterface 59 1, 5) := by decide +kernel
theorem dX5_many_24 : decode cX5_many 24 = .ok (.ifCond .eq 109, 3) := dk_153 0 109 (dk_at dksX5_many_1 0 rfl rfl)
theorem dX5_many_27 : decode cX5_many 27 = .ok (.aload 6, 2) := dk_25 6 (dk_at dksX5_many_1 3 rfl rfl)
theorem dX5_many_29 : decode cX5_many 29 = .ok (.invokeinterface 65 1, 5) := by decide +kernel
theorem dX5_many_34 : decode cX5_many 34 = .ok (.checkcast 69, 3) := dk_192 0 69 (dk_at dksX5_many_1 10 rfl rfl)
theorem dX5_many_37 : decode cX5_many 37 = .ok (.astore 7, 2) := dk_58 7 (dk_at dksX5_many_1 13 rfl rfl)
theorem dX5_many_39 : decode cX5_many 39 = .ok (.aload 7, 2) := dk_25 7 (dk_at dksX5_many_1 15 rfl rfl)
theorem dX5_many_41 : decode cX5_many 41 = .ok (.invokeinterface 71 1, 5) := by decide +kernel
theorem dX5_many_46 : decode cX5_many 46 = .ok (.checkcast 27, 3) := dk_192 0 27 (dk_at dksX5_many_2 0 rfl rfl)
theorem dX5_many_49 : decode cX5_many 49 = .ok (.invokevirtual 74, 3) := dk_182 0 74 (dk_at dksX5_many_2 3 rfl rfl)
theorem dX5_many_52 : decode cX5_many 52 = .ok (.iconst 4, 1) := dk_7 (dk_at dksX5_many_2 6 rfl rfl)
theorem dX5_many_53 : decode cX5_many 53 = .ok (.invokestatic 78, 3) := dk_184 0 78 (dk_at dksX5_many_2 7 rfl rfl)
theorem dX5_many_56 : decode cX5_many 56 = .ok (.istore 8, 2) := dk_54 8 (dk_at dksX5_many_2 10 rfl rfl)
theorem dX5_many_58 : decode cX5_many 58 = .ok (.iload 8, 2) := dk_21 8 (dk_at dksX5_many_2 12 rfl rfl)
theorem dX5_many_60 : decode cX5_many 60 = .ok (.iload_n 1, 1) := dk_27 (dk_at dksX5_many_2 14 rfl rfl)
theorem dX5_many_61 : decode cX5_many 61 = .ok (.if_icmp .lt 39, 3) := dk_161 0 39 (dk_at dksX5_many_2 15 rfl rfl)
theorem dX5_many_64 : decode cX5_many 64 = .ok (.iload 8, 2) := dk_21 8 (dk_at dksX5_many_2 18 rfl rfl)
theorem dX5_many_66 : decode cX5_many 66 = .ok (.iload_n 2, 1) := dk_28 (dk_at dksX5_many_2 20 rfl rfl)
theorem dX5_many_67 : decode cX5_many 67 = .ok (.if_icmp .gt 33, 3) := dk_163 0 33 (dk_at dksX5_many_2 21 rfl rfl)
theorem dX5_many_70 : decode cX5_many 70 = .ok (.iload_n 3, 1) := dk_29 (dk_at dksX5_many_3 0 rfl rfl)
theorem dX5_many_71 : decode cX5_many 71 = .ok (.iconst (-1), 1) := dk_2 (dk_at dksX5_many_3 1 rfl rfl)
theorem dX5_many_72 : decode cX5_many 72 = .ok (.if_icmp .eq 24, 3) := dk_159 0 24 (dk_at dksX5_many_3 2 rfl rfl)
theorem dX5_many_75 : decode cX5_many 75 = .ok (.aload 7, 2) := dk_25 7 (dk_at dksX5_many_3 5 rfl rfl)
theorem dX5_many_77 : decode cX5_many 77 = .ok (.invokeinterface 71 1, 5) := by decide +kernel
theorem dX5_many_82 : decode cX5_many 82 = .ok (.checkcast 27, 3) := dk_192 0 27 (dk_at dksX5_many_3 12 rfl rfl)
theorem dX5_many_85 : decode cX5_many 85 = .ok (.invokevirtual 74, 3) := dk_182 0 74 (dk_at dksX5_many_3 15 rfl rfl)
theorem dX5_many_88 : decode cX5_many 88 = .ok (.iconst 4, 1) := dk_7 (dk_at dksX5_many_3 18 rfl rfl)
theorem dX5_many_89 : decode cX5_many 89 = .ok (.invokestatic 84, 3) := dk_184 0 84 (dk_at dksX5_many_3 19 rfl rfl)
theorem dX5_many_92 : decode cX5_many 92 = .ok (.iload_n 3, 1) := dk_29 (dk_at dksX5_many_3 22 rfl rfl)
theorem dX5_many_93 : decode cX5_many 93 = .ok (.if_icmp .ne 7, 3) := dk_160 0 7 (dk_at dksX5_many_4 0 rfl rfl)
theorem dX5_many_96 : decode cX5_many 96 = .ok (.iconst 1, 1) := dk_4 (dk_at dksX5_many_4 3 rfl rfl)
theorem dX5_many_97 : decode cX5_many 97 = .ok (.goto 4, 3) := dk_167 0 4 (dk_at dksX5_many_4 4 rfl rfl)
theorem dX5_many_100 : decode cX5_many 100 = .ok (.iconst 0, 1) := dk_3 (dk_at dksX5_many_4 7 rfl rfl)
theorem dX5_many_101 : decode cX5_many 101 = .ok (.istore 9, 2) := dk_54 9 (dk_at dksX5_many_4 8 rfl rfl)
theorem dX5_many_103 : decode cX5_many 103 = .ok (.lload 4, 2) := dk_22 4 (dk_at dksX5_many_4 10 rfl rfl)
theorem dX5_many_105 : decode cX5_many 105 = .ok (.iload 9, 2) := dk_21 9 (dk_at dksX5_many_4 12 rfl rfl)
theorem dX5_many_107 : decode cX5_many 107 = .ok (.ifCond .eq 19, 3) := dk_153 0 19 (dk_at dksX5_many_4 14 rfl rfl)
theorem dX5_many_110 : decode cX5_many 110 = .ok (.aload 7, 2) := dk_25 7 (dk_at dksX5_many_4 17 rfl rfl)
theorem dX5_many_112 : decode cX5_many 112 = .ok (.invokeinterface 89 1, 5) := by decide +kernel
theorem dX5_many_117 : decode cX5_many 117 = .ok (.checkcast 33, 3) := dk_192 0 33 (dk_at dksX5_many_5 0 rfl rfl)
theorem dX5_many_120 : decode cX5_many 120 = .ok (.invokevirtual 45, 3) := dk_182 0 45 (dk_at dksX5_many_5 3 rfl rfl)
theorem dX5_many_123 : decode cX5_many 123 = .ok (.goto 4, 3) := dk_167 0 4 (dk_at dksX5_many_5 6 rfl rfl)
theorem dX5_many_126 : decode cX5_many 126 = .ok (.lconst 0, 1) := dk_9 (dk_at dksX5_many_5 9 rfl rfl)
theorem dX5_many_127 : decode cX5_many 127 = .ok (.ladd, 1) := dk_97 (dk_at dksX5_many_5 10 rfl rfl)
theorem dX5_many_128 : decode cX5_many 128 = .ok (.lstore 4, 2) := dk_55 4 (dk_at dksX5_many_5 11 rfl rfl)
theorem dX5_many_130 : decode cX5_many 130 = .ok (.goto (-113), 3) := dk_167 255 143 (dk_at dksX5_many_5 13 rfl rfl)
theorem dX5_many_133 : decode cX5_many 133 = .ok (.lload 4, 2) := dk_22 4 (dk_at dksX5_many_5 16 rfl rfl)
theorem dX5_many_135 : decode cX5_many 135 = .ok (.lreturn, 1) := dk_173 (dk_at dksX5_many_5 18 rfl rfl)
theorem q109 : (Jvm.Cond.initialized "FlashRatchet$Ways") ∈ lw_all := lw_g (lw_at lw_m1 25 rfl) rfl
theorem q180 : (Jvm.Cond.fieldLinkNest "FlashRatchet$Ways" (103 : Nat) "FlashRatchet" "program" "I" "FlashRatchet") ∈ lw_tbl := lw_at lw_m1 96 rfl
theorem q184 : (Jvm.Cond.fieldLinkNest "FlashRatchet$Ways" (106 : Nat) "FlashRatchet" "index" "I" "FlashRatchet") ∈ lw_tbl := lw_at lw_m1 100 rfl
theorem q188 : (Jvm.Cond.fieldLinkNest "FlashRatchet$Ways" (22 : Nat) "FlashRatchet" "position" "I" "FlashRatchet") ∈ lw_tbl := lw_at lw_m1 104 rfl
theorem q903 : (Jvm.Cond.selects "FlashRatchet$Ways" ({ cls := "java/lang/Object", name := "getClass", desc := "()Ljava/lang/Class;" } : Jvm.MethodName) ({ cls := "java/lang/Object", name := "getClass", desc := "()Ljava/lang/Class;" } : Jvm.MethodName)) ∈ lw_all := lw_g (lw_at lw_m4 99 rfl) rfl
theorem q1265 : (Jvm.Cond.instantiable "FlashRatchet$Ways" (2 : Nat)) ∈ lw_all := lw_g (lw_at lw_m5 221 rfl) rfl
theorem q1267 : (Jvm.Cond.instanceMethod ({ cls := "FlashRatchet$Ways", name := "<init>", desc := "(LFlashRatchet;)V" } : Jvm.MethodName)) ∈ lw_all := lw_g (lw_at lw_m5 223 rfl) rfl
theorem q1268 : (Jvm.Cond.code ({ cls := "FlashRatchet$Ways", name := "<init>", desc := "(LFlashRatchet;)V" } : Jvm.MethodName) prog_8_method_1_code (2 : Nat) (Option.none : Option Jvm.ClassFile.FieldType)) ∈ lw_all := lw_g (lw_at lw_m5 224 rfl) rfl
theorem q1269 : (Jvm.Cond.methodLink "FlashRatchet$Ways" (9 : Nat) ({ cls := "java/lang/Object", name := "<init>", desc := "()V" } : Jvm.MethodName)) ∈ lw_all := lw_g (lw_at lw_m5 225 rfl) rfl
theorem q1270 : (Jvm.Cond.classLink "FlashRatchet$Ways" (15 : Nat) "java/util/TreeMap") ∈ lw_all := lw_g (lw_at lw_m5 226 rfl) rfl
theorem q1272 : (Jvm.Cond.methodLink "FlashRatchet$Ways" (17 : Nat) ({ cls := "java/util/TreeMap", name := "<init>", desc := "()V" } : Jvm.MethodName)) ∈ lw_all := lw_g (lw_at lw_m5 228 rfl) rfl
theorem q1304 : (Jvm.Cond.methodLink "FlashRatchet$Ways" (26 : Nat) ({ cls := "java/lang/Integer", name := "valueOf", desc := "(I)Ljava/lang/Integer;" } : Jvm.MethodName)) ∈ lw_all := lw_g (lw_at lw_m6 20 rfl) rfl
theorem q1323 : (Jvm.Cond.methodLink "FlashRatchet$Ways" (32 : Nat) ({ cls := "java/lang/Long", name := "valueOf", desc := "(J)Ljava/lang/Long;" } : Jvm.MethodName)) ∈ lw_all := lw_g (lw_at lw_m6 39 rfl) rfl
theorem q1339 : (Jvm.Cond.methodLink "FlashRatchet$Ways" (37 : Nat) ({ cls := "java/util/TreeMap", name := "put", desc := "(Ljava/lang/Object;Ljava/lang/Object;)Ljava/lang/Object;" } : Jvm.MethodName)) ∈ lw_all := lw_g (lw_at lw_m6 55 rfl) rfl
theorem q1423 : (Jvm.Cond.fieldLink "FlashRatchet$Ways" (18 : Nat) "FlashRatchet$Ways" "ways" "Ljava/util/TreeMap;") ∈ lw_all := lw_g (lw_at lw_m6 139 rfl) rfl
theorem q1424 : (Jvm.Cond.fieldLink "FlashRatchet$Ways" (3 : Nat) "FlashRatchet$Ways" "this$0" "LFlashRatchet;") ∈ lw_all := lw_g (lw_at lw_m6 140 rfl) rfl
theorem q1425 : (Jvm.Cond.lays "FlashRatchet$Ways" "FlashRatchet$Ways" "ways" "Ljava/util/TreeMap;") ∈ lw_all := lw_g (lw_at lw_m6 141 rfl) rfl
theorem q1426 : (Jvm.Cond.soleField "FlashRatchet$Ways" "ways") ∈ lw_all := lw_g (lw_at lw_m6 142 rfl) rfl
theorem q1427 : (Jvm.Cond.laysFinal "FlashRatchet$Ways" "FlashRatchet$Ways" "this$0" "LFlashRatchet;") ∈ lw_all := lw_g (lw_at lw_m6 143 rfl) rfl
theorem q1428 : (Jvm.Cond.soleField "FlashRatchet$Ways" "this$0") ∈ lw_all := lw_g (lw_at lw_m6 144 rfl) rfl
theorem q1429 : (Jvm.Cond.superclass "FlashRatchet$Ways" "java/lang/Object") ∈ lw_all := lw_g (lw_at lw_m6 145 rfl) rfl
theorem q1431 : (Jvm.Cond.instanceMethod ({ cls := "FlashRatchet$Ways", name := "go", desc := "(III)LFlashRatchet$Ways;" } : Jvm.MethodName)) ∈ lw_all := lw_g (lw_at lw_m6 147 rfl) rfl
theorem q1432 : (Jvm.Cond.selects "FlashRatchet$Ways" ({ cls := "FlashRatchet$Ways", name := "go", desc := "(III)LFlashRatchet$Ways;" } : Jvm.MethodName) ({ cls := "FlashRatchet$Ways", name := "go", desc := "(III)LFlashRatchet$Ways;" } : Jvm.MethodName)) ∈ lw_all := lw_g (lw_at lw_m6 148 rfl) rfl
theorem q1433 : (Jvm.Cond.code ({ cls := "FlashRatchet$Ways", name := "go", desc := "(III)LFlashRatchet$Ways;" } : Jvm.MethodName) prog_8_method_4_code (5 : Nat) (Option.some (Jvm.ClassFile.FieldType.object "FlashRatchet$Ways"))) ∈ lw_all := lw_g (lw_at lw_m6 149 rfl) rfl
theorem q1434 : (Jvm.Cond.methodLinkNest "FlashRatchet$Ways" (109 : Nat) ({ cls := "FlashRatchet", name := "length", desc := "(I)I" } : Jvm.MethodName) "FlashRatchet") ∈ lw_tbl := lw_at lw_m6 150 rfl
theorem q1435 : (Jvm.Cond.methodLinkNest "FlashRatchet$Ways" (113 : Nat) ({ cls := "FlashRatchet", name := "lever", desc := "(II)I" } : Jvm.MethodName) "FlashRatchet") ∈ lw_tbl := lw_at lw_m6 151 rfl
theorem q1436 : (Jvm.Cond.methodLink "FlashRatchet$Ways" (116 : Nat) ({ cls := "FlashRatchet$Ways", name := "tick", desc := "(III)V" } : Jvm.MethodName)) ∈ lw_all := lw_g (lw_at lw_m6 152 rfl) rfl
theorem q1437 : (Jvm.Cond.instanceMethod ({ cls := "FlashRatchet$Ways", name := "tick", desc := "(III)V" } : Jvm.MethodName)) ∈ lw_all := lw_g (lw_at lw_m6 153 rfl) rfl
theorem q1438 : (Jvm.Cond.selects "FlashRatchet$Ways" ({ cls := "FlashRatchet$Ways", name := "tick", desc := "(III)V" } : Jvm.MethodName) ({ cls := "FlashRatchet$Ways", name := "tick", desc := "(III)V" } : Jvm.MethodName)) ∈ lw_all := lw_g (lw_at lw_m6 154 rfl) rfl
theorem q1439 : (Jvm.Cond.code ({ cls := "FlashRatchet$Ways", name := "tick", desc := "(III)V" } : Jvm.MethodName) prog_8_method_3_code (10 : Nat) (Option.none : Option Jvm.ClassFile.FieldType)) ∈ lw_all := lw_g (lw_at lw_m6 155 rfl) rfl
theorem q1440 : (Jvm.Cond.methodLink "FlashRatchet$Ways" (49 : Nat) ({ cls := "java/util/TreeMap", name := "entrySet", desc := "()Ljava/util/Set;" } : Jvm.MethodName)) ∈ lw_all := lw_g (lw_at lw_m6 156 rfl) rfl
theorem q1457 : (Jvm.Cond.interfaceEntry "FlashRatchet$Ways" (53 : Nat)) ∈ lw_tbl := lw_at lw_m6 173 rfl
theorem q1458 : (Jvm.Cond.methodLink "FlashRatchet$Ways" (53 : Nat) ({ cls := "java/util/Set", name := "iterator", desc := "()Ljava/util/Iterator;" } : Jvm.MethodName)) ∈ lw_all := lw_g (lw_at lw_m6 174 rfl) rfl
theorem q1493 : (Jvm.Cond.interfaceEntry "FlashRatchet$Ways" (59 : Nat)) ∈ lw_tbl := lw_at lw_m6 209 rfl
theorem q1494 : (Jvm.Cond.methodLink "FlashRatchet$Ways" (59 : Nat) ({ cls := "java/util/Iterator", name := "hasNext", desc := "()Z" } : Jvm.MethodName)) ∈ lw_all := lw_g (lw_at lw_m6 210 rfl) rfl
theorem q1503 : (Jvm.Cond.interfaceEntry "FlashRatchet$Ways" (65 : Nat)) ∈ lw_tbl := lw_at lw_m6 219 rfl
theorem q1504 : (Jvm.Cond.methodLink "FlashRatchet$Ways" (65 : Nat) ({ cls := "java/util/Iterator", name := "next", desc := "()Ljava/lang/Object;" } : Jvm.MethodName)) ∈ lw_all := lw_g (lw_at lw_m6 220 rfl) rfl
theorem q1525 : (Jvm.Cond.classLink "FlashRatchet$Ways" (69 : Nat) "java/util/Map$Entry") ∈ lw_all := lw_g (lw_at lw_m7 1 rfl) rfl
theorem q1526 : (Jvm.Cond.interfaceEntry "FlashRatchet$Ways" (71 : Nat)) ∈ lw_tbl := lw_at lw_m7 2 rfl
theorem q1527 : (Jvm.Cond.methodLink "FlashRatchet$Ways" (71 : Nat) ({ cls := "java/util/Map$Entry", name := "getKey", desc := "()Ljava/lang/Object;" } : Jvm.MethodName)) ∈ lw_all := lw_g (lw_at lw_m7 3 rfl) rfl
theorem q1536 : (Jvm.Cond.classLink "FlashRatchet$Ways" (27 : Nat) "java/lang/Integer") ∈ lw_all := lw_g (lw_at lw_m7 12 rfl) rfl
theorem q1537 : (Jvm.Cond.methodLink "FlashRatchet$Ways" (74 : Nat) ({ cls := "java/lang/Integer", name := "intValue", desc := "()I" } : Jvm.MethodName)) ∈ lw_all := lw_g (lw_at lw_m7 13 rfl) rfl
theorem q1541 : (Jvm.Cond.methodLink "FlashRatchet$Ways" (78 : Nat) ({ cls := "java/lang/Math", name := "floorDiv", desc := "(II)I" } : Jvm.MethodName)) ∈ lw_all := lw_g (lw_at lw_m7 17 rfl) rfl
theorem q1544 : (Jvm.Cond.methodLink "FlashRatchet$Ways" (84 : Nat) ({ cls := "java/lang/Math", name := "floorMod", desc := "(II)I" } : Jvm.MethodName)) ∈ lw_all := lw_g (lw_at lw_m7 20 rfl) rfl
theorem q1547 : (Jvm.Cond.constantLong "FlashRatchet$Ways" (87 : Nat) (10 : Int64)) ∈ lw_all := lw_g (lw_at lw_m7 23 rfl) rfl
theorem q1548 : (Jvm.Cond.interfaceEntry "FlashRatchet$Ways" (89 : Nat)) ∈ lw_tbl := lw_at lw_m7 24 rfl
theorem q1549 : (Jvm.Cond.methodLink "FlashRatchet$Ways" (89 : Nat) ({ cls := "java/util/Map$Entry", name := "getValue", desc := "()Ljava/lang/Object;" } : Jvm.MethodName)) ∈ lw_all := lw_g (lw_at lw_m7 25 rfl) rfl
theorem q1557 : (Jvm.Cond.classLink "FlashRatchet$Ways" (33 : Nat) "java/lang/Long") ∈ lw_all := lw_g (lw_at lw_m7 33 rfl) rfl
theorem q1558 : (Jvm.Cond.methodLink "FlashRatchet$Ways" (45 : Nat) ({ cls := "java/lang/Long", name := "longValue", desc := "()J" } : Jvm.MethodName)) ∈ lw_all := lw_g (lw_at lw_m7 34 rfl) rfl
theorem q1562 : (Jvm.Cond.methodLink "FlashRatchet$Ways" (92 : Nat) ({ cls := "FlashRatchet$Ways", name := "add", desc := "(Ljava/util/TreeMap;IJ)V" } : Jvm.MethodName)) ∈ lw_all := lw_g (lw_at lw_m7 38 rfl) rfl
theorem q1563 : (Jvm.Cond.privateMethod ({ cls := "FlashRatchet$Ways", name := "add", desc := "(Ljava/util/TreeMap;IJ)V" } : Jvm.MethodName)) ∈ lw_tbl := lw_at lw_m7 39 rfl
theorem q1564 : (Jvm.Cond.instanceMethod ({ cls := "FlashRatchet$Ways", name := "add", desc := "(Ljava/util/TreeMap;IJ)V" } : Jvm.MethodName)) ∈ lw_all := lw_g (lw_at lw_m7 40 rfl) rfl
theorem q1565 : (Jvm.Cond.code ({ cls := "FlashRatchet$Ways", name := "add", desc := "(Ljava/util/TreeMap;IJ)V" } : Jvm.MethodName) prog_8_method_2_code (6 : Nat) (Option.none : Option Jvm.ClassFile.FieldType)) ∈ lw_all := lw_g (lw_at lw_m7 41 rfl) rfl
theorem q1566 : (Jvm.Cond.methodLink "FlashRatchet$Ways" (41 : Nat) ({ cls := "java/util/TreeMap", name := "get", desc := "(Ljava/lang/Object;)Ljava/lang/Object;" } : Jvm.MethodName)) ∈ lw_all := lw_g (lw_at lw_m7 42 rfl) rfl
theorem q1578 : (Jvm.Cond.methodLinkNest "FlashRatchet$Ways" (96 : Nat) ({ cls := "FlashRatchet", name := "moved", desc := "(II)I" } : Jvm.MethodName) "FlashRatchet") ∈ lw_tbl := lw_at lw_m7 54 rfl
theorem q1579 : (Jvm.Cond.methodLinkNest "FlashRatchet$Ways" (99 : Nat) ({ cls := "FlashRatchet", name := "draws", desc := "(III)I" } : Jvm.MethodName) "FlashRatchet") ∈ lw_tbl := lw_at lw_m7 55 rfl
theorem q1581 : (Jvm.Cond.instanceMethod ({ cls := "FlashRatchet$Ways", name := "many", desc := "(III)J" } : Jvm.MethodName)) ∈ lw_all := lw_g (lw_at lw_m7 57 rfl) rfl
theorem q1582 : (Jvm.Cond.selects "FlashRatchet$Ways" ({ cls := "FlashRatchet$Ways", name := "many", desc := "(III)J" } : Jvm.MethodName) ({ cls := "FlashRatchet$Ways", name := "many", desc := "(III)J" } : Jvm.MethodName)) ∈ lw_all := lw_g (lw_at lw_m7 58 rfl) rfl
theorem q1583 : (Jvm.Cond.code ({ cls := "FlashRatchet$Ways", name := "many", desc := "(III)J" } : Jvm.MethodName) prog_8_method_5_code (10 : Nat) (Option.some Jvm.ClassFile.FieldType.long)) ∈ lw_all := lw_g (lw_at lw_m7 59 rfl) rfl
theorem q2290 : (Jvm.Cond.castable "FlashRatchet$Ways" "java/lang/Object") ∈ lw_tbl := lw_at lw_m10 46 rfl
theorem in_X5 : ∀ w ∈ wsX50, w ∈ lw_all := lw_in wsX50 [1425, 1427] (by decide +kernel) (by decide +kernel)
/-! FlashRatchet$Rounds -/
set_option maxRecDepth 100000
def RX6 : String := "FlashRatchet$Rounds"
def TX6 : u_T := fun k => match k with
  | 0 => ("FlashRatchet$Rounds", "length", "I", true)
  | 1 => ("FlashRatchet$Rounds", "ways", "[[J", true)
  | 2 => ("FlashRatchet$Rounds", "gains", "[J", true)
  | 3 => ("FlashRatchet$Rounds", "to", "[I", true)
  | 4 => ("FlashRatchet$Rounds", "all", "J", false)
  | _ => ("FlashRatchet$Rounds", "this$0", "LFlashRatchet;", true)
def tyX6 : Nat → FieldType := fun k => match k with
  | 0 => .int
  | 1 => .array (.array .long)
  | 2 => .array .long
  | 3 => .array .int
  | 4 => .long
  | _ => .object "FlashRatchet"
abbrev wsX60 : List Cond := u_ws RX6 TX6 6
theorem nmX6 : ∀ a, a < 6 → ∀ b, b < 6 → a ≠ b → (TX6 a).2.1 ≠ (TX6 b).2.1 := by decide +kernel
theorem tyX6_ok : ∀ k, k < 6 → parseFieldDescriptor (TX6 k).2.2.1 = some (tyX6 k) := by decide +kernel
abbrev cX6_init : ByteArray := prog_6_method_1_code
def yX6_init : MethodName := ⟨RX6, "<init>", "(LFlashRatchet;I)V"⟩
def dkwX6_init_7 : List UInt8 := [132, 6, 1, 167, 255, 208, 132, 3, 1, 167, 255, 176, 177]
abbrev dktX6_init_7 : List UInt8 := dkwX6_init_7 ++ []
def dkwX6_init_6 : List UInt8 := [92, 47, 22, 4, 42, 42, 180, 0, 21, 29, 50, 28, 21, 6, 184, 0, 44, 182, 0, 48, 105, 97, 80]
abbrev dktX6_init_6 : List UInt8 := dkwX6_init_6 ++ dktX6_init_7
def dkwX6_init_5 : List UInt8 := [54, 6, 21, 6, 42, 180, 0, 40, 162, 0, 45, 22, 4, 20, 0, 42, 109, 55, 4, 42, 180, 0, 24, 29]
abbrev dktX6_init_5 : List UInt8 := dkwX6_init_5 ++ dktX6_init_6
def dkwX6_init_4 : List UInt8 := [43, 180, 0, 15, 162, 0, 78, 42, 180, 0, 21, 29, 50, 29, 10, 80, 42, 180, 0, 32, 55, 4, 3]
abbrev dktX6_init_4 : List UInt8 := dkwX6_init_4 ++ dktX6_init_5
def dkwX6_init_3 : List UInt8 := [162, 0, 21, 42, 89, 180, 0, 32, 20, 0, 42, 105, 181, 0, 32, 132, 3, 1, 167, 255, 233, 3, 62, 29]
abbrev dktX6_init_3 : List UInt8 := dkwX6_init_3 ++ dktX6_init_4
def dkwX6_init_2 : List UInt8 := [181, 0, 28, 42, 10, 181, 0, 32, 42, 28, 184, 0, 36, 181, 0, 40, 3, 62, 29, 42, 180, 0, 40]
abbrev dktX6_init_2 : List UInt8 := dkwX6_init_2 ++ dktX6_init_3
def dkwX6_init_1 : List UInt8 := [197, 0, 19, 2, 181, 0, 21, 42, 42, 180, 0, 3, 180, 0, 15, 188, 11, 181, 0, 24, 42, 7, 188, 10]
abbrev dktX6_init_1 : List UInt8 := dkwX6_init_1 ++ dktX6_init_2
def dkwX6_init_0 : List UInt8 := [42, 43, 181, 0, 3, 42, 183, 0, 9, 42, 42, 180, 0, 3, 180, 0, 15, 42, 180, 0, 3, 180, 0, 15]
abbrev dktX6_init_0 : List UInt8 := dkwX6_init_0 ++ dktX6_init_1
theorem dksX6_init_0 : cX6_init.data.toList.drop 0 = dktX6_init_0 := by decide +kernel
theorem dksX6_init_1 : cX6_init.data.toList.drop 24 = dktX6_init_1 := dk_seg dksX6_init_0 24 rfl rfl
theorem dksX6_init_2 : cX6_init.data.toList.drop 48 = dktX6_init_2 := dk_seg dksX6_init_1 24 rfl rfl
theorem dksX6_init_3 : cX6_init.data.toList.drop 71 = dktX6_init_3 := dk_seg dksX6_init_2 23 rfl rfl
theorem dksX6_init_4 : cX6_init.data.toList.drop 95 = dktX6_init_4 := dk_seg dksX6_init_3 24 rfl rfl
theorem dksX6_init_5 : cX6_init.data.toList.drop 118 = dktX6_init_5 := dk_seg dksX6_init_4 23 rfl rfl
theorem dksX6_init_6 : cX6_init.data.toList.drop 142 = dktX6_init_6 := dk_seg dksX6_init_5 24 rfl rfl
theorem dksX6_init_7 : cX6_init.data.toList.drop 165 = dktX6_init_7 := dk_seg dksX6_init_6 23 rfl rfl
theorem dX6_init_0 : decode cX6_init 0 = .ok (.aload_n 0, 1) := dk_42 (dk_at dksX6_init_0 0 rfl rfl)
theorem dX6_init_1 : decode cX6_init 1 = .ok (.aload_n 1, 1) := dk_43 (dk_at dksX6_init_0 1 rfl rfl)
theorem dX6_init_2 : decode cX6_init 2 = .ok (.putfield 3, 3) := dk_181 0 3 (dk_at dksX6_init_0 2 rfl rfl)
theorem dX6_init_5 : decode cX6_init 5 = .ok (.aload_n 0, 1) := dk_42 (dk_at dksX6_init_0 5 rfl rfl)
theorem dX6_init_6 : decode cX6_init 6 = .ok (.invokespecial 9, 3) := dk_183 0 9 (dk_at dksX6_init_0 6 rfl rfl)
theorem dX6_init_9 : decode cX6_init 9 = .ok (.aload_n 0, 1) := dk_42 (dk_at dksX6_init_0 9 rfl rfl)
theorem dX6_init_10 : decode cX6_init 10 = .ok (.aload_n 0, 1) := dk_42 (dk_at dksX6_init_0 10 rfl rfl)
theorem dX6_init_11 : decode cX6_init 11 = .ok (.getfield 3, 3) := dk_180 0 3 (dk_at dksX6_init_0 11 rfl rfl)
theorem dX6_init_14 : decode cX6_init 14 = .ok (.getfield 15, 3) := dk_180 0 15 (dk_at dksX6_init_0 14 rfl rfl)
theorem dX6_init_17 : decode cX6_init 17 = .ok (.aload_n 0, 1) := dk_42 (dk_at dksX6_init_0 17 rfl rfl)
theorem dX6_init_18 : decode cX6_init 18 = .ok (.getfield 3, 3) := dk_180 0 3 (dk_at dksX6_init_0 18 rfl rfl)
theorem dX6_init_21 : decode cX6_init 21 = .ok (.getfield 15, 3) := dk_180 0 15 (dk_at dksX6_init_0 21 rfl rfl)
theorem dX6_init_24 : decode cX6_init 24 = .ok (.multianewarray 19 2, 4) := by decide +kernel
theorem dX6_init_28 : decode cX6_init 28 = .ok (.putfield 21, 3) := dk_181 0 21 (dk_at dksX6_init_1 4 rfl rfl)
theorem dX6_init_31 : decode cX6_init 31 = .ok (.aload_n 0, 1) := dk_42 (dk_at dksX6_init_1 7 rfl rfl)
theorem dX6_init_32 : decode cX6_init 32 = .ok (.aload_n 0, 1) := dk_42 (dk_at dksX6_init_1 8 rfl rfl)
theorem dX6_init_33 : decode cX6_init 33 = .ok (.getfield 3, 3) := dk_180 0 3 (dk_at dksX6_init_1 9 rfl rfl)
theorem dX6_init_36 : decode cX6_init 36 = .ok (.getfield 15, 3) := dk_180 0 15 (dk_at dksX6_init_1 12 rfl rfl)
theorem dX6_init_39 : decode cX6_init 39 = .ok (.newarray .long, 2) := dk_188_11 (dk_at dksX6_init_1 15 rfl rfl)
theorem dX6_init_41 : decode cX6_init 41 = .ok (.putfield 24, 3) := dk_181 0 24 (dk_at dksX6_init_1 17 rfl rfl)
theorem dX6_init_44 : decode cX6_init 44 = .ok (.aload_n 0, 1) := dk_42 (dk_at dksX6_init_1 20 rfl rfl)
theorem dX6_init_45 : decode cX6_init 45 = .ok (.iconst 4, 1) := dk_7 (dk_at dksX6_init_1 21 rfl rfl)
theorem dX6_init_46 : decode cX6_init 46 = .ok (.newarray .int, 2) := dk_188_10 (dk_at dksX6_init_1 22 rfl rfl)
theorem dX6_init_48 : decode cX6_init 48 = .ok (.putfield 28, 3) := dk_181 0 28 (dk_at dksX6_init_2 0 rfl rfl)
theorem dX6_init_51 : decode cX6_init 51 = .ok (.aload_n 0, 1) := dk_42 (dk_at dksX6_init_2 3 rfl rfl)
theorem dX6_init_52 : decode cX6_init 52 = .ok (.lconst 1, 1) := dk_10 (dk_at dksX6_init_2 4 rfl rfl)
theorem dX6_init_53 : decode cX6_init 53 = .ok (.putfield 32, 3) := dk_181 0 32 (dk_at dksX6_init_2 5 rfl rfl)
theorem dX6_init_56 : decode cX6_init 56 = .ok (.aload_n 0, 1) := dk_42 (dk_at dksX6_init_2 8 rfl rfl)
theorem dX6_init_57 : decode cX6_init 57 = .ok (.iload_n 2, 1) := dk_28 (dk_at dksX6_init_2 9 rfl rfl)
theorem dX6_init_58 : decode cX6_init 58 = .ok (.invokestatic 36, 3) := dk_184 0 36 (dk_at dksX6_init_2 10 rfl rfl)
theorem dX6_init_61 : decode cX6_init 61 = .ok (.putfield 40, 3) := dk_181 0 40 (dk_at dksX6_init_2 13 rfl rfl)
theorem dX6_init_64 : decode cX6_init 64 = .ok (.iconst 0, 1) := dk_3 (dk_at dksX6_init_2 16 rfl rfl)
theorem dX6_init_65 : decode cX6_init 65 = .ok (.istore_n 3, 1) := dk_62 (dk_at dksX6_init_2 17 rfl rfl)
theorem dX6_init_66 : decode cX6_init 66 = .ok (.iload_n 3, 1) := dk_29 (dk_at dksX6_init_2 18 rfl rfl)
theorem dX6_init_67 : decode cX6_init 67 = .ok (.aload_n 0, 1) := dk_42 (dk_at dksX6_init_2 19 rfl rfl)
theorem dX6_init_68 : decode cX6_init 68 = .ok (.getfield 40, 3) := dk_180 0 40 (dk_at dksX6_init_2 20 rfl rfl)
theorem dX6_init_71 : decode cX6_init 71 = .ok (.if_icmp .ge 21, 3) := dk_162 0 21 (dk_at dksX6_init_3 0 rfl rfl)
theorem dX6_init_74 : decode cX6_init 74 = .ok (.aload_n 0, 1) := dk_42 (dk_at dksX6_init_3 3 rfl rfl)
theorem dX6_init_75 : decode cX6_init 75 = .ok (.dup, 1) := dk_89 (dk_at dksX6_init_3 4 rfl rfl)
theorem dX6_init_76 : decode cX6_init 76 = .ok (.getfield 32, 3) := dk_180 0 32 (dk_at dksX6_init_3 5 rfl rfl)
theorem dX6_init_79 : decode cX6_init 79 = .ok (.ldc2_w 42, 3) := dk_20 0 42 (dk_at dksX6_init_3 8 rfl rfl)
theorem dX6_init_82 : decode cX6_init 82 = .ok (.lmul, 1) := dk_105 (dk_at dksX6_init_3 11 rfl rfl)
theorem dX6_init_83 : decode cX6_init 83 = .ok (.putfield 32, 3) := dk_181 0 32 (dk_at dksX6_init_3 12 rfl rfl)
theorem dX6_init_86 : decode cX6_init 86 = .ok (.iinc 3 1, 3) := dk_132 3 1 (dk_at dksX6_init_3 15 rfl rfl)
theorem dX6_init_89 : decode cX6_init 89 = .ok (.goto (-23), 3) := dk_167 255 233 (dk_at dksX6_init_3 18 rfl rfl)
theorem dX6_init_92 : decode cX6_init 92 = .ok (.iconst 0, 1) := dk_3 (dk_at dksX6_init_3 21 rfl rfl)
theorem dX6_init_93 : decode cX6_init 93 = .ok (.istore_n 3, 1) := dk_62 (dk_at dksX6_init_3 22 rfl rfl)
theorem dX6_init_94 : decode cX6_init 94 = .ok (.iload_n 3, 1) := dk_29 (dk_at dksX6_init_3 23 rfl rfl)
theorem dX6_init_95 : decode cX6_init 95 = .ok (.aload_n 1, 1) := dk_43 (dk_at dksX6_init_4 0 rfl rfl)
theorem dX6_init_96 : decode cX6_init 96 = .ok (.getfield 15, 3) := dk_180 0 15 (dk_at dksX6_init_4 1 rfl rfl)
theorem dX6_init_99 : decode cX6_init 99 = .ok (.if_icmp .ge 78, 3) := dk_162 0 78 (dk_at dksX6_init_4 4 rfl rfl)
theorem dX6_init_102 : decode cX6_init 102 = .ok (.aload_n 0, 1) := dk_42 (dk_at dksX6_init_4 7 rfl rfl)
theorem dX6_init_103 : decode cX6_init 103 = .ok (.getfield 21, 3) := dk_180 0 21 (dk_at dksX6_init_4 8 rfl rfl)
theorem dX6_init_106 : decode cX6_init 106 = .ok (.iload_n 3, 1) := dk_29 (dk_at dksX6_init_4 11 rfl rfl)
theorem dX6_init_107 : decode cX6_init 107 = .ok (.aaload, 1) := dk_50 (dk_at dksX6_init_4 12 rfl rfl)
theorem dX6_init_108 : decode cX6_init 108 = .ok (.iload_n 3, 1) := dk_29 (dk_at dksX6_init_4 13 rfl rfl)
theorem dX6_init_109 : decode cX6_init 109 = .ok (.lconst 1, 1) := dk_10 (dk_at dksX6_init_4 14 rfl rfl)
theorem dX6_init_110 : decode cX6_init 110 = .ok (.lastore, 1) := dk_80 (dk_at dksX6_init_4 15 rfl rfl)
theorem dX6_init_111 : decode cX6_init 111 = .ok (.aload_n 0, 1) := dk_42 (dk_at dksX6_init_4 16 rfl rfl)
theorem dX6_init_112 : decode cX6_init 112 = .ok (.getfield 32, 3) := dk_180 0 32 (dk_at dksX6_init_4 17 rfl rfl)
theorem dX6_init_115 : decode cX6_init 115 = .ok (.lstore 4, 2) := dk_55 4 (dk_at dksX6_init_4 20 rfl rfl)
theorem dX6_init_117 : decode cX6_init 117 = .ok (.iconst 0, 1) := dk_3 (dk_at dksX6_init_4 22 rfl rfl)
theorem dX6_init_118 : decode cX6_init 118 = .ok (.istore 6, 2) := dk_54 6 (dk_at dksX6_init_5 0 rfl rfl)
theorem dX6_init_120 : decode cX6_init 120 = .ok (.iload 6, 2) := dk_21 6 (dk_at dksX6_init_5 2 rfl rfl)
theorem dX6_init_122 : decode cX6_init 122 = .ok (.aload_n 0, 1) := dk_42 (dk_at dksX6_init_5 4 rfl rfl)
theorem dX6_init_123 : decode cX6_init 123 = .ok (.getfield 40, 3) := dk_180 0 40 (dk_at dksX6_init_5 5 rfl rfl)
theorem dX6_init_126 : decode cX6_init 126 = .ok (.if_icmp .ge 45, 3) := dk_162 0 45 (dk_at dksX6_init_5 8 rfl rfl)
theorem dX6_init_129 : decode cX6_init 129 = .ok (.lload 4, 2) := dk_22 4 (dk_at dksX6_init_5 11 rfl rfl)
theorem dX6_init_131 : decode cX6_init 131 = .ok (.ldc2_w 42, 3) := dk_20 0 42 (dk_at dksX6_init_5 13 rfl rfl)
theorem dX6_init_134 : decode cX6_init 134 = .ok (.ldiv, 1) := dk_109 (dk_at dksX6_init_5 16 rfl rfl)
theorem dX6_init_135 : decode cX6_init 135 = .ok (.lstore 4, 2) := dk_55 4 (dk_at dksX6_init_5 17 rfl rfl)
theorem dX6_init_137 : decode cX6_init 137 = .ok (.aload_n 0, 1) := dk_42 (dk_at dksX6_init_5 19 rfl rfl)
theorem dX6_init_138 : decode cX6_init 138 = .ok (.getfield 24, 3) := dk_180 0 24 (dk_at dksX6_init_5 20 rfl rfl)
theorem dX6_init_141 : decode cX6_init 141 = .ok (.iload_n 3, 1) := dk_29 (dk_at dksX6_init_5 23 rfl rfl)
theorem dX6_init_142 : decode cX6_init 142 = .ok (.dup2, 1) := dk_92 (dk_at dksX6_init_6 0 rfl rfl)
theorem dX6_init_143 : decode cX6_init 143 = .ok (.laload, 1) := dk_47 (dk_at dksX6_init_6 1 rfl rfl)
theorem dX6_init_144 : decode cX6_init 144 = .ok (.lload 4, 2) := dk_22 4 (dk_at dksX6_init_6 2 rfl rfl)
theorem dX6_init_146 : decode cX6_init 146 = .ok (.aload_n 0, 1) := dk_42 (dk_at dksX6_init_6 4 rfl rfl)
theorem dX6_init_147 : decode cX6_init 147 = .ok (.aload_n 0, 1) := dk_42 (dk_at dksX6_init_6 5 rfl rfl)
theorem dX6_init_148 : decode cX6_init 148 = .ok (.getfield 21, 3) := dk_180 0 21 (dk_at dksX6_init_6 6 rfl rfl)
theorem dX6_init_151 : decode cX6_init 151 = .ok (.iload_n 3, 1) := dk_29 (dk_at dksX6_init_6 9 rfl rfl)
theorem dX6_init_152 : decode cX6_init 152 = .ok (.aaload, 1) := dk_50 (dk_at dksX6_init_6 10 rfl rfl)
theorem dX6_init_153 : decode cX6_init 153 = .ok (.iload_n 2, 1) := dk_28 (dk_at dksX6_init_6 11 rfl rfl)
theorem dX6_init_154 : decode cX6_init 154 = .ok (.iload 6, 2) := dk_21 6 (dk_at dksX6_init_6 12 rfl rfl)
theorem dX6_init_156 : decode cX6_init 156 = .ok (.invokestatic 44, 3) := dk_184 0 44 (dk_at dksX6_init_6 14 rfl rfl)
theorem dX6_init_159 : decode cX6_init 159 = .ok (.invokevirtual 48, 3) := dk_182 0 48 (dk_at dksX6_init_6 17 rfl rfl)
theorem dX6_init_162 : decode cX6_init 162 = .ok (.lmul, 1) := dk_105 (dk_at dksX6_init_6 20 rfl rfl)
theorem dX6_init_163 : decode cX6_init 163 = .ok (.ladd, 1) := dk_97 (dk_at dksX6_init_6 21 rfl rfl)
theorem dX6_init_164 : decode cX6_init 164 = .ok (.lastore, 1) := dk_80 (dk_at dksX6_init_6 22 rfl rfl)
theorem dX6_init_165 : decode cX6_init 165 = .ok (.iinc 6 1, 3) := dk_132 6 1 (dk_at dksX6_init_7 0 rfl rfl)
theorem dX6_init_168 : decode cX6_init 168 = .ok (.goto (-48), 3) := dk_167 255 208 (dk_at dksX6_init_7 3 rfl rfl)
theorem dX6_init_171 : decode cX6_init 171 = .ok (.iinc 3 1, 3) := dk_132 3 1 (dk_at dksX6_init_7 6 rfl rfl)
theorem dX6_init_174 : decode cX6_init 174 = .ok (.goto (-80), 3) := dk_167 255 176 (dk_at dksX6_init_7 9 rfl rfl)
theorem dX6_init_177 : decode cX6_init 177 = .ok (.return_, 1) := dk_177 (dk_at dksX6_init_7 12 rfl rfl)
abbrev cX6_tick : ByteArray := prog_6_method_2_code
def yX6_tick : MethodName := ⟨RX6, "tick", "([JI)J"⟩
def dkwX6_tick_5 : List UInt8 := [167, 255, 178, 33, 173]
abbrev dktX6_tick_5 : List UInt8 := dkwX6_tick_5 ++ []
def dkwX6_tick_4 : List UInt8 := [92, 47, 22, 8, 97, 80, 33, 22, 8, 21, 7, 133, 105, 97, 66, 132, 7, 1, 167, 255, 199, 132, 6, 1]
abbrev dktX6_tick_4 : List UInt8 := dkwX6_tick_4 ++ dktX6_tick_5
def dkwX6_tick_3 : List UInt8 := [28, 21, 6, 21, 7, 182, 0, 57, 133, 105, 55, 8, 43, 42, 180, 0, 3, 21, 6, 21, 7, 182, 0, 61]
abbrev dktX6_tick_3 : List UInt8 := dkwX6_tick_3 ++ dktX6_tick_4
def dkwX6_tick_2 : List UInt8 := [180, 0, 15, 162, 0, 72, 2, 54, 7, 21, 7, 4, 163, 0, 57, 25, 5, 21, 6, 47, 42, 180, 0, 3]
abbrev dktX6_tick_2 : List UInt8 := dkwX6_tick_2 ++ dktX6_tick_3
def dkwX6_tick_1 : List UInt8 := [162, 0, 14, 43, 21, 6, 9, 80, 132, 6, 1, 167, 255, 236, 3, 54, 6, 21, 6, 42, 180, 0, 3]
abbrev dktX6_tick_1 : List UInt8 := dkwX6_tick_1 ++ dktX6_tick_2
def dkwX6_tick_0 : List UInt8 := [9, 66, 43, 182, 0, 52, 192, 0, 53, 58, 5, 3, 54, 6, 21, 6, 42, 180, 0, 3, 180, 0, 15]
abbrev dktX6_tick_0 : List UInt8 := dkwX6_tick_0 ++ dktX6_tick_1
theorem dksX6_tick_0 : cX6_tick.data.toList.drop 0 = dktX6_tick_0 := by decide +kernel
theorem dksX6_tick_1 : cX6_tick.data.toList.drop 23 = dktX6_tick_1 := dk_seg dksX6_tick_0 23 rfl rfl
theorem dksX6_tick_2 : cX6_tick.data.toList.drop 46 = dktX6_tick_2 := dk_seg dksX6_tick_1 23 rfl rfl
theorem dksX6_tick_3 : cX6_tick.data.toList.drop 70 = dktX6_tick_3 := dk_seg dksX6_tick_2 24 rfl rfl
theorem dksX6_tick_4 : cX6_tick.data.toList.drop 94 = dktX6_tick_4 := dk_seg dksX6_tick_3 24 rfl rfl
theorem dksX6_tick_5 : cX6_tick.data.toList.drop 118 = dktX6_tick_5 := dk_seg dksX6_tick_4 24 rfl rfl
theorem dX6_tick_0 : decode cX6_tick 0 = .ok (.lconst 0, 1) := dk_9 (dk_at dksX6_tick_0 0 rfl rfl)
theorem dX6_tick_1 : decode cX6_tick 1 = .ok (.lstore_n 3, 1) := dk_66 (dk_at dksX6_tick_0 1 rfl rfl)
theorem dX6_tick_2 : decode cX6_tick 2 = .ok (.aload_n 1, 1) := dk_43 (dk_at dksX6_tick_0 2 rfl rfl)
theorem dX6_tick_3 : decode cX6_tick 3 = .ok (.invokevirtual 52, 3) := dk_182 0 52 (dk_at dksX6_tick_0 3 rfl rfl)
theorem dX6_tick_6 : decode cX6_tick 6 = .ok (.checkcast 53, 3) := dk_192 0 53 (dk_at dksX6_tick_0 6 rfl rfl)
theorem dX6_tick_9 : decode cX6_tick 9 = .ok (.astore 5, 2) := dk_58 5 (dk_at dksX6_tick_0 9 rfl rfl)
theorem dX6_tick_11 : decode cX6_tick 11 = .ok (.iconst 0, 1) := dk_3 (dk_at dksX6_tick_0 11 rfl rfl)
theorem dX6_tick_12 : decode cX6_tick 12 = .ok (.istore 6, 2) := dk_54 6 (dk_at dksX6_tick_0 12 rfl rfl)
theorem dX6_tick_14 : decode cX6_tick 14 = .ok (.iload 6, 2) := dk_21 6 (dk_at dksX6_tick_0 14 rfl rfl)
theorem dX6_tick_16 : decode cX6_tick 16 = .ok (.aload_n 0, 1) := dk_42 (dk_at dksX6_tick_0 16 rfl rfl)
theorem dX6_tick_17 : decode cX6_tick 17 = .ok (.getfield 3, 3) := dk_180 0 3 (dk_at dksX6_tick_0 17 rfl rfl)
theorem dX6_tick_20 : decode cX6_tick 20 = .ok (.getfield 15, 3) := dk_180 0 15 (dk_at dksX6_tick_0 20 rfl rfl)
theorem dX6_tick_23 : decode cX6_tick 23 = .ok (.if_icmp .ge 14, 3) := dk_162 0 14 (dk_at dksX6_tick_1 0 rfl rfl)
theorem dX6_tick_26 : decode cX6_tick 26 = .ok (.aload_n 1, 1) := dk_43 (dk_at dksX6_tick_1 3 rfl rfl)
theorem dX6_tick_27 : decode cX6_tick 27 = .ok (.iload 6, 2) := dk_21 6 (dk_at dksX6_tick_1 4 rfl rfl)
theorem dX6_tick_29 : decode cX6_tick 29 = .ok (.lconst 0, 1) := dk_9 (dk_at dksX6_tick_1 6 rfl rfl)
theorem dX6_tick_30 : decode cX6_tick 30 = .ok (.lastore, 1) := dk_80 (dk_at dksX6_tick_1 7 rfl rfl)
theorem dX6_tick_31 : decode cX6_tick 31 = .ok (.iinc 6 1, 3) := dk_132 6 1 (dk_at dksX6_tick_1 8 rfl rfl)
theorem dX6_tick_34 : decode cX6_tick 34 = .ok (.goto (-20), 3) := dk_167 255 236 (dk_at dksX6_tick_1 11 rfl rfl)
theorem dX6_tick_37 : decode cX6_tick 37 = .ok (.iconst 0, 1) := dk_3 (dk_at dksX6_tick_1 14 rfl rfl)
theorem dX6_tick_38 : decode cX6_tick 38 = .ok (.istore 6, 2) := dk_54 6 (dk_at dksX6_tick_1 15 rfl rfl)
theorem dX6_tick_40 : decode cX6_tick 40 = .ok (.iload 6, 2) := dk_21 6 (dk_at dksX6_tick_1 17 rfl rfl)
theorem dX6_tick_42 : decode cX6_tick 42 = .ok (.aload_n 0, 1) := dk_42 (dk_at dksX6_tick_1 19 rfl rfl)
theorem dX6_tick_43 : decode cX6_tick 43 = .ok (.getfield 3, 3) := dk_180 0 3 (dk_at dksX6_tick_1 20 rfl rfl)
theorem dX6_tick_46 : decode cX6_tick 46 = .ok (.getfield 15, 3) := dk_180 0 15 (dk_at dksX6_tick_2 0 rfl rfl)
theorem dX6_tick_49 : decode cX6_tick 49 = .ok (.if_icmp .ge 72, 3) := dk_162 0 72 (dk_at dksX6_tick_2 3 rfl rfl)
theorem dX6_tick_52 : decode cX6_tick 52 = .ok (.iconst (-1), 1) := dk_2 (dk_at dksX6_tick_2 6 rfl rfl)
theorem dX6_tick_53 : decode cX6_tick 53 = .ok (.istore 7, 2) := dk_54 7 (dk_at dksX6_tick_2 7 rfl rfl)
theorem dX6_tick_55 : decode cX6_tick 55 = .ok (.iload 7, 2) := dk_21 7 (dk_at dksX6_tick_2 9 rfl rfl)
theorem dX6_tick_57 : decode cX6_tick 57 = .ok (.iconst 1, 1) := dk_4 (dk_at dksX6_tick_2 11 rfl rfl)
theorem dX6_tick_58 : decode cX6_tick 58 = .ok (.if_icmp .gt 57, 3) := dk_163 0 57 (dk_at dksX6_tick_2 12 rfl rfl)
theorem dX6_tick_61 : decode cX6_tick 61 = .ok (.aload 5, 2) := dk_25 5 (dk_at dksX6_tick_2 15 rfl rfl)
theorem dX6_tick_63 : decode cX6_tick 63 = .ok (.iload 6, 2) := dk_21 6 (dk_at dksX6_tick_2 17 rfl rfl)
theorem dX6_tick_65 : decode cX6_tick 65 = .ok (.laload, 1) := dk_47 (dk_at dksX6_tick_2 19 rfl rfl)
theorem dX6_tick_66 : decode cX6_tick 66 = .ok (.aload_n 0, 1) := dk_42 (dk_at dksX6_tick_2 20 rfl rfl)
theorem dX6_tick_67 : decode cX6_tick 67 = .ok (.getfield 3, 3) := dk_180 0 3 (dk_at dksX6_tick_2 21 rfl rfl)
theorem dX6_tick_70 : decode cX6_tick 70 = .ok (.iload_n 2, 1) := dk_28 (dk_at dksX6_tick_3 0 rfl rfl)
theorem dX6_tick_71 : decode cX6_tick 71 = .ok (.iload 6, 2) := dk_21 6 (dk_at dksX6_tick_3 1 rfl rfl)
theorem dX6_tick_73 : decode cX6_tick 73 = .ok (.iload 7, 2) := dk_21 7 (dk_at dksX6_tick_3 3 rfl rfl)
theorem dX6_tick_75 : decode cX6_tick 75 = .ok (.invokevirtual 57, 3) := dk_182 0 57 (dk_at dksX6_tick_3 5 rfl rfl)
theorem dX6_tick_78 : decode cX6_tick 78 = .ok (.i2l, 1) := dk_133 (dk_at dksX6_tick_3 8 rfl rfl)
theorem dX6_tick_79 : decode cX6_tick 79 = .ok (.lmul, 1) := dk_105 (dk_at dksX6_tick_3 9 rfl rfl)
theorem dX6_tick_80 : decode cX6_tick 80 = .ok (.lstore 8, 2) := dk_55 8 (dk_at dksX6_tick_3 10 rfl rfl)
theorem dX6_tick_82 : decode cX6_tick 82 = .ok (.aload_n 1, 1) := dk_43 (dk_at dksX6_tick_3 12 rfl rfl)
theorem dX6_tick_83 : decode cX6_tick 83 = .ok (.aload_n 0, 1) := dk_42 (dk_at dksX6_tick_3 13 rfl rfl)
theorem dX6_tick_84 : decode cX6_tick 84 = .ok (.getfield 3, 3) := dk_180 0 3 (dk_at dksX6_tick_3 14 rfl rfl)
theorem dX6_tick_87 : decode cX6_tick 87 = .ok (.iload 6, 2) := dk_21 6 (dk_at dksX6_tick_3 17 rfl rfl)
theorem dX6_tick_89 : decode cX6_tick 89 = .ok (.iload 7, 2) := dk_21 7 (dk_at dksX6_tick_3 19 rfl rfl)
theorem dX6_tick_91 : decode cX6_tick 91 = .ok (.invokevirtual 61, 3) := dk_182 0 61 (dk_at dksX6_tick_3 21 rfl rfl)
theorem dX6_tick_94 : decode cX6_tick 94 = .ok (.dup2, 1) := dk_92 (dk_at dksX6_tick_4 0 rfl rfl)
theorem dX6_tick_95 : decode cX6_tick 95 = .ok (.laload, 1) := dk_47 (dk_at dksX6_tick_4 1 rfl rfl)
theorem dX6_tick_96 : decode cX6_tick 96 = .ok (.lload 8, 2) := dk_22 8 (dk_at dksX6_tick_4 2 rfl rfl)
theorem dX6_tick_98 : decode cX6_tick 98 = .ok (.ladd, 1) := dk_97 (dk_at dksX6_tick_4 4 rfl rfl)
theorem dX6_tick_99 : decode cX6_tick 99 = .ok (.lastore, 1) := dk_80 (dk_at dksX6_tick_4 5 rfl rfl)
theorem dX6_tick_100 : decode cX6_tick 100 = .ok (.lload_n 3, 1) := dk_33 (dk_at dksX6_tick_4 6 rfl rfl)
theorem dX6_tick_101 : decode cX6_tick 101 = .ok (.lload 8, 2) := dk_22 8 (dk_at dksX6_tick_4 7 rfl rfl)
theorem dX6_tick_103 : decode cX6_tick 103 = .ok (.iload 7, 2) := dk_21 7 (dk_at dksX6_tick_4 9 rfl rfl)
theorem dX6_tick_105 : decode cX6_tick 105 = .ok (.i2l, 1) := dk_133 (dk_at dksX6_tick_4 11 rfl rfl)
theorem dX6_tick_106 : decode cX6_tick 106 = .ok (.lmul, 1) := dk_105 (dk_at dksX6_tick_4 12 rfl rfl)
theorem dX6_tick_107 : decode cX6_tick 107 = .ok (.ladd, 1) := dk_97 (dk_at dksX6_tick_4 13 rfl rfl)
theorem dX6_tick_108 : decode cX6_tick 108 = .ok (.lstore_n 3, 1) := dk_66 (dk_at dksX6_tick_4 14 rfl rfl)
theorem dX6_tick_109 : decode cX6_tick 109 = .ok (.iinc 7 1, 3) := dk_132 7 1 (dk_at dksX6_tick_4 15 rfl rfl)
theorem dX6_tick_112 : decode cX6_tick 112 = .ok (.goto (-57), 3) := dk_167 255 199 (dk_at dksX6_tick_4 18 rfl rfl)
theorem dX6_tick_115 : decode cX6_tick 115 = .ok (.iinc 6 1, 3) := dk_132 6 1 (dk_at dksX6_tick_4 21 rfl rfl)
theorem dX6_tick_118 : decode cX6_tick 118 = .ok (.goto (-78), 3) := dk_167 255 178 (dk_at dksX6_tick_5 0 rfl rfl)
theorem dX6_tick_121 : decode cX6_tick 121 = .ok (.lload_n 3, 1) := dk_33 (dk_at dksX6_tick_5 3 rfl rfl)
theorem dX6_tick_122 : decode cX6_tick 122 = .ok (.lreturn, 1) := dk_173 (dk_at dksX6_tick_5 4 rfl rfl)
abbrev cX6_classCount : ByteArray := prog_6_method_4_code
def yX6_classCount : MethodName := ⟨RX6, "classCount", "()I"⟩
def dkwX6_classCount_4 : List UInt8 := [132, 2, 1, 167, 255, 162, 27, 172]
abbrev dktX6_classCount_4 : List UInt8 := dkwX6_classCount_4 ++ []
def dkwX6_classCount_3 : List UInt8 := [167, 255, 212, 27, 21, 4, 153, 0, 15, 29, 184, 0, 67, 28, 160, 0, 7, 4, 167, 0, 4, 3, 96, 60]
abbrev dktX6_classCount_3 : List UInt8 := dkwX6_classCount_3 ++ dktX6_classCount_4
def dkwX6_classCount_2 : List UInt8 := [153, 0, 13, 42, 21, 5, 182, 0, 64, 29, 160, 0, 7, 4, 167, 0, 4, 3, 126, 54, 4, 132, 5, 1]
abbrev dktX6_classCount_2 : List UInt8 := dkwX6_classCount_2 ++ dktX6_classCount_3
def dkwX6_classCount_1 : List UInt8 := [3, 54, 5, 21, 5, 42, 180, 0, 3, 180, 0, 15, 162, 0, 38, 21, 4, 29, 21, 5, 122, 4, 126]
abbrev dktX6_classCount_1 : List UInt8 := dkwX6_classCount_1 ++ dktX6_classCount_2
def dkwX6_classCount_0 : List UInt8 := [3, 60, 3, 61, 28, 42, 180, 0, 3, 180, 0, 15, 162, 0, 89, 42, 28, 182, 0, 64, 62, 4, 54, 4]
abbrev dktX6_classCount_0 : List UInt8 := dkwX6_classCount_0 ++ dktX6_classCount_1
theorem dksX6_classCount_0 : cX6_classCount.data.toList.drop 0 = dktX6_classCount_0 := by decide +kernel
theorem dksX6_classCount_1 : cX6_classCount.data.toList.drop 24 = dktX6_classCount_1 := dk_seg dksX6_classCount_0 24 rfl rfl
theorem dksX6_classCount_2 : cX6_classCount.data.toList.drop 47 = dktX6_classCount_2 := dk_seg dksX6_classCount_1 23 rfl rfl
theorem dksX6_classCount_3 : cX6_classCount.data.toList.drop 71 = dktX6_classCount_3 := dk_seg dksX6_classCount_2 24 rfl rfl
theorem dksX6_classCount_4 : cX6_classCount.data.toList.drop 95 = dktX6_classCount_4 := dk_seg dksX6_classCount_3 24 rfl rfl
theorem dX6_classCount_0 : decode cX6_classCount 0 = .ok (.iconst 0, 1) := dk_3 (dk_at dksX6_classCount_0 0 rfl rfl)
theorem dX6_classCount_1 : decode cX6_classCount 1 = .ok (.istore_n 1, 1) := dk_60 (dk_at dksX6_classCount_0 1 rfl rfl)
theorem dX6_classCount_2 : decode cX6_classCount 2 = .ok (.iconst 0, 1) := dk_3 (dk_at dksX6_classCount_0 2 rfl rfl)
theorem dX6_classCount_3 : decode cX6_classCount 3 = .ok (.istore_n 2, 1) := dk_61 (dk_at dksX6_classCount_0 3 rfl rfl)
theorem dX6_classCount_4 : decode cX6_classCount 4 = .ok (.iload_n 2, 1) := dk_28 (dk_at dksX6_classCount_0 4 rfl rfl)
theorem dX6_classCount_5 : decode cX6_classCount 5 = .ok (.aload_n 0, 1) := dk_42 (dk_at dksX6_classCount_0 5 rfl rfl)
theorem dX6_classCount_6 : decode cX6_classCount 6 = .ok (.getfield 3, 3) := dk_180 0 3 (dk_at dksX6_classCount_0 6 rfl rfl)
theorem dX6_classCount_9 : decode cX6_classCount 9 = .ok (.getfield 15, 3) := dk_180 0 15 (dk_at dksX6_classCount_0 9 rfl rfl)
theorem dX6_classCount_12 : decode cX6_classCount 12 = .ok (.if_icmp .ge 89, 3) := dk_162 0 89 (dk_at dksX6_classCount_0 12 rfl rfl)
theorem dX6_classCount_15 : decode cX6_classCount 15 = .ok (.aload_n 0, 1) := dk_42 (dk_at dksX6_classCount_0 15 rfl rfl)
theorem dX6_classCount_16 : decode cX6_classCount 16 = .ok (.iload_n 2, 1) := dk_28 (dk_at dksX6_classCount_0 16 rfl rfl)
theorem dX6_classCount_17 : decode cX6_classCount 17 = .ok (.invokevirtual 64, 3) := dk_182 0 64 (dk_at dksX6_classCount_0 17 rfl rfl)
theorem dX6_classCount_20 : decode cX6_classCount 20 = .ok (.istore_n 3, 1) := dk_62 (dk_at dksX6_classCount_0 20 rfl rfl)
theorem dX6_classCount_21 : decode cX6_classCount 21 = .ok (.iconst 1, 1) := dk_4 (dk_at dksX6_classCount_0 21 rfl rfl)
theorem dX6_classCount_22 : decode cX6_classCount 22 = .ok (.istore 4, 2) := dk_54 4 (dk_at dksX6_classCount_0 22 rfl rfl)
theorem dX6_classCount_24 : decode cX6_classCount 24 = .ok (.iconst 0, 1) := dk_3 (dk_at dksX6_classCount_1 0 rfl rfl)
theorem dX6_classCount_25 : decode cX6_classCount 25 = .ok (.istore 5, 2) := dk_54 5 (dk_at dksX6_classCount_1 1 rfl rfl)
theorem dX6_classCount_27 : decode cX6_classCount 27 = .ok (.iload 5, 2) := dk_21 5 (dk_at dksX6_classCount_1 3 rfl rfl)
theorem dX6_classCount_29 : decode cX6_classCount 29 = .ok (.aload_n 0, 1) := dk_42 (dk_at dksX6_classCount_1 5 rfl rfl)
theorem dX6_classCount_30 : decode cX6_classCount 30 = .ok (.getfield 3, 3) := dk_180 0 3 (dk_at dksX6_classCount_1 6 rfl rfl)
theorem dX6_classCount_33 : decode cX6_classCount 33 = .ok (.getfield 15, 3) := dk_180 0 15 (dk_at dksX6_classCount_1 9 rfl rfl)
theorem dX6_classCount_36 : decode cX6_classCount 36 = .ok (.if_icmp .ge 38, 3) := dk_162 0 38 (dk_at dksX6_classCount_1 12 rfl rfl)
theorem dX6_classCount_39 : decode cX6_classCount 39 = .ok (.iload 4, 2) := dk_21 4 (dk_at dksX6_classCount_1 15 rfl rfl)
theorem dX6_classCount_41 : decode cX6_classCount 41 = .ok (.iload_n 3, 1) := dk_29 (dk_at dksX6_classCount_1 17 rfl rfl)
theorem dX6_classCount_42 : decode cX6_classCount 42 = .ok (.iload 5, 2) := dk_21 5 (dk_at dksX6_classCount_1 18 rfl rfl)
theorem dX6_classCount_44 : decode cX6_classCount 44 = .ok (.ishr, 1) := dk_122 (dk_at dksX6_classCount_1 20 rfl rfl)
theorem dX6_classCount_45 : decode cX6_classCount 45 = .ok (.iconst 1, 1) := dk_4 (dk_at dksX6_classCount_1 21 rfl rfl)
theorem dX6_classCount_46 : decode cX6_classCount 46 = .ok (.iand, 1) := dk_126 (dk_at dksX6_classCount_1 22 rfl rfl)
theorem dX6_classCount_47 : decode cX6_classCount 47 = .ok (.ifCond .eq 13, 3) := dk_153 0 13 (dk_at dksX6_classCount_2 0 rfl rfl)
theorem dX6_classCount_50 : decode cX6_classCount 50 = .ok (.aload_n 0, 1) := dk_42 (dk_at dksX6_classCount_2 3 rfl rfl)
theorem dX6_classCount_51 : decode cX6_classCount 51 = .ok (.iload 5, 2) := dk_21 5 (dk_at dksX6_classCount_2 4 rfl rfl)
theorem dX6_classCount_53 : decode cX6_classCount 53 = .ok (.invokevirtual 64, 3) := dk_182 0 64 (dk_at dksX6_classCount_2 6 rfl rfl)
theorem dX6_classCount_56 : decode cX6_classCount 56 = .ok (.iload_n 3, 1) := dk_29 (dk_at dksX6_classCount_2 9 rfl rfl)
theorem dX6_classCount_57 : decode cX6_classCount 57 = .ok (.if_icmp .ne 7, 3) := dk_160 0 7 (dk_at dksX6_classCount_2 10 rfl rfl)
theorem dX6_classCount_60 : decode cX6_classCount 60 = .ok (.iconst 1, 1) := dk_4 (dk_at dksX6_classCount_2 13 rfl rfl)
theorem dX6_classCount_61 : decode cX6_classCount 61 = .ok (.goto 4, 3) := dk_167 0 4 (dk_at dksX6_classCount_2 14 rfl rfl)
theorem dX6_classCount_64 : decode cX6_classCount 64 = .ok (.iconst 0, 1) := dk_3 (dk_at dksX6_classCount_2 17 rfl rfl)
theorem dX6_classCount_65 : decode cX6_classCount 65 = .ok (.iand, 1) := dk_126 (dk_at dksX6_classCount_2 18 rfl rfl)
theorem dX6_classCount_66 : decode cX6_classCount 66 = .ok (.istore 4, 2) := dk_54 4 (dk_at dksX6_classCount_2 19 rfl rfl)
theorem dX6_classCount_68 : decode cX6_classCount 68 = .ok (.iinc 5 1, 3) := dk_132 5 1 (dk_at dksX6_classCount_2 21 rfl rfl)
theorem dX6_classCount_71 : decode cX6_classCount 71 = .ok (.goto (-44), 3) := dk_167 255 212 (dk_at dksX6_classCount_3 0 rfl rfl)
theorem dX6_classCount_74 : decode cX6_classCount 74 = .ok (.iload_n 1, 1) := dk_27 (dk_at dksX6_classCount_3 3 rfl rfl)
theorem dX6_classCount_75 : decode cX6_classCount 75 = .ok (.iload 4, 2) := dk_21 4 (dk_at dksX6_classCount_3 4 rfl rfl)
theorem dX6_classCount_77 : decode cX6_classCount 77 = .ok (.ifCond .eq 15, 3) := dk_153 0 15 (dk_at dksX6_classCount_3 6 rfl rfl)
theorem dX6_classCount_80 : decode cX6_classCount 80 = .ok (.iload_n 3, 1) := dk_29 (dk_at dksX6_classCount_3 9 rfl rfl)
theorem dX6_classCount_81 : decode cX6_classCount 81 = .ok (.invokestatic 67, 3) := dk_184 0 67 (dk_at dksX6_classCount_3 10 rfl rfl)
theorem dX6_classCount_84 : decode cX6_classCount 84 = .ok (.iload_n 2, 1) := dk_28 (dk_at dksX6_classCount_3 13 rfl rfl)
theorem dX6_classCount_85 : decode cX6_classCount 85 = .ok (.if_icmp .ne 7, 3) := dk_160 0 7 (dk_at dksX6_classCount_3 14 rfl rfl)
theorem dX6_classCount_88 : decode cX6_classCount 88 = .ok (.iconst 1, 1) := dk_4 (dk_at dksX6_classCount_3 17 rfl rfl)
theorem dX6_classCount_89 : decode cX6_classCount 89 = .ok (.goto 4, 3) := dk_167 0 4 (dk_at dksX6_classCount_3 18 rfl rfl)
theorem dX6_classCount_92 : decode cX6_classCount 92 = .ok (.iconst 0, 1) := dk_3 (dk_at dksX6_classCount_3 21 rfl rfl)
theorem dX6_classCount_93 : decode cX6_classCount 93 = .ok (.iadd, 1) := dk_96 (dk_at dksX6_classCount_3 22 rfl rfl)
theorem dX6_classCount_94 : decode cX6_classCount 94 = .ok (.istore_n 1, 1) := dk_60 (dk_at dksX6_classCount_3 23 rfl rfl)
theorem dX6_classCount_95 : decode cX6_classCount 95 = .ok (.iinc 2 1, 3) := dk_132 2 1 (dk_at dksX6_classCount_4 0 rfl rfl)
theorem dX6_classCount_98 : decode cX6_classCount 98 = .ok (.goto (-94), 3) := dk_167 255 162 (dk_at dksX6_classCount_4 3 rfl rfl)
theorem dX6_classCount_101 : decode cX6_classCount 101 = .ok (.iload_n 1, 1) := dk_27 (dk_at dksX6_classCount_4 6 rfl rfl)
theorem dX6_classCount_102 : decode cX6_classCount 102 = .ok (.ireturn, 1) := dk_172 (dk_at dksX6_classCount_4 7 rfl rfl)
abbrev cX6_reached : ByteArray := prog_6_method_3_code
def yX6_reached : MethodName := ⟨RX6, "reached", "(I)I"⟩
def dkwX6_reached_4 : List UInt8 := [167, 255, 184, 132, 3, 1, 167, 255, 164, 28, 172]
abbrev dktX6_reached_4 : List UInt8 := dkwX6_reached_4 ++ []
def dkwX6_reached_3 : List UInt8 := [158, 0, 10, 4, 21, 5, 120, 167, 0, 4, 3, 128, 61, 132, 5, 1, 167, 255, 205, 132, 4, 1]
abbrev dktX6_reached_3 : List UInt8 := dkwX6_reached_3 ++ dktX6_reached_4
def dkwX6_reached_2 : List UInt8 := [28, 28, 21, 4, 122, 4, 126, 4, 160, 0, 25, 42, 180, 0, 21, 21, 4, 50, 21, 5, 47, 9, 148]
abbrev dktX6_reached_2 : List UInt8 := dkwX6_reached_2 ++ dktX6_reached_3
def dkwX6_reached_1 : List UInt8 := [180, 0, 3, 180, 0, 15, 162, 0, 66, 3, 54, 5, 21, 5, 42, 180, 0, 3, 180, 0, 15, 162, 0, 45]
abbrev dktX6_reached_1 : List UInt8 := dkwX6_reached_1 ++ dktX6_reached_2
def dkwX6_reached_0 : List UInt8 := [4, 27, 120, 61, 3, 62, 29, 42, 180, 0, 3, 180, 0, 15, 162, 0, 87, 3, 54, 4, 21, 4, 42]
abbrev dktX6_reached_0 : List UInt8 := dkwX6_reached_0 ++ dktX6_reached_1
theorem dksX6_reached_0 : cX6_reached.data.toList.drop 0 = dktX6_reached_0 := by decide +kernel
theorem dksX6_reached_1 : cX6_reached.data.toList.drop 23 = dktX6_reached_1 := dk_seg dksX6_reached_0 23 rfl rfl
theorem dksX6_reached_2 : cX6_reached.data.toList.drop 47 = dktX6_reached_2 := dk_seg dksX6_reached_1 24 rfl rfl
theorem dksX6_reached_3 : cX6_reached.data.toList.drop 70 = dktX6_reached_3 := dk_seg dksX6_reached_2 23 rfl rfl
theorem dksX6_reached_4 : cX6_reached.data.toList.drop 92 = dktX6_reached_4 := dk_seg dksX6_reached_3 22 rfl rfl
theorem dX6_reached_0 : decode cX6_reached 0 = .ok (.iconst 1, 1) := dk_4 (dk_at dksX6_reached_0 0 rfl rfl)
theorem dX6_reached_1 : decode cX6_reached 1 = .ok (.iload_n 1, 1) := dk_27 (dk_at dksX6_reached_0 1 rfl rfl)
theorem dX6_reached_2 : decode cX6_reached 2 = .ok (.ishl, 1) := dk_120 (dk_at dksX6_reached_0 2 rfl rfl)
theorem dX6_reached_3 : decode cX6_reached 3 = .ok (.istore_n 2, 1) := dk_61 (dk_at dksX6_reached_0 3 rfl rfl)
theorem dX6_reached_4 : decode cX6_reached 4 = .ok (.iconst 0, 1) := dk_3 (dk_at dksX6_reached_0 4 rfl rfl)
theorem dX6_reached_5 : decode cX6_reached 5 = .ok (.istore_n 3, 1) := dk_62 (dk_at dksX6_reached_0 5 rfl rfl)
theorem dX6_reached_6 : decode cX6_reached 6 = .ok (.iload_n 3, 1) := dk_29 (dk_at dksX6_reached_0 6 rfl rfl)
theorem dX6_reached_7 : decode cX6_reached 7 = .ok (.aload_n 0, 1) := dk_42 (dk_at dksX6_reached_0 7 rfl rfl)
theorem dX6_reached_8 : decode cX6_reached 8 = .ok (.getfield 3, 3) := dk_180 0 3 (dk_at dksX6_reached_0 8 rfl rfl)
theorem dX6_reached_11 : decode cX6_reached 11 = .ok (.getfield 15, 3) := dk_180 0 15 (dk_at dksX6_reached_0 11 rfl rfl)
theorem dX6_reached_14 : decode cX6_reached 14 = .ok (.if_icmp .ge 87, 3) := dk_162 0 87 (dk_at dksX6_reached_0 14 rfl rfl)
theorem dX6_reached_17 : decode cX6_reached 17 = .ok (.iconst 0, 1) := dk_3 (dk_at dksX6_reached_0 17 rfl rfl)
theorem dX6_reached_18 : decode cX6_reached 18 = .ok (.istore 4, 2) := dk_54 4 (dk_at dksX6_reached_0 18 rfl rfl)
theorem dX6_reached_20 : decode cX6_reached 20 = .ok (.iload 4, 2) := dk_21 4 (dk_at dksX6_reached_0 20 rfl rfl)
theorem dX6_reached_22 : decode cX6_reached 22 = .ok (.aload_n 0, 1) := dk_42 (dk_at dksX6_reached_0 22 rfl rfl)
theorem dX6_reached_23 : decode cX6_reached 23 = .ok (.getfield 3, 3) := dk_180 0 3 (dk_at dksX6_reached_1 0 rfl rfl)
theorem dX6_reached_26 : decode cX6_reached 26 = .ok (.getfield 15, 3) := dk_180 0 15 (dk_at dksX6_reached_1 3 rfl rfl)
theorem dX6_reached_29 : decode cX6_reached 29 = .ok (.if_icmp .ge 66, 3) := dk_162 0 66 (dk_at dksX6_reached_1 6 rfl rfl)
theorem dX6_reached_32 : decode cX6_reached 32 = .ok (.iconst 0, 1) := dk_3 (dk_at dksX6_reached_1 9 rfl rfl)
theorem dX6_reached_33 : decode cX6_reached 33 = .ok (.istore 5, 2) := dk_54 5 (dk_at dksX6_reached_1 10 rfl rfl)
theorem dX6_reached_35 : decode cX6_reached 35 = .ok (.iload 5, 2) := dk_21 5 (dk_at dksX6_reached_1 12 rfl rfl)
theorem dX6_reached_37 : decode cX6_reached 37 = .ok (.aload_n 0, 1) := dk_42 (dk_at dksX6_reached_1 14 rfl rfl)
theorem dX6_reached_38 : decode cX6_reached 38 = .ok (.getfield 3, 3) := dk_180 0 3 (dk_at dksX6_reached_1 15 rfl rfl)
theorem dX6_reached_41 : decode cX6_reached 41 = .ok (.getfield 15, 3) := dk_180 0 15 (dk_at dksX6_reached_1 18 rfl rfl)
theorem dX6_reached_44 : decode cX6_reached 44 = .ok (.if_icmp .ge 45, 3) := dk_162 0 45 (dk_at dksX6_reached_1 21 rfl rfl)
theorem dX6_reached_47 : decode cX6_reached 47 = .ok (.iload_n 2, 1) := dk_28 (dk_at dksX6_reached_2 0 rfl rfl)
theorem dX6_reached_48 : decode cX6_reached 48 = .ok (.iload_n 2, 1) := dk_28 (dk_at dksX6_reached_2 1 rfl rfl)
theorem dX6_reached_49 : decode cX6_reached 49 = .ok (.iload 4, 2) := dk_21 4 (dk_at dksX6_reached_2 2 rfl rfl)
theorem dX6_reached_51 : decode cX6_reached 51 = .ok (.ishr, 1) := dk_122 (dk_at dksX6_reached_2 4 rfl rfl)
theorem dX6_reached_52 : decode cX6_reached 52 = .ok (.iconst 1, 1) := dk_4 (dk_at dksX6_reached_2 5 rfl rfl)
theorem dX6_reached_53 : decode cX6_reached 53 = .ok (.iand, 1) := dk_126 (dk_at dksX6_reached_2 6 rfl rfl)
theorem dX6_reached_54 : decode cX6_reached 54 = .ok (.iconst 1, 1) := dk_4 (dk_at dksX6_reached_2 7 rfl rfl)
theorem dX6_reached_55 : decode cX6_reached 55 = .ok (.if_icmp .ne 25, 3) := dk_160 0 25 (dk_at dksX6_reached_2 8 rfl rfl)
theorem dX6_reached_58 : decode cX6_reached 58 = .ok (.aload_n 0, 1) := dk_42 (dk_at dksX6_reached_2 11 rfl rfl)
theorem dX6_reached_59 : decode cX6_reached 59 = .ok (.getfield 21, 3) := dk_180 0 21 (dk_at dksX6_reached_2 12 rfl rfl)
theorem dX6_reached_62 : decode cX6_reached 62 = .ok (.iload 4, 2) := dk_21 4 (dk_at dksX6_reached_2 15 rfl rfl)
theorem dX6_reached_64 : decode cX6_reached 64 = .ok (.aaload, 1) := dk_50 (dk_at dksX6_reached_2 17 rfl rfl)
theorem dX6_reached_65 : decode cX6_reached 65 = .ok (.iload 5, 2) := dk_21 5 (dk_at dksX6_reached_2 18 rfl rfl)
theorem dX6_reached_67 : decode cX6_reached 67 = .ok (.laload, 1) := dk_47 (dk_at dksX6_reached_2 20 rfl rfl)
theorem dX6_reached_68 : decode cX6_reached 68 = .ok (.lconst 0, 1) := dk_9 (dk_at dksX6_reached_2 21 rfl rfl)
theorem dX6_reached_69 : decode cX6_reached 69 = .ok (.lcmp, 1) := dk_148 (dk_at dksX6_reached_2 22 rfl rfl)
theorem dX6_reached_70 : decode cX6_reached 70 = .ok (.ifCond .le 10, 3) := dk_158 0 10 (dk_at dksX6_reached_3 0 rfl rfl)
theorem dX6_reached_73 : decode cX6_reached 73 = .ok (.iconst 1, 1) := dk_4 (dk_at dksX6_reached_3 3 rfl rfl)
theorem dX6_reached_74 : decode cX6_reached 74 = .ok (.iload 5, 2) := dk_21 5 (dk_at dksX6_reached_3 4 rfl rfl)
theorem dX6_reached_76 : decode cX6_reached 76 = .ok (.ishl, 1) := dk_120 (dk_at dksX6_reached_3 6 rfl rfl)
theorem dX6_reached_77 : decode cX6_reached 77 = .ok (.goto 4, 3) := dk_167 0 4 (dk_at dksX6_reached_3 7 rfl rfl)
theorem dX6_reached_80 : decode cX6_reached 80 = .ok (.iconst 0, 1) := dk_3 (dk_at dksX6_reached_3 10 rfl rfl)
theorem dX6_reached_81 : decode cX6_reached 81 = .ok (.ior, 1) := dk_128 (dk_at dksX6_reached_3 11 rfl rfl)
theorem dX6_reached_82 : decode cX6_reached 82 = .ok (.istore_n 2, 1) := dk_61 (dk_at dksX6_reached_3 12 rfl rfl)
theorem dX6_reached_83 : decode cX6_reached 83 = .ok (.iinc 5 1, 3) := dk_132 5 1 (dk_at dksX6_reached_3 13 rfl rfl)
theorem dX6_reached_86 : decode cX6_reached 86 = .ok (.goto (-51), 3) := dk_167 255 205 (dk_at dksX6_reached_3 16 rfl rfl)
theorem dX6_reached_89 : decode cX6_reached 89 = .ok (.iinc 4 1, 3) := dk_132 4 1 (dk_at dksX6_reached_3 19 rfl rfl)
theorem dX6_reached_92 : decode cX6_reached 92 = .ok (.goto (-72), 3) := dk_167 255 184 (dk_at dksX6_reached_4 0 rfl rfl)
theorem dX6_reached_95 : decode cX6_reached 95 = .ok (.iinc 3 1, 3) := dk_132 3 1 (dk_at dksX6_reached_4 3 rfl rfl)
theorem dX6_reached_98 : decode cX6_reached 98 = .ok (.goto (-92), 3) := dk_167 255 164 (dk_at dksX6_reached_4 6 rfl rfl)
theorem dX6_reached_101 : decode cX6_reached 101 = .ok (.iload_n 2, 1) := dk_28 (dk_at dksX6_reached_4 9 rfl rfl)
theorem dX6_reached_102 : decode cX6_reached 102 = .ok (.ireturn, 1) := dk_172 (dk_at dksX6_reached_4 10 rfl rfl)
abbrev cX6_mean : ByteArray := prog_6_method_9_code
def yX6_mean : MethodName := ⟨RX6, "mean", "()LFlashRatchet$Fraction;"⟩
def dkwX6_mean_2 : List UInt8 := [180, 0, 32, 105, 42, 180, 0, 40, 133, 105, 183, 0, 86, 176]
abbrev dktX6_mean_2 : List UInt8 := dkwX6_mean_2 ++ []
def dkwX6_mean_1 : List UInt8 := [180, 0, 24, 29, 47, 105, 97, 64, 132, 3, 1, 167, 255, 227, 187, 0, 80, 89, 31, 42, 182, 0, 82, 42]
abbrev dktX6_mean_1 : List UInt8 := dkwX6_mean_1 ++ dktX6_mean_2
def dkwX6_mean_0 : List UInt8 := [9, 64, 3, 62, 29, 42, 180, 0, 3, 180, 0, 15, 162, 0, 24, 31, 42, 29, 182, 0, 76, 42]
abbrev dktX6_mean_0 : List UInt8 := dkwX6_mean_0 ++ dktX6_mean_1
theorem dksX6_mean_0 : cX6_mean.data.toList.drop 0 = dktX6_mean_0 := by decide +kernel
theorem dksX6_mean_1 : cX6_mean.data.toList.drop 22 = dktX6_mean_1 := dk_seg dksX6_mean_0 22 rfl rfl
theorem dksX6_mean_2 : cX6_mean.data.toList.drop 46 = dktX6_mean_2 := dk_seg dksX6_mean_1 24 rfl rfl
theorem dX6_mean_0 : decode cX6_mean 0 = .ok (.lconst 0, 1) := dk_9 (dk_at dksX6_mean_0 0 rfl rfl)
theorem dX6_mean_1 : decode cX6_mean 1 = .ok (.lstore_n 1, 1) := dk_64 (dk_at dksX6_mean_0 1 rfl rfl)
theorem dX6_mean_2 : decode cX6_mean 2 = .ok (.iconst 0, 1) := dk_3 (dk_at dksX6_mean_0 2 rfl rfl)
theorem dX6_mean_3 : decode cX6_mean 3 = .ok (.istore_n 3, 1) := dk_62 (dk_at dksX6_mean_0 3 rfl rfl)
theorem dX6_mean_4 : decode cX6_mean 4 = .ok (.iload_n 3, 1) := dk_29 (dk_at dksX6_mean_0 4 rfl rfl)
theorem dX6_mean_5 : decode cX6_mean 5 = .ok (.aload_n 0, 1) := dk_42 (dk_at dksX6_mean_0 5 rfl rfl)
theorem dX6_mean_6 : decode cX6_mean 6 = .ok (.getfield 3, 3) := dk_180 0 3 (dk_at dksX6_mean_0 6 rfl rfl)
theorem dX6_mean_9 : decode cX6_mean 9 = .ok (.getfield 15, 3) := dk_180 0 15 (dk_at dksX6_mean_0 9 rfl rfl)
theorem dX6_mean_12 : decode cX6_mean 12 = .ok (.if_icmp .ge 24, 3) := dk_162 0 24 (dk_at dksX6_mean_0 12 rfl rfl)
theorem dX6_mean_15 : decode cX6_mean 15 = .ok (.lload_n 1, 1) := dk_31 (dk_at dksX6_mean_0 15 rfl rfl)
theorem dX6_mean_16 : decode cX6_mean 16 = .ok (.aload_n 0, 1) := dk_42 (dk_at dksX6_mean_0 16 rfl rfl)
theorem dX6_mean_17 : decode cX6_mean 17 = .ok (.iload_n 3, 1) := dk_29 (dk_at dksX6_mean_0 17 rfl rfl)
theorem dX6_mean_18 : decode cX6_mean 18 = .ok (.invokevirtual 76, 3) := dk_182 0 76 (dk_at dksX6_mean_0 18 rfl rfl)
theorem dX6_mean_21 : decode cX6_mean 21 = .ok (.aload_n 0, 1) := dk_42 (dk_at dksX6_mean_0 21 rfl rfl)
theorem dX6_mean_22 : decode cX6_mean 22 = .ok (.getfield 24, 3) := dk_180 0 24 (dk_at dksX6_mean_1 0 rfl rfl)
theorem dX6_mean_25 : decode cX6_mean 25 = .ok (.iload_n 3, 1) := dk_29 (dk_at dksX6_mean_1 3 rfl rfl)
theorem dX6_mean_26 : decode cX6_mean 26 = .ok (.laload, 1) := dk_47 (dk_at dksX6_mean_1 4 rfl rfl)
theorem dX6_mean_27 : decode cX6_mean 27 = .ok (.lmul, 1) := dk_105 (dk_at dksX6_mean_1 5 rfl rfl)
theorem dX6_mean_28 : decode cX6_mean 28 = .ok (.ladd, 1) := dk_97 (dk_at dksX6_mean_1 6 rfl rfl)
theorem dX6_mean_29 : decode cX6_mean 29 = .ok (.lstore_n 1, 1) := dk_64 (dk_at dksX6_mean_1 7 rfl rfl)
theorem dX6_mean_30 : decode cX6_mean 30 = .ok (.iinc 3 1, 3) := dk_132 3 1 (dk_at dksX6_mean_1 8 rfl rfl)
theorem dX6_mean_33 : decode cX6_mean 33 = .ok (.goto (-29), 3) := dk_167 255 227 (dk_at dksX6_mean_1 11 rfl rfl)
theorem dX6_mean_36 : decode cX6_mean 36 = .ok (.new 80, 3) := dk_187 0 80 (dk_at dksX6_mean_1 14 rfl rfl)
theorem dX6_mean_39 : decode cX6_mean 39 = .ok (.dup, 1) := dk_89 (dk_at dksX6_mean_1 17 rfl rfl)
theorem dX6_mean_40 : decode cX6_mean 40 = .ok (.lload_n 1, 1) := dk_31 (dk_at dksX6_mean_1 18 rfl rfl)
theorem dX6_mean_41 : decode cX6_mean 41 = .ok (.aload_n 0, 1) := dk_42 (dk_at dksX6_mean_1 19 rfl rfl)
theorem dX6_mean_42 : decode cX6_mean 42 = .ok (.invokevirtual 82, 3) := dk_182 0 82 (dk_at dksX6_mean_1 20 rfl rfl)
theorem dX6_mean_45 : decode cX6_mean 45 = .ok (.aload_n 0, 1) := dk_42 (dk_at dksX6_mean_1 23 rfl rfl)
theorem dX6_mean_46 : decode cX6_mean 46 = .ok (.getfield 32, 3) := dk_180 0 32 (dk_at dksX6_mean_2 0 rfl rfl)
theorem dX6_mean_49 : decode cX6_mean 49 = .ok (.lmul, 1) := dk_105 (dk_at dksX6_mean_2 3 rfl rfl)
theorem dX6_mean_50 : decode cX6_mean 50 = .ok (.aload_n 0, 1) := dk_42 (dk_at dksX6_mean_2 4 rfl rfl)
theorem dX6_mean_51 : decode cX6_mean 51 = .ok (.getfield 40, 3) := dk_180 0 40 (dk_at dksX6_mean_2 5 rfl rfl)
theorem dX6_mean_54 : decode cX6_mean 54 = .ok (.i2l, 1) := dk_133 (dk_at dksX6_mean_2 8 rfl rfl)
theorem dX6_mean_55 : decode cX6_mean 55 = .ok (.lmul, 1) := dk_105 (dk_at dksX6_mean_2 9 rfl rfl)
theorem dX6_mean_56 : decode cX6_mean 56 = .ok (.invokespecial 86, 3) := dk_183 0 86 (dk_at dksX6_mean_2 10 rfl rfl)
theorem dX6_mean_59 : decode cX6_mean 59 = .ok (.areturn, 1) := dk_176 (dk_at dksX6_mean_2 13 rfl rfl)
abbrev cX6_trees : ByteArray := prog_6_method_5_code
def yX6_trees : MethodName := ⟨RX6, "trees", "(I)J"⟩
def dkwX6_trees_2 : List UInt8 := [162, 0, 19, 32, 42, 21, 5, 27, 182, 0, 72, 97, 65, 132, 5, 1, 167, 255, 236, 32, 173]
abbrev dktX6_trees_2 : List UInt8 := dkwX6_trees_2 ++ []
def dkwX6_trees_1 : List UInt8 := [180, 0, 3, 180, 0, 15, 104, 54, 4, 132, 5, 1, 167, 255, 229, 3, 54, 5, 21, 5, 21, 4]
abbrev dktX6_trees_1 : List UInt8 := dkwX6_trees_1 ++ dktX6_trees_2
def dkwX6_trees_0 : List UInt8 := [9, 65, 4, 54, 4, 4, 54, 5, 21, 5, 42, 180, 0, 3, 180, 0, 15, 162, 0, 21, 21, 4, 42]
abbrev dktX6_trees_0 : List UInt8 := dkwX6_trees_0 ++ dktX6_trees_1
theorem dksX6_trees_0 : cX6_trees.data.toList.drop 0 = dktX6_trees_0 := by decide +kernel
theorem dksX6_trees_1 : cX6_trees.data.toList.drop 23 = dktX6_trees_1 := dk_seg dksX6_trees_0 23 rfl rfl
theorem dksX6_trees_2 : cX6_trees.data.toList.drop 45 = dktX6_trees_2 := dk_seg dksX6_trees_1 22 rfl rfl
theorem dX6_trees_0 : decode cX6_trees 0 = .ok (.lconst 0, 1) := dk_9 (dk_at dksX6_trees_0 0 rfl rfl)
theorem dX6_trees_1 : decode cX6_trees 1 = .ok (.lstore_n 2, 1) := dk_65 (dk_at dksX6_trees_0 1 rfl rfl)
theorem dX6_trees_2 : decode cX6_trees 2 = .ok (.iconst 1, 1) := dk_4 (dk_at dksX6_trees_0 2 rfl rfl)
theorem dX6_trees_3 : decode cX6_trees 3 = .ok (.istore 4, 2) := dk_54 4 (dk_at dksX6_trees_0 3 rfl rfl)
theorem dX6_trees_5 : decode cX6_trees 5 = .ok (.iconst 1, 1) := dk_4 (dk_at dksX6_trees_0 5 rfl rfl)
theorem dX6_trees_6 : decode cX6_trees 6 = .ok (.istore 5, 2) := dk_54 5 (dk_at dksX6_trees_0 6 rfl rfl)
theorem dX6_trees_8 : decode cX6_trees 8 = .ok (.iload 5, 2) := dk_21 5 (dk_at dksX6_trees_0 8 rfl rfl)
theorem dX6_trees_10 : decode cX6_trees 10 = .ok (.aload_n 0, 1) := dk_42 (dk_at dksX6_trees_0 10 rfl rfl)
theorem dX6_trees_11 : decode cX6_trees 11 = .ok (.getfield 3, 3) := dk_180 0 3 (dk_at dksX6_trees_0 11 rfl rfl)
theorem dX6_trees_14 : decode cX6_trees 14 = .ok (.getfield 15, 3) := dk_180 0 15 (dk_at dksX6_trees_0 14 rfl rfl)
theorem dX6_trees_17 : decode cX6_trees 17 = .ok (.if_icmp .ge 21, 3) := dk_162 0 21 (dk_at dksX6_trees_0 17 rfl rfl)
theorem dX6_trees_20 : decode cX6_trees 20 = .ok (.iload 4, 2) := dk_21 4 (dk_at dksX6_trees_0 20 rfl rfl)
theorem dX6_trees_22 : decode cX6_trees 22 = .ok (.aload_n 0, 1) := dk_42 (dk_at dksX6_trees_0 22 rfl rfl)
theorem dX6_trees_23 : decode cX6_trees 23 = .ok (.getfield 3, 3) := dk_180 0 3 (dk_at dksX6_trees_1 0 rfl rfl)
theorem dX6_trees_26 : decode cX6_trees 26 = .ok (.getfield 15, 3) := dk_180 0 15 (dk_at dksX6_trees_1 3 rfl rfl)
theorem dX6_trees_29 : decode cX6_trees 29 = .ok (.imul, 1) := dk_104 (dk_at dksX6_trees_1 6 rfl rfl)
theorem dX6_trees_30 : decode cX6_trees 30 = .ok (.istore 4, 2) := dk_54 4 (dk_at dksX6_trees_1 7 rfl rfl)
theorem dX6_trees_32 : decode cX6_trees 32 = .ok (.iinc 5 1, 3) := dk_132 5 1 (dk_at dksX6_trees_1 9 rfl rfl)
theorem dX6_trees_35 : decode cX6_trees 35 = .ok (.goto (-27), 3) := dk_167 255 229 (dk_at dksX6_trees_1 12 rfl rfl)
theorem dX6_trees_38 : decode cX6_trees 38 = .ok (.iconst 0, 1) := dk_3 (dk_at dksX6_trees_1 15 rfl rfl)
theorem dX6_trees_39 : decode cX6_trees 39 = .ok (.istore 5, 2) := dk_54 5 (dk_at dksX6_trees_1 16 rfl rfl)
theorem dX6_trees_41 : decode cX6_trees 41 = .ok (.iload 5, 2) := dk_21 5 (dk_at dksX6_trees_1 18 rfl rfl)
theorem dX6_trees_43 : decode cX6_trees 43 = .ok (.iload 4, 2) := dk_21 4 (dk_at dksX6_trees_1 20 rfl rfl)
theorem dX6_trees_45 : decode cX6_trees 45 = .ok (.if_icmp .ge 19, 3) := dk_162 0 19 (dk_at dksX6_trees_2 0 rfl rfl)
theorem dX6_trees_48 : decode cX6_trees 48 = .ok (.lload_n 2, 1) := dk_32 (dk_at dksX6_trees_2 3 rfl rfl)
theorem dX6_trees_49 : decode cX6_trees 49 = .ok (.aload_n 0, 1) := dk_42 (dk_at dksX6_trees_2 4 rfl rfl)
theorem dX6_trees_50 : decode cX6_trees 50 = .ok (.iload 5, 2) := dk_21 5 (dk_at dksX6_trees_2 5 rfl rfl)
theorem dX6_trees_52 : decode cX6_trees 52 = .ok (.iload_n 1, 1) := dk_27 (dk_at dksX6_trees_2 7 rfl rfl)
theorem dX6_trees_53 : decode cX6_trees 53 = .ok (.invokevirtual 72, 3) := dk_182 0 72 (dk_at dksX6_trees_2 8 rfl rfl)
theorem dX6_trees_56 : decode cX6_trees 56 = .ok (.ladd, 1) := dk_97 (dk_at dksX6_trees_2 11 rfl rfl)
theorem dX6_trees_57 : decode cX6_trees 57 = .ok (.lstore_n 2, 1) := dk_65 (dk_at dksX6_trees_2 12 rfl rfl)
theorem dX6_trees_58 : decode cX6_trees 58 = .ok (.iinc 5 1, 3) := dk_132 5 1 (dk_at dksX6_trees_2 13 rfl rfl)
theorem dX6_trees_61 : decode cX6_trees 61 = .ok (.goto (-20), 3) := dk_167 255 236 (dk_at dksX6_trees_2 16 rfl rfl)
theorem dX6_trees_64 : decode cX6_trees 64 = .ok (.lload_n 2, 1) := dk_32 (dk_at dksX6_trees_2 19 rfl rfl)
theorem dX6_trees_65 : decode cX6_trees 65 = .ok (.lreturn, 1) := dk_173 (dk_at dksX6_trees_2 20 rfl rfl)
abbrev cX6_product : ByteArray := prog_6_method_6_code
def yX6_product : MethodName := ⟨RX6, "product", "(II)J"⟩
def dkwX6_product_7 : List UInt8 := [167, 255, 167, 22, 4, 173]
abbrev dktX6_product_7 : List UInt8 := dkwX6_product_7 ++ []
def dkwX6_product_6 : List UInt8 := [180, 0, 21, 21, 6, 50, 42, 180, 0, 28, 21, 6, 46, 47, 167, 0, 4, 9, 105, 55, 4, 132, 6, 1]
abbrev dktX6_product_6 : List UInt8 := dkwX6_product_6 ++ dktX6_product_7
def dkwX6_product_5 : List UInt8 := [167, 255, 232, 22, 4, 21, 6, 28, 160, 0, 7, 10, 167, 0, 28, 21, 7, 28, 160, 0, 21, 42]
abbrev dktX6_product_5 : List UInt8 := dkwX6_product_5 ++ dktX6_product_6
def dkwX6_product_4 : List UInt8 := [21, 8, 42, 180, 0, 3, 180, 0, 15, 162, 0, 18, 42, 180, 0, 28, 21, 7, 46, 54, 7, 132, 8, 1]
abbrev dktX6_product_4 : List UInt8 := dkwX6_product_4 ++ dktX6_product_5
def dkwX6_product_3 : List UInt8 := [55, 4, 3, 54, 6, 21, 6, 42, 180, 0, 3, 180, 0, 15, 162, 0, 83, 21, 6, 54, 7, 3, 54, 8]
abbrev dktX6_product_3 : List UInt8 := dkwX6_product_3 ++ dktX6_product_4
def dkwX6_product_2 : List UInt8 := [160, 0, 7, 29, 167, 0, 12, 29, 42, 180, 0, 3, 180, 0, 15, 108, 62, 132, 4, 1, 167, 255, 195, 10]
abbrev dktX6_product_2 : List UInt8 := dkwX6_product_2 ++ dktX6_product_3
def dkwX6_product_1 : List UInt8 := [21, 4, 28, 160, 0, 7, 28, 167, 0, 12, 29, 42, 180, 0, 3, 180, 0, 15, 112, 79, 21, 4, 28]
abbrev dktX6_product_1 : List UInt8 := dkwX6_product_1 ++ dktX6_product_2
def dkwX6_product_0 : List UInt8 := [27, 62, 3, 54, 4, 21, 4, 42, 180, 0, 3, 180, 0, 15, 162, 0, 55, 42, 180, 0, 28, 21, 4]
abbrev dktX6_product_0 : List UInt8 := dkwX6_product_0 ++ dktX6_product_1
theorem dksX6_product_0 : cX6_product.data.toList.drop 0 = dktX6_product_0 := by decide +kernel
theorem dksX6_product_1 : cX6_product.data.toList.drop 23 = dktX6_product_1 := dk_seg dksX6_product_0 23 rfl rfl
theorem dksX6_product_2 : cX6_product.data.toList.drop 46 = dktX6_product_2 := dk_seg dksX6_product_1 23 rfl rfl
theorem dksX6_product_3 : cX6_product.data.toList.drop 70 = dktX6_product_3 := dk_seg dksX6_product_2 24 rfl rfl
theorem dksX6_product_4 : cX6_product.data.toList.drop 94 = dktX6_product_4 := dk_seg dksX6_product_3 24 rfl rfl
theorem dksX6_product_5 : cX6_product.data.toList.drop 118 = dktX6_product_5 := dk_seg dksX6_product_4 24 rfl rfl
theorem dksX6_product_6 : cX6_product.data.toList.drop 140 = dktX6_product_6 := dk_seg dksX6_product_5 22 rfl rfl
theorem dksX6_product_7 : cX6_product.data.toList.drop 164 = dktX6_product_7 := dk_seg dksX6_product_6 24 rfl rfl
theorem dX6_product_0 : decode cX6_product 0 = .ok (.iload_n 1, 1) := dk_27 (dk_at dksX6_product_0 0 rfl rfl)
theorem dX6_product_1 : decode cX6_product 1 = .ok (.istore_n 3, 1) := dk_62 (dk_at dksX6_product_0 1 rfl rfl)
theorem dX6_product_2 : decode cX6_product 2 = .ok (.iconst 0, 1) := dk_3 (dk_at dksX6_product_0 2 rfl rfl)
theorem dX6_product_3 : decode cX6_product 3 = .ok (.istore 4, 2) := dk_54 4 (dk_at dksX6_product_0 3 rfl rfl)
theorem dX6_product_5 : decode cX6_product 5 = .ok (.iload 4, 2) := dk_21 4 (dk_at dksX6_product_0 5 rfl rfl)
theorem dX6_product_7 : decode cX6_product 7 = .ok (.aload_n 0, 1) := dk_42 (dk_at dksX6_product_0 7 rfl rfl)
theorem dX6_product_8 : decode cX6_product 8 = .ok (.getfield 3, 3) := dk_180 0 3 (dk_at dksX6_product_0 8 rfl rfl)
theorem dX6_product_11 : decode cX6_product 11 = .ok (.getfield 15, 3) := dk_180 0 15 (dk_at dksX6_product_0 11 rfl rfl)
theorem dX6_product_14 : decode cX6_product 14 = .ok (.if_icmp .ge 55, 3) := dk_162 0 55 (dk_at dksX6_product_0 14 rfl rfl)
theorem dX6_product_17 : decode cX6_product 17 = .ok (.aload_n 0, 1) := dk_42 (dk_at dksX6_product_0 17 rfl rfl)
theorem dX6_product_18 : decode cX6_product 18 = .ok (.getfield 28, 3) := dk_180 0 28 (dk_at dksX6_product_0 18 rfl rfl)
theorem dX6_product_21 : decode cX6_product 21 = .ok (.iload 4, 2) := dk_21 4 (dk_at dksX6_product_0 21 rfl rfl)
theorem dX6_product_23 : decode cX6_product 23 = .ok (.iload 4, 2) := dk_21 4 (dk_at dksX6_product_1 0 rfl rfl)
theorem dX6_product_25 : decode cX6_product 25 = .ok (.iload_n 2, 1) := dk_28 (dk_at dksX6_product_1 2 rfl rfl)
theorem dX6_product_26 : decode cX6_product 26 = .ok (.if_icmp .ne 7, 3) := dk_160 0 7 (dk_at dksX6_product_1 3 rfl rfl)
theorem dX6_product_29 : decode cX6_product 29 = .ok (.iload_n 2, 1) := dk_28 (dk_at dksX6_product_1 6 rfl rfl)
theorem dX6_product_30 : decode cX6_product 30 = .ok (.goto 12, 3) := dk_167 0 12 (dk_at dksX6_product_1 7 rfl rfl)
theorem dX6_product_33 : decode cX6_product 33 = .ok (.iload_n 3, 1) := dk_29 (dk_at dksX6_product_1 10 rfl rfl)
theorem dX6_product_34 : decode cX6_product 34 = .ok (.aload_n 0, 1) := dk_42 (dk_at dksX6_product_1 11 rfl rfl)
theorem dX6_product_35 : decode cX6_product 35 = .ok (.getfield 3, 3) := dk_180 0 3 (dk_at dksX6_product_1 12 rfl rfl)
theorem dX6_product_38 : decode cX6_product 38 = .ok (.getfield 15, 3) := dk_180 0 15 (dk_at dksX6_product_1 15 rfl rfl)
theorem dX6_product_41 : decode cX6_product 41 = .ok (.irem, 1) := dk_112 (dk_at dksX6_product_1 18 rfl rfl)
theorem dX6_product_42 : decode cX6_product 42 = .ok (.iastore, 1) := dk_79 (dk_at dksX6_product_1 19 rfl rfl)
theorem dX6_product_43 : decode cX6_product 43 = .ok (.iload 4, 2) := dk_21 4 (dk_at dksX6_product_1 20 rfl rfl)
theorem dX6_product_45 : decode cX6_product 45 = .ok (.iload_n 2, 1) := dk_28 (dk_at dksX6_product_1 22 rfl rfl)
theorem dX6_product_46 : decode cX6_product 46 = .ok (.if_icmp .ne 7, 3) := dk_160 0 7 (dk_at dksX6_product_2 0 rfl rfl)
theorem dX6_product_49 : decode cX6_product 49 = .ok (.iload_n 3, 1) := dk_29 (dk_at dksX6_product_2 3 rfl rfl)
theorem dX6_product_50 : decode cX6_product 50 = .ok (.goto 12, 3) := dk_167 0 12 (dk_at dksX6_product_2 4 rfl rfl)
theorem dX6_product_53 : decode cX6_product 53 = .ok (.iload_n 3, 1) := dk_29 (dk_at dksX6_product_2 7 rfl rfl)
theorem dX6_product_54 : decode cX6_product 54 = .ok (.aload_n 0, 1) := dk_42 (dk_at dksX6_product_2 8 rfl rfl)
theorem dX6_product_55 : decode cX6_product 55 = .ok (.getfield 3, 3) := dk_180 0 3 (dk_at dksX6_product_2 9 rfl rfl)
theorem dX6_product_58 : decode cX6_product 58 = .ok (.getfield 15, 3) := dk_180 0 15 (dk_at dksX6_product_2 12 rfl rfl)
theorem dX6_product_61 : decode cX6_product 61 = .ok (.idiv, 1) := dk_108 (dk_at dksX6_product_2 15 rfl rfl)
theorem dX6_product_62 : decode cX6_product 62 = .ok (.istore_n 3, 1) := dk_62 (dk_at dksX6_product_2 16 rfl rfl)
theorem dX6_product_63 : decode cX6_product 63 = .ok (.iinc 4 1, 3) := dk_132 4 1 (dk_at dksX6_product_2 17 rfl rfl)
theorem dX6_product_66 : decode cX6_product 66 = .ok (.goto (-61), 3) := dk_167 255 195 (dk_at dksX6_product_2 20 rfl rfl)
theorem dX6_product_69 : decode cX6_product 69 = .ok (.lconst 1, 1) := dk_10 (dk_at dksX6_product_2 23 rfl rfl)
theorem dX6_product_70 : decode cX6_product 70 = .ok (.lstore 4, 2) := dk_55 4 (dk_at dksX6_product_3 0 rfl rfl)
theorem dX6_product_72 : decode cX6_product 72 = .ok (.iconst 0, 1) := dk_3 (dk_at dksX6_product_3 2 rfl rfl)
theorem dX6_product_73 : decode cX6_product 73 = .ok (.istore 6, 2) := dk_54 6 (dk_at dksX6_product_3 3 rfl rfl)
theorem dX6_product_75 : decode cX6_product 75 = .ok (.iload 6, 2) := dk_21 6 (dk_at dksX6_product_3 5 rfl rfl)
theorem dX6_product_77 : decode cX6_product 77 = .ok (.aload_n 0, 1) := dk_42 (dk_at dksX6_product_3 7 rfl rfl)
theorem dX6_product_78 : decode cX6_product 78 = .ok (.getfield 3, 3) := dk_180 0 3 (dk_at dksX6_product_3 8 rfl rfl)
theorem dX6_product_81 : decode cX6_product 81 = .ok (.getfield 15, 3) := dk_180 0 15 (dk_at dksX6_product_3 11 rfl rfl)
theorem dX6_product_84 : decode cX6_product 84 = .ok (.if_icmp .ge 83, 3) := dk_162 0 83 (dk_at dksX6_product_3 14 rfl rfl)
theorem dX6_product_87 : decode cX6_product 87 = .ok (.iload 6, 2) := dk_21 6 (dk_at dksX6_product_3 17 rfl rfl)
theorem dX6_product_89 : decode cX6_product 89 = .ok (.istore 7, 2) := dk_54 7 (dk_at dksX6_product_3 19 rfl rfl)
theorem dX6_product_91 : decode cX6_product 91 = .ok (.iconst 0, 1) := dk_3 (dk_at dksX6_product_3 21 rfl rfl)
theorem dX6_product_92 : decode cX6_product 92 = .ok (.istore 8, 2) := dk_54 8 (dk_at dksX6_product_3 22 rfl rfl)
theorem dX6_product_94 : decode cX6_product 94 = .ok (.iload 8, 2) := dk_21 8 (dk_at dksX6_product_4 0 rfl rfl)
theorem dX6_product_96 : decode cX6_product 96 = .ok (.aload_n 0, 1) := dk_42 (dk_at dksX6_product_4 2 rfl rfl)
theorem dX6_product_97 : decode cX6_product 97 = .ok (.getfield 3, 3) := dk_180 0 3 (dk_at dksX6_product_4 3 rfl rfl)
theorem dX6_product_100 : decode cX6_product 100 = .ok (.getfield 15, 3) := dk_180 0 15 (dk_at dksX6_product_4 6 rfl rfl)
theorem dX6_product_103 : decode cX6_product 103 = .ok (.if_icmp .ge 18, 3) := dk_162 0 18 (dk_at dksX6_product_4 9 rfl rfl)
theorem dX6_product_106 : decode cX6_product 106 = .ok (.aload_n 0, 1) := dk_42 (dk_at dksX6_product_4 12 rfl rfl)
theorem dX6_product_107 : decode cX6_product 107 = .ok (.getfield 28, 3) := dk_180 0 28 (dk_at dksX6_product_4 13 rfl rfl)
theorem dX6_product_110 : decode cX6_product 110 = .ok (.iload 7, 2) := dk_21 7 (dk_at dksX6_product_4 16 rfl rfl)
theorem dX6_product_112 : decode cX6_product 112 = .ok (.iaload, 1) := dk_46 (dk_at dksX6_product_4 18 rfl rfl)
theorem dX6_product_113 : decode cX6_product 113 = .ok (.istore 7, 2) := dk_54 7 (dk_at dksX6_product_4 19 rfl rfl)
theorem dX6_product_115 : decode cX6_product 115 = .ok (.iinc 8 1, 3) := dk_132 8 1 (dk_at dksX6_product_4 21 rfl rfl)
theorem dX6_product_118 : decode cX6_product 118 = .ok (.goto (-24), 3) := dk_167 255 232 (dk_at dksX6_product_5 0 rfl rfl)
theorem dX6_product_121 : decode cX6_product 121 = .ok (.lload 4, 2) := dk_22 4 (dk_at dksX6_product_5 3 rfl rfl)
theorem dX6_product_123 : decode cX6_product 123 = .ok (.iload 6, 2) := dk_21 6 (dk_at dksX6_product_5 5 rfl rfl)
theorem dX6_product_125 : decode cX6_product 125 = .ok (.iload_n 2, 1) := dk_28 (dk_at dksX6_product_5 7 rfl rfl)
theorem dX6_product_126 : decode cX6_product 126 = .ok (.if_icmp .ne 7, 3) := dk_160 0 7 (dk_at dksX6_product_5 8 rfl rfl)
theorem dX6_product_129 : decode cX6_product 129 = .ok (.lconst 1, 1) := dk_10 (dk_at dksX6_product_5 11 rfl rfl)
theorem dX6_product_130 : decode cX6_product 130 = .ok (.goto 28, 3) := dk_167 0 28 (dk_at dksX6_product_5 12 rfl rfl)
theorem dX6_product_133 : decode cX6_product 133 = .ok (.iload 7, 2) := dk_21 7 (dk_at dksX6_product_5 15 rfl rfl)
theorem dX6_product_135 : decode cX6_product 135 = .ok (.iload_n 2, 1) := dk_28 (dk_at dksX6_product_5 17 rfl rfl)
theorem dX6_product_136 : decode cX6_product 136 = .ok (.if_icmp .ne 21, 3) := dk_160 0 21 (dk_at dksX6_product_5 18 rfl rfl)
theorem dX6_product_139 : decode cX6_product 139 = .ok (.aload_n 0, 1) := dk_42 (dk_at dksX6_product_5 21 rfl rfl)
theorem dX6_product_140 : decode cX6_product 140 = .ok (.getfield 21, 3) := dk_180 0 21 (dk_at dksX6_product_6 0 rfl rfl)
theorem dX6_product_143 : decode cX6_product 143 = .ok (.iload 6, 2) := dk_21 6 (dk_at dksX6_product_6 3 rfl rfl)
theorem dX6_product_145 : decode cX6_product 145 = .ok (.aaload, 1) := dk_50 (dk_at dksX6_product_6 5 rfl rfl)
theorem dX6_product_146 : decode cX6_product 146 = .ok (.aload_n 0, 1) := dk_42 (dk_at dksX6_product_6 6 rfl rfl)
theorem dX6_product_147 : decode cX6_product 147 = .ok (.getfield 28, 3) := dk_180 0 28 (dk_at dksX6_product_6 7 rfl rfl)
theorem dX6_product_150 : decode cX6_product 150 = .ok (.iload 6, 2) := dk_21 6 (dk_at dksX6_product_6 10 rfl rfl)
theorem dX6_product_152 : decode cX6_product 152 = .ok (.iaload, 1) := dk_46 (dk_at dksX6_product_6 12 rfl rfl)
theorem dX6_product_153 : decode cX6_product 153 = .ok (.laload, 1) := dk_47 (dk_at dksX6_product_6 13 rfl rfl)
theorem dX6_product_154 : decode cX6_product 154 = .ok (.goto 4, 3) := dk_167 0 4 (dk_at dksX6_product_6 14 rfl rfl)
theorem dX6_product_157 : decode cX6_product 157 = .ok (.lconst 0, 1) := dk_9 (dk_at dksX6_product_6 17 rfl rfl)
theorem dX6_product_158 : decode cX6_product 158 = .ok (.lmul, 1) := dk_105 (dk_at dksX6_product_6 18 rfl rfl)
theorem dX6_product_159 : decode cX6_product 159 = .ok (.lstore 4, 2) := dk_55 4 (dk_at dksX6_product_6 19 rfl rfl)
theorem dX6_product_161 : decode cX6_product 161 = .ok (.iinc 6 1, 3) := dk_132 6 1 (dk_at dksX6_product_6 21 rfl rfl)
theorem dX6_product_164 : decode cX6_product 164 = .ok (.goto (-89), 3) := dk_167 255 167 (dk_at dksX6_product_7 0 rfl rfl)
theorem dX6_product_167 : decode cX6_product 167 = .ok (.lload 4, 2) := dk_22 4 (dk_at dksX6_product_7 3 rfl rfl)
theorem dX6_product_169 : decode cX6_product 169 = .ok (.lreturn, 1) := dk_173 (dk_at dksX6_product_7 5 rfl rfl)
abbrev cX6_allTrees : ByteArray := prog_6_method_7_code
def yX6_allTrees : MethodName := ⟨RX6, "allTrees", "()J"⟩
def dkwX6_allTrees_1 : List UInt8 := [132, 3, 1, 167, 255, 234, 31, 173]
abbrev dktX6_allTrees_1 : List UInt8 := dkwX6_allTrees_1 ++ []
def dkwX6_allTrees_0 : List UInt8 := [9, 64, 3, 62, 29, 42, 180, 0, 3, 180, 0, 15, 162, 0, 17, 31, 42, 29, 182, 0, 76, 97, 64]
abbrev dktX6_allTrees_0 : List UInt8 := dkwX6_allTrees_0 ++ dktX6_allTrees_1
theorem dksX6_allTrees_0 : cX6_allTrees.data.toList.drop 0 = dktX6_allTrees_0 := by decide +kernel
theorem dksX6_allTrees_1 : cX6_allTrees.data.toList.drop 23 = dktX6_allTrees_1 := dk_seg dksX6_allTrees_0 23 rfl rfl
theorem dX6_allTrees_0 : decode cX6_allTrees 0 = .ok (.lconst 0, 1) := dk_9 (dk_at dksX6_allTrees_0 0 rfl rfl)
theorem dX6_allTrees_1 : decode cX6_allTrees 1 = .ok (.lstore_n 1, 1) := dk_64 (dk_at dksX6_allTrees_0 1 rfl rfl)
theorem dX6_allTrees_2 : decode cX6_allTrees 2 = .ok (.iconst 0, 1) := dk_3 (dk_at dksX6_allTrees_0 2 rfl rfl)
theorem dX6_allTrees_3 : decode cX6_allTrees 3 = .ok (.istore_n 3, 1) := dk_62 (dk_at dksX6_allTrees_0 3 rfl rfl)
theorem dX6_allTrees_4 : decode cX6_allTrees 4 = .ok (.iload_n 3, 1) := dk_29 (dk_at dksX6_allTrees_0 4 rfl rfl)
theorem dX6_allTrees_5 : decode cX6_allTrees 5 = .ok (.aload_n 0, 1) := dk_42 (dk_at dksX6_allTrees_0 5 rfl rfl)
theorem dX6_allTrees_6 : decode cX6_allTrees 6 = .ok (.getfield 3, 3) := dk_180 0 3 (dk_at dksX6_allTrees_0 6 rfl rfl)
theorem dX6_allTrees_9 : decode cX6_allTrees 9 = .ok (.getfield 15, 3) := dk_180 0 15 (dk_at dksX6_allTrees_0 9 rfl rfl)
theorem dX6_allTrees_12 : decode cX6_allTrees 12 = .ok (.if_icmp .ge 17, 3) := dk_162 0 17 (dk_at dksX6_allTrees_0 12 rfl rfl)
theorem dX6_allTrees_15 : decode cX6_allTrees 15 = .ok (.lload_n 1, 1) := dk_31 (dk_at dksX6_allTrees_0 15 rfl rfl)
theorem dX6_allTrees_16 : decode cX6_allTrees 16 = .ok (.aload_n 0, 1) := dk_42 (dk_at dksX6_allTrees_0 16 rfl rfl)
theorem dX6_allTrees_17 : decode cX6_allTrees 17 = .ok (.iload_n 3, 1) := dk_29 (dk_at dksX6_allTrees_0 17 rfl rfl)
theorem dX6_allTrees_18 : decode cX6_allTrees 18 = .ok (.invokevirtual 76, 3) := dk_182 0 76 (dk_at dksX6_allTrees_0 18 rfl rfl)
theorem dX6_allTrees_21 : decode cX6_allTrees 21 = .ok (.ladd, 1) := dk_97 (dk_at dksX6_allTrees_0 21 rfl rfl)
theorem dX6_allTrees_22 : decode cX6_allTrees 22 = .ok (.lstore_n 1, 1) := dk_64 (dk_at dksX6_allTrees_0 22 rfl rfl)
theorem dX6_allTrees_23 : decode cX6_allTrees 23 = .ok (.iinc 3 1, 3) := dk_132 3 1 (dk_at dksX6_allTrees_1 0 rfl rfl)
theorem dX6_allTrees_26 : decode cX6_allTrees 26 = .ok (.goto (-22), 3) := dk_167 255 234 (dk_at dksX6_allTrees_1 3 rfl rfl)
theorem dX6_allTrees_29 : decode cX6_allTrees 29 = .ok (.lload_n 1, 1) := dk_31 (dk_at dksX6_allTrees_1 6 rfl rfl)
theorem dX6_allTrees_30 : decode cX6_allTrees 30 = .ok (.lreturn, 1) := dk_173 (dk_at dksX6_allTrees_1 7 rfl rfl)
abbrev cX6_shareOf : ByteArray := prog_6_method_8_code
def yX6_shareOf : MethodName := ⟨RX6, "shareOf", "(I)LFlashRatchet$Fraction;"⟩
def dkwX6_shareOf_0 : List UInt8 := [187, 0, 80, 89, 42, 27, 182, 0, 76, 42, 182, 0, 82, 183, 0, 86, 176]
abbrev dktX6_shareOf_0 : List UInt8 := dkwX6_shareOf_0 ++ []
theorem dksX6_shareOf_0 : cX6_shareOf.data.toList.drop 0 = dktX6_shareOf_0 := by decide +kernel
theorem dX6_shareOf_0 : decode cX6_shareOf 0 = .ok (.new 80, 3) := dk_187 0 80 (dk_at dksX6_shareOf_0 0 rfl rfl)
theorem dX6_shareOf_3 : decode cX6_shareOf 3 = .ok (.dup, 1) := dk_89 (dk_at dksX6_shareOf_0 3 rfl rfl)
theorem dX6_shareOf_4 : decode cX6_shareOf 4 = .ok (.aload_n 0, 1) := dk_42 (dk_at dksX6_shareOf_0 4 rfl rfl)
theorem dX6_shareOf_5 : decode cX6_shareOf 5 = .ok (.iload_n 1, 1) := dk_27 (dk_at dksX6_shareOf_0 5 rfl rfl)
theorem dX6_shareOf_6 : decode cX6_shareOf 6 = .ok (.invokevirtual 76, 3) := dk_182 0 76 (dk_at dksX6_shareOf_0 6 rfl rfl)
theorem dX6_shareOf_9 : decode cX6_shareOf 9 = .ok (.aload_n 0, 1) := dk_42 (dk_at dksX6_shareOf_0 9 rfl rfl)
theorem dX6_shareOf_10 : decode cX6_shareOf 10 = .ok (.invokevirtual 82, 3) := dk_182 0 82 (dk_at dksX6_shareOf_0 10 rfl rfl)
theorem dX6_shareOf_13 : decode cX6_shareOf 13 = .ok (.invokespecial 86, 3) := dk_183 0 86 (dk_at dksX6_shareOf_0 13 rfl rfl)
theorem dX6_shareOf_16 : decode cX6_shareOf 16 = .ok (.areturn, 1) := dk_176 (dk_at dksX6_shareOf_0 16 rfl rfl)
theorem q124 : (Jvm.Cond.initialized "FlashRatchet$Rounds") ∈ lw_all := lw_g (lw_at lw_m1 40 rfl) rfl
theorem q172 : (Jvm.Cond.fieldLinkNest "FlashRatchet$Rounds" (15 : Nat) "FlashRatchet" "positions" "I" "FlashRatchet") ∈ lw_tbl := lw_at lw_m1 88 rfl
theorem q694 : (Jvm.Cond.instantiable "FlashRatchet$Rounds" (6 : Nat)) ∈ lw_all := lw_g (lw_at lw_m3 130 rfl) rfl
theorem q696 : (Jvm.Cond.instanceMethod ({ cls := "FlashRatchet$Rounds", name := "<init>", desc := "(LFlashRatchet;I)V" } : Jvm.MethodName)) ∈ lw_all := lw_g (lw_at lw_m3 132 rfl) rfl
theorem q697 : (Jvm.Cond.code ({ cls := "FlashRatchet$Rounds", name := "<init>", desc := "(LFlashRatchet;I)V" } : Jvm.MethodName) prog_6_method_1_code (7 : Nat) (Option.none : Option Jvm.ClassFile.FieldType)) ∈ lw_all := lw_g (lw_at lw_m3 133 rfl) rfl
theorem q698 : (Jvm.Cond.methodLink "FlashRatchet$Rounds" (9 : Nat) ({ cls := "java/lang/Object", name := "<init>", desc := "()V" } : Jvm.MethodName)) ∈ lw_all := lw_g (lw_at lw_m3 134 rfl) rfl
theorem q699 : (Jvm.Cond.classLink "FlashRatchet$Rounds" (19 : Nat) "[[J") ∈ lw_all := lw_g (lw_at lw_m3 135 rfl) rfl
theorem q701 : (Jvm.Cond.methodLinkNest "FlashRatchet$Rounds" (36 : Nat) ({ cls := "FlashRatchet", name := "length", desc := "(I)I" } : Jvm.MethodName) "FlashRatchet") ∈ lw_tbl := lw_at lw_m3 137 rfl
theorem q702 : (Jvm.Cond.constantLong "FlashRatchet$Rounds" (42 : Nat) (10 : Int64)) ∈ lw_all := lw_g (lw_at lw_m3 138 rfl) rfl
theorem q703 : (Jvm.Cond.methodLinkNest "FlashRatchet$Rounds" (44 : Nat) ({ cls := "FlashRatchet", name := "lever", desc := "(II)I" } : Jvm.MethodName) "FlashRatchet") ∈ lw_tbl := lw_at lw_m3 139 rfl
theorem q707 : (Jvm.Cond.methodLink "FlashRatchet$Rounds" (48 : Nat) ({ cls := "FlashRatchet$Rounds", name := "tick", desc := "([JI)J" } : Jvm.MethodName)) ∈ lw_all := lw_g (lw_at lw_m3 143 rfl) rfl
theorem q708 : (Jvm.Cond.privateMethod ({ cls := "FlashRatchet$Rounds", name := "tick", desc := "([JI)J" } : Jvm.MethodName)) ∈ lw_tbl := lw_at lw_m3 144 rfl
theorem q709 : (Jvm.Cond.instanceMethod ({ cls := "FlashRatchet$Rounds", name := "tick", desc := "([JI)J" } : Jvm.MethodName)) ∈ lw_all := lw_g (lw_at lw_m3 145 rfl) rfl
theorem q710 : (Jvm.Cond.code ({ cls := "FlashRatchet$Rounds", name := "tick", desc := "([JI)J" } : Jvm.MethodName) prog_6_method_2_code (10 : Nat) (Option.some Jvm.ClassFile.FieldType.long)) ∈ lw_all := lw_g (lw_at lw_m3 146 rfl) rfl
theorem q711 : (Jvm.Cond.methodLink "FlashRatchet$Rounds" (52 : Nat) ({ cls := "[J", name := "clone", desc := "()Ljava/lang/Object;" } : Jvm.MethodName)) ∈ lw_all := lw_g (lw_at lw_m3 147 rfl) rfl
theorem q715 : (Jvm.Cond.classLink "FlashRatchet$Rounds" (53 : Nat) "[J") ∈ lw_all := lw_g (lw_at lw_m3 151 rfl) rfl
theorem q716 : (Jvm.Cond.methodLinkNest "FlashRatchet$Rounds" (57 : Nat) ({ cls := "FlashRatchet", name := "draws", desc := "(III)I" } : Jvm.MethodName) "FlashRatchet") ∈ lw_tbl := lw_at lw_m3 152 rfl
theorem q728 : (Jvm.Cond.methodLinkNest "FlashRatchet$Rounds" (61 : Nat) ({ cls := "FlashRatchet", name := "moved", desc := "(II)I" } : Jvm.MethodName) "FlashRatchet") ∈ lw_tbl := lw_at lw_m3 164 rfl
theorem q732 : (Jvm.Cond.fieldLink "FlashRatchet$Rounds" (40 : Nat) "FlashRatchet$Rounds" "length" "I") ∈ lw_all := lw_g (lw_at lw_m3 168 rfl) rfl
theorem q733 : (Jvm.Cond.fieldLink "FlashRatchet$Rounds" (21 : Nat) "FlashRatchet$Rounds" "ways" "[[J") ∈ lw_all := lw_g (lw_at lw_m3 169 rfl) rfl
theorem q734 : (Jvm.Cond.fieldLink "FlashRatchet$Rounds" (24 : Nat) "FlashRatchet$Rounds" "gains" "[J") ∈ lw_all := lw_g (lw_at lw_m3 170 rfl) rfl
theorem q735 : (Jvm.Cond.fieldLink "FlashRatchet$Rounds" (28 : Nat) "FlashRatchet$Rounds" "to" "[I") ∈ lw_all := lw_g (lw_at lw_m3 171 rfl) rfl
theorem q736 : (Jvm.Cond.fieldLink "FlashRatchet$Rounds" (32 : Nat) "FlashRatchet$Rounds" "all" "J") ∈ lw_all := lw_g (lw_at lw_m3 172 rfl) rfl
theorem q737 : (Jvm.Cond.fieldLink "FlashRatchet$Rounds" (3 : Nat) "FlashRatchet$Rounds" "this$0" "LFlashRatchet;") ∈ lw_all := lw_g (lw_at lw_m3 173 rfl) rfl
theorem q738 : (Jvm.Cond.laysFinal "FlashRatchet$Rounds" "FlashRatchet$Rounds" "length" "I") ∈ lw_all := lw_g (lw_at lw_m3 174 rfl) rfl
theorem q739 : (Jvm.Cond.soleField "FlashRatchet$Rounds" "length") ∈ lw_all := lw_g (lw_at lw_m3 175 rfl) rfl
theorem q740 : (Jvm.Cond.laysFinal "FlashRatchet$Rounds" "FlashRatchet$Rounds" "ways" "[[J") ∈ lw_all := lw_g (lw_at lw_m3 176 rfl) rfl
theorem q741 : (Jvm.Cond.soleField "FlashRatchet$Rounds" "ways") ∈ lw_all := lw_g (lw_at lw_m3 177 rfl) rfl
theorem q742 : (Jvm.Cond.laysFinal "FlashRatchet$Rounds" "FlashRatchet$Rounds" "gains" "[J") ∈ lw_all := lw_g (lw_at lw_m3 178 rfl) rfl
theorem q743 : (Jvm.Cond.soleField "FlashRatchet$Rounds" "gains") ∈ lw_all := lw_g (lw_at lw_m3 179 rfl) rfl
theorem q744 : (Jvm.Cond.laysFinal "FlashRatchet$Rounds" "FlashRatchet$Rounds" "to" "[I") ∈ lw_all := lw_g (lw_at lw_m3 180 rfl) rfl
theorem q745 : (Jvm.Cond.soleField "FlashRatchet$Rounds" "to") ∈ lw_all := lw_g (lw_at lw_m3 181 rfl) rfl
theorem q746 : (Jvm.Cond.lays "FlashRatchet$Rounds" "FlashRatchet$Rounds" "all" "J") ∈ lw_all := lw_g (lw_at lw_m3 182 rfl) rfl
theorem q747 : (Jvm.Cond.soleField "FlashRatchet$Rounds" "all") ∈ lw_all := lw_g (lw_at lw_m3 183 rfl) rfl
theorem q748 : (Jvm.Cond.laysFinal "FlashRatchet$Rounds" "FlashRatchet$Rounds" "this$0" "LFlashRatchet;") ∈ lw_all := lw_g (lw_at lw_m3 184 rfl) rfl
theorem q749 : (Jvm.Cond.soleField "FlashRatchet$Rounds" "this$0") ∈ lw_all := lw_g (lw_at lw_m3 185 rfl) rfl
theorem q750 : (Jvm.Cond.superclass "FlashRatchet$Rounds" "java/lang/Object") ∈ lw_all := lw_g (lw_at lw_m3 186 rfl) rfl
theorem q753 : (Jvm.Cond.instanceMethod ({ cls := "FlashRatchet$Rounds", name := "classCount", desc := "()I" } : Jvm.MethodName)) ∈ lw_all := lw_g (lw_at lw_m3 189 rfl) rfl
theorem q754 : (Jvm.Cond.selects "FlashRatchet$Rounds" ({ cls := "FlashRatchet$Rounds", name := "classCount", desc := "()I" } : Jvm.MethodName) ({ cls := "FlashRatchet$Rounds", name := "classCount", desc := "()I" } : Jvm.MethodName)) ∈ lw_all := lw_g (lw_at lw_m3 190 rfl) rfl
theorem q755 : (Jvm.Cond.code ({ cls := "FlashRatchet$Rounds", name := "classCount", desc := "()I" } : Jvm.MethodName) prog_6_method_4_code (6 : Nat) (Option.some Jvm.ClassFile.FieldType.int)) ∈ lw_all := lw_g (lw_at lw_m3 191 rfl) rfl
theorem q756 : (Jvm.Cond.methodLink "FlashRatchet$Rounds" (64 : Nat) ({ cls := "FlashRatchet$Rounds", name := "reached", desc := "(I)I" } : Jvm.MethodName)) ∈ lw_all := lw_g (lw_at lw_m3 192 rfl) rfl
theorem q757 : (Jvm.Cond.privateMethod ({ cls := "FlashRatchet$Rounds", name := "reached", desc := "(I)I" } : Jvm.MethodName)) ∈ lw_tbl := lw_at lw_m3 193 rfl
theorem q758 : (Jvm.Cond.instanceMethod ({ cls := "FlashRatchet$Rounds", name := "reached", desc := "(I)I" } : Jvm.MethodName)) ∈ lw_all := lw_g (lw_at lw_m3 194 rfl) rfl
theorem q759 : (Jvm.Cond.code ({ cls := "FlashRatchet$Rounds", name := "reached", desc := "(I)I" } : Jvm.MethodName) prog_6_method_3_code (6 : Nat) (Option.some Jvm.ClassFile.FieldType.int)) ∈ lw_all := lw_g (lw_at lw_m3 195 rfl) rfl
theorem q760 : (Jvm.Cond.methodLink "FlashRatchet$Rounds" (67 : Nat) ({ cls := "java/lang/Integer", name := "numberOfTrailingZeros", desc := "(I)I" } : Jvm.MethodName)) ∈ lw_all := lw_g (lw_at lw_m3 196 rfl) rfl
theorem q765 : (Jvm.Cond.instanceMethod ({ cls := "FlashRatchet$Rounds", name := "mean", desc := "()LFlashRatchet$Fraction;" } : Jvm.MethodName)) ∈ lw_all := lw_g (lw_at lw_m3 201 rfl) rfl
theorem q766 : (Jvm.Cond.selects "FlashRatchet$Rounds" ({ cls := "FlashRatchet$Rounds", name := "mean", desc := "()LFlashRatchet$Fraction;" } : Jvm.MethodName) ({ cls := "FlashRatchet$Rounds", name := "mean", desc := "()LFlashRatchet$Fraction;" } : Jvm.MethodName)) ∈ lw_all := lw_g (lw_at lw_m3 202 rfl) rfl
theorem q767 : (Jvm.Cond.code ({ cls := "FlashRatchet$Rounds", name := "mean", desc := "()LFlashRatchet$Fraction;" } : Jvm.MethodName) prog_6_method_9_code (4 : Nat) (Option.some (Jvm.ClassFile.FieldType.object "FlashRatchet$Fraction"))) ∈ lw_all := lw_g (lw_at lw_m3 203 rfl) rfl
theorem q768 : (Jvm.Cond.methodLink "FlashRatchet$Rounds" (76 : Nat) ({ cls := "FlashRatchet$Rounds", name := "trees", desc := "(I)J" } : Jvm.MethodName)) ∈ lw_all := lw_g (lw_at lw_m3 204 rfl) rfl
theorem q769 : (Jvm.Cond.privateMethod ({ cls := "FlashRatchet$Rounds", name := "trees", desc := "(I)J" } : Jvm.MethodName)) ∈ lw_tbl := lw_at lw_m3 205 rfl
theorem q770 : (Jvm.Cond.instanceMethod ({ cls := "FlashRatchet$Rounds", name := "trees", desc := "(I)J" } : Jvm.MethodName)) ∈ lw_all := lw_g (lw_at lw_m3 206 rfl) rfl
theorem q771 : (Jvm.Cond.code ({ cls := "FlashRatchet$Rounds", name := "trees", desc := "(I)J" } : Jvm.MethodName) prog_6_method_5_code (6 : Nat) (Option.some Jvm.ClassFile.FieldType.long)) ∈ lw_all := lw_g (lw_at lw_m3 207 rfl) rfl
theorem q772 : (Jvm.Cond.methodLink "FlashRatchet$Rounds" (72 : Nat) ({ cls := "FlashRatchet$Rounds", name := "product", desc := "(II)J" } : Jvm.MethodName)) ∈ lw_all := lw_g (lw_at lw_m3 208 rfl) rfl
theorem q773 : (Jvm.Cond.privateMethod ({ cls := "FlashRatchet$Rounds", name := "product", desc := "(II)J" } : Jvm.MethodName)) ∈ lw_tbl := lw_at lw_m3 209 rfl
theorem q774 : (Jvm.Cond.instanceMethod ({ cls := "FlashRatchet$Rounds", name := "product", desc := "(II)J" } : Jvm.MethodName)) ∈ lw_all := lw_g (lw_at lw_m3 210 rfl) rfl
theorem q775 : (Jvm.Cond.code ({ cls := "FlashRatchet$Rounds", name := "product", desc := "(II)J" } : Jvm.MethodName) prog_6_method_6_code (9 : Nat) (Option.some Jvm.ClassFile.FieldType.long)) ∈ lw_all := lw_g (lw_at lw_m3 211 rfl) rfl
theorem q776 : (Jvm.Cond.classLink "FlashRatchet$Rounds" (80 : Nat) "FlashRatchet$Fraction") ∈ lw_all := lw_g (lw_at lw_m3 212 rfl) rfl
theorem q778 : (Jvm.Cond.methodLink "FlashRatchet$Rounds" (82 : Nat) ({ cls := "FlashRatchet$Rounds", name := "allTrees", desc := "()J" } : Jvm.MethodName)) ∈ lw_all := lw_g (lw_at lw_m3 214 rfl) rfl
theorem q779 : (Jvm.Cond.privateMethod ({ cls := "FlashRatchet$Rounds", name := "allTrees", desc := "()J" } : Jvm.MethodName)) ∈ lw_tbl := lw_at lw_m3 215 rfl
theorem q780 : (Jvm.Cond.instanceMethod ({ cls := "FlashRatchet$Rounds", name := "allTrees", desc := "()J" } : Jvm.MethodName)) ∈ lw_all := lw_g (lw_at lw_m3 216 rfl) rfl
theorem q781 : (Jvm.Cond.code ({ cls := "FlashRatchet$Rounds", name := "allTrees", desc := "()J" } : Jvm.MethodName) prog_6_method_7_code (4 : Nat) (Option.some Jvm.ClassFile.FieldType.long)) ∈ lw_all := lw_g (lw_at lw_m3 217 rfl) rfl
theorem q782 : (Jvm.Cond.methodLink "FlashRatchet$Rounds" (86 : Nat) ({ cls := "FlashRatchet$Fraction", name := "<init>", desc := "(JJ)V" } : Jvm.MethodName)) ∈ lw_all := lw_g (lw_at lw_m3 218 rfl) rfl
theorem q901 : (Jvm.Cond.selects "FlashRatchet$Rounds" ({ cls := "java/lang/Object", name := "getClass", desc := "()Ljava/lang/Class;" } : Jvm.MethodName) ({ cls := "java/lang/Object", name := "getClass", desc := "()Ljava/lang/Class;" } : Jvm.MethodName)) ∈ lw_all := lw_g (lw_at lw_m4 97 rfl) rfl
theorem q1597 : (Jvm.Cond.instanceMethod ({ cls := "FlashRatchet$Rounds", name := "shareOf", desc := "(I)LFlashRatchet$Fraction;" } : Jvm.MethodName)) ∈ lw_all := lw_g (lw_at lw_m7 73 rfl) rfl
theorem q1598 : (Jvm.Cond.selects "FlashRatchet$Rounds" ({ cls := "FlashRatchet$Rounds", name := "shareOf", desc := "(I)LFlashRatchet$Fraction;" } : Jvm.MethodName) ({ cls := "FlashRatchet$Rounds", name := "shareOf", desc := "(I)LFlashRatchet$Fraction;" } : Jvm.MethodName)) ∈ lw_all := lw_g (lw_at lw_m7 74 rfl) rfl
theorem q1599 : (Jvm.Cond.code ({ cls := "FlashRatchet$Rounds", name := "shareOf", desc := "(I)LFlashRatchet$Fraction;" } : Jvm.MethodName) prog_6_method_8_code (2 : Nat) (Option.some (Jvm.ClassFile.FieldType.object "FlashRatchet$Fraction"))) ∈ lw_all := lw_g (lw_at lw_m7 75 rfl) rfl
theorem q2298 : (Jvm.Cond.castable "FlashRatchet$Rounds" "java/lang/Object") ∈ lw_tbl := lw_at lw_m10 54 rfl
theorem in_X6 : ∀ w ∈ wsX60, w ∈ lw_all := lw_in wsX60 [738, 740, 742, 744, 746, 748] (by decide +kernel) (by decide +kernel)
/-! FlashRatchet$Fraction -/
set_option maxRecDepth 100000
def RX7 : String := "FlashRatchet$Fraction"
def TX7 : u_T := fun k => match k with
  | 0 => ("FlashRatchet$Fraction", "above", "J", true)
  | _ => ("FlashRatchet$Fraction", "below", "J", true)
def tyX7 : Nat → FieldType := fun k => match k with
  | 0 => .long
  | _ => .long
abbrev wsX70 : List Cond := u_ws RX7 TX7 2
theorem nmX7 : ∀ a, a < 2 → ∀ b, b < 2 → a ≠ b → (TX7 a).2.1 ≠ (TX7 b).2.1 := by decide +kernel
theorem tyX7_ok : ∀ k, k < 2 → parseFieldDescriptor (TX7 k).2.2.1 = some (tyX7 k) := by decide +kernel
abbrev cX7_init : ByteArray := prog_4_method_1_code
def yX7_init : MethodName := ⟨RX7, "<init>", "(JJ)V"⟩
def dkwX7_init_1 : List UInt8 := [22, 5, 109, 181, 0, 23, 177]
abbrev dktX7_init_1 : List UInt8 := dkwX7_init_1 ++ []
def dkwX7_init_0 : List UInt8 := [42, 183, 0, 1, 31, 184, 0, 7, 33, 184, 0, 13, 55, 5, 42, 31, 22, 5, 109, 181, 0, 19, 42, 33]
abbrev dktX7_init_0 : List UInt8 := dkwX7_init_0 ++ dktX7_init_1
theorem dksX7_init_0 : cX7_init.data.toList.drop 0 = dktX7_init_0 := by decide +kernel
theorem dksX7_init_1 : cX7_init.data.toList.drop 24 = dktX7_init_1 := dk_seg dksX7_init_0 24 rfl rfl
theorem dX7_init_0 : decode cX7_init 0 = .ok (.aload_n 0, 1) := dk_42 (dk_at dksX7_init_0 0 rfl rfl)
theorem dX7_init_1 : decode cX7_init 1 = .ok (.invokespecial 1, 3) := dk_183 0 1 (dk_at dksX7_init_0 1 rfl rfl)
theorem dX7_init_4 : decode cX7_init 4 = .ok (.lload_n 1, 1) := dk_31 (dk_at dksX7_init_0 4 rfl rfl)
theorem dX7_init_5 : decode cX7_init 5 = .ok (.invokestatic 7, 3) := dk_184 0 7 (dk_at dksX7_init_0 5 rfl rfl)
theorem dX7_init_8 : decode cX7_init 8 = .ok (.lload_n 3, 1) := dk_33 (dk_at dksX7_init_0 8 rfl rfl)
theorem dX7_init_9 : decode cX7_init 9 = .ok (.invokestatic 13, 3) := dk_184 0 13 (dk_at dksX7_init_0 9 rfl rfl)
theorem dX7_init_12 : decode cX7_init 12 = .ok (.lstore 5, 2) := dk_55 5 (dk_at dksX7_init_0 12 rfl rfl)
theorem dX7_init_14 : decode cX7_init 14 = .ok (.aload_n 0, 1) := dk_42 (dk_at dksX7_init_0 14 rfl rfl)
theorem dX7_init_15 : decode cX7_init 15 = .ok (.lload_n 1, 1) := dk_31 (dk_at dksX7_init_0 15 rfl rfl)
theorem dX7_init_16 : decode cX7_init 16 = .ok (.lload 5, 2) := dk_22 5 (dk_at dksX7_init_0 16 rfl rfl)
theorem dX7_init_18 : decode cX7_init 18 = .ok (.ldiv, 1) := dk_109 (dk_at dksX7_init_0 18 rfl rfl)
theorem dX7_init_19 : decode cX7_init 19 = .ok (.putfield 19, 3) := dk_181 0 19 (dk_at dksX7_init_0 19 rfl rfl)
theorem dX7_init_22 : decode cX7_init 22 = .ok (.aload_n 0, 1) := dk_42 (dk_at dksX7_init_0 22 rfl rfl)
theorem dX7_init_23 : decode cX7_init 23 = .ok (.lload_n 3, 1) := dk_33 (dk_at dksX7_init_0 23 rfl rfl)
theorem dX7_init_24 : decode cX7_init 24 = .ok (.lload 5, 2) := dk_22 5 (dk_at dksX7_init_1 0 rfl rfl)
theorem dX7_init_26 : decode cX7_init 26 = .ok (.ldiv, 1) := dk_109 (dk_at dksX7_init_1 2 rfl rfl)
theorem dX7_init_27 : decode cX7_init 27 = .ok (.putfield 23, 3) := dk_181 0 23 (dk_at dksX7_init_1 3 rfl rfl)
theorem dX7_init_30 : decode cX7_init 30 = .ok (.return_, 1) := dk_177 (dk_at dksX7_init_1 6 rfl rfl)
abbrev cX7_divisor : ByteArray := prog_4_method_2_code
def yX7_divisor : MethodName := ⟨RX7, "divisor", "(JJ)J"⟩
def dkwX7_divisor_1 : List UInt8 := [22, 8, 55, 4, 167, 255, 234, 22, 6, 173]
abbrev dktX7_divisor_1 : List UInt8 := dkwX7_divisor_1 ++ []
def dkwX7_divisor_0 : List UInt8 := [30, 55, 4, 32, 55, 6, 22, 4, 9, 148, 153, 0, 21, 22, 6, 22, 4, 113, 55, 8, 22, 4, 55, 6]
abbrev dktX7_divisor_0 : List UInt8 := dkwX7_divisor_0 ++ dktX7_divisor_1
theorem dksX7_divisor_0 : cX7_divisor.data.toList.drop 0 = dktX7_divisor_0 := by decide +kernel
theorem dksX7_divisor_1 : cX7_divisor.data.toList.drop 24 = dktX7_divisor_1 := dk_seg dksX7_divisor_0 24 rfl rfl
theorem dX7_divisor_0 : decode cX7_divisor 0 = .ok (.lload_n 0, 1) := dk_30 (dk_at dksX7_divisor_0 0 rfl rfl)
theorem dX7_divisor_1 : decode cX7_divisor 1 = .ok (.lstore 4, 2) := dk_55 4 (dk_at dksX7_divisor_0 1 rfl rfl)
theorem dX7_divisor_3 : decode cX7_divisor 3 = .ok (.lload_n 2, 1) := dk_32 (dk_at dksX7_divisor_0 3 rfl rfl)
theorem dX7_divisor_4 : decode cX7_divisor 4 = .ok (.lstore 6, 2) := dk_55 6 (dk_at dksX7_divisor_0 4 rfl rfl)
theorem dX7_divisor_6 : decode cX7_divisor 6 = .ok (.lload 4, 2) := dk_22 4 (dk_at dksX7_divisor_0 6 rfl rfl)
theorem dX7_divisor_8 : decode cX7_divisor 8 = .ok (.lconst 0, 1) := dk_9 (dk_at dksX7_divisor_0 8 rfl rfl)
theorem dX7_divisor_9 : decode cX7_divisor 9 = .ok (.lcmp, 1) := dk_148 (dk_at dksX7_divisor_0 9 rfl rfl)
theorem dX7_divisor_10 : decode cX7_divisor 10 = .ok (.ifCond .eq 21, 3) := dk_153 0 21 (dk_at dksX7_divisor_0 10 rfl rfl)
theorem dX7_divisor_13 : decode cX7_divisor 13 = .ok (.lload 6, 2) := dk_22 6 (dk_at dksX7_divisor_0 13 rfl rfl)
theorem dX7_divisor_15 : decode cX7_divisor 15 = .ok (.lload 4, 2) := dk_22 4 (dk_at dksX7_divisor_0 15 rfl rfl)
theorem dX7_divisor_17 : decode cX7_divisor 17 = .ok (.lrem, 1) := dk_113 (dk_at dksX7_divisor_0 17 rfl rfl)
theorem dX7_divisor_18 : decode cX7_divisor 18 = .ok (.lstore 8, 2) := dk_55 8 (dk_at dksX7_divisor_0 18 rfl rfl)
theorem dX7_divisor_20 : decode cX7_divisor 20 = .ok (.lload 4, 2) := dk_22 4 (dk_at dksX7_divisor_0 20 rfl rfl)
theorem dX7_divisor_22 : decode cX7_divisor 22 = .ok (.lstore 6, 2) := dk_55 6 (dk_at dksX7_divisor_0 22 rfl rfl)
theorem dX7_divisor_24 : decode cX7_divisor 24 = .ok (.lload 8, 2) := dk_22 8 (dk_at dksX7_divisor_1 0 rfl rfl)
theorem dX7_divisor_26 : decode cX7_divisor 26 = .ok (.lstore 4, 2) := dk_55 4 (dk_at dksX7_divisor_1 2 rfl rfl)
theorem dX7_divisor_28 : decode cX7_divisor 28 = .ok (.goto (-22), 3) := dk_167 255 234 (dk_at dksX7_divisor_1 4 rfl rfl)
theorem dX7_divisor_31 : decode cX7_divisor 31 = .ok (.lload 6, 2) := dk_22 6 (dk_at dksX7_divisor_1 7 rfl rfl)
theorem dX7_divisor_33 : decode cX7_divisor 33 = .ok (.lreturn, 1) := dk_173 (dk_at dksX7_divisor_1 9 rfl rfl)
abbrev cX7_compareTo : ByteArray := prog_4_method_4_code
def yX7_compareTo : MethodName := ⟨RX7, "compareTo", "(LFlashRatchet$Fraction;)I"⟩
def dkwX7_compareTo_6 : List UInt8 := [21, 10, 116, 54, 10, 167, 255, 133]
abbrev dktX7_compareTo_6 : List UInt8 := dkwX7_compareTo_6 ++ []
def dkwX7_compareTo_5 : List UInt8 := [21, 10, 116, 167, 0, 5, 21, 10, 172, 22, 4, 65, 22, 15, 55, 4, 22, 8, 55, 6, 22, 17, 55, 8]
abbrev dktX7_compareTo_5 : List UInt8 := dkwX7_compareTo_5 ++ dktX7_compareTo_6
def dkwX7_compareTo_4 : List UInt8 := [9, 148, 154, 0, 31, 22, 15, 22, 17, 148, 154, 0, 7, 3, 167, 0, 18, 22, 15, 9, 148, 154, 0, 9]
abbrev dktX7_compareTo_4 : List UInt8 := dkwX7_compareTo_4 ++ dktX7_compareTo_5
def dkwX7_compareTo_3 : List UInt8 := [22, 13, 148, 156, 0, 9, 21, 10, 116, 167, 0, 5, 21, 10, 172, 22, 15, 9, 148, 153, 0, 10, 22, 17]
abbrev dktX7_compareTo_3 : List UInt8 := dkwX7_compareTo_3 ++ dktX7_compareTo_4
def dkwX7_compareTo_2 : List UInt8 := [105, 101, 55, 15, 22, 6, 22, 13, 22, 8, 105, 101, 55, 17, 22, 11, 22, 13, 148, 153, 0, 20, 22, 11]
abbrev dktX7_compareTo_2 : List UInt8 := dkwX7_compareTo_2 ++ dktX7_compareTo_3
def dkwX7_compareTo_1 : List UInt8 := [54, 10, 32, 22, 4, 184, 0, 26, 55, 11, 22, 6, 22, 8, 184, 0, 26, 55, 13, 32, 22, 11, 22, 4]
abbrev dktX7_compareTo_1 : List UInt8 := dkwX7_compareTo_1 ++ dktX7_compareTo_2
def dkwX7_compareTo_0 : List UInt8 := [42, 180, 0, 19, 65, 42, 180, 0, 23, 55, 4, 43, 180, 0, 19, 55, 6, 43, 180, 0, 23, 55, 8, 4]
abbrev dktX7_compareTo_0 : List UInt8 := dkwX7_compareTo_0 ++ dktX7_compareTo_1
theorem dksX7_compareTo_0 : cX7_compareTo.data.toList.drop 0 = dktX7_compareTo_0 := by decide +kernel
theorem dksX7_compareTo_1 : cX7_compareTo.data.toList.drop 24 = dktX7_compareTo_1 := dk_seg dksX7_compareTo_0 24 rfl rfl
theorem dksX7_compareTo_2 : cX7_compareTo.data.toList.drop 48 = dktX7_compareTo_2 := dk_seg dksX7_compareTo_1 24 rfl rfl
theorem dksX7_compareTo_3 : cX7_compareTo.data.toList.drop 72 = dktX7_compareTo_3 := dk_seg dksX7_compareTo_2 24 rfl rfl
theorem dksX7_compareTo_4 : cX7_compareTo.data.toList.drop 96 = dktX7_compareTo_4 := dk_seg dksX7_compareTo_3 24 rfl rfl
theorem dksX7_compareTo_5 : cX7_compareTo.data.toList.drop 120 = dktX7_compareTo_5 := dk_seg dksX7_compareTo_4 24 rfl rfl
theorem dksX7_compareTo_6 : cX7_compareTo.data.toList.drop 144 = dktX7_compareTo_6 := dk_seg dksX7_compareTo_5 24 rfl rfl
theorem dX7_compareTo_0 : decode cX7_compareTo 0 = .ok (.aload_n 0, 1) := dk_42 (dk_at dksX7_compareTo_0 0 rfl rfl)
theorem dX7_compareTo_1 : decode cX7_compareTo 1 = .ok (.getfield 19, 3) := dk_180 0 19 (dk_at dksX7_compareTo_0 1 rfl rfl)
theorem dX7_compareTo_4 : decode cX7_compareTo 4 = .ok (.lstore_n 2, 1) := dk_65 (dk_at dksX7_compareTo_0 4 rfl rfl)
theorem dX7_compareTo_5 : decode cX7_compareTo 5 = .ok (.aload_n 0, 1) := dk_42 (dk_at dksX7_compareTo_0 5 rfl rfl)
theorem dX7_compareTo_6 : decode cX7_compareTo 6 = .ok (.getfield 23, 3) := dk_180 0 23 (dk_at dksX7_compareTo_0 6 rfl rfl)
theorem dX7_compareTo_9 : decode cX7_compareTo 9 = .ok (.lstore 4, 2) := dk_55 4 (dk_at dksX7_compareTo_0 9 rfl rfl)
theorem dX7_compareTo_11 : decode cX7_compareTo 11 = .ok (.aload_n 1, 1) := dk_43 (dk_at dksX7_compareTo_0 11 rfl rfl)
theorem dX7_compareTo_12 : decode cX7_compareTo 12 = .ok (.getfield 19, 3) := dk_180 0 19 (dk_at dksX7_compareTo_0 12 rfl rfl)
theorem dX7_compareTo_15 : decode cX7_compareTo 15 = .ok (.lstore 6, 2) := dk_55 6 (dk_at dksX7_compareTo_0 15 rfl rfl)
theorem dX7_compareTo_17 : decode cX7_compareTo 17 = .ok (.aload_n 1, 1) := dk_43 (dk_at dksX7_compareTo_0 17 rfl rfl)
theorem dX7_compareTo_18 : decode cX7_compareTo 18 = .ok (.getfield 23, 3) := dk_180 0 23 (dk_at dksX7_compareTo_0 18 rfl rfl)
theorem dX7_compareTo_21 : decode cX7_compareTo 21 = .ok (.lstore 8, 2) := dk_55 8 (dk_at dksX7_compareTo_0 21 rfl rfl)
theorem dX7_compareTo_23 : decode cX7_compareTo 23 = .ok (.iconst 1, 1) := dk_4 (dk_at dksX7_compareTo_0 23 rfl rfl)
theorem dX7_compareTo_24 : decode cX7_compareTo 24 = .ok (.istore 10, 2) := dk_54 10 (dk_at dksX7_compareTo_1 0 rfl rfl)
theorem dX7_compareTo_26 : decode cX7_compareTo 26 = .ok (.lload_n 2, 1) := dk_32 (dk_at dksX7_compareTo_1 2 rfl rfl)
theorem dX7_compareTo_27 : decode cX7_compareTo 27 = .ok (.lload 4, 2) := dk_22 4 (dk_at dksX7_compareTo_1 3 rfl rfl)
theorem dX7_compareTo_29 : decode cX7_compareTo 29 = .ok (.invokestatic 26, 3) := dk_184 0 26 (dk_at dksX7_compareTo_1 5 rfl rfl)
theorem dX7_compareTo_32 : decode cX7_compareTo 32 = .ok (.lstore 11, 2) := dk_55 11 (dk_at dksX7_compareTo_1 8 rfl rfl)
theorem dX7_compareTo_34 : decode cX7_compareTo 34 = .ok (.lload 6, 2) := dk_22 6 (dk_at dksX7_compareTo_1 10 rfl rfl)
theorem dX7_compareTo_36 : decode cX7_compareTo 36 = .ok (.lload 8, 2) := dk_22 8 (dk_at dksX7_compareTo_1 12 rfl rfl)
theorem dX7_compareTo_38 : decode cX7_compareTo 38 = .ok (.invokestatic 26, 3) := dk_184 0 26 (dk_at dksX7_compareTo_1 14 rfl rfl)
theorem dX7_compareTo_41 : decode cX7_compareTo 41 = .ok (.lstore 13, 2) := dk_55 13 (dk_at dksX7_compareTo_1 17 rfl rfl)
theorem dX7_compareTo_43 : decode cX7_compareTo 43 = .ok (.lload_n 2, 1) := dk_32 (dk_at dksX7_compareTo_1 19 rfl rfl)
theorem dX7_compareTo_44 : decode cX7_compareTo 44 = .ok (.lload 11, 2) := dk_22 11 (dk_at dksX7_compareTo_1 20 rfl rfl)
theorem dX7_compareTo_46 : decode cX7_compareTo 46 = .ok (.lload 4, 2) := dk_22 4 (dk_at dksX7_compareTo_1 22 rfl rfl)
theorem dX7_compareTo_48 : decode cX7_compareTo 48 = .ok (.lmul, 1) := dk_105 (dk_at dksX7_compareTo_2 0 rfl rfl)
theorem dX7_compareTo_49 : decode cX7_compareTo 49 = .ok (.lsub, 1) := dk_101 (dk_at dksX7_compareTo_2 1 rfl rfl)
theorem dX7_compareTo_50 : decode cX7_compareTo 50 = .ok (.lstore 15, 2) := dk_55 15 (dk_at dksX7_compareTo_2 2 rfl rfl)
theorem dX7_compareTo_52 : decode cX7_compareTo 52 = .ok (.lload 6, 2) := dk_22 6 (dk_at dksX7_compareTo_2 4 rfl rfl)
theorem dX7_compareTo_54 : decode cX7_compareTo 54 = .ok (.lload 13, 2) := dk_22 13 (dk_at dksX7_compareTo_2 6 rfl rfl)
theorem dX7_compareTo_56 : decode cX7_compareTo 56 = .ok (.lload 8, 2) := dk_22 8 (dk_at dksX7_compareTo_2 8 rfl rfl)
theorem dX7_compareTo_58 : decode cX7_compareTo 58 = .ok (.lmul, 1) := dk_105 (dk_at dksX7_compareTo_2 10 rfl rfl)
theorem dX7_compareTo_59 : decode cX7_compareTo 59 = .ok (.lsub, 1) := dk_101 (dk_at dksX7_compareTo_2 11 rfl rfl)
theorem dX7_compareTo_60 : decode cX7_compareTo 60 = .ok (.lstore 17, 2) := dk_55 17 (dk_at dksX7_compareTo_2 12 rfl rfl)
theorem dX7_compareTo_62 : decode cX7_compareTo 62 = .ok (.lload 11, 2) := dk_22 11 (dk_at dksX7_compareTo_2 14 rfl rfl)
theorem dX7_compareTo_64 : decode cX7_compareTo 64 = .ok (.lload 13, 2) := dk_22 13 (dk_at dksX7_compareTo_2 16 rfl rfl)
theorem dX7_compareTo_66 : decode cX7_compareTo 66 = .ok (.lcmp, 1) := dk_148 (dk_at dksX7_compareTo_2 18 rfl rfl)
theorem dX7_compareTo_67 : decode cX7_compareTo 67 = .ok (.ifCond .eq 20, 3) := dk_153 0 20 (dk_at dksX7_compareTo_2 19 rfl rfl)
theorem dX7_compareTo_70 : decode cX7_compareTo 70 = .ok (.lload 11, 2) := dk_22 11 (dk_at dksX7_compareTo_2 22 rfl rfl)
theorem dX7_compareTo_72 : decode cX7_compareTo 72 = .ok (.lload 13, 2) := dk_22 13 (dk_at dksX7_compareTo_3 0 rfl rfl)
theorem dX7_compareTo_74 : decode cX7_compareTo 74 = .ok (.lcmp, 1) := dk_148 (dk_at dksX7_compareTo_3 2 rfl rfl)
theorem dX7_compareTo_75 : decode cX7_compareTo 75 = .ok (.ifCond .ge 9, 3) := dk_156 0 9 (dk_at dksX7_compareTo_3 3 rfl rfl)
theorem dX7_compareTo_78 : decode cX7_compareTo 78 = .ok (.iload 10, 2) := dk_21 10 (dk_at dksX7_compareTo_3 6 rfl rfl)
theorem dX7_compareTo_80 : decode cX7_compareTo 80 = .ok (.ineg, 1) := dk_116 (dk_at dksX7_compareTo_3 8 rfl rfl)
theorem dX7_compareTo_81 : decode cX7_compareTo 81 = .ok (.goto 5, 3) := dk_167 0 5 (dk_at dksX7_compareTo_3 9 rfl rfl)
theorem dX7_compareTo_84 : decode cX7_compareTo 84 = .ok (.iload 10, 2) := dk_21 10 (dk_at dksX7_compareTo_3 12 rfl rfl)
theorem dX7_compareTo_86 : decode cX7_compareTo 86 = .ok (.ireturn, 1) := dk_172 (dk_at dksX7_compareTo_3 14 rfl rfl)
theorem dX7_compareTo_87 : decode cX7_compareTo 87 = .ok (.lload 15, 2) := dk_22 15 (dk_at dksX7_compareTo_3 15 rfl rfl)
theorem dX7_compareTo_89 : decode cX7_compareTo 89 = .ok (.lconst 0, 1) := dk_9 (dk_at dksX7_compareTo_3 17 rfl rfl)
theorem dX7_compareTo_90 : decode cX7_compareTo 90 = .ok (.lcmp, 1) := dk_148 (dk_at dksX7_compareTo_3 18 rfl rfl)
theorem dX7_compareTo_91 : decode cX7_compareTo 91 = .ok (.ifCond .eq 10, 3) := dk_153 0 10 (dk_at dksX7_compareTo_3 19 rfl rfl)
theorem dX7_compareTo_94 : decode cX7_compareTo 94 = .ok (.lload 17, 2) := dk_22 17 (dk_at dksX7_compareTo_3 22 rfl rfl)
theorem dX7_compareTo_96 : decode cX7_compareTo 96 = .ok (.lconst 0, 1) := dk_9 (dk_at dksX7_compareTo_4 0 rfl rfl)
theorem dX7_compareTo_97 : decode cX7_compareTo 97 = .ok (.lcmp, 1) := dk_148 (dk_at dksX7_compareTo_4 1 rfl rfl)
theorem dX7_compareTo_98 : decode cX7_compareTo 98 = .ok (.ifCond .ne 31, 3) := dk_154 0 31 (dk_at dksX7_compareTo_4 2 rfl rfl)
theorem dX7_compareTo_101 : decode cX7_compareTo 101 = .ok (.lload 15, 2) := dk_22 15 (dk_at dksX7_compareTo_4 5 rfl rfl)
theorem dX7_compareTo_103 : decode cX7_compareTo 103 = .ok (.lload 17, 2) := dk_22 17 (dk_at dksX7_compareTo_4 7 rfl rfl)
theorem dX7_compareTo_105 : decode cX7_compareTo 105 = .ok (.lcmp, 1) := dk_148 (dk_at dksX7_compareTo_4 9 rfl rfl)
theorem dX7_compareTo_106 : decode cX7_compareTo 106 = .ok (.ifCond .ne 7, 3) := dk_154 0 7 (dk_at dksX7_compareTo_4 10 rfl rfl)
theorem dX7_compareTo_109 : decode cX7_compareTo 109 = .ok (.iconst 0, 1) := dk_3 (dk_at dksX7_compareTo_4 13 rfl rfl)
theorem dX7_compareTo_110 : decode cX7_compareTo 110 = .ok (.goto 18, 3) := dk_167 0 18 (dk_at dksX7_compareTo_4 14 rfl rfl)
theorem dX7_compareTo_113 : decode cX7_compareTo 113 = .ok (.lload 15, 2) := dk_22 15 (dk_at dksX7_compareTo_4 17 rfl rfl)
theorem dX7_compareTo_115 : decode cX7_compareTo 115 = .ok (.lconst 0, 1) := dk_9 (dk_at dksX7_compareTo_4 19 rfl rfl)
theorem dX7_compareTo_116 : decode cX7_compareTo 116 = .ok (.lcmp, 1) := dk_148 (dk_at dksX7_compareTo_4 20 rfl rfl)
theorem dX7_compareTo_117 : decode cX7_compareTo 117 = .ok (.ifCond .ne 9, 3) := dk_154 0 9 (dk_at dksX7_compareTo_4 21 rfl rfl)
theorem dX7_compareTo_120 : decode cX7_compareTo 120 = .ok (.iload 10, 2) := dk_21 10 (dk_at dksX7_compareTo_5 0 rfl rfl)
theorem dX7_compareTo_122 : decode cX7_compareTo 122 = .ok (.ineg, 1) := dk_116 (dk_at dksX7_compareTo_5 2 rfl rfl)
theorem dX7_compareTo_123 : decode cX7_compareTo 123 = .ok (.goto 5, 3) := dk_167 0 5 (dk_at dksX7_compareTo_5 3 rfl rfl)
theorem dX7_compareTo_126 : decode cX7_compareTo 126 = .ok (.iload 10, 2) := dk_21 10 (dk_at dksX7_compareTo_5 6 rfl rfl)
theorem dX7_compareTo_128 : decode cX7_compareTo 128 = .ok (.ireturn, 1) := dk_172 (dk_at dksX7_compareTo_5 8 rfl rfl)
theorem dX7_compareTo_129 : decode cX7_compareTo 129 = .ok (.lload 4, 2) := dk_22 4 (dk_at dksX7_compareTo_5 9 rfl rfl)
theorem dX7_compareTo_131 : decode cX7_compareTo 131 = .ok (.lstore_n 2, 1) := dk_65 (dk_at dksX7_compareTo_5 11 rfl rfl)
theorem dX7_compareTo_132 : decode cX7_compareTo 132 = .ok (.lload 15, 2) := dk_22 15 (dk_at dksX7_compareTo_5 12 rfl rfl)
theorem dX7_compareTo_134 : decode cX7_compareTo 134 = .ok (.lstore 4, 2) := dk_55 4 (dk_at dksX7_compareTo_5 14 rfl rfl)
theorem dX7_compareTo_136 : decode cX7_compareTo 136 = .ok (.lload 8, 2) := dk_22 8 (dk_at dksX7_compareTo_5 16 rfl rfl)
theorem dX7_compareTo_138 : decode cX7_compareTo 138 = .ok (.lstore 6, 2) := dk_55 6 (dk_at dksX7_compareTo_5 18 rfl rfl)
theorem dX7_compareTo_140 : decode cX7_compareTo 140 = .ok (.lload 17, 2) := dk_22 17 (dk_at dksX7_compareTo_5 20 rfl rfl)
theorem dX7_compareTo_142 : decode cX7_compareTo 142 = .ok (.lstore 8, 2) := dk_55 8 (dk_at dksX7_compareTo_5 22 rfl rfl)
theorem dX7_compareTo_144 : decode cX7_compareTo 144 = .ok (.iload 10, 2) := dk_21 10 (dk_at dksX7_compareTo_6 0 rfl rfl)
theorem dX7_compareTo_146 : decode cX7_compareTo 146 = .ok (.ineg, 1) := dk_116 (dk_at dksX7_compareTo_6 2 rfl rfl)
theorem dX7_compareTo_147 : decode cX7_compareTo 147 = .ok (.istore 10, 2) := dk_54 10 (dk_at dksX7_compareTo_6 3 rfl rfl)
theorem dX7_compareTo_149 : decode cX7_compareTo 149 = .ok (.goto (-123), 3) := dk_167 255 133 (dk_at dksX7_compareTo_6 5 rfl rfl)
abbrev cX7_compareTo_2 : ByteArray := prog_4_method_5_code
def yX7_compareTo_2 : MethodName := ⟨RX7, "compareTo", "(Ljava/lang/Object;)I"⟩
def dkwX7_compareTo_2_0 : List UInt8 := [42, 43, 192, 0, 14, 182, 0, 29, 172]
abbrev dktX7_compareTo_2_0 : List UInt8 := dkwX7_compareTo_2_0 ++ []
theorem dksX7_compareTo_2_0 : cX7_compareTo_2.data.toList.drop 0 = dktX7_compareTo_2_0 := by decide +kernel
theorem dX7_compareTo_2_0 : decode cX7_compareTo_2 0 = .ok (.aload_n 0, 1) := dk_42 (dk_at dksX7_compareTo_2_0 0 rfl rfl)
theorem dX7_compareTo_2_1 : decode cX7_compareTo_2 1 = .ok (.aload_n 1, 1) := dk_43 (dk_at dksX7_compareTo_2_0 1 rfl rfl)
theorem dX7_compareTo_2_2 : decode cX7_compareTo_2 2 = .ok (.checkcast 14, 3) := dk_192 0 14 (dk_at dksX7_compareTo_2_0 2 rfl rfl)
theorem dX7_compareTo_2_5 : decode cX7_compareTo_2 5 = .ok (.invokevirtual 29, 3) := dk_182 0 29 (dk_at dksX7_compareTo_2_0 5 rfl rfl)
theorem dX7_compareTo_2_8 : decode cX7_compareTo_2 8 = .ok (.ireturn, 1) := dk_172 (dk_at dksX7_compareTo_2_0 8 rfl rfl)
abbrev cX7_part : ByteArray := prog_4_method_3_code
def yX7_part : MethodName := ⟨RX7, "part", "(I)J"⟩
def dkwX7_part_0 : List UInt8 := [27, 154, 0, 10, 42, 180, 0, 19, 167, 0, 7, 42, 180, 0, 23, 173]
abbrev dktX7_part_0 : List UInt8 := dkwX7_part_0 ++ []
theorem dksX7_part_0 : cX7_part.data.toList.drop 0 = dktX7_part_0 := by decide +kernel
theorem dX7_part_0 : decode cX7_part 0 = .ok (.iload_n 1, 1) := dk_27 (dk_at dksX7_part_0 0 rfl rfl)
theorem dX7_part_1 : decode cX7_part 1 = .ok (.ifCond .ne 10, 3) := dk_154 0 10 (dk_at dksX7_part_0 1 rfl rfl)
theorem dX7_part_4 : decode cX7_part 4 = .ok (.aload_n 0, 1) := dk_42 (dk_at dksX7_part_0 4 rfl rfl)
theorem dX7_part_5 : decode cX7_part 5 = .ok (.getfield 19, 3) := dk_180 0 19 (dk_at dksX7_part_0 5 rfl rfl)
theorem dX7_part_8 : decode cX7_part 8 = .ok (.goto 7, 3) := dk_167 0 7 (dk_at dksX7_part_0 8 rfl rfl)
theorem dX7_part_11 : decode cX7_part 11 = .ok (.aload_n 0, 1) := dk_42 (dk_at dksX7_part_0 11 rfl rfl)
theorem dX7_part_12 : decode cX7_part 12 = .ok (.getfield 23, 3) := dk_180 0 23 (dk_at dksX7_part_0 12 rfl rfl)
theorem dX7_part_15 : decode cX7_part 15 = .ok (.lreturn, 1) := dk_173 (dk_at dksX7_part_0 15 rfl rfl)
theorem q125 : (Jvm.Cond.initialized "FlashRatchet$Fraction") ∈ lw_all := lw_g (lw_at lw_m1 41 rfl) rfl
theorem q777 : (Jvm.Cond.instantiable "FlashRatchet$Fraction" (2 : Nat)) ∈ lw_all := lw_g (lw_at lw_m3 213 rfl) rfl
theorem q783 : (Jvm.Cond.instanceMethod ({ cls := "FlashRatchet$Fraction", name := "<init>", desc := "(JJ)V" } : Jvm.MethodName)) ∈ lw_all := lw_g (lw_at lw_m3 219 rfl) rfl
theorem q784 : (Jvm.Cond.code ({ cls := "FlashRatchet$Fraction", name := "<init>", desc := "(JJ)V" } : Jvm.MethodName) prog_4_method_1_code (7 : Nat) (Option.none : Option Jvm.ClassFile.FieldType)) ∈ lw_all := lw_g (lw_at lw_m3 220 rfl) rfl
theorem q785 : (Jvm.Cond.methodLink "FlashRatchet$Fraction" (1 : Nat) ({ cls := "java/lang/Object", name := "<init>", desc := "()V" } : Jvm.MethodName)) ∈ lw_all := lw_g (lw_at lw_m3 221 rfl) rfl
theorem q786 : (Jvm.Cond.methodLink "FlashRatchet$Fraction" (7 : Nat) ({ cls := "java/lang/Math", name := "abs", desc := "(J)J" } : Jvm.MethodName)) ∈ lw_all := lw_g (lw_at lw_m3 222 rfl) rfl
theorem q789 : (Jvm.Cond.methodLink "FlashRatchet$Fraction" (13 : Nat) ({ cls := "FlashRatchet$Fraction", name := "divisor", desc := "(JJ)J" } : Jvm.MethodName)) ∈ lw_all := lw_g (lw_at lw_m3 225 rfl) rfl
theorem q790 : (Jvm.Cond.static ({ cls := "FlashRatchet$Fraction", name := "divisor", desc := "(JJ)J" } : Jvm.MethodName)) ∈ lw_all := lw_g (lw_at lw_m3 226 rfl) rfl
theorem q791 : (Jvm.Cond.code ({ cls := "FlashRatchet$Fraction", name := "divisor", desc := "(JJ)J" } : Jvm.MethodName) prog_4_method_2_code (10 : Nat) (Option.some Jvm.ClassFile.FieldType.long)) ∈ lw_all := lw_g (lw_at lw_m3 227 rfl) rfl
theorem q792 : (Jvm.Cond.fieldLink "FlashRatchet$Fraction" (19 : Nat) "FlashRatchet$Fraction" "above" "J") ∈ lw_all := lw_g (lw_at lw_m3 228 rfl) rfl
theorem q794 : (Jvm.Cond.fieldLink "FlashRatchet$Fraction" (23 : Nat) "FlashRatchet$Fraction" "below" "J") ∈ lw_all := lw_g (lw_at lw_m3 230 rfl) rfl
theorem q795 : (Jvm.Cond.laysFinal "FlashRatchet$Fraction" "FlashRatchet$Fraction" "above" "J") ∈ lw_all := lw_g (lw_at lw_m3 231 rfl) rfl
theorem q796 : (Jvm.Cond.soleField "FlashRatchet$Fraction" "above") ∈ lw_all := lw_g (lw_at lw_m3 232 rfl) rfl
theorem q797 : (Jvm.Cond.laysFinal "FlashRatchet$Fraction" "FlashRatchet$Fraction" "below" "J") ∈ lw_all := lw_g (lw_at lw_m3 233 rfl) rfl
theorem q798 : (Jvm.Cond.soleField "FlashRatchet$Fraction" "below") ∈ lw_all := lw_g (lw_at lw_m3 234 rfl) rfl
theorem q799 : (Jvm.Cond.superclass "FlashRatchet$Fraction" "java/lang/Object") ∈ lw_all := lw_g (lw_at lw_m3 235 rfl) rfl
theorem q899 : (Jvm.Cond.selects "FlashRatchet$Fraction" ({ cls := "java/lang/Object", name := "getClass", desc := "()Ljava/lang/Class;" } : Jvm.MethodName) ({ cls := "java/lang/Object", name := "getClass", desc := "()Ljava/lang/Class;" } : Jvm.MethodName)) ∈ lw_all := lw_g (lw_at lw_m4 95 rfl) rfl
theorem q949 : (Jvm.Cond.instanceMethod ({ cls := "FlashRatchet$Fraction", name := "compareTo", desc := "(LFlashRatchet$Fraction;)I" } : Jvm.MethodName)) ∈ lw_all := lw_g (lw_at lw_m4 145 rfl) rfl
theorem q950 : (Jvm.Cond.selects "FlashRatchet$Fraction" ({ cls := "FlashRatchet$Fraction", name := "compareTo", desc := "(LFlashRatchet$Fraction;)I" } : Jvm.MethodName) ({ cls := "FlashRatchet$Fraction", name := "compareTo", desc := "(LFlashRatchet$Fraction;)I" } : Jvm.MethodName)) ∈ lw_all := lw_g (lw_at lw_m4 146 rfl) rfl
theorem q951 : (Jvm.Cond.code ({ cls := "FlashRatchet$Fraction", name := "compareTo", desc := "(LFlashRatchet$Fraction;)I" } : Jvm.MethodName) prog_4_method_4_code (19 : Nat) (Option.some Jvm.ClassFile.FieldType.int)) ∈ lw_all := lw_g (lw_at lw_m4 147 rfl) rfl
theorem q952 : (Jvm.Cond.methodLink "FlashRatchet$Fraction" (26 : Nat) ({ cls := "java/lang/Math", name := "floorDiv", desc := "(JJ)J" } : Jvm.MethodName)) ∈ lw_all := lw_g (lw_at lw_m4 148 rfl) rfl
theorem q966 : (Jvm.Cond.castable "FlashRatchet$Fraction" "java/lang/Comparable") ∈ lw_tbl := lw_at lw_m4 162 rfl
theorem q967 : (Jvm.Cond.selects "FlashRatchet$Fraction" ({ cls := "java/lang/Comparable", name := "compareTo", desc := "(Ljava/lang/Object;)I" } : Jvm.MethodName) ({ cls := "FlashRatchet$Fraction", name := "compareTo", desc := "(Ljava/lang/Object;)I" } : Jvm.MethodName)) ∈ lw_all := lw_g (lw_at lw_m4 163 rfl) rfl
theorem q968 : (Jvm.Cond.unhidden "FlashRatchet$Fraction" "compareTo" "(Ljava/lang/Object;)I") ∈ lw_tbl := lw_at lw_m4 164 rfl
theorem q969 : (Jvm.Cond.instanceMethod ({ cls := "FlashRatchet$Fraction", name := "compareTo", desc := "(Ljava/lang/Object;)I" } : Jvm.MethodName)) ∈ lw_all := lw_g (lw_at lw_m4 165 rfl) rfl
theorem q970 : (Jvm.Cond.publicMethod ({ cls := "FlashRatchet$Fraction", name := "compareTo", desc := "(Ljava/lang/Object;)I" } : Jvm.MethodName)) ∈ lw_tbl := lw_at lw_m4 166 rfl
theorem q971 : (Jvm.Cond.code ({ cls := "FlashRatchet$Fraction", name := "compareTo", desc := "(Ljava/lang/Object;)I" } : Jvm.MethodName) prog_4_method_5_code (2 : Nat) (Option.some Jvm.ClassFile.FieldType.int)) ∈ lw_all := lw_g (lw_at lw_m4 167 rfl) rfl
theorem q972 : (Jvm.Cond.classLink "FlashRatchet$Fraction" (14 : Nat) "FlashRatchet$Fraction") ∈ lw_all := lw_g (lw_at lw_m4 168 rfl) rfl
theorem q973 : (Jvm.Cond.methodLink "FlashRatchet$Fraction" (29 : Nat) ({ cls := "FlashRatchet$Fraction", name := "compareTo", desc := "(LFlashRatchet$Fraction;)I" } : Jvm.MethodName)) ∈ lw_all := lw_g (lw_at lw_m4 169 rfl) rfl
theorem q1593 : (Jvm.Cond.instanceMethod ({ cls := "FlashRatchet$Fraction", name := "part", desc := "(I)J" } : Jvm.MethodName)) ∈ lw_all := lw_g (lw_at lw_m7 69 rfl) rfl
theorem q1594 : (Jvm.Cond.selects "FlashRatchet$Fraction" ({ cls := "FlashRatchet$Fraction", name := "part", desc := "(I)J" } : Jvm.MethodName) ({ cls := "FlashRatchet$Fraction", name := "part", desc := "(I)J" } : Jvm.MethodName)) ∈ lw_all := lw_g (lw_at lw_m7 70 rfl) rfl
theorem q1595 : (Jvm.Cond.code ({ cls := "FlashRatchet$Fraction", name := "part", desc := "(I)J" } : Jvm.MethodName) prog_4_method_3_code (2 : Nat) (Option.some Jvm.ClassFile.FieldType.long)) ∈ lw_all := lw_g (lw_at lw_m7 71 rfl) rfl
theorem q2299 : (Jvm.Cond.castable "FlashRatchet$Fraction" "java/lang/Object") ∈ lw_tbl := lw_at lw_m10 55 rfl
theorem in_X7 : ∀ w ∈ wsX70, w ∈ lw_all := lw_in wsX70 [795, 797] (by decide +kernel) (by decide +kernel)
/-! FlashRatchet$BestFirst -/
set_option maxRecDepth 100000
def RX8 : String := "FlashRatchet$BestFirst"
abbrev cX8_init : ByteArray := prog_2_method_1_code
def yX8_init : MethodName := ⟨RX8, "<init>", "()V"⟩
theorem dX8_init_0 : decode cX8_init 0 = .ok (.aload_n 0, 1) := by decide +kernel
theorem dX8_init_1 : decode cX8_init 1 = .ok (.invokespecial 1, 3) := by decide +kernel
theorem dX8_init_4 : decode cX8_init 4 = .ok (.return_, 1) := by decide +kernel
abbrev cX8_compare : ByteArray := prog_2_method_3_code
def yX8_compare : MethodName := ⟨RX8, "compare", "(Ljava/lang/Object;Ljava/lang/Object;)I"⟩
def dkwX8_compare_0 : List UInt8 := [42, 43, 192, 0, 8, 44, 192, 0, 8, 182, 0, 29, 172]
abbrev dktX8_compare_0 : List UInt8 := dkwX8_compare_0 ++ []
theorem dksX8_compare_0 : cX8_compare.data.toList.drop 0 = dktX8_compare_0 := by decide +kernel
theorem dX8_compare_0 : decode cX8_compare 0 = .ok (.aload_n 0, 1) := dk_42 (dk_at dksX8_compare_0 0 rfl rfl)
theorem dX8_compare_1 : decode cX8_compare 1 = .ok (.aload_n 1, 1) := dk_43 (dk_at dksX8_compare_0 1 rfl rfl)
theorem dX8_compare_2 : decode cX8_compare 2 = .ok (.checkcast 8, 3) := dk_192 0 8 (dk_at dksX8_compare_0 2 rfl rfl)
theorem dX8_compare_5 : decode cX8_compare 5 = .ok (.aload_n 2, 1) := dk_44 (dk_at dksX8_compare_0 5 rfl rfl)
theorem dX8_compare_6 : decode cX8_compare 6 = .ok (.checkcast 8, 3) := dk_192 0 8 (dk_at dksX8_compare_0 6 rfl rfl)
theorem dX8_compare_9 : decode cX8_compare 9 = .ok (.invokevirtual 29, 3) := dk_182 0 29 (dk_at dksX8_compare_0 9 rfl rfl)
theorem dX8_compare_12 : decode cX8_compare 12 = .ok (.ireturn, 1) := dk_172 (dk_at dksX8_compare_0 12 rfl rfl)
abbrev cX8_compare_2 : ByteArray := prog_2_method_2_code
def yX8_compare_2 : MethodName := ⟨RX8, "compare", "(LFlashRatchet$Candidate;LFlashRatchet$Candidate;)I"⟩
def dkwX8_compare_2_1 : List UInt8 := [44, 180, 0, 19, 184, 0, 23, 172]
abbrev dktX8_compare_2_1 : List UInt8 := dkwX8_compare_2_1 ++ []
def dkwX8_compare_2_0 : List UInt8 := [44, 180, 0, 7, 43, 180, 0, 7, 182, 0, 13, 62, 29, 153, 0, 7, 29, 167, 0, 14, 43, 180, 0, 19]
abbrev dktX8_compare_2_0 : List UInt8 := dkwX8_compare_2_0 ++ dktX8_compare_2_1
theorem dksX8_compare_2_0 : cX8_compare_2.data.toList.drop 0 = dktX8_compare_2_0 := by decide +kernel
theorem dksX8_compare_2_1 : cX8_compare_2.data.toList.drop 24 = dktX8_compare_2_1 := dk_seg dksX8_compare_2_0 24 rfl rfl
theorem dX8_compare_2_0 : decode cX8_compare_2 0 = .ok (.aload_n 2, 1) := dk_44 (dk_at dksX8_compare_2_0 0 rfl rfl)
theorem dX8_compare_2_1 : decode cX8_compare_2 1 = .ok (.getfield 7, 3) := dk_180 0 7 (dk_at dksX8_compare_2_0 1 rfl rfl)
theorem dX8_compare_2_4 : decode cX8_compare_2 4 = .ok (.aload_n 1, 1) := dk_43 (dk_at dksX8_compare_2_0 4 rfl rfl)
theorem dX8_compare_2_5 : decode cX8_compare_2 5 = .ok (.getfield 7, 3) := dk_180 0 7 (dk_at dksX8_compare_2_0 5 rfl rfl)
theorem dX8_compare_2_8 : decode cX8_compare_2 8 = .ok (.invokevirtual 13, 3) := dk_182 0 13 (dk_at dksX8_compare_2_0 8 rfl rfl)
theorem dX8_compare_2_11 : decode cX8_compare_2 11 = .ok (.istore_n 3, 1) := dk_62 (dk_at dksX8_compare_2_0 11 rfl rfl)
theorem dX8_compare_2_12 : decode cX8_compare_2 12 = .ok (.iload_n 3, 1) := dk_29 (dk_at dksX8_compare_2_0 12 rfl rfl)
theorem dX8_compare_2_13 : decode cX8_compare_2 13 = .ok (.ifCond .eq 7, 3) := dk_153 0 7 (dk_at dksX8_compare_2_0 13 rfl rfl)
theorem dX8_compare_2_16 : decode cX8_compare_2 16 = .ok (.iload_n 3, 1) := dk_29 (dk_at dksX8_compare_2_0 16 rfl rfl)
theorem dX8_compare_2_17 : decode cX8_compare_2 17 = .ok (.goto 14, 3) := dk_167 0 14 (dk_at dksX8_compare_2_0 17 rfl rfl)
theorem dX8_compare_2_20 : decode cX8_compare_2 20 = .ok (.aload_n 1, 1) := dk_43 (dk_at dksX8_compare_2_0 20 rfl rfl)
theorem dX8_compare_2_21 : decode cX8_compare_2 21 = .ok (.getfield 19, 3) := dk_180 0 19 (dk_at dksX8_compare_2_0 21 rfl rfl)
theorem dX8_compare_2_24 : decode cX8_compare_2 24 = .ok (.aload_n 2, 1) := dk_44 (dk_at dksX8_compare_2_1 0 rfl rfl)
theorem dX8_compare_2_25 : decode cX8_compare_2 25 = .ok (.getfield 19, 3) := dk_180 0 19 (dk_at dksX8_compare_2_1 1 rfl rfl)
theorem dX8_compare_2_28 : decode cX8_compare_2 28 = .ok (.invokestatic 23, 3) := dk_184 0 23 (dk_at dksX8_compare_2_1 4 rfl rfl)
theorem dX8_compare_2_31 : decode cX8_compare_2 31 = .ok (.ireturn, 1) := dk_172 (dk_at dksX8_compare_2_1 7 rfl rfl)
theorem q128 : (Jvm.Cond.initialized "FlashRatchet$BestFirst") ∈ lw_all := lw_g (lw_at lw_m1 44 rfl) rfl
theorem q807 : (Jvm.Cond.instantiable "FlashRatchet$BestFirst" (0 : Nat)) ∈ lw_all := lw_g (lw_at lw_m4 3 rfl) rfl
theorem q809 : (Jvm.Cond.instanceMethod ({ cls := "FlashRatchet$BestFirst", name := "<init>", desc := "()V" } : Jvm.MethodName)) ∈ lw_all := lw_g (lw_at lw_m4 5 rfl) rfl
theorem q810 : (Jvm.Cond.code ({ cls := "FlashRatchet$BestFirst", name := "<init>", desc := "()V" } : Jvm.MethodName) prog_2_method_1_code (1 : Nat) (Option.none : Option Jvm.ClassFile.FieldType)) ∈ lw_all := lw_g (lw_at lw_m4 6 rfl) rfl
theorem q811 : (Jvm.Cond.methodLink "FlashRatchet$BestFirst" (1 : Nat) ({ cls := "java/lang/Object", name := "<init>", desc := "()V" } : Jvm.MethodName)) ∈ lw_all := lw_g (lw_at lw_m4 7 rfl) rfl
theorem q812 : (Jvm.Cond.superclass "FlashRatchet$BestFirst" "java/lang/Object") ∈ lw_all := lw_g (lw_at lw_m4 8 rfl) rfl
theorem q867 : (Jvm.Cond.fieldLinkNest "FlashRatchet$BestFirst" (19 : Nat) "FlashRatchet$Candidate" "program" "I" "FlashRatchet") ∈ lw_tbl := lw_at lw_m4 63 rfl
theorem q870 : (Jvm.Cond.fieldLinkNest "FlashRatchet$BestFirst" (7 : Nat) "FlashRatchet$Candidate" "average" "LFlashRatchet$Fraction;" "FlashRatchet") ∈ lw_tbl := lw_at lw_m4 66 rfl
theorem q897 : (Jvm.Cond.selects "FlashRatchet$BestFirst" ({ cls := "java/lang/Object", name := "getClass", desc := "()Ljava/lang/Class;" } : Jvm.MethodName) ({ cls := "java/lang/Object", name := "getClass", desc := "()Ljava/lang/Class;" } : Jvm.MethodName)) ∈ lw_all := lw_g (lw_at lw_m4 93 rfl) rfl
theorem q937 : (Jvm.Cond.castable "FlashRatchet$BestFirst" "java/util/Comparator") ∈ lw_tbl := lw_at lw_m4 133 rfl
theorem q938 : (Jvm.Cond.selects "FlashRatchet$BestFirst" ({ cls := "java/util/Comparator", name := "compare", desc := "(Ljava/lang/Object;Ljava/lang/Object;)I" } : Jvm.MethodName) ({ cls := "FlashRatchet$BestFirst", name := "compare", desc := "(Ljava/lang/Object;Ljava/lang/Object;)I" } : Jvm.MethodName)) ∈ lw_all := lw_g (lw_at lw_m4 134 rfl) rfl
theorem q939 : (Jvm.Cond.unhidden "FlashRatchet$BestFirst" "compare" "(Ljava/lang/Object;Ljava/lang/Object;)I") ∈ lw_tbl := lw_at lw_m4 135 rfl
theorem q940 : (Jvm.Cond.instanceMethod ({ cls := "FlashRatchet$BestFirst", name := "compare", desc := "(Ljava/lang/Object;Ljava/lang/Object;)I" } : Jvm.MethodName)) ∈ lw_all := lw_g (lw_at lw_m4 136 rfl) rfl
theorem q941 : (Jvm.Cond.publicMethod ({ cls := "FlashRatchet$BestFirst", name := "compare", desc := "(Ljava/lang/Object;Ljava/lang/Object;)I" } : Jvm.MethodName)) ∈ lw_tbl := lw_at lw_m4 137 rfl
theorem q942 : (Jvm.Cond.code ({ cls := "FlashRatchet$BestFirst", name := "compare", desc := "(Ljava/lang/Object;Ljava/lang/Object;)I" } : Jvm.MethodName) prog_2_method_3_code (3 : Nat) (Option.some Jvm.ClassFile.FieldType.int)) ∈ lw_all := lw_g (lw_at lw_m4 138 rfl) rfl
theorem q943 : (Jvm.Cond.classLink "FlashRatchet$BestFirst" (8 : Nat) "FlashRatchet$Candidate") ∈ lw_all := lw_g (lw_at lw_m4 139 rfl) rfl
theorem q944 : (Jvm.Cond.methodLink "FlashRatchet$BestFirst" (29 : Nat) ({ cls := "FlashRatchet$BestFirst", name := "compare", desc := "(LFlashRatchet$Candidate;LFlashRatchet$Candidate;)I" } : Jvm.MethodName)) ∈ lw_all := lw_g (lw_at lw_m4 140 rfl) rfl
theorem q945 : (Jvm.Cond.instanceMethod ({ cls := "FlashRatchet$BestFirst", name := "compare", desc := "(LFlashRatchet$Candidate;LFlashRatchet$Candidate;)I" } : Jvm.MethodName)) ∈ lw_all := lw_g (lw_at lw_m4 141 rfl) rfl
theorem q946 : (Jvm.Cond.selects "FlashRatchet$BestFirst" ({ cls := "FlashRatchet$BestFirst", name := "compare", desc := "(LFlashRatchet$Candidate;LFlashRatchet$Candidate;)I" } : Jvm.MethodName) ({ cls := "FlashRatchet$BestFirst", name := "compare", desc := "(LFlashRatchet$Candidate;LFlashRatchet$Candidate;)I" } : Jvm.MethodName)) ∈ lw_all := lw_g (lw_at lw_m4 142 rfl) rfl
theorem q947 : (Jvm.Cond.code ({ cls := "FlashRatchet$BestFirst", name := "compare", desc := "(LFlashRatchet$Candidate;LFlashRatchet$Candidate;)I" } : Jvm.MethodName) prog_2_method_2_code (4 : Nat) (Option.some Jvm.ClassFile.FieldType.int)) ∈ lw_all := lw_g (lw_at lw_m4 143 rfl) rfl
theorem q948 : (Jvm.Cond.methodLink "FlashRatchet$BestFirst" (13 : Nat) ({ cls := "FlashRatchet$Fraction", name := "compareTo", desc := "(LFlashRatchet$Fraction;)I" } : Jvm.MethodName)) ∈ lw_all := lw_g (lw_at lw_m4 144 rfl) rfl
theorem q955 : (Jvm.Cond.methodLink "FlashRatchet$BestFirst" (23 : Nat) ({ cls := "java/lang/Integer", name := "compare", desc := "(II)I" } : Jvm.MethodName)) ∈ lw_all := lw_g (lw_at lw_m4 151 rfl) rfl
theorem q2301 : (Jvm.Cond.castable "FlashRatchet$BestFirst" "java/lang/Object") ∈ lw_tbl := lw_at lw_m10 57 rfl
/-! FlashRatchet$Candidate -/
set_option maxRecDepth 100000
def RX9 : String := "FlashRatchet$Candidate"
def TX9 : u_T := fun k => match k with
  | 0 => ("FlashRatchet$Candidate", "program", "I", true)
  | _ => ("FlashRatchet$Candidate", "average", "LFlashRatchet$Fraction;", true)
def tyX9 : Nat → FieldType := fun k => match k with
  | 0 => .int
  | _ => .object "FlashRatchet$Fraction"
abbrev wsX90 : List Cond := u_ws RX9 TX9 2
theorem nmX9 : ∀ a, a < 2 → ∀ b, b < 2 → a ≠ b → (TX9 a).2.1 ≠ (TX9 b).2.1 := by decide +kernel
theorem tyX9_ok : ∀ k, k < 2 → parseFieldDescriptor (TX9 k).2.2.1 = some (tyX9 k) := by decide +kernel
abbrev cX9_init : ByteArray := prog_3_method_1_code
def yX9_init : MethodName := ⟨RX9, "<init>", "(ILFlashRatchet$Fraction;)V"⟩
def dkwX9_init_0 : List UInt8 := [42, 183, 0, 1, 42, 27, 181, 0, 7, 42, 44, 181, 0, 13, 177]
abbrev dktX9_init_0 : List UInt8 := dkwX9_init_0 ++ []
theorem dksX9_init_0 : cX9_init.data.toList.drop 0 = dktX9_init_0 := by decide +kernel
theorem dX9_init_0 : decode cX9_init 0 = .ok (.aload_n 0, 1) := dk_42 (dk_at dksX9_init_0 0 rfl rfl)
theorem dX9_init_1 : decode cX9_init 1 = .ok (.invokespecial 1, 3) := dk_183 0 1 (dk_at dksX9_init_0 1 rfl rfl)
theorem dX9_init_4 : decode cX9_init 4 = .ok (.aload_n 0, 1) := dk_42 (dk_at dksX9_init_0 4 rfl rfl)
theorem dX9_init_5 : decode cX9_init 5 = .ok (.iload_n 1, 1) := dk_27 (dk_at dksX9_init_0 5 rfl rfl)
theorem dX9_init_6 : decode cX9_init 6 = .ok (.putfield 7, 3) := dk_181 0 7 (dk_at dksX9_init_0 6 rfl rfl)
theorem dX9_init_9 : decode cX9_init 9 = .ok (.aload_n 0, 1) := dk_42 (dk_at dksX9_init_0 9 rfl rfl)
theorem dX9_init_10 : decode cX9_init 10 = .ok (.aload_n 2, 1) := dk_44 (dk_at dksX9_init_0 10 rfl rfl)
theorem dX9_init_11 : decode cX9_init 11 = .ok (.putfield 13, 3) := dk_181 0 13 (dk_at dksX9_init_0 11 rfl rfl)
theorem dX9_init_14 : decode cX9_init 14 = .ok (.return_, 1) := dk_177 (dk_at dksX9_init_0 14 rfl rfl)
theorem q129 : (Jvm.Cond.initialized "FlashRatchet$Candidate") ∈ lw_all := lw_g (lw_at lw_m1 45 rfl) rfl
theorem q861 : (Jvm.Cond.instantiable "FlashRatchet$Candidate" (2 : Nat)) ∈ lw_all := lw_g (lw_at lw_m4 57 rfl) rfl
theorem q863 : (Jvm.Cond.instanceMethod ({ cls := "FlashRatchet$Candidate", name := "<init>", desc := "(ILFlashRatchet$Fraction;)V" } : Jvm.MethodName)) ∈ lw_all := lw_g (lw_at lw_m4 59 rfl) rfl
theorem q864 : (Jvm.Cond.code ({ cls := "FlashRatchet$Candidate", name := "<init>", desc := "(ILFlashRatchet$Fraction;)V" } : Jvm.MethodName) prog_3_method_1_code (3 : Nat) (Option.none : Option Jvm.ClassFile.FieldType)) ∈ lw_all := lw_g (lw_at lw_m4 60 rfl) rfl
theorem q865 : (Jvm.Cond.methodLink "FlashRatchet$Candidate" (1 : Nat) ({ cls := "java/lang/Object", name := "<init>", desc := "()V" } : Jvm.MethodName)) ∈ lw_all := lw_g (lw_at lw_m4 61 rfl) rfl
theorem q866 : (Jvm.Cond.fieldLink "FlashRatchet$Candidate" (7 : Nat) "FlashRatchet$Candidate" "program" "I") ∈ lw_all := lw_g (lw_at lw_m4 62 rfl) rfl
theorem q869 : (Jvm.Cond.fieldLink "FlashRatchet$Candidate" (13 : Nat) "FlashRatchet$Candidate" "average" "LFlashRatchet$Fraction;") ∈ lw_all := lw_g (lw_at lw_m4 65 rfl) rfl
theorem q872 : (Jvm.Cond.laysFinal "FlashRatchet$Candidate" "FlashRatchet$Candidate" "program" "I") ∈ lw_all := lw_g (lw_at lw_m4 68 rfl) rfl
theorem q873 : (Jvm.Cond.soleField "FlashRatchet$Candidate" "program") ∈ lw_all := lw_g (lw_at lw_m4 69 rfl) rfl
theorem q874 : (Jvm.Cond.laysFinal "FlashRatchet$Candidate" "FlashRatchet$Candidate" "average" "LFlashRatchet$Fraction;") ∈ lw_all := lw_g (lw_at lw_m4 70 rfl) rfl
theorem q875 : (Jvm.Cond.soleField "FlashRatchet$Candidate" "average") ∈ lw_all := lw_g (lw_at lw_m4 71 rfl) rfl
theorem q876 : (Jvm.Cond.superclass "FlashRatchet$Candidate" "java/lang/Object") ∈ lw_all := lw_g (lw_at lw_m4 72 rfl) rfl
theorem q898 : (Jvm.Cond.selects "FlashRatchet$Candidate" ({ cls := "java/lang/Object", name := "getClass", desc := "()Ljava/lang/Class;" } : Jvm.MethodName) ({ cls := "java/lang/Object", name := "getClass", desc := "()Ljava/lang/Class;" } : Jvm.MethodName)) ∈ lw_all := lw_g (lw_at lw_m4 94 rfl) rfl
theorem q2302 : (Jvm.Cond.castable "FlashRatchet$Candidate" "java/lang/Object") ∈ lw_tbl := lw_at lw_m10 58 rfl
theorem in_X9 : ∀ w ∈ wsX90, w ∈ lw_all := lw_in wsX90 [872, 874] (by decide +kernel) (by decide +kernel)
theorem q284 : (Jvm.Cond.sameMethod "[B" "java/lang/Object" "clone" "()Ljava/lang/Object;") ∈ lw_all := lw_g (lw_at lw_m1 200 rfl) rfl
set_option maxRecDepth 100000
theorem q287 : (Jvm.Cond.selects "[B" ({ cls := "[B", name := "clone", desc := "()Ljava/lang/Object;" } : Jvm.MethodName) ({ cls := "java/lang/Object", name := "clone", desc := "()Ljava/lang/Object;" } : Jvm.MethodName)) ∈ lw_all := lw_g (lw_at lw_m1 203 rfl) rfl
theorem q288 : (Jvm.Cond.castable "[B" "java/lang/Cloneable") ∈ lw_tbl := lw_at lw_m1 204 rfl
theorem q2308 : (Jvm.Cond.castable "[B" "java/lang/Object") ∈ lw_tbl := lw_at lw_m10 64 rfl
theorem q2307 : (Jvm.Cond.castable "[I" "java/lang/Object") ∈ lw_tbl := lw_at lw_m10 63 rfl
set_option maxRecDepth 100000
theorem q712 : (Jvm.Cond.sameMethod "[J" "java/lang/Object" "clone" "()Ljava/lang/Object;") ∈ lw_all := lw_g (lw_at lw_m3 148 rfl) rfl
set_option maxRecDepth 100000
theorem q713 : (Jvm.Cond.selects "[J" ({ cls := "[J", name := "clone", desc := "()Ljava/lang/Object;" } : Jvm.MethodName) ({ cls := "java/lang/Object", name := "clone", desc := "()Ljava/lang/Object;" } : Jvm.MethodName)) ∈ lw_all := lw_g (lw_at lw_m3 149 rfl) rfl
theorem q714 : (Jvm.Cond.castable "[J" "java/lang/Cloneable") ∈ lw_tbl := lw_at lw_m3 150 rfl
theorem q2310 : (Jvm.Cond.castable "[J" "java/lang/Object") ∈ lw_tbl := lw_at lw_m10 66 rfl
theorem q2304 : (Jvm.Cond.sameMethod "[Ljava/lang/Object;" "java/lang/Object" "getClass" "()Ljava/lang/Class;") ∈ lw_all := lw_g (lw_at lw_m10 60 rfl) rfl
set_option maxRecDepth 100000
theorem q2305 : (Jvm.Cond.selects "[Ljava/lang/Object;" ({ cls := "java/lang/Object", name := "getClass", desc := "()Ljava/lang/Class;" } : Jvm.MethodName) ({ cls := "java/lang/Object", name := "getClass", desc := "()Ljava/lang/Class;" } : Jvm.MethodName)) ∈ lw_all := lw_g (lw_at lw_m10 61 rfl) rfl
theorem q2311 : (Jvm.Cond.castable "[Ljava/lang/Object;" "java/lang/Object") ∈ lw_tbl := lw_at lw_m10 67 rfl
theorem q2309 : (Jvm.Cond.castable "[[J" "java/lang/Object") ∈ lw_tbl := lw_at lw_m10 65 rfl
set_option maxRecDepth 100000
theorem q964 : (Jvm.Cond.interfaceMethod "java/lang/Comparable" "java/lang/Comparable" "compareTo" "(Ljava/lang/Object;)I") ∈ lw_tbl := lw_at lw_m4 160 rfl
set_option maxRecDepth 100000
theorem q965 : (Jvm.Cond.declares ({ cls := "java/lang/Comparable", name := "compareTo", desc := "(Ljava/lang/Object;)I" } : Jvm.MethodName)) ∈ lw_tbl := lw_at lw_m4 161 rfl
theorem q112 : (Jvm.Cond.initialized "java/lang/Integer$IntegerCache") ∈ lw_all := lw_g (lw_at lw_m1 28 rfl) rfl
set_option maxRecDepth 100000
theorem q1308 : (Jvm.Cond.laysStatic "java/lang/Integer$IntegerCache" "high" "I") ∈ lw_tbl := lw_at lw_m6 24 rfl
theorem q1310 : (Jvm.Cond.laysStatic "java/lang/Integer$IntegerCache" "cache" "[Ljava/lang/Integer;") ∈ lw_tbl := lw_at lw_m6 26 rfl
theorem q114 : (Jvm.Cond.initialized "java/lang/Long$LongCache") ∈ lw_all := lw_g (lw_at lw_m1 30 rfl) rfl
set_option maxRecDepth 100000
theorem q1329 : (Jvm.Cond.laysStatic "java/lang/Long$LongCache" "cache" "[Ljava/lang/Long;") ∈ lw_tbl := lw_at lw_m6 45 rfl
theorem q104 : (Jvm.Cond.initialized "java/lang/System") ∈ lw_all := lw_g (lw_at lw_m1 20 rfl) rfl
set_option maxRecDepth 100000
theorem q294 : (Jvm.Cond.static ({ cls := "java/lang/System", name := "arraycopy", desc := "(Ljava/lang/Object;ILjava/lang/Object;II)V" } : Jvm.MethodName)) ∈ lw_all := lw_g (lw_at lw_m1 210 rfl) rfl
theorem q295 : (Jvm.Cond.native ({ cls := "java/lang/System", name := "arraycopy", desc := "(Ljava/lang/Object;ILjava/lang/Object;II)V" } : Jvm.MethodName)) ∈ lw_all := lw_g (lw_at lw_m1 211 rfl) rfl
theorem q935 : (Jvm.Cond.interfaceMethod "java/util/Comparator" "java/util/Comparator" "compare" "(Ljava/lang/Object;Ljava/lang/Object;)I") ∈ lw_tbl := lw_at lw_m4 131 rfl
set_option maxRecDepth 100000
theorem q936 : (Jvm.Cond.declares ({ cls := "java/util/Comparator", name := "compare", desc := "(Ljava/lang/Object;Ljava/lang/Object;)I" } : Jvm.MethodName)) ∈ lw_tbl := lw_at lw_m4 132 rfl
theorem q1495 : (Jvm.Cond.interfaceMethod "java/util/Iterator" "java/util/Iterator" "hasNext" "()Z") ∈ lw_tbl := lw_at lw_m6 211 rfl
set_option maxRecDepth 100000
theorem q1496 : (Jvm.Cond.declares ({ cls := "java/util/Iterator", name := "hasNext", desc := "()Z" } : Jvm.MethodName)) ∈ lw_tbl := lw_at lw_m6 212 rfl
theorem q1505 : (Jvm.Cond.interfaceMethod "java/util/Iterator" "java/util/Iterator" "next" "()Ljava/lang/Object;") ∈ lw_tbl := lw_at lw_m6 221 rfl
theorem q1506 : (Jvm.Cond.declares ({ cls := "java/util/Iterator", name := "next", desc := "()Ljava/lang/Object;" } : Jvm.MethodName)) ∈ lw_tbl := lw_at lw_m6 222 rfl
theorem q1528 : (Jvm.Cond.interfaceMethod "java/util/Map$Entry" "java/util/Map$Entry" "getKey" "()Ljava/lang/Object;") ∈ lw_tbl := lw_at lw_m7 4 rfl
set_option maxRecDepth 100000
theorem q1529 : (Jvm.Cond.declares ({ cls := "java/util/Map$Entry", name := "getKey", desc := "()Ljava/lang/Object;" } : Jvm.MethodName)) ∈ lw_tbl := lw_at lw_m7 5 rfl
theorem q1550 : (Jvm.Cond.interfaceMethod "java/util/Map$Entry" "java/util/Map$Entry" "getValue" "()Ljava/lang/Object;") ∈ lw_tbl := lw_at lw_m7 26 rfl
theorem q1551 : (Jvm.Cond.declares ({ cls := "java/util/Map$Entry", name := "getValue", desc := "()Ljava/lang/Object;" } : Jvm.MethodName)) ∈ lw_tbl := lw_at lw_m7 27 rfl
theorem q1459 : (Jvm.Cond.interfaceMethod "java/util/Set" "java/util/Set" "iterator" "()Ljava/util/Iterator;") ∈ lw_tbl := lw_at lw_m6 175 rfl
set_option maxRecDepth 100000
theorem q1460 : (Jvm.Cond.declares ({ cls := "java/util/Set", name := "iterator", desc := "()Ljava/util/Iterator;" } : Jvm.MethodName)) ∈ lw_tbl := lw_at lw_m6 176 rfl
theorem q116 : (Jvm.Cond.initialized "jdk/internal/misc/UnsafeConstants") ∈ lw_all := lw_g (lw_at lw_m1 32 rfl) rfl
set_option maxRecDepth 100000
theorem q1058 : (Jvm.Cond.laysStatic "jdk/internal/misc/UnsafeConstants" "BIG_ENDIAN" "Z") ∈ lw_tbl := lw_at lw_m5 14 rfl
theorem q170 : (Jvm.Cond.arrayClass Jvm.ClassFile.FieldType.int) ∈ lw_all := lw_g (lw_at lw_m1 86 rfl) rfl
set_option maxRecDepth 100000
theorem q171 : (Jvm.Cond.arrayClass Jvm.ClassFile.FieldType.byte) ∈ lw_all := lw_g (lw_at lw_m1 87 rfl) rfl
theorem q700 : (Jvm.Cond.arrayOver (Jvm.ClassFile.FieldType.array Jvm.ClassFile.FieldType.long)) ∈ lw_tbl := lw_at lw_m3 136 rfl
theorem q751 : (Jvm.Cond.arrayClass Jvm.ClassFile.FieldType.long) ∈ lw_all := lw_g (lw_at lw_m3 187 rfl) rfl
theorem q838 : (Jvm.Cond.arrayOver (Jvm.ClassFile.FieldType.object "java/lang/Object")) ∈ lw_tbl := lw_at lw_m4 34 rfl
