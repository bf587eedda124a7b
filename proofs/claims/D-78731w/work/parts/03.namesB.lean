/-! java/lang/String -/
set_option maxRecDepth 100000
def RJ2 : String := "java/lang/String"
def TJ2 : u_T := fun k => match k with
  | 0 => ("java/lang/String", "value", "[B", true)
  | 1 => ("java/lang/String", "coder", "B", true)
  | 2 => ("java/lang/String", "hash", "I", false)
  | _ => ("java/lang/String", "hashIsZero", "Z", false)
def tyJ2 : Nat → FieldType := fun k => match k with
  | 0 => .array .byte
  | 1 => .byte
  | 2 => .int
  | _ => .boolean
abbrev wsJ20 : List Cond := u_ws RJ2 TJ2 4
theorem nmJ2 : ∀ a, a < 4 → ∀ b, b < 4 → a ≠ b → (TJ2 a).2.1 ≠ (TJ2 b).2.1 := by decide +kernel
theorem tyJ2_ok : ∀ k, k < 4 → parseFieldDescriptor (TJ2 k).2.2.1 = some (tyJ2 k) := by decide +kernel
abbrev cJ2_checkBoundsBeginEnd : ByteArray := prog_30_method_158_code
def yJ2_checkBoundsBeginEnd : MethodName := ⟨RJ2, "checkBoundsBeginEnd", "(III)V"⟩
def dkwJ2_checkBoundsBeginEnd_0 : List UInt8 := [26, 27, 28, 178, 4, 29, 184, 4, 38, 87, 177]
abbrev dktJ2_checkBoundsBeginEnd_0 : List UInt8 := dkwJ2_checkBoundsBeginEnd_0 ++ []
theorem dksJ2_checkBoundsBeginEnd_0 : cJ2_checkBoundsBeginEnd.data.toList.drop 0 = dktJ2_checkBoundsBeginEnd_0 := by decide +kernel
theorem dJ2_checkBoundsBeginEnd_0 : decode cJ2_checkBoundsBeginEnd 0 = .ok (.iload_n 0, 1) := dk_26 (dk_at dksJ2_checkBoundsBeginEnd_0 0 rfl rfl)
theorem dJ2_checkBoundsBeginEnd_1 : decode cJ2_checkBoundsBeginEnd 1 = .ok (.iload_n 1, 1) := dk_27 (dk_at dksJ2_checkBoundsBeginEnd_0 1 rfl rfl)
theorem dJ2_checkBoundsBeginEnd_2 : decode cJ2_checkBoundsBeginEnd 2 = .ok (.iload_n 2, 1) := dk_28 (dk_at dksJ2_checkBoundsBeginEnd_0 2 rfl rfl)
theorem dJ2_checkBoundsBeginEnd_3 : decode cJ2_checkBoundsBeginEnd 3 = .ok (.getstatic 1053, 3) := dk_178 4 29 (dk_at dksJ2_checkBoundsBeginEnd_0 3 rfl rfl)
theorem dJ2_checkBoundsBeginEnd_6 : decode cJ2_checkBoundsBeginEnd 6 = .ok (.invokestatic 1062, 3) := dk_184 4 38 (dk_at dksJ2_checkBoundsBeginEnd_0 6 rfl rfl)
theorem dJ2_checkBoundsBeginEnd_9 : decode cJ2_checkBoundsBeginEnd 9 = .ok (.pop, 1) := dk_87 (dk_at dksJ2_checkBoundsBeginEnd_0 9 rfl rfl)
theorem dJ2_checkBoundsBeginEnd_10 : decode cJ2_checkBoundsBeginEnd 10 = .ok (.return_, 1) := dk_177 (dk_at dksJ2_checkBoundsBeginEnd_0 10 rfl rfl)
abbrev cJ2_length : ByteArray := prog_30_method_54_code
def yJ2_length : MethodName := ⟨RJ2, "length", "()I"⟩
def dkwJ2_length_0 : List UInt8 := [42, 180, 0, 9, 190, 42, 182, 1, 79, 122, 172]
abbrev dktJ2_length_0 : List UInt8 := dkwJ2_length_0 ++ []
theorem dksJ2_length_0 : cJ2_length.data.toList.drop 0 = dktJ2_length_0 := by decide +kernel
theorem dJ2_length_0 : decode cJ2_length 0 = .ok (.aload_n 0, 1) := dk_42 (dk_at dksJ2_length_0 0 rfl rfl)
theorem dJ2_length_1 : decode cJ2_length 1 = .ok (.getfield 9, 3) := dk_180 0 9 (dk_at dksJ2_length_0 1 rfl rfl)
theorem dJ2_length_4 : decode cJ2_length 4 = .ok (.arraylength, 1) := dk_190 (dk_at dksJ2_length_0 4 rfl rfl)
theorem dJ2_length_5 : decode cJ2_length 5 = .ok (.aload_n 0, 1) := dk_42 (dk_at dksJ2_length_0 5 rfl rfl)
theorem dJ2_length_6 : decode cJ2_length 6 = .ok (.invokevirtual 335, 3) := dk_182 1 79 (dk_at dksJ2_length_0 6 rfl rfl)
theorem dJ2_length_9 : decode cJ2_length 9 = .ok (.ishr, 1) := dk_122 (dk_at dksJ2_length_0 9 rfl rfl)
theorem dJ2_length_10 : decode cJ2_length 10 = .ok (.ireturn, 1) := dk_172 (dk_at dksJ2_length_0 10 rfl rfl)
abbrev cJ2_coder : ByteArray := prog_30_method_152_code
def yJ2_coder : MethodName := ⟨RJ2, "coder", "()B"⟩
def dkwJ2_coder_0 : List UInt8 := [178, 0, 38, 153, 0, 10, 42, 180, 0, 15, 167, 0, 4, 4, 172]
abbrev dktJ2_coder_0 : List UInt8 := dkwJ2_coder_0 ++ []
theorem dksJ2_coder_0 : cJ2_coder.data.toList.drop 0 = dktJ2_coder_0 := by decide +kernel
theorem dJ2_coder_0 : decode cJ2_coder 0 = .ok (.getstatic 38, 3) := dk_178 0 38 (dk_at dksJ2_coder_0 0 rfl rfl)
theorem dJ2_coder_3 : decode cJ2_coder 3 = .ok (.ifCond .eq 10, 3) := dk_153 0 10 (dk_at dksJ2_coder_0 3 rfl rfl)
theorem dJ2_coder_6 : decode cJ2_coder 6 = .ok (.aload_n 0, 1) := dk_42 (dk_at dksJ2_coder_0 6 rfl rfl)
theorem dJ2_coder_7 : decode cJ2_coder 7 = .ok (.getfield 15, 3) := dk_180 0 15 (dk_at dksJ2_coder_0 7 rfl rfl)
theorem dJ2_coder_10 : decode cJ2_coder 10 = .ok (.goto 4, 3) := dk_167 0 4 (dk_at dksJ2_coder_0 10 rfl rfl)
theorem dJ2_coder_13 : decode cJ2_coder 13 = .ok (.iconst 1, 1) := dk_4 (dk_at dksJ2_coder_0 13 rfl rfl)
theorem dJ2_coder_14 : decode cJ2_coder 14 = .ok (.ireturn, 1) := dk_172 (dk_at dksJ2_coder_0 14 rfl rfl)
abbrev cJ2_checkBoundsOffCount : ByteArray := prog_30_method_157_code
def yJ2_checkBoundsOffCount : MethodName := ⟨RJ2, "checkBoundsOffCount", "(III)I"⟩
def dkwJ2_checkBoundsOffCount_0 : List UInt8 := [26, 27, 28, 178, 4, 29, 184, 4, 41, 172]
abbrev dktJ2_checkBoundsOffCount_0 : List UInt8 := dkwJ2_checkBoundsOffCount_0 ++ []
theorem dksJ2_checkBoundsOffCount_0 : cJ2_checkBoundsOffCount.data.toList.drop 0 = dktJ2_checkBoundsOffCount_0 := by decide +kernel
theorem dJ2_checkBoundsOffCount_0 : decode cJ2_checkBoundsOffCount 0 = .ok (.iload_n 0, 1) := dk_26 (dk_at dksJ2_checkBoundsOffCount_0 0 rfl rfl)
theorem dJ2_checkBoundsOffCount_1 : decode cJ2_checkBoundsOffCount 1 = .ok (.iload_n 1, 1) := dk_27 (dk_at dksJ2_checkBoundsOffCount_0 1 rfl rfl)
theorem dJ2_checkBoundsOffCount_2 : decode cJ2_checkBoundsOffCount 2 = .ok (.iload_n 2, 1) := dk_28 (dk_at dksJ2_checkBoundsOffCount_0 2 rfl rfl)
theorem dJ2_checkBoundsOffCount_3 : decode cJ2_checkBoundsOffCount 3 = .ok (.getstatic 1053, 3) := dk_178 4 29 (dk_at dksJ2_checkBoundsOffCount_0 3 rfl rfl)
theorem dJ2_checkBoundsOffCount_6 : decode cJ2_checkBoundsOffCount 6 = .ok (.invokestatic 1065, 3) := dk_184 4 41 (dk_at dksJ2_checkBoundsOffCount_0 6 rfl rfl)
theorem dJ2_checkBoundsOffCount_9 : decode cJ2_checkBoundsOffCount 9 = .ok (.ireturn, 1) := dk_172 (dk_at dksJ2_checkBoundsOffCount_0 9 rfl rfl)
abbrev cJ2_getBytes : ByteArray := prog_30_method_147_code
def yJ2_getBytes : MethodName := ⟨RJ2, "getBytes", "([BIB)V"⟩
def dkwJ2_getBytes_1 : List UInt8 := [184, 0, 212, 167, 0, 18, 42, 180, 0, 9, 3, 43, 28, 42, 180, 0, 9, 190, 184, 0, 106, 177]
abbrev dktJ2_getBytes_1 : List UInt8 := dkwJ2_getBytes_1 ++ []
def dkwJ2_getBytes_0 : List UInt8 := [42, 182, 1, 79, 29, 160, 0, 23, 42, 180, 0, 9, 3, 43, 28, 29, 120, 42, 180, 0, 9, 190]
abbrev dktJ2_getBytes_0 : List UInt8 := dkwJ2_getBytes_0 ++ dktJ2_getBytes_1
theorem dksJ2_getBytes_0 : cJ2_getBytes.data.toList.drop 0 = dktJ2_getBytes_0 := by decide +kernel
theorem dksJ2_getBytes_1 : cJ2_getBytes.data.toList.drop 22 = dktJ2_getBytes_1 := dk_seg dksJ2_getBytes_0 22 rfl rfl
theorem dJ2_getBytes_0 : decode cJ2_getBytes 0 = .ok (.aload_n 0, 1) := dk_42 (dk_at dksJ2_getBytes_0 0 rfl rfl)
theorem dJ2_getBytes_1 : decode cJ2_getBytes 1 = .ok (.invokevirtual 335, 3) := dk_182 1 79 (dk_at dksJ2_getBytes_0 1 rfl rfl)
theorem dJ2_getBytes_4 : decode cJ2_getBytes 4 = .ok (.iload_n 3, 1) := dk_29 (dk_at dksJ2_getBytes_0 4 rfl rfl)
theorem dJ2_getBytes_5 : decode cJ2_getBytes 5 = .ok (.if_icmp .ne 23, 3) := dk_160 0 23 (dk_at dksJ2_getBytes_0 5 rfl rfl)
theorem dJ2_getBytes_8 : decode cJ2_getBytes 8 = .ok (.aload_n 0, 1) := dk_42 (dk_at dksJ2_getBytes_0 8 rfl rfl)
theorem dJ2_getBytes_9 : decode cJ2_getBytes 9 = .ok (.getfield 9, 3) := dk_180 0 9 (dk_at dksJ2_getBytes_0 9 rfl rfl)
theorem dJ2_getBytes_12 : decode cJ2_getBytes 12 = .ok (.iconst 0, 1) := dk_3 (dk_at dksJ2_getBytes_0 12 rfl rfl)
theorem dJ2_getBytes_13 : decode cJ2_getBytes 13 = .ok (.aload_n 1, 1) := dk_43 (dk_at dksJ2_getBytes_0 13 rfl rfl)
theorem dJ2_getBytes_14 : decode cJ2_getBytes 14 = .ok (.iload_n 2, 1) := dk_28 (dk_at dksJ2_getBytes_0 14 rfl rfl)
theorem dJ2_getBytes_15 : decode cJ2_getBytes 15 = .ok (.iload_n 3, 1) := dk_29 (dk_at dksJ2_getBytes_0 15 rfl rfl)
theorem dJ2_getBytes_16 : decode cJ2_getBytes 16 = .ok (.ishl, 1) := dk_120 (dk_at dksJ2_getBytes_0 16 rfl rfl)
theorem dJ2_getBytes_17 : decode cJ2_getBytes 17 = .ok (.aload_n 0, 1) := dk_42 (dk_at dksJ2_getBytes_0 17 rfl rfl)
theorem dJ2_getBytes_18 : decode cJ2_getBytes 18 = .ok (.getfield 9, 3) := dk_180 0 9 (dk_at dksJ2_getBytes_0 18 rfl rfl)
theorem dJ2_getBytes_21 : decode cJ2_getBytes 21 = .ok (.arraylength, 1) := dk_190 (dk_at dksJ2_getBytes_0 21 rfl rfl)
theorem dJ2_getBytes_22 : decode cJ2_getBytes 22 = .ok (.invokestatic 212, 3) := dk_184 0 212 (dk_at dksJ2_getBytes_1 0 rfl rfl)
theorem dJ2_getBytes_25 : decode cJ2_getBytes 25 = .ok (.goto 18, 3) := dk_167 0 18 (dk_at dksJ2_getBytes_1 3 rfl rfl)
theorem dJ2_getBytes_28 : decode cJ2_getBytes 28 = .ok (.aload_n 0, 1) := dk_42 (dk_at dksJ2_getBytes_1 6 rfl rfl)
theorem dJ2_getBytes_29 : decode cJ2_getBytes 29 = .ok (.getfield 9, 3) := dk_180 0 9 (dk_at dksJ2_getBytes_1 7 rfl rfl)
theorem dJ2_getBytes_32 : decode cJ2_getBytes 32 = .ok (.iconst 0, 1) := dk_3 (dk_at dksJ2_getBytes_1 10 rfl rfl)
theorem dJ2_getBytes_33 : decode cJ2_getBytes 33 = .ok (.aload_n 1, 1) := dk_43 (dk_at dksJ2_getBytes_1 11 rfl rfl)
theorem dJ2_getBytes_34 : decode cJ2_getBytes 34 = .ok (.iload_n 2, 1) := dk_28 (dk_at dksJ2_getBytes_1 12 rfl rfl)
theorem dJ2_getBytes_35 : decode cJ2_getBytes 35 = .ok (.aload_n 0, 1) := dk_42 (dk_at dksJ2_getBytes_1 13 rfl rfl)
theorem dJ2_getBytes_36 : decode cJ2_getBytes 36 = .ok (.getfield 9, 3) := dk_180 0 9 (dk_at dksJ2_getBytes_1 14 rfl rfl)
theorem dJ2_getBytes_39 : decode cJ2_getBytes 39 = .ok (.arraylength, 1) := dk_190 (dk_at dksJ2_getBytes_1 17 rfl rfl)
theorem dJ2_getBytes_40 : decode cJ2_getBytes 40 = .ok (.invokestatic 106, 3) := dk_184 0 106 (dk_at dksJ2_getBytes_1 18 rfl rfl)
theorem dJ2_getBytes_43 : decode cJ2_getBytes 43 = .ok (.return_, 1) := dk_177 (dk_at dksJ2_getBytes_1 21 rfl rfl)
abbrev cJ2_init : ByteArray := prog_30_method_53_code
def yJ2_init : MethodName := ⟨RJ2, "<init>", "(Ljava/lang/StringBuilder;)V"⟩
def dkwJ2_init_0 : List UInt8 := [42, 43, 1, 183, 1, 233, 177]
abbrev dktJ2_init_0 : List UInt8 := dkwJ2_init_0 ++ []
theorem dksJ2_init_0 : cJ2_init.data.toList.drop 0 = dktJ2_init_0 := by decide +kernel
theorem dJ2_init_0 : decode cJ2_init 0 = .ok (.aload_n 0, 1) := dk_42 (dk_at dksJ2_init_0 0 rfl rfl)
theorem dJ2_init_1 : decode cJ2_init 1 = .ok (.aload_n 1, 1) := dk_43 (dk_at dksJ2_init_0 1 rfl rfl)
theorem dJ2_init_2 : decode cJ2_init 2 = .ok (.aconst_null, 1) := dk_1 (dk_at dksJ2_init_0 2 rfl rfl)
theorem dJ2_init_3 : decode cJ2_init 3 = .ok (.invokespecial 489, 3) := dk_183 1 233 (dk_at dksJ2_init_0 3 rfl rfl)
theorem dJ2_init_6 : decode cJ2_init 6 = .ok (.return_, 1) := dk_177 (dk_at dksJ2_init_0 6 rfl rfl)
abbrev cJ2_init_2 : ByteArray := prog_30_method_150_code
def yJ2_init_2 : MethodName := ⟨RJ2, "<init>", "(Ljava/lang/AbstractStringBuilder;Ljava/lang/Void;)V"⟩
def dkwJ2_init_2_4 : List UInt8 := [181, 0, 9, 177]
abbrev dktJ2_init_2_4 : List UInt8 := dkwJ2_init_2_4 ++ []
def dkwJ2_init_2_3 : List UInt8 := [184, 0, 47, 181, 0, 15, 177, 42, 4, 181, 0, 15, 42, 45, 3, 21, 4, 4, 120, 184, 0, 54]
abbrev dktJ2_init_2_3 : List UInt8 := dkwJ2_init_2_3 ++ dktJ2_init_2_4
def dkwJ2_init_2_2 : List UInt8 := [180, 4, 24, 153, 0, 28, 42, 45, 3, 21, 4, 184, 4, 27, 181, 0, 9, 42, 42, 180, 0, 9, 21, 4]
abbrev dktJ2_init_2_2 : List UInt8 := dkwJ2_init_2_2 ++ dktJ2_init_2_3
def dkwJ2_init_2_1 : List UInt8 := [181, 0, 15, 42, 45, 3, 21, 4, 184, 0, 54, 181, 0, 9, 167, 0, 59, 178, 0, 38, 153, 0, 35, 43]
abbrev dktJ2_init_2_1 : List UInt8 := dkwJ2_init_2_1 ++ dktJ2_init_2_2
def dkwJ2_init_2_0 : List UInt8 := [42, 183, 0, 1, 43, 182, 2, 40, 78, 43, 182, 2, 37, 54, 4, 43, 182, 4, 23, 153, 0, 22, 42, 3]
abbrev dktJ2_init_2_0 : List UInt8 := dkwJ2_init_2_0 ++ dktJ2_init_2_1
theorem dksJ2_init_2_0 : cJ2_init_2.data.toList.drop 0 = dktJ2_init_2_0 := by decide +kernel
theorem dksJ2_init_2_1 : cJ2_init_2.data.toList.drop 24 = dktJ2_init_2_1 := dk_seg dksJ2_init_2_0 24 rfl rfl
theorem dksJ2_init_2_2 : cJ2_init_2.data.toList.drop 48 = dktJ2_init_2_2 := dk_seg dksJ2_init_2_1 24 rfl rfl
theorem dksJ2_init_2_3 : cJ2_init_2.data.toList.drop 72 = dktJ2_init_2_3 := dk_seg dksJ2_init_2_2 24 rfl rfl
theorem dksJ2_init_2_4 : cJ2_init_2.data.toList.drop 94 = dktJ2_init_2_4 := dk_seg dksJ2_init_2_3 22 rfl rfl
theorem dJ2_init_2_0 : decode cJ2_init_2 0 = .ok (.aload_n 0, 1) := dk_42 (dk_at dksJ2_init_2_0 0 rfl rfl)
theorem dJ2_init_2_1 : decode cJ2_init_2 1 = .ok (.invokespecial 1, 3) := dk_183 0 1 (dk_at dksJ2_init_2_0 1 rfl rfl)
theorem dJ2_init_2_4 : decode cJ2_init_2 4 = .ok (.aload_n 1, 1) := dk_43 (dk_at dksJ2_init_2_0 4 rfl rfl)
theorem dJ2_init_2_5 : decode cJ2_init_2 5 = .ok (.invokevirtual 552, 3) := dk_182 2 40 (dk_at dksJ2_init_2_0 5 rfl rfl)
theorem dJ2_init_2_8 : decode cJ2_init_2 8 = .ok (.astore_n 3, 1) := dk_78 (dk_at dksJ2_init_2_0 8 rfl rfl)
theorem dJ2_init_2_9 : decode cJ2_init_2 9 = .ok (.aload_n 1, 1) := dk_43 (dk_at dksJ2_init_2_0 9 rfl rfl)
theorem dJ2_init_2_10 : decode cJ2_init_2 10 = .ok (.invokevirtual 549, 3) := dk_182 2 37 (dk_at dksJ2_init_2_0 10 rfl rfl)
theorem dJ2_init_2_13 : decode cJ2_init_2 13 = .ok (.istore 4, 2) := dk_54 4 (dk_at dksJ2_init_2_0 13 rfl rfl)
theorem dJ2_init_2_15 : decode cJ2_init_2 15 = .ok (.aload_n 1, 1) := dk_43 (dk_at dksJ2_init_2_0 15 rfl rfl)
theorem dJ2_init_2_16 : decode cJ2_init_2 16 = .ok (.invokevirtual 1047, 3) := dk_182 4 23 (dk_at dksJ2_init_2_0 16 rfl rfl)
theorem dJ2_init_2_19 : decode cJ2_init_2 19 = .ok (.ifCond .eq 22, 3) := dk_153 0 22 (dk_at dksJ2_init_2_0 19 rfl rfl)
theorem dJ2_init_2_22 : decode cJ2_init_2 22 = .ok (.aload_n 0, 1) := dk_42 (dk_at dksJ2_init_2_0 22 rfl rfl)
theorem dJ2_init_2_23 : decode cJ2_init_2 23 = .ok (.iconst 0, 1) := dk_3 (dk_at dksJ2_init_2_0 23 rfl rfl)
theorem dJ2_init_2_24 : decode cJ2_init_2 24 = .ok (.putfield 15, 3) := dk_181 0 15 (dk_at dksJ2_init_2_1 0 rfl rfl)
theorem dJ2_init_2_27 : decode cJ2_init_2 27 = .ok (.aload_n 0, 1) := dk_42 (dk_at dksJ2_init_2_1 3 rfl rfl)
theorem dJ2_init_2_28 : decode cJ2_init_2 28 = .ok (.aload_n 3, 1) := dk_45 (dk_at dksJ2_init_2_1 4 rfl rfl)
theorem dJ2_init_2_29 : decode cJ2_init_2 29 = .ok (.iconst 0, 1) := dk_3 (dk_at dksJ2_init_2_1 5 rfl rfl)
theorem dJ2_init_2_30 : decode cJ2_init_2 30 = .ok (.iload 4, 2) := dk_21 4 (dk_at dksJ2_init_2_1 6 rfl rfl)
theorem dJ2_init_2_32 : decode cJ2_init_2 32 = .ok (.invokestatic 54, 3) := dk_184 0 54 (dk_at dksJ2_init_2_1 8 rfl rfl)
theorem dJ2_init_2_35 : decode cJ2_init_2 35 = .ok (.putfield 9, 3) := dk_181 0 9 (dk_at dksJ2_init_2_1 11 rfl rfl)
theorem dJ2_init_2_38 : decode cJ2_init_2 38 = .ok (.goto 59, 3) := dk_167 0 59 (dk_at dksJ2_init_2_1 14 rfl rfl)
theorem dJ2_init_2_41 : decode cJ2_init_2 41 = .ok (.getstatic 38, 3) := dk_178 0 38 (dk_at dksJ2_init_2_1 17 rfl rfl)
theorem dJ2_init_2_44 : decode cJ2_init_2 44 = .ok (.ifCond .eq 35, 3) := dk_153 0 35 (dk_at dksJ2_init_2_1 20 rfl rfl)
theorem dJ2_init_2_47 : decode cJ2_init_2 47 = .ok (.aload_n 1, 1) := dk_43 (dk_at dksJ2_init_2_1 23 rfl rfl)
theorem dJ2_init_2_48 : decode cJ2_init_2 48 = .ok (.getfield 1048, 3) := dk_180 4 24 (dk_at dksJ2_init_2_2 0 rfl rfl)
theorem dJ2_init_2_51 : decode cJ2_init_2 51 = .ok (.ifCond .eq 28, 3) := dk_153 0 28 (dk_at dksJ2_init_2_2 3 rfl rfl)
theorem dJ2_init_2_54 : decode cJ2_init_2 54 = .ok (.aload_n 0, 1) := dk_42 (dk_at dksJ2_init_2_2 6 rfl rfl)
theorem dJ2_init_2_55 : decode cJ2_init_2 55 = .ok (.aload_n 3, 1) := dk_45 (dk_at dksJ2_init_2_2 7 rfl rfl)
theorem dJ2_init_2_56 : decode cJ2_init_2 56 = .ok (.iconst 0, 1) := dk_3 (dk_at dksJ2_init_2_2 8 rfl rfl)
theorem dJ2_init_2_57 : decode cJ2_init_2 57 = .ok (.iload 4, 2) := dk_21 4 (dk_at dksJ2_init_2_2 9 rfl rfl)
theorem dJ2_init_2_59 : decode cJ2_init_2 59 = .ok (.invokestatic 1051, 3) := dk_184 4 27 (dk_at dksJ2_init_2_2 11 rfl rfl)
theorem dJ2_init_2_62 : decode cJ2_init_2 62 = .ok (.putfield 9, 3) := dk_181 0 9 (dk_at dksJ2_init_2_2 14 rfl rfl)
theorem dJ2_init_2_65 : decode cJ2_init_2 65 = .ok (.aload_n 0, 1) := dk_42 (dk_at dksJ2_init_2_2 17 rfl rfl)
theorem dJ2_init_2_66 : decode cJ2_init_2 66 = .ok (.aload_n 0, 1) := dk_42 (dk_at dksJ2_init_2_2 18 rfl rfl)
theorem dJ2_init_2_67 : decode cJ2_init_2 67 = .ok (.getfield 9, 3) := dk_180 0 9 (dk_at dksJ2_init_2_2 19 rfl rfl)
theorem dJ2_init_2_70 : decode cJ2_init_2 70 = .ok (.iload 4, 2) := dk_21 4 (dk_at dksJ2_init_2_2 22 rfl rfl)
theorem dJ2_init_2_72 : decode cJ2_init_2 72 = .ok (.invokestatic 47, 3) := dk_184 0 47 (dk_at dksJ2_init_2_3 0 rfl rfl)
theorem dJ2_init_2_75 : decode cJ2_init_2 75 = .ok (.putfield 15, 3) := dk_181 0 15 (dk_at dksJ2_init_2_3 3 rfl rfl)
theorem dJ2_init_2_78 : decode cJ2_init_2 78 = .ok (.return_, 1) := dk_177 (dk_at dksJ2_init_2_3 6 rfl rfl)
theorem dJ2_init_2_79 : decode cJ2_init_2 79 = .ok (.aload_n 0, 1) := dk_42 (dk_at dksJ2_init_2_3 7 rfl rfl)
theorem dJ2_init_2_80 : decode cJ2_init_2 80 = .ok (.iconst 1, 1) := dk_4 (dk_at dksJ2_init_2_3 8 rfl rfl)
theorem dJ2_init_2_81 : decode cJ2_init_2 81 = .ok (.putfield 15, 3) := dk_181 0 15 (dk_at dksJ2_init_2_3 9 rfl rfl)
theorem dJ2_init_2_84 : decode cJ2_init_2 84 = .ok (.aload_n 0, 1) := dk_42 (dk_at dksJ2_init_2_3 12 rfl rfl)
theorem dJ2_init_2_85 : decode cJ2_init_2 85 = .ok (.aload_n 3, 1) := dk_45 (dk_at dksJ2_init_2_3 13 rfl rfl)
theorem dJ2_init_2_86 : decode cJ2_init_2 86 = .ok (.iconst 0, 1) := dk_3 (dk_at dksJ2_init_2_3 14 rfl rfl)
theorem dJ2_init_2_87 : decode cJ2_init_2 87 = .ok (.iload 4, 2) := dk_21 4 (dk_at dksJ2_init_2_3 15 rfl rfl)
theorem dJ2_init_2_89 : decode cJ2_init_2 89 = .ok (.iconst 1, 1) := dk_4 (dk_at dksJ2_init_2_3 17 rfl rfl)
theorem dJ2_init_2_90 : decode cJ2_init_2 90 = .ok (.ishl, 1) := dk_120 (dk_at dksJ2_init_2_3 18 rfl rfl)
theorem dJ2_init_2_91 : decode cJ2_init_2 91 = .ok (.invokestatic 54, 3) := dk_184 0 54 (dk_at dksJ2_init_2_3 19 rfl rfl)
theorem dJ2_init_2_94 : decode cJ2_init_2 94 = .ok (.putfield 9, 3) := dk_181 0 9 (dk_at dksJ2_init_2_4 0 rfl rfl)
theorem dJ2_init_2_97 : decode cJ2_init_2 97 = .ok (.return_, 1) := dk_177 (dk_at dksJ2_init_2_4 3 rfl rfl)
abbrev cJ2_checkIndex : ByteArray := prog_30_method_155_code
def yJ2_checkIndex : MethodName := ⟨RJ2, "checkIndex", "(II)V"⟩
def dkwJ2_checkIndex_0 : List UInt8 := [26, 27, 178, 4, 29, 184, 4, 35, 87, 177]
abbrev dktJ2_checkIndex_0 : List UInt8 := dkwJ2_checkIndex_0 ++ []
theorem dksJ2_checkIndex_0 : cJ2_checkIndex.data.toList.drop 0 = dktJ2_checkIndex_0 := by decide +kernel
theorem dJ2_checkIndex_0 : decode cJ2_checkIndex 0 = .ok (.iload_n 0, 1) := dk_26 (dk_at dksJ2_checkIndex_0 0 rfl rfl)
theorem dJ2_checkIndex_1 : decode cJ2_checkIndex 1 = .ok (.iload_n 1, 1) := dk_27 (dk_at dksJ2_checkIndex_0 1 rfl rfl)
theorem dJ2_checkIndex_2 : decode cJ2_checkIndex 2 = .ok (.getstatic 1053, 3) := dk_178 4 29 (dk_at dksJ2_checkIndex_0 2 rfl rfl)
theorem dJ2_checkIndex_5 : decode cJ2_checkIndex 5 = .ok (.invokestatic 1059, 3) := dk_184 4 35 (dk_at dksJ2_checkIndex_0 5 rfl rfl)
theorem dJ2_checkIndex_8 : decode cJ2_checkIndex 8 = .ok (.pop, 1) := dk_87 (dk_at dksJ2_checkIndex_0 8 rfl rfl)
theorem dJ2_checkIndex_9 : decode cJ2_checkIndex 9 = .ok (.return_, 1) := dk_177 (dk_at dksJ2_checkIndex_0 9 rfl rfl)
abbrev cJ2_compareTo : ByteArray := prog_30_method_162_code
def yJ2_compareTo : MethodName := ⟨RJ2, "compareTo", "(Ljava/lang/Object;)I"⟩
def dkwJ2_compareTo_0 : List UInt8 := [42, 43, 192, 0, 10, 182, 4, 60, 172]
abbrev dktJ2_compareTo_0 : List UInt8 := dkwJ2_compareTo_0 ++ []
theorem dksJ2_compareTo_0 : cJ2_compareTo.data.toList.drop 0 = dktJ2_compareTo_0 := by decide +kernel
theorem dJ2_compareTo_0 : decode cJ2_compareTo 0 = .ok (.aload_n 0, 1) := dk_42 (dk_at dksJ2_compareTo_0 0 rfl rfl)
theorem dJ2_compareTo_1 : decode cJ2_compareTo 1 = .ok (.aload_n 1, 1) := dk_43 (dk_at dksJ2_compareTo_0 1 rfl rfl)
theorem dJ2_compareTo_2 : decode cJ2_compareTo 2 = .ok (.checkcast 10, 3) := dk_192 0 10 (dk_at dksJ2_compareTo_0 2 rfl rfl)
theorem dJ2_compareTo_5 : decode cJ2_compareTo 5 = .ok (.invokevirtual 1084, 3) := dk_182 4 60 (dk_at dksJ2_compareTo_0 5 rfl rfl)
theorem dJ2_compareTo_8 : decode cJ2_compareTo 8 = .ok (.ireturn, 1) := dk_172 (dk_at dksJ2_compareTo_0 8 rfl rfl)
abbrev cJ2_compareTo_2 : ByteArray := prog_30_method_71_code
def yJ2_compareTo_2 : MethodName := ⟨RJ2, "compareTo", "(Ljava/lang/String;)I"⟩
def dkwJ2_compareTo_2_2 : List UInt8 := [154, 0, 11, 44, 45, 184, 2, 79, 167, 0, 8, 44, 45, 184, 2, 82, 172]
abbrev dktJ2_compareTo_2_2 : List UInt8 := dkwJ2_compareTo_2_2 ++ []
def dkwJ2_compareTo_2_1 : List UInt8 := [160, 0, 22, 21, 4, 154, 0, 11, 44, 45, 184, 2, 74, 167, 0, 8, 44, 45, 184, 2, 78, 172, 21, 4]
abbrev dktJ2_compareTo_2_1 : List UInt8 := dkwJ2_compareTo_2_1 ++ dktJ2_compareTo_2_2
def dkwJ2_compareTo_2_0 : List UInt8 := [42, 180, 0, 9, 77, 43, 180, 0, 9, 78, 42, 182, 1, 79, 54, 4, 21, 4, 43, 182, 1, 79]
abbrev dktJ2_compareTo_2_0 : List UInt8 := dkwJ2_compareTo_2_0 ++ dktJ2_compareTo_2_1
theorem dksJ2_compareTo_2_0 : cJ2_compareTo_2.data.toList.drop 0 = dktJ2_compareTo_2_0 := by decide +kernel
theorem dksJ2_compareTo_2_1 : cJ2_compareTo_2.data.toList.drop 22 = dktJ2_compareTo_2_1 := dk_seg dksJ2_compareTo_2_0 22 rfl rfl
theorem dksJ2_compareTo_2_2 : cJ2_compareTo_2.data.toList.drop 46 = dktJ2_compareTo_2_2 := dk_seg dksJ2_compareTo_2_1 24 rfl rfl
theorem dJ2_compareTo_2_0 : decode cJ2_compareTo_2 0 = .ok (.aload_n 0, 1) := dk_42 (dk_at dksJ2_compareTo_2_0 0 rfl rfl)
theorem dJ2_compareTo_2_1 : decode cJ2_compareTo_2 1 = .ok (.getfield 9, 3) := dk_180 0 9 (dk_at dksJ2_compareTo_2_0 1 rfl rfl)
theorem dJ2_compareTo_2_4 : decode cJ2_compareTo_2 4 = .ok (.astore_n 2, 1) := dk_77 (dk_at dksJ2_compareTo_2_0 4 rfl rfl)
theorem dJ2_compareTo_2_5 : decode cJ2_compareTo_2 5 = .ok (.aload_n 1, 1) := dk_43 (dk_at dksJ2_compareTo_2_0 5 rfl rfl)
theorem dJ2_compareTo_2_6 : decode cJ2_compareTo_2 6 = .ok (.getfield 9, 3) := dk_180 0 9 (dk_at dksJ2_compareTo_2_0 6 rfl rfl)
theorem dJ2_compareTo_2_9 : decode cJ2_compareTo_2 9 = .ok (.astore_n 3, 1) := dk_78 (dk_at dksJ2_compareTo_2_0 9 rfl rfl)
theorem dJ2_compareTo_2_10 : decode cJ2_compareTo_2 10 = .ok (.aload_n 0, 1) := dk_42 (dk_at dksJ2_compareTo_2_0 10 rfl rfl)
theorem dJ2_compareTo_2_11 : decode cJ2_compareTo_2 11 = .ok (.invokevirtual 335, 3) := dk_182 1 79 (dk_at dksJ2_compareTo_2_0 11 rfl rfl)
theorem dJ2_compareTo_2_14 : decode cJ2_compareTo_2 14 = .ok (.istore 4, 2) := dk_54 4 (dk_at dksJ2_compareTo_2_0 14 rfl rfl)
theorem dJ2_compareTo_2_16 : decode cJ2_compareTo_2 16 = .ok (.iload 4, 2) := dk_21 4 (dk_at dksJ2_compareTo_2_0 16 rfl rfl)
theorem dJ2_compareTo_2_18 : decode cJ2_compareTo_2 18 = .ok (.aload_n 1, 1) := dk_43 (dk_at dksJ2_compareTo_2_0 18 rfl rfl)
theorem dJ2_compareTo_2_19 : decode cJ2_compareTo_2 19 = .ok (.invokevirtual 335, 3) := dk_182 1 79 (dk_at dksJ2_compareTo_2_0 19 rfl rfl)
theorem dJ2_compareTo_2_22 : decode cJ2_compareTo_2 22 = .ok (.if_icmp .ne 22, 3) := dk_160 0 22 (dk_at dksJ2_compareTo_2_1 0 rfl rfl)
theorem dJ2_compareTo_2_25 : decode cJ2_compareTo_2 25 = .ok (.iload 4, 2) := dk_21 4 (dk_at dksJ2_compareTo_2_1 3 rfl rfl)
theorem dJ2_compareTo_2_27 : decode cJ2_compareTo_2 27 = .ok (.ifCond .ne 11, 3) := dk_154 0 11 (dk_at dksJ2_compareTo_2_1 5 rfl rfl)
theorem dJ2_compareTo_2_30 : decode cJ2_compareTo_2 30 = .ok (.aload_n 2, 1) := dk_44 (dk_at dksJ2_compareTo_2_1 8 rfl rfl)
theorem dJ2_compareTo_2_31 : decode cJ2_compareTo_2 31 = .ok (.aload_n 3, 1) := dk_45 (dk_at dksJ2_compareTo_2_1 9 rfl rfl)
theorem dJ2_compareTo_2_32 : decode cJ2_compareTo_2 32 = .ok (.invokestatic 586, 3) := dk_184 2 74 (dk_at dksJ2_compareTo_2_1 10 rfl rfl)
theorem dJ2_compareTo_2_35 : decode cJ2_compareTo_2 35 = .ok (.goto 8, 3) := dk_167 0 8 (dk_at dksJ2_compareTo_2_1 13 rfl rfl)
theorem dJ2_compareTo_2_38 : decode cJ2_compareTo_2 38 = .ok (.aload_n 2, 1) := dk_44 (dk_at dksJ2_compareTo_2_1 16 rfl rfl)
theorem dJ2_compareTo_2_39 : decode cJ2_compareTo_2 39 = .ok (.aload_n 3, 1) := dk_45 (dk_at dksJ2_compareTo_2_1 17 rfl rfl)
theorem dJ2_compareTo_2_40 : decode cJ2_compareTo_2 40 = .ok (.invokestatic 590, 3) := dk_184 2 78 (dk_at dksJ2_compareTo_2_1 18 rfl rfl)
theorem dJ2_compareTo_2_43 : decode cJ2_compareTo_2 43 = .ok (.ireturn, 1) := dk_172 (dk_at dksJ2_compareTo_2_1 21 rfl rfl)
theorem dJ2_compareTo_2_44 : decode cJ2_compareTo_2 44 = .ok (.iload 4, 2) := dk_21 4 (dk_at dksJ2_compareTo_2_1 22 rfl rfl)
theorem dJ2_compareTo_2_46 : decode cJ2_compareTo_2 46 = .ok (.ifCond .ne 11, 3) := dk_154 0 11 (dk_at dksJ2_compareTo_2_2 0 rfl rfl)
theorem dJ2_compareTo_2_49 : decode cJ2_compareTo_2 49 = .ok (.aload_n 2, 1) := dk_44 (dk_at dksJ2_compareTo_2_2 3 rfl rfl)
theorem dJ2_compareTo_2_50 : decode cJ2_compareTo_2 50 = .ok (.aload_n 3, 1) := dk_45 (dk_at dksJ2_compareTo_2_2 4 rfl rfl)
theorem dJ2_compareTo_2_51 : decode cJ2_compareTo_2 51 = .ok (.invokestatic 591, 3) := dk_184 2 79 (dk_at dksJ2_compareTo_2_2 5 rfl rfl)
theorem dJ2_compareTo_2_54 : decode cJ2_compareTo_2 54 = .ok (.goto 8, 3) := dk_167 0 8 (dk_at dksJ2_compareTo_2_2 8 rfl rfl)
theorem dJ2_compareTo_2_57 : decode cJ2_compareTo_2 57 = .ok (.aload_n 2, 1) := dk_44 (dk_at dksJ2_compareTo_2_2 11 rfl rfl)
theorem dJ2_compareTo_2_58 : decode cJ2_compareTo_2 58 = .ok (.aload_n 3, 1) := dk_45 (dk_at dksJ2_compareTo_2_2 12 rfl rfl)
theorem dJ2_compareTo_2_59 : decode cJ2_compareTo_2 59 = .ok (.invokestatic 594, 3) := dk_184 2 82 (dk_at dksJ2_compareTo_2_2 13 rfl rfl)
theorem dJ2_compareTo_2_62 : decode cJ2_compareTo_2 62 = .ok (.ireturn, 1) := dk_172 (dk_at dksJ2_compareTo_2_2 16 rfl rfl)
abbrev cJ2_checkOffset : ByteArray := prog_30_method_156_code
def yJ2_checkOffset : MethodName := ⟨RJ2, "checkOffset", "(II)V"⟩
def dkwJ2_checkOffset_0 : List UInt8 := [26, 27, 27, 178, 4, 29, 184, 4, 38, 87, 177]
abbrev dktJ2_checkOffset_0 : List UInt8 := dkwJ2_checkOffset_0 ++ []
theorem dksJ2_checkOffset_0 : cJ2_checkOffset.data.toList.drop 0 = dktJ2_checkOffset_0 := by decide +kernel
theorem dJ2_checkOffset_0 : decode cJ2_checkOffset 0 = .ok (.iload_n 0, 1) := dk_26 (dk_at dksJ2_checkOffset_0 0 rfl rfl)
theorem dJ2_checkOffset_1 : decode cJ2_checkOffset 1 = .ok (.iload_n 1, 1) := dk_27 (dk_at dksJ2_checkOffset_0 1 rfl rfl)
theorem dJ2_checkOffset_2 : decode cJ2_checkOffset 2 = .ok (.iload_n 1, 1) := dk_27 (dk_at dksJ2_checkOffset_0 2 rfl rfl)
theorem dJ2_checkOffset_3 : decode cJ2_checkOffset 3 = .ok (.getstatic 1053, 3) := dk_178 4 29 (dk_at dksJ2_checkOffset_0 3 rfl rfl)
theorem dJ2_checkOffset_6 : decode cJ2_checkOffset 6 = .ok (.invokestatic 1062, 3) := dk_184 4 38 (dk_at dksJ2_checkOffset_0 6 rfl rfl)
theorem dJ2_checkOffset_9 : decode cJ2_checkOffset 9 = .ok (.pop, 1) := dk_87 (dk_at dksJ2_checkOffset_0 9 rfl rfl)
theorem dJ2_checkOffset_10 : decode cJ2_checkOffset 10 = .ok (.return_, 1) := dk_177 (dk_at dksJ2_checkOffset_0 10 rfl rfl)
theorem q88 : (Jvm.Cond.initialized "java/lang/String") ∈ lw_all := lw_g (lw_at lw_m1 4 rfl) rfl
theorem q148 : (Jvm.Cond.laysStatic "java/lang/String" "COMPACT_STRINGS" "Z") ∈ lw_tbl := lw_at lw_m1 64 rfl
theorem q159 : (Jvm.Cond.fieldLink "java/lang/String" (1048 : Nat) "java/lang/AbstractStringBuilder" "maybeLatin1" "Z") ∈ lw_all := lw_g (lw_at lw_m1 75 rfl) rfl
theorem q311 : (Jvm.Cond.static ({ cls := "java/lang/String", name := "checkBoundsBeginEnd", desc := "(III)V" } : Jvm.MethodName)) ∈ lw_all := lw_g (lw_at lw_m1 227 rfl) rfl
theorem q312 : (Jvm.Cond.code ({ cls := "java/lang/String", name := "checkBoundsBeginEnd", desc := "(III)V" } : Jvm.MethodName) prog_30_method_158_code (3 : Nat) (Option.none : Option Jvm.ClassFile.FieldType)) ∈ lw_all := lw_g (lw_at lw_m1 228 rfl) rfl
theorem q313 : (Jvm.Cond.fieldLink "java/lang/String" (1053 : Nat) "jdk/internal/util/Preconditions" "SIOOBE_FORMATTER" "Ljava/util/function/BiFunction;") ∈ lw_all := lw_g (lw_at lw_m1 229 rfl) rfl
theorem q315 : (Jvm.Cond.methodLink "java/lang/String" (1062 : Nat) ({ cls := "jdk/internal/util/Preconditions", name := "checkFromToIndex", desc := "(IIILjava/util/function/BiFunction;)I" } : Jvm.MethodName)) ∈ lw_all := lw_g (lw_at lw_m1 231 rfl) rfl
theorem q328 : (Jvm.Cond.instanceMethod ({ cls := "java/lang/String", name := "length", desc := "()I" } : Jvm.MethodName)) ∈ lw_all := lw_g (lw_at lw_m2 4 rfl) rfl
theorem q329 : (Jvm.Cond.selects "java/lang/String" ({ cls := "java/lang/String", name := "length", desc := "()I" } : Jvm.MethodName) ({ cls := "java/lang/String", name := "length", desc := "()I" } : Jvm.MethodName)) ∈ lw_all := lw_g (lw_at lw_m2 5 rfl) rfl
theorem q330 : (Jvm.Cond.code ({ cls := "java/lang/String", name := "length", desc := "()I" } : Jvm.MethodName) prog_30_method_54_code (1 : Nat) (Option.some Jvm.ClassFile.FieldType.int)) ∈ lw_all := lw_g (lw_at lw_m2 6 rfl) rfl
theorem q331 : (Jvm.Cond.methodLink "java/lang/String" (335 : Nat) ({ cls := "java/lang/String", name := "coder", desc := "()B" } : Jvm.MethodName)) ∈ lw_all := lw_g (lw_at lw_m2 7 rfl) rfl
theorem q332 : (Jvm.Cond.instanceMethod ({ cls := "java/lang/String", name := "coder", desc := "()B" } : Jvm.MethodName)) ∈ lw_all := lw_g (lw_at lw_m2 8 rfl) rfl
theorem q333 : (Jvm.Cond.selects "java/lang/String" ({ cls := "java/lang/String", name := "coder", desc := "()B" } : Jvm.MethodName) ({ cls := "java/lang/String", name := "coder", desc := "()B" } : Jvm.MethodName)) ∈ lw_all := lw_g (lw_at lw_m2 9 rfl) rfl
theorem q334 : (Jvm.Cond.code ({ cls := "java/lang/String", name := "coder", desc := "()B" } : Jvm.MethodName) prog_30_method_152_code (1 : Nat) (Option.some Jvm.ClassFile.FieldType.byte)) ∈ lw_all := lw_g (lw_at lw_m2 10 rfl) rfl
theorem q335 : (Jvm.Cond.fieldLink "java/lang/String" (38 : Nat) "java/lang/String" "COMPACT_STRINGS" "Z") ∈ lw_all := lw_g (lw_at lw_m2 11 rfl) rfl
theorem q359 : (Jvm.Cond.static ({ cls := "java/lang/String", name := "checkBoundsOffCount", desc := "(III)I" } : Jvm.MethodName)) ∈ lw_all := lw_g (lw_at lw_m2 35 rfl) rfl
theorem q360 : (Jvm.Cond.code ({ cls := "java/lang/String", name := "checkBoundsOffCount", desc := "(III)I" } : Jvm.MethodName) prog_30_method_157_code (3 : Nat) (Option.some Jvm.ClassFile.FieldType.int)) ∈ lw_all := lw_g (lw_at lw_m2 36 rfl) rfl
theorem q361 : (Jvm.Cond.methodLink "java/lang/String" (1065 : Nat) ({ cls := "jdk/internal/util/Preconditions", name := "checkFromIndexSize", desc := "(IIILjava/util/function/BiFunction;)I" } : Jvm.MethodName)) ∈ lw_all := lw_g (lw_at lw_m2 37 rfl) rfl
theorem q365 : (Jvm.Cond.instanceMethod ({ cls := "java/lang/String", name := "getBytes", desc := "([BIB)V" } : Jvm.MethodName)) ∈ lw_all := lw_g (lw_at lw_m2 41 rfl) rfl
theorem q366 : (Jvm.Cond.selects "java/lang/String" ({ cls := "java/lang/String", name := "getBytes", desc := "([BIB)V" } : Jvm.MethodName) ({ cls := "java/lang/String", name := "getBytes", desc := "([BIB)V" } : Jvm.MethodName)) ∈ lw_all := lw_g (lw_at lw_m2 42 rfl) rfl
theorem q367 : (Jvm.Cond.code ({ cls := "java/lang/String", name := "getBytes", desc := "([BIB)V" } : Jvm.MethodName) prog_30_method_147_code (4 : Nat) (Option.none : Option Jvm.ClassFile.FieldType)) ∈ lw_all := lw_g (lw_at lw_m2 43 rfl) rfl
theorem q368 : (Jvm.Cond.methodLink "java/lang/String" (212 : Nat) ({ cls := "java/lang/System", name := "arraycopy", desc := "(Ljava/lang/Object;ILjava/lang/Object;II)V" } : Jvm.MethodName)) ∈ lw_all := lw_g (lw_at lw_m2 44 rfl) rfl
theorem q369 : (Jvm.Cond.methodLink "java/lang/String" (106 : Nat) ({ cls := "java/lang/StringLatin1", name := "inflate", desc := "([BI[BII)V" } : Jvm.MethodName)) ∈ lw_all := lw_g (lw_at lw_m2 45 rfl) rfl
theorem q400 : (Jvm.Cond.instantiable "java/lang/String" (4 : Nat)) ∈ lw_all := lw_g (lw_at lw_m2 76 rfl) rfl
theorem q402 : (Jvm.Cond.instanceMethod ({ cls := "java/lang/String", name := "<init>", desc := "(Ljava/lang/StringBuilder;)V" } : Jvm.MethodName)) ∈ lw_all := lw_g (lw_at lw_m2 78 rfl) rfl
theorem q403 : (Jvm.Cond.code ({ cls := "java/lang/String", name := "<init>", desc := "(Ljava/lang/StringBuilder;)V" } : Jvm.MethodName) prog_30_method_53_code (2 : Nat) (Option.none : Option Jvm.ClassFile.FieldType)) ∈ lw_all := lw_g (lw_at lw_m2 79 rfl) rfl
theorem q404 : (Jvm.Cond.methodLink "java/lang/String" (489 : Nat) ({ cls := "java/lang/String", name := "<init>", desc := "(Ljava/lang/AbstractStringBuilder;Ljava/lang/Void;)V" } : Jvm.MethodName)) ∈ lw_all := lw_g (lw_at lw_m2 80 rfl) rfl
theorem q405 : (Jvm.Cond.instanceMethod ({ cls := "java/lang/String", name := "<init>", desc := "(Ljava/lang/AbstractStringBuilder;Ljava/lang/Void;)V" } : Jvm.MethodName)) ∈ lw_all := lw_g (lw_at lw_m2 81 rfl) rfl
theorem q406 : (Jvm.Cond.code ({ cls := "java/lang/String", name := "<init>", desc := "(Ljava/lang/AbstractStringBuilder;Ljava/lang/Void;)V" } : Jvm.MethodName) prog_30_method_150_code (5 : Nat) (Option.none : Option Jvm.ClassFile.FieldType)) ∈ lw_all := lw_g (lw_at lw_m2 82 rfl) rfl
theorem q407 : (Jvm.Cond.methodLink "java/lang/String" (1 : Nat) ({ cls := "java/lang/Object", name := "<init>", desc := "()V" } : Jvm.MethodName)) ∈ lw_all := lw_g (lw_at lw_m2 83 rfl) rfl
theorem q408 : (Jvm.Cond.methodLink "java/lang/String" (552 : Nat) ({ cls := "java/lang/AbstractStringBuilder", name := "getValue", desc := "()[B" } : Jvm.MethodName)) ∈ lw_all := lw_g (lw_at lw_m2 84 rfl) rfl
theorem q413 : (Jvm.Cond.methodLink "java/lang/String" (549 : Nat) ({ cls := "java/lang/AbstractStringBuilder", name := "length", desc := "()I" } : Jvm.MethodName)) ∈ lw_all := lw_g (lw_at lw_m2 89 rfl) rfl
theorem q414 : (Jvm.Cond.methodLink "java/lang/String" (1047 : Nat) ({ cls := "java/lang/AbstractStringBuilder", name := "isLatin1", desc := "()Z" } : Jvm.MethodName)) ∈ lw_all := lw_g (lw_at lw_m2 90 rfl) rfl
theorem q415 : (Jvm.Cond.methodLink "java/lang/String" (54 : Nat) ({ cls := "java/util/Arrays", name := "copyOfRange", desc := "([BII)[B" } : Jvm.MethodName)) ∈ lw_all := lw_g (lw_at lw_m2 91 rfl) rfl
theorem q498 : (Jvm.Cond.methodLink "java/lang/String" (1051 : Nat) ({ cls := "java/lang/StringUTF16", name := "compress", desc := "([BII)[B" } : Jvm.MethodName)) ∈ lw_all := lw_g (lw_at lw_m2 174 rfl) rfl
theorem q508 : (Jvm.Cond.methodLink "java/lang/String" (47 : Nat) ({ cls := "java/lang/StringUTF16", name := "coderFromArrayLen", desc := "([BI)B" } : Jvm.MethodName)) ∈ lw_all := lw_g (lw_at lw_m2 184 rfl) rfl
theorem q511 : (Jvm.Cond.fieldLink "java/lang/String" (9 : Nat) "java/lang/String" "value" "[B") ∈ lw_all := lw_g (lw_at lw_m2 187 rfl) rfl
theorem q512 : (Jvm.Cond.fieldLink "java/lang/String" (15 : Nat) "java/lang/String" "coder" "B") ∈ lw_all := lw_g (lw_at lw_m2 188 rfl) rfl
theorem q513 : (Jvm.Cond.laysFinal "java/lang/String" "java/lang/String" "value" "[B") ∈ lw_all := lw_g (lw_at lw_m2 189 rfl) rfl
theorem q514 : (Jvm.Cond.soleField "java/lang/String" "value") ∈ lw_all := lw_g (lw_at lw_m2 190 rfl) rfl
theorem q515 : (Jvm.Cond.laysFinal "java/lang/String" "java/lang/String" "coder" "B") ∈ lw_all := lw_g (lw_at lw_m2 191 rfl) rfl
theorem q516 : (Jvm.Cond.soleField "java/lang/String" "coder") ∈ lw_all := lw_g (lw_at lw_m2 192 rfl) rfl
theorem q517 : (Jvm.Cond.lays "java/lang/String" "java/lang/String" "hash" "I") ∈ lw_all := lw_g (lw_at lw_m2 193 rfl) rfl
theorem q518 : (Jvm.Cond.soleField "java/lang/String" "hash") ∈ lw_all := lw_g (lw_at lw_m2 194 rfl) rfl
theorem q519 : (Jvm.Cond.lays "java/lang/String" "java/lang/String" "hashIsZero" "Z") ∈ lw_all := lw_g (lw_at lw_m2 195 rfl) rfl
theorem q520 : (Jvm.Cond.soleField "java/lang/String" "hashIsZero") ∈ lw_all := lw_g (lw_at lw_m2 196 rfl) rfl
theorem q521 : (Jvm.Cond.superclass "java/lang/String" "java/lang/Object") ∈ lw_all := lw_g (lw_at lw_m2 197 rfl) rfl
theorem q629 : (Jvm.Cond.static ({ cls := "java/lang/String", name := "checkIndex", desc := "(II)V" } : Jvm.MethodName)) ∈ lw_all := lw_g (lw_at lw_m3 65 rfl) rfl
theorem q630 : (Jvm.Cond.code ({ cls := "java/lang/String", name := "checkIndex", desc := "(II)V" } : Jvm.MethodName) prog_30_method_155_code (2 : Nat) (Option.none : Option Jvm.ClassFile.FieldType)) ∈ lw_all := lw_g (lw_at lw_m3 66 rfl) rfl
theorem q631 : (Jvm.Cond.methodLink "java/lang/String" (1059 : Nat) ({ cls := "jdk/internal/util/Preconditions", name := "checkIndex", desc := "(IILjava/util/function/BiFunction;)I" } : Jvm.MethodName)) ∈ lw_all := lw_g (lw_at lw_m3 67 rfl) rfl
theorem q911 : (Jvm.Cond.selects "java/lang/String" ({ cls := "java/lang/Object", name := "getClass", desc := "()Ljava/lang/Class;" } : Jvm.MethodName) ({ cls := "java/lang/Object", name := "getClass", desc := "()Ljava/lang/Class;" } : Jvm.MethodName)) ∈ lw_all := lw_g (lw_at lw_m4 107 rfl) rfl
theorem q1000 : (Jvm.Cond.castable "java/lang/String" "java/lang/Comparable") ∈ lw_tbl := lw_at lw_m4 196 rfl
theorem q1001 : (Jvm.Cond.selects "java/lang/String" ({ cls := "java/lang/Comparable", name := "compareTo", desc := "(Ljava/lang/Object;)I" } : Jvm.MethodName) ({ cls := "java/lang/String", name := "compareTo", desc := "(Ljava/lang/Object;)I" } : Jvm.MethodName)) ∈ lw_all := lw_g (lw_at lw_m4 197 rfl) rfl
theorem q1002 : (Jvm.Cond.unhidden "java/lang/String" "compareTo" "(Ljava/lang/Object;)I") ∈ lw_tbl := lw_at lw_m4 198 rfl
theorem q1003 : (Jvm.Cond.instanceMethod ({ cls := "java/lang/String", name := "compareTo", desc := "(Ljava/lang/Object;)I" } : Jvm.MethodName)) ∈ lw_all := lw_g (lw_at lw_m4 199 rfl) rfl
theorem q1004 : (Jvm.Cond.publicMethod ({ cls := "java/lang/String", name := "compareTo", desc := "(Ljava/lang/Object;)I" } : Jvm.MethodName)) ∈ lw_tbl := lw_at lw_m4 200 rfl
theorem q1005 : (Jvm.Cond.code ({ cls := "java/lang/String", name := "compareTo", desc := "(Ljava/lang/Object;)I" } : Jvm.MethodName) prog_30_method_162_code (2 : Nat) (Option.some Jvm.ClassFile.FieldType.int)) ∈ lw_all := lw_g (lw_at lw_m4 201 rfl) rfl
theorem q1006 : (Jvm.Cond.classLink "java/lang/String" (10 : Nat) "java/lang/String") ∈ lw_all := lw_g (lw_at lw_m4 202 rfl) rfl
theorem q1007 : (Jvm.Cond.methodLink "java/lang/String" (1084 : Nat) ({ cls := "java/lang/String", name := "compareTo", desc := "(Ljava/lang/String;)I" } : Jvm.MethodName)) ∈ lw_all := lw_g (lw_at lw_m4 203 rfl) rfl
theorem q1008 : (Jvm.Cond.instanceMethod ({ cls := "java/lang/String", name := "compareTo", desc := "(Ljava/lang/String;)I" } : Jvm.MethodName)) ∈ lw_all := lw_g (lw_at lw_m4 204 rfl) rfl
theorem q1009 : (Jvm.Cond.selects "java/lang/String" ({ cls := "java/lang/String", name := "compareTo", desc := "(Ljava/lang/String;)I" } : Jvm.MethodName) ({ cls := "java/lang/String", name := "compareTo", desc := "(Ljava/lang/String;)I" } : Jvm.MethodName)) ∈ lw_all := lw_g (lw_at lw_m4 205 rfl) rfl
theorem q1010 : (Jvm.Cond.code ({ cls := "java/lang/String", name := "compareTo", desc := "(Ljava/lang/String;)I" } : Jvm.MethodName) prog_30_method_71_code (5 : Nat) (Option.some Jvm.ClassFile.FieldType.int)) ∈ lw_all := lw_g (lw_at lw_m4 206 rfl) rfl
theorem q1011 : (Jvm.Cond.methodLink "java/lang/String" (586 : Nat) ({ cls := "java/lang/StringLatin1", name := "compareTo", desc := "([B[B)I" } : Jvm.MethodName)) ∈ lw_all := lw_g (lw_at lw_m4 207 rfl) rfl
theorem q1122 : (Jvm.Cond.methodLink "java/lang/String" (590 : Nat) ({ cls := "java/lang/StringUTF16", name := "compareTo", desc := "([B[B)I" } : Jvm.MethodName)) ∈ lw_all := lw_g (lw_at lw_m5 78 rfl) rfl
theorem q1129 : (Jvm.Cond.methodLink "java/lang/String" (591 : Nat) ({ cls := "java/lang/StringLatin1", name := "compareToUTF16", desc := "([B[B)I" } : Jvm.MethodName)) ∈ lw_all := lw_g (lw_at lw_m5 85 rfl) rfl
theorem q1140 : (Jvm.Cond.methodLink "java/lang/String" (594 : Nat) ({ cls := "java/lang/StringUTF16", name := "compareToLatin1", desc := "([B[B)I" } : Jvm.MethodName)) ∈ lw_all := lw_g (lw_at lw_m5 96 rfl) rfl
theorem q1166 : (Jvm.Cond.static ({ cls := "java/lang/String", name := "checkOffset", desc := "(II)V" } : Jvm.MethodName)) ∈ lw_all := lw_g (lw_at lw_m5 122 rfl) rfl
theorem q1167 : (Jvm.Cond.code ({ cls := "java/lang/String", name := "checkOffset", desc := "(II)V" } : Jvm.MethodName) prog_30_method_156_code (2 : Nat) (Option.none : Option Jvm.ClassFile.FieldType)) ∈ lw_all := lw_g (lw_at lw_m5 123 rfl) rfl
theorem q2288 : (Jvm.Cond.castable "java/lang/String" "java/lang/Object") ∈ lw_tbl := lw_at lw_m10 44 rfl
theorem in_J2 : ∀ w ∈ wsJ20, w ∈ lw_all := lw_in wsJ20 [513, 515, 517, 519] (by decide +kernel) (by decide +kernel)
/-! java/util/TreeMap -/
set_option maxRecDepth 100000
def RJ20 : String := "java/util/TreeMap"
def TJ20 : u_T := fun k => match k with
  | 0 => ("java/util/AbstractMap", "keySet", "Ljava/util/Set;", false)
  | 1 => ("java/util/AbstractMap", "values", "Ljava/util/Collection;", false)
  | 2 => ("java/util/TreeMap", "comparator", "Ljava/util/Comparator;", true)
  | 3 => ("java/util/TreeMap", "root", "Ljava/util/TreeMap$Entry;", false)
  | 4 => ("java/util/TreeMap", "size", "I", false)
  | 5 => ("java/util/TreeMap", "modCount", "I", false)
  | 6 => ("java/util/TreeMap", "entrySet", "Ljava/util/TreeMap$EntrySet;", false)
  | 7 => ("java/util/TreeMap", "navigableKeySet", "Ljava/util/TreeMap$KeySet;", false)
  | _ => ("java/util/TreeMap", "descendingMap", "Ljava/util/NavigableMap;", false)
def tyJ20 : Nat → FieldType := fun k => match k with
  | 0 => .object "java/util/Set"
  | 1 => .object "java/util/Collection"
  | 2 => .object "java/util/Comparator"
  | 3 => .object "java/util/TreeMap$Entry"
  | 4 => .int
  | 5 => .int
  | 6 => .object "java/util/TreeMap$EntrySet"
  | 7 => .object "java/util/TreeMap$KeySet"
  | _ => .object "java/util/NavigableMap"
abbrev wsJ200 : List Cond := u_ws RJ20 TJ20 9
theorem nmJ20 : ∀ a, a < 9 → ∀ b, b < 9 → a ≠ b → (TJ20 a).2.1 ≠ (TJ20 b).2.1 := by decide +kernel
theorem tyJ20_ok : ∀ k, k < 9 → parseFieldDescriptor (TJ20 k).2.2.1 = some (tyJ20 k) := by decide +kernel
abbrev cJ20_init : ByteArray := prog_61_method_1_code
def yJ20_init : MethodName := ⟨RJ20, "<init>", "()V"⟩
def dkwJ20_init_0 : List UInt8 := [42, 183, 0, 1, 42, 3, 181, 0, 7, 42, 3, 181, 0, 13, 42, 1, 181, 0, 16, 177]
abbrev dktJ20_init_0 : List UInt8 := dkwJ20_init_0 ++ []
theorem dksJ20_init_0 : cJ20_init.data.toList.drop 0 = dktJ20_init_0 := by decide +kernel
theorem dJ20_init_0 : decode cJ20_init 0 = .ok (.aload_n 0, 1) := dk_42 (dk_at dksJ20_init_0 0 rfl rfl)
theorem dJ20_init_1 : decode cJ20_init 1 = .ok (.invokespecial 1, 3) := dk_183 0 1 (dk_at dksJ20_init_0 1 rfl rfl)
theorem dJ20_init_4 : decode cJ20_init 4 = .ok (.aload_n 0, 1) := dk_42 (dk_at dksJ20_init_0 4 rfl rfl)
theorem dJ20_init_5 : decode cJ20_init 5 = .ok (.iconst 0, 1) := dk_3 (dk_at dksJ20_init_0 5 rfl rfl)
theorem dJ20_init_6 : decode cJ20_init 6 = .ok (.putfield 7, 3) := dk_181 0 7 (dk_at dksJ20_init_0 6 rfl rfl)
theorem dJ20_init_9 : decode cJ20_init 9 = .ok (.aload_n 0, 1) := dk_42 (dk_at dksJ20_init_0 9 rfl rfl)
theorem dJ20_init_10 : decode cJ20_init 10 = .ok (.iconst 0, 1) := dk_3 (dk_at dksJ20_init_0 10 rfl rfl)
theorem dJ20_init_11 : decode cJ20_init 11 = .ok (.putfield 13, 3) := dk_181 0 13 (dk_at dksJ20_init_0 11 rfl rfl)
theorem dJ20_init_14 : decode cJ20_init 14 = .ok (.aload_n 0, 1) := dk_42 (dk_at dksJ20_init_0 14 rfl rfl)
theorem dJ20_init_15 : decode cJ20_init 15 = .ok (.aconst_null, 1) := dk_1 (dk_at dksJ20_init_0 15 rfl rfl)
theorem dJ20_init_16 : decode cJ20_init 16 = .ok (.putfield 16, 3) := dk_181 0 16 (dk_at dksJ20_init_0 16 rfl rfl)
theorem dJ20_init_19 : decode cJ20_init 19 = .ok (.return_, 1) := dk_177 (dk_at dksJ20_init_0 19 rfl rfl)
abbrev cJ20_put : ByteArray := prog_61_method_21_code
def yJ20_put : MethodName := ⟨RJ20, "put", "(Ljava/lang/Object;Ljava/lang/Object;)Ljava/lang/Object;"⟩
def dkwJ20_put_0 : List UInt8 := [42, 43, 44, 4, 182, 0, 127, 176]
abbrev dktJ20_put_0 : List UInt8 := dkwJ20_put_0 ++ []
theorem dksJ20_put_0 : cJ20_put.data.toList.drop 0 = dktJ20_put_0 := by decide +kernel
theorem dJ20_put_0 : decode cJ20_put 0 = .ok (.aload_n 0, 1) := dk_42 (dk_at dksJ20_put_0 0 rfl rfl)
theorem dJ20_put_1 : decode cJ20_put 1 = .ok (.aload_n 1, 1) := dk_43 (dk_at dksJ20_put_0 1 rfl rfl)
theorem dJ20_put_2 : decode cJ20_put 2 = .ok (.aload_n 2, 1) := dk_44 (dk_at dksJ20_put_0 2 rfl rfl)
theorem dJ20_put_3 : decode cJ20_put 3 = .ok (.iconst 1, 1) := dk_4 (dk_at dksJ20_put_0 3 rfl rfl)
theorem dJ20_put_4 : decode cJ20_put 4 = .ok (.invokevirtual 127, 3) := dk_182 0 127 (dk_at dksJ20_put_0 4 rfl rfl)
theorem dJ20_put_7 : decode cJ20_put 7 = .ok (.areturn, 1) := dk_176 (dk_at dksJ20_put_0 7 rfl rfl)
abbrev cJ20_put_2 : ByteArray := prog_61_method_31_code
def yJ20_put_2 : MethodName := ⟨RJ20, "put", "(Ljava/lang/Object;Ljava/lang/Object;Z)Ljava/lang/Object;"⟩
def dkwJ20_put_2_9 : List UInt8 := [4, 167, 0, 4, 3, 182, 0, 139, 1, 176]
abbrev dktJ20_put_2_9 : List UInt8 := dkwJ20_put_2_9 ++ []
def dkwJ20_put_2_8 : List UInt8 := [25, 4, 44, 181, 0, 58, 25, 9, 176, 25, 4, 199, 255, 181, 42, 43, 44, 25, 6, 21, 5, 156, 0, 7]
abbrev dktJ20_put_2_8 : List UInt8 := dkwJ20_put_2_8 ++ dktJ20_put_2_9
def dkwJ20_put_2_7 : List UInt8 := [180, 0, 114, 58, 4, 167, 0, 28, 25, 4, 180, 0, 58, 58, 9, 29, 154, 0, 8, 25, 9, 199, 0, 9]
abbrev dktJ20_put_2_7 : List UInt8 := dkwJ20_put_2_7 ++ dktJ20_put_2_8
def dkwJ20_put_2_6 : List UInt8 := [21, 5, 156, 0, 13, 25, 4, 180, 0, 111, 58, 4, 167, 0, 43, 21, 5, 158, 0, 13, 25, 4]
abbrev dktJ20_put_2_6 : List UInt8 := dkwJ20_put_2_6 ++ dktJ20_put_2_7
def dkwJ20_put_2_5 : List UInt8 := [192, 0, 99, 58, 8, 25, 4, 58, 6, 25, 8, 25, 4, 180, 0, 105, 185, 0, 107, 2, 0, 54, 5]
abbrev dktJ20_put_2_5 : List UInt8 := dkwJ20_put_2_5 ++ dktJ20_put_2_6
def dkwJ20_put_2_4 : List UInt8 := [25, 4, 44, 181, 0, 58, 25, 8, 176, 25, 4, 199, 255, 180, 167, 0, 92, 43, 184, 0, 95, 87, 43]
abbrev dktJ20_put_2_4 : List UInt8 := dkwJ20_put_2_4 ++ dktJ20_put_2_5
def dkwJ20_put_2_3 : List UInt8 := [180, 0, 114, 58, 4, 167, 0, 28, 25, 4, 180, 0, 58, 58, 8, 29, 154, 0, 8, 25, 8, 199, 0, 9]
abbrev dktJ20_put_2_3 : List UInt8 := dkwJ20_put_2_3 ++ dktJ20_put_2_4
def dkwJ20_put_2_2 : List UInt8 := [54, 5, 21, 5, 156, 0, 13, 25, 4, 180, 0, 111, 58, 4, 167, 0, 43, 21, 5, 158, 0, 13, 25, 4]
abbrev dktJ20_put_2_2 : List UInt8 := dkwJ20_put_2_2 ++ dktJ20_put_2_3
def dkwJ20_put_2_1 : List UInt8 := [58, 7, 25, 7, 198, 0, 85, 25, 4, 58, 6, 25, 7, 43, 25, 4, 180, 0, 105, 185, 0, 117, 3, 0]
abbrev dktJ20_put_2_1 : List UInt8 := dkwJ20_put_2_1 ++ dktJ20_put_2_2
def dkwJ20_put_2_0 : List UInt8 := [42, 180, 0, 101, 58, 4, 25, 4, 199, 0, 11, 42, 43, 44, 182, 0, 135, 1, 176, 42, 180, 0, 16]
abbrev dktJ20_put_2_0 : List UInt8 := dkwJ20_put_2_0 ++ dktJ20_put_2_1
theorem dksJ20_put_2_0 : cJ20_put_2.data.toList.drop 0 = dktJ20_put_2_0 := by decide +kernel
theorem dksJ20_put_2_1 : cJ20_put_2.data.toList.drop 23 = dktJ20_put_2_1 := dk_seg dksJ20_put_2_0 23 rfl rfl
theorem dksJ20_put_2_2 : cJ20_put_2.data.toList.drop 47 = dktJ20_put_2_2 := dk_seg dksJ20_put_2_1 24 rfl rfl
theorem dksJ20_put_2_3 : cJ20_put_2.data.toList.drop 71 = dktJ20_put_2_3 := dk_seg dksJ20_put_2_2 24 rfl rfl
theorem dksJ20_put_2_4 : cJ20_put_2.data.toList.drop 95 = dktJ20_put_2_4 := dk_seg dksJ20_put_2_3 24 rfl rfl
theorem dksJ20_put_2_5 : cJ20_put_2.data.toList.drop 118 = dktJ20_put_2_5 := dk_seg dksJ20_put_2_4 23 rfl rfl
theorem dksJ20_put_2_6 : cJ20_put_2.data.toList.drop 141 = dktJ20_put_2_6 := dk_seg dksJ20_put_2_5 23 rfl rfl
theorem dksJ20_put_2_7 : cJ20_put_2.data.toList.drop 163 = dktJ20_put_2_7 := dk_seg dksJ20_put_2_6 22 rfl rfl
theorem dksJ20_put_2_8 : cJ20_put_2.data.toList.drop 187 = dktJ20_put_2_8 := dk_seg dksJ20_put_2_7 24 rfl rfl
theorem dksJ20_put_2_9 : cJ20_put_2.data.toList.drop 211 = dktJ20_put_2_9 := dk_seg dksJ20_put_2_8 24 rfl rfl
theorem dJ20_put_2_0 : decode cJ20_put_2 0 = .ok (.aload_n 0, 1) := dk_42 (dk_at dksJ20_put_2_0 0 rfl rfl)
theorem dJ20_put_2_1 : decode cJ20_put_2 1 = .ok (.getfield 101, 3) := dk_180 0 101 (dk_at dksJ20_put_2_0 1 rfl rfl)
theorem dJ20_put_2_4 : decode cJ20_put_2 4 = .ok (.astore 4, 2) := dk_58 4 (dk_at dksJ20_put_2_0 4 rfl rfl)
theorem dJ20_put_2_6 : decode cJ20_put_2 6 = .ok (.aload 4, 2) := dk_25 4 (dk_at dksJ20_put_2_0 6 rfl rfl)
theorem dJ20_put_2_8 : decode cJ20_put_2 8 = .ok (.ifnonnull 11, 3) := dk_199 0 11 (dk_at dksJ20_put_2_0 8 rfl rfl)
theorem dJ20_put_2_11 : decode cJ20_put_2 11 = .ok (.aload_n 0, 1) := dk_42 (dk_at dksJ20_put_2_0 11 rfl rfl)
theorem dJ20_put_2_12 : decode cJ20_put_2 12 = .ok (.aload_n 1, 1) := dk_43 (dk_at dksJ20_put_2_0 12 rfl rfl)
theorem dJ20_put_2_13 : decode cJ20_put_2 13 = .ok (.aload_n 2, 1) := dk_44 (dk_at dksJ20_put_2_0 13 rfl rfl)
theorem dJ20_put_2_14 : decode cJ20_put_2 14 = .ok (.invokevirtual 135, 3) := dk_182 0 135 (dk_at dksJ20_put_2_0 14 rfl rfl)
theorem dJ20_put_2_17 : decode cJ20_put_2 17 = .ok (.aconst_null, 1) := dk_1 (dk_at dksJ20_put_2_0 17 rfl rfl)
theorem dJ20_put_2_18 : decode cJ20_put_2 18 = .ok (.areturn, 1) := dk_176 (dk_at dksJ20_put_2_0 18 rfl rfl)
theorem dJ20_put_2_19 : decode cJ20_put_2 19 = .ok (.aload_n 0, 1) := dk_42 (dk_at dksJ20_put_2_0 19 rfl rfl)
theorem dJ20_put_2_20 : decode cJ20_put_2 20 = .ok (.getfield 16, 3) := dk_180 0 16 (dk_at dksJ20_put_2_0 20 rfl rfl)
theorem dJ20_put_2_23 : decode cJ20_put_2 23 = .ok (.astore 7, 2) := dk_58 7 (dk_at dksJ20_put_2_1 0 rfl rfl)
theorem dJ20_put_2_25 : decode cJ20_put_2 25 = .ok (.aload 7, 2) := dk_25 7 (dk_at dksJ20_put_2_1 2 rfl rfl)
theorem dJ20_put_2_27 : decode cJ20_put_2 27 = .ok (.ifnull 85, 3) := dk_198 0 85 (dk_at dksJ20_put_2_1 4 rfl rfl)
theorem dJ20_put_2_30 : decode cJ20_put_2 30 = .ok (.aload 4, 2) := dk_25 4 (dk_at dksJ20_put_2_1 7 rfl rfl)
theorem dJ20_put_2_32 : decode cJ20_put_2 32 = .ok (.astore 6, 2) := dk_58 6 (dk_at dksJ20_put_2_1 9 rfl rfl)
theorem dJ20_put_2_34 : decode cJ20_put_2 34 = .ok (.aload 7, 2) := dk_25 7 (dk_at dksJ20_put_2_1 11 rfl rfl)
theorem dJ20_put_2_36 : decode cJ20_put_2 36 = .ok (.aload_n 1, 1) := dk_43 (dk_at dksJ20_put_2_1 13 rfl rfl)
theorem dJ20_put_2_37 : decode cJ20_put_2 37 = .ok (.aload 4, 2) := dk_25 4 (dk_at dksJ20_put_2_1 14 rfl rfl)
theorem dJ20_put_2_39 : decode cJ20_put_2 39 = .ok (.getfield 105, 3) := dk_180 0 105 (dk_at dksJ20_put_2_1 16 rfl rfl)
theorem dJ20_put_2_42 : decode cJ20_put_2 42 = .ok (.invokeinterface 117 3, 5) := by decide +kernel
theorem dJ20_put_2_47 : decode cJ20_put_2 47 = .ok (.istore 5, 2) := dk_54 5 (dk_at dksJ20_put_2_2 0 rfl rfl)
theorem dJ20_put_2_49 : decode cJ20_put_2 49 = .ok (.iload 5, 2) := dk_21 5 (dk_at dksJ20_put_2_2 2 rfl rfl)
theorem dJ20_put_2_51 : decode cJ20_put_2 51 = .ok (.ifCond .ge 13, 3) := dk_156 0 13 (dk_at dksJ20_put_2_2 4 rfl rfl)
theorem dJ20_put_2_54 : decode cJ20_put_2 54 = .ok (.aload 4, 2) := dk_25 4 (dk_at dksJ20_put_2_2 7 rfl rfl)
theorem dJ20_put_2_56 : decode cJ20_put_2 56 = .ok (.getfield 111, 3) := dk_180 0 111 (dk_at dksJ20_put_2_2 9 rfl rfl)
theorem dJ20_put_2_59 : decode cJ20_put_2 59 = .ok (.astore 4, 2) := dk_58 4 (dk_at dksJ20_put_2_2 12 rfl rfl)
theorem dJ20_put_2_61 : decode cJ20_put_2 61 = .ok (.goto 43, 3) := dk_167 0 43 (dk_at dksJ20_put_2_2 14 rfl rfl)
theorem dJ20_put_2_64 : decode cJ20_put_2 64 = .ok (.iload 5, 2) := dk_21 5 (dk_at dksJ20_put_2_2 17 rfl rfl)
theorem dJ20_put_2_66 : decode cJ20_put_2 66 = .ok (.ifCond .le 13, 3) := dk_158 0 13 (dk_at dksJ20_put_2_2 19 rfl rfl)
theorem dJ20_put_2_69 : decode cJ20_put_2 69 = .ok (.aload 4, 2) := dk_25 4 (dk_at dksJ20_put_2_2 22 rfl rfl)
theorem dJ20_put_2_71 : decode cJ20_put_2 71 = .ok (.getfield 114, 3) := dk_180 0 114 (dk_at dksJ20_put_2_3 0 rfl rfl)
theorem dJ20_put_2_74 : decode cJ20_put_2 74 = .ok (.astore 4, 2) := dk_58 4 (dk_at dksJ20_put_2_3 3 rfl rfl)
theorem dJ20_put_2_76 : decode cJ20_put_2 76 = .ok (.goto 28, 3) := dk_167 0 28 (dk_at dksJ20_put_2_3 5 rfl rfl)
theorem dJ20_put_2_79 : decode cJ20_put_2 79 = .ok (.aload 4, 2) := dk_25 4 (dk_at dksJ20_put_2_3 8 rfl rfl)
theorem dJ20_put_2_81 : decode cJ20_put_2 81 = .ok (.getfield 58, 3) := dk_180 0 58 (dk_at dksJ20_put_2_3 10 rfl rfl)
theorem dJ20_put_2_84 : decode cJ20_put_2 84 = .ok (.astore 8, 2) := dk_58 8 (dk_at dksJ20_put_2_3 13 rfl rfl)
theorem dJ20_put_2_86 : decode cJ20_put_2 86 = .ok (.iload_n 3, 1) := dk_29 (dk_at dksJ20_put_2_3 15 rfl rfl)
theorem dJ20_put_2_87 : decode cJ20_put_2 87 = .ok (.ifCond .ne 8, 3) := dk_154 0 8 (dk_at dksJ20_put_2_3 16 rfl rfl)
theorem dJ20_put_2_90 : decode cJ20_put_2 90 = .ok (.aload 8, 2) := dk_25 8 (dk_at dksJ20_put_2_3 19 rfl rfl)
theorem dJ20_put_2_92 : decode cJ20_put_2 92 = .ok (.ifnonnull 9, 3) := dk_199 0 9 (dk_at dksJ20_put_2_3 21 rfl rfl)
theorem dJ20_put_2_95 : decode cJ20_put_2 95 = .ok (.aload 4, 2) := dk_25 4 (dk_at dksJ20_put_2_4 0 rfl rfl)
theorem dJ20_put_2_97 : decode cJ20_put_2 97 = .ok (.aload_n 2, 1) := dk_44 (dk_at dksJ20_put_2_4 2 rfl rfl)
theorem dJ20_put_2_98 : decode cJ20_put_2 98 = .ok (.putfield 58, 3) := dk_181 0 58 (dk_at dksJ20_put_2_4 3 rfl rfl)
theorem dJ20_put_2_101 : decode cJ20_put_2 101 = .ok (.aload 8, 2) := dk_25 8 (dk_at dksJ20_put_2_4 6 rfl rfl)
theorem dJ20_put_2_103 : decode cJ20_put_2 103 = .ok (.areturn, 1) := dk_176 (dk_at dksJ20_put_2_4 8 rfl rfl)
theorem dJ20_put_2_104 : decode cJ20_put_2 104 = .ok (.aload 4, 2) := dk_25 4 (dk_at dksJ20_put_2_4 9 rfl rfl)
theorem dJ20_put_2_106 : decode cJ20_put_2 106 = .ok (.ifnonnull (-76), 3) := dk_199 255 180 (dk_at dksJ20_put_2_4 11 rfl rfl)
theorem dJ20_put_2_109 : decode cJ20_put_2 109 = .ok (.goto 92, 3) := dk_167 0 92 (dk_at dksJ20_put_2_4 14 rfl rfl)
theorem dJ20_put_2_112 : decode cJ20_put_2 112 = .ok (.aload_n 1, 1) := dk_43 (dk_at dksJ20_put_2_4 17 rfl rfl)
theorem dJ20_put_2_113 : decode cJ20_put_2 113 = .ok (.invokestatic 95, 3) := dk_184 0 95 (dk_at dksJ20_put_2_4 18 rfl rfl)
theorem dJ20_put_2_116 : decode cJ20_put_2 116 = .ok (.pop, 1) := dk_87 (dk_at dksJ20_put_2_4 21 rfl rfl)
theorem dJ20_put_2_117 : decode cJ20_put_2 117 = .ok (.aload_n 1, 1) := dk_43 (dk_at dksJ20_put_2_4 22 rfl rfl)
theorem dJ20_put_2_118 : decode cJ20_put_2 118 = .ok (.checkcast 99, 3) := dk_192 0 99 (dk_at dksJ20_put_2_5 0 rfl rfl)
theorem dJ20_put_2_121 : decode cJ20_put_2 121 = .ok (.astore 8, 2) := dk_58 8 (dk_at dksJ20_put_2_5 3 rfl rfl)
theorem dJ20_put_2_123 : decode cJ20_put_2 123 = .ok (.aload 4, 2) := dk_25 4 (dk_at dksJ20_put_2_5 5 rfl rfl)
theorem dJ20_put_2_125 : decode cJ20_put_2 125 = .ok (.astore 6, 2) := dk_58 6 (dk_at dksJ20_put_2_5 7 rfl rfl)
theorem dJ20_put_2_127 : decode cJ20_put_2 127 = .ok (.aload 8, 2) := dk_25 8 (dk_at dksJ20_put_2_5 9 rfl rfl)
theorem dJ20_put_2_129 : decode cJ20_put_2 129 = .ok (.aload 4, 2) := dk_25 4 (dk_at dksJ20_put_2_5 11 rfl rfl)
theorem dJ20_put_2_131 : decode cJ20_put_2 131 = .ok (.getfield 105, 3) := dk_180 0 105 (dk_at dksJ20_put_2_5 13 rfl rfl)
theorem dJ20_put_2_134 : decode cJ20_put_2 134 = .ok (.invokeinterface 107 2, 5) := by decide +kernel
theorem dJ20_put_2_139 : decode cJ20_put_2 139 = .ok (.istore 5, 2) := dk_54 5 (dk_at dksJ20_put_2_5 21 rfl rfl)
theorem dJ20_put_2_141 : decode cJ20_put_2 141 = .ok (.iload 5, 2) := dk_21 5 (dk_at dksJ20_put_2_6 0 rfl rfl)
theorem dJ20_put_2_143 : decode cJ20_put_2 143 = .ok (.ifCond .ge 13, 3) := dk_156 0 13 (dk_at dksJ20_put_2_6 2 rfl rfl)
theorem dJ20_put_2_146 : decode cJ20_put_2 146 = .ok (.aload 4, 2) := dk_25 4 (dk_at dksJ20_put_2_6 5 rfl rfl)
theorem dJ20_put_2_148 : decode cJ20_put_2 148 = .ok (.getfield 111, 3) := dk_180 0 111 (dk_at dksJ20_put_2_6 7 rfl rfl)
theorem dJ20_put_2_151 : decode cJ20_put_2 151 = .ok (.astore 4, 2) := dk_58 4 (dk_at dksJ20_put_2_6 10 rfl rfl)
theorem dJ20_put_2_153 : decode cJ20_put_2 153 = .ok (.goto 43, 3) := dk_167 0 43 (dk_at dksJ20_put_2_6 12 rfl rfl)
theorem dJ20_put_2_156 : decode cJ20_put_2 156 = .ok (.iload 5, 2) := dk_21 5 (dk_at dksJ20_put_2_6 15 rfl rfl)
theorem dJ20_put_2_158 : decode cJ20_put_2 158 = .ok (.ifCond .le 13, 3) := dk_158 0 13 (dk_at dksJ20_put_2_6 17 rfl rfl)
theorem dJ20_put_2_161 : decode cJ20_put_2 161 = .ok (.aload 4, 2) := dk_25 4 (dk_at dksJ20_put_2_6 20 rfl rfl)
theorem dJ20_put_2_163 : decode cJ20_put_2 163 = .ok (.getfield 114, 3) := dk_180 0 114 (dk_at dksJ20_put_2_7 0 rfl rfl)
theorem dJ20_put_2_166 : decode cJ20_put_2 166 = .ok (.astore 4, 2) := dk_58 4 (dk_at dksJ20_put_2_7 3 rfl rfl)
theorem dJ20_put_2_168 : decode cJ20_put_2 168 = .ok (.goto 28, 3) := dk_167 0 28 (dk_at dksJ20_put_2_7 5 rfl rfl)
theorem dJ20_put_2_171 : decode cJ20_put_2 171 = .ok (.aload 4, 2) := dk_25 4 (dk_at dksJ20_put_2_7 8 rfl rfl)
theorem dJ20_put_2_173 : decode cJ20_put_2 173 = .ok (.getfield 58, 3) := dk_180 0 58 (dk_at dksJ20_put_2_7 10 rfl rfl)
theorem dJ20_put_2_176 : decode cJ20_put_2 176 = .ok (.astore 9, 2) := dk_58 9 (dk_at dksJ20_put_2_7 13 rfl rfl)
theorem dJ20_put_2_178 : decode cJ20_put_2 178 = .ok (.iload_n 3, 1) := dk_29 (dk_at dksJ20_put_2_7 15 rfl rfl)
theorem dJ20_put_2_179 : decode cJ20_put_2 179 = .ok (.ifCond .ne 8, 3) := dk_154 0 8 (dk_at dksJ20_put_2_7 16 rfl rfl)
theorem dJ20_put_2_182 : decode cJ20_put_2 182 = .ok (.aload 9, 2) := dk_25 9 (dk_at dksJ20_put_2_7 19 rfl rfl)
theorem dJ20_put_2_184 : decode cJ20_put_2 184 = .ok (.ifnonnull 9, 3) := dk_199 0 9 (dk_at dksJ20_put_2_7 21 rfl rfl)
theorem dJ20_put_2_187 : decode cJ20_put_2 187 = .ok (.aload 4, 2) := dk_25 4 (dk_at dksJ20_put_2_8 0 rfl rfl)
theorem dJ20_put_2_189 : decode cJ20_put_2 189 = .ok (.aload_n 2, 1) := dk_44 (dk_at dksJ20_put_2_8 2 rfl rfl)
theorem dJ20_put_2_190 : decode cJ20_put_2 190 = .ok (.putfield 58, 3) := dk_181 0 58 (dk_at dksJ20_put_2_8 3 rfl rfl)
theorem dJ20_put_2_193 : decode cJ20_put_2 193 = .ok (.aload 9, 2) := dk_25 9 (dk_at dksJ20_put_2_8 6 rfl rfl)
theorem dJ20_put_2_195 : decode cJ20_put_2 195 = .ok (.areturn, 1) := dk_176 (dk_at dksJ20_put_2_8 8 rfl rfl)
theorem dJ20_put_2_196 : decode cJ20_put_2 196 = .ok (.aload 4, 2) := dk_25 4 (dk_at dksJ20_put_2_8 9 rfl rfl)
theorem dJ20_put_2_198 : decode cJ20_put_2 198 = .ok (.ifnonnull (-75), 3) := dk_199 255 181 (dk_at dksJ20_put_2_8 11 rfl rfl)
theorem dJ20_put_2_201 : decode cJ20_put_2 201 = .ok (.aload_n 0, 1) := dk_42 (dk_at dksJ20_put_2_8 14 rfl rfl)
theorem dJ20_put_2_202 : decode cJ20_put_2 202 = .ok (.aload_n 1, 1) := dk_43 (dk_at dksJ20_put_2_8 15 rfl rfl)
theorem dJ20_put_2_203 : decode cJ20_put_2 203 = .ok (.aload_n 2, 1) := dk_44 (dk_at dksJ20_put_2_8 16 rfl rfl)
theorem dJ20_put_2_204 : decode cJ20_put_2 204 = .ok (.aload 6, 2) := dk_25 6 (dk_at dksJ20_put_2_8 17 rfl rfl)
theorem dJ20_put_2_206 : decode cJ20_put_2 206 = .ok (.iload 5, 2) := dk_21 5 (dk_at dksJ20_put_2_8 19 rfl rfl)
theorem dJ20_put_2_208 : decode cJ20_put_2 208 = .ok (.ifCond .ge 7, 3) := dk_156 0 7 (dk_at dksJ20_put_2_8 21 rfl rfl)
theorem dJ20_put_2_211 : decode cJ20_put_2 211 = .ok (.iconst 1, 1) := dk_4 (dk_at dksJ20_put_2_9 0 rfl rfl)
theorem dJ20_put_2_212 : decode cJ20_put_2 212 = .ok (.goto 4, 3) := dk_167 0 4 (dk_at dksJ20_put_2_9 1 rfl rfl)
theorem dJ20_put_2_215 : decode cJ20_put_2 215 = .ok (.iconst 0, 1) := dk_3 (dk_at dksJ20_put_2_9 4 rfl rfl)
theorem dJ20_put_2_216 : decode cJ20_put_2 216 = .ok (.invokevirtual 139, 3) := dk_182 0 139 (dk_at dksJ20_put_2_9 5 rfl rfl)
theorem dJ20_put_2_219 : decode cJ20_put_2 219 = .ok (.aconst_null, 1) := dk_1 (dk_at dksJ20_put_2_9 8 rfl rfl)
theorem dJ20_put_2_220 : decode cJ20_put_2 220 = .ok (.areturn, 1) := dk_176 (dk_at dksJ20_put_2_9 9 rfl rfl)
abbrev cJ20_addEntryToEmptyMap : ByteArray := prog_61_method_30_code
def yJ20_addEntryToEmptyMap : MethodName := ⟨RJ20, "addEntryToEmptyMap", "(Ljava/lang/Object;Ljava/lang/Object;)V"⟩
def dkwJ20_addEntryToEmptyMap_1 : List UInt8 := [181, 0, 7, 42, 89, 180, 0, 13, 4, 96, 181, 0, 13, 177]
abbrev dktJ20_addEntryToEmptyMap_1 : List UInt8 := dkwJ20_addEntryToEmptyMap_1 ++ []
def dkwJ20_addEntryToEmptyMap_0 : List UInt8 := [42, 43, 43, 182, 0, 123, 87, 42, 187, 0, 59, 89, 43, 44, 1, 183, 0, 167, 181, 0, 101, 42, 4]
abbrev dktJ20_addEntryToEmptyMap_0 : List UInt8 := dkwJ20_addEntryToEmptyMap_0 ++ dktJ20_addEntryToEmptyMap_1
theorem dksJ20_addEntryToEmptyMap_0 : cJ20_addEntryToEmptyMap.data.toList.drop 0 = dktJ20_addEntryToEmptyMap_0 := by decide +kernel
theorem dksJ20_addEntryToEmptyMap_1 : cJ20_addEntryToEmptyMap.data.toList.drop 23 = dktJ20_addEntryToEmptyMap_1 := dk_seg dksJ20_addEntryToEmptyMap_0 23 rfl rfl
theorem dJ20_addEntryToEmptyMap_0 : decode cJ20_addEntryToEmptyMap 0 = .ok (.aload_n 0, 1) := dk_42 (dk_at dksJ20_addEntryToEmptyMap_0 0 rfl rfl)
theorem dJ20_addEntryToEmptyMap_1 : decode cJ20_addEntryToEmptyMap 1 = .ok (.aload_n 1, 1) := dk_43 (dk_at dksJ20_addEntryToEmptyMap_0 1 rfl rfl)
theorem dJ20_addEntryToEmptyMap_2 : decode cJ20_addEntryToEmptyMap 2 = .ok (.aload_n 1, 1) := dk_43 (dk_at dksJ20_addEntryToEmptyMap_0 2 rfl rfl)
theorem dJ20_addEntryToEmptyMap_3 : decode cJ20_addEntryToEmptyMap 3 = .ok (.invokevirtual 123, 3) := dk_182 0 123 (dk_at dksJ20_addEntryToEmptyMap_0 3 rfl rfl)
theorem dJ20_addEntryToEmptyMap_6 : decode cJ20_addEntryToEmptyMap 6 = .ok (.pop, 1) := dk_87 (dk_at dksJ20_addEntryToEmptyMap_0 6 rfl rfl)
theorem dJ20_addEntryToEmptyMap_7 : decode cJ20_addEntryToEmptyMap 7 = .ok (.aload_n 0, 1) := dk_42 (dk_at dksJ20_addEntryToEmptyMap_0 7 rfl rfl)
theorem dJ20_addEntryToEmptyMap_8 : decode cJ20_addEntryToEmptyMap 8 = .ok (.new 59, 3) := dk_187 0 59 (dk_at dksJ20_addEntryToEmptyMap_0 8 rfl rfl)
theorem dJ20_addEntryToEmptyMap_11 : decode cJ20_addEntryToEmptyMap 11 = .ok (.dup, 1) := dk_89 (dk_at dksJ20_addEntryToEmptyMap_0 11 rfl rfl)
theorem dJ20_addEntryToEmptyMap_12 : decode cJ20_addEntryToEmptyMap 12 = .ok (.aload_n 1, 1) := dk_43 (dk_at dksJ20_addEntryToEmptyMap_0 12 rfl rfl)
theorem dJ20_addEntryToEmptyMap_13 : decode cJ20_addEntryToEmptyMap 13 = .ok (.aload_n 2, 1) := dk_44 (dk_at dksJ20_addEntryToEmptyMap_0 13 rfl rfl)
theorem dJ20_addEntryToEmptyMap_14 : decode cJ20_addEntryToEmptyMap 14 = .ok (.aconst_null, 1) := dk_1 (dk_at dksJ20_addEntryToEmptyMap_0 14 rfl rfl)
theorem dJ20_addEntryToEmptyMap_15 : decode cJ20_addEntryToEmptyMap 15 = .ok (.invokespecial 167, 3) := dk_183 0 167 (dk_at dksJ20_addEntryToEmptyMap_0 15 rfl rfl)
theorem dJ20_addEntryToEmptyMap_18 : decode cJ20_addEntryToEmptyMap 18 = .ok (.putfield 101, 3) := dk_181 0 101 (dk_at dksJ20_addEntryToEmptyMap_0 18 rfl rfl)
theorem dJ20_addEntryToEmptyMap_21 : decode cJ20_addEntryToEmptyMap 21 = .ok (.aload_n 0, 1) := dk_42 (dk_at dksJ20_addEntryToEmptyMap_0 21 rfl rfl)
theorem dJ20_addEntryToEmptyMap_22 : decode cJ20_addEntryToEmptyMap 22 = .ok (.iconst 1, 1) := dk_4 (dk_at dksJ20_addEntryToEmptyMap_0 22 rfl rfl)
theorem dJ20_addEntryToEmptyMap_23 : decode cJ20_addEntryToEmptyMap 23 = .ok (.putfield 7, 3) := dk_181 0 7 (dk_at dksJ20_addEntryToEmptyMap_1 0 rfl rfl)
theorem dJ20_addEntryToEmptyMap_26 : decode cJ20_addEntryToEmptyMap 26 = .ok (.aload_n 0, 1) := dk_42 (dk_at dksJ20_addEntryToEmptyMap_1 3 rfl rfl)
theorem dJ20_addEntryToEmptyMap_27 : decode cJ20_addEntryToEmptyMap 27 = .ok (.dup, 1) := dk_89 (dk_at dksJ20_addEntryToEmptyMap_1 4 rfl rfl)
theorem dJ20_addEntryToEmptyMap_28 : decode cJ20_addEntryToEmptyMap 28 = .ok (.getfield 13, 3) := dk_180 0 13 (dk_at dksJ20_addEntryToEmptyMap_1 5 rfl rfl)
theorem dJ20_addEntryToEmptyMap_31 : decode cJ20_addEntryToEmptyMap 31 = .ok (.iconst 1, 1) := dk_4 (dk_at dksJ20_addEntryToEmptyMap_1 8 rfl rfl)
theorem dJ20_addEntryToEmptyMap_32 : decode cJ20_addEntryToEmptyMap 32 = .ok (.iadd, 1) := dk_96 (dk_at dksJ20_addEntryToEmptyMap_1 9 rfl rfl)
theorem dJ20_addEntryToEmptyMap_33 : decode cJ20_addEntryToEmptyMap 33 = .ok (.putfield 13, 3) := dk_181 0 13 (dk_at dksJ20_addEntryToEmptyMap_1 10 rfl rfl)
theorem dJ20_addEntryToEmptyMap_36 : decode cJ20_addEntryToEmptyMap 36 = .ok (.return_, 1) := dk_177 (dk_at dksJ20_addEntryToEmptyMap_1 13 rfl rfl)
abbrev cJ20_compare : ByteArray := prog_61_method_67_code
def yJ20_compare : MethodName := ⟨RJ20, "compare", "(Ljava/lang/Object;Ljava/lang/Object;)I"⟩
def dkwJ20_compare_1 : List UInt8 := [43, 44, 185, 0, 117, 3, 0, 172]
abbrev dktJ20_compare_1 : List UInt8 := dkwJ20_compare_1 ++ []
def dkwJ20_compare_0 : List UInt8 := [42, 180, 0, 16, 199, 0, 16, 43, 192, 0, 99, 44, 185, 0, 107, 2, 0, 167, 0, 14, 42, 180, 0, 16]
abbrev dktJ20_compare_0 : List UInt8 := dkwJ20_compare_0 ++ dktJ20_compare_1
theorem dksJ20_compare_0 : cJ20_compare.data.toList.drop 0 = dktJ20_compare_0 := by decide +kernel
theorem dksJ20_compare_1 : cJ20_compare.data.toList.drop 24 = dktJ20_compare_1 := dk_seg dksJ20_compare_0 24 rfl rfl
theorem dJ20_compare_0 : decode cJ20_compare 0 = .ok (.aload_n 0, 1) := dk_42 (dk_at dksJ20_compare_0 0 rfl rfl)
theorem dJ20_compare_1 : decode cJ20_compare 1 = .ok (.getfield 16, 3) := dk_180 0 16 (dk_at dksJ20_compare_0 1 rfl rfl)
theorem dJ20_compare_4 : decode cJ20_compare 4 = .ok (.ifnonnull 16, 3) := dk_199 0 16 (dk_at dksJ20_compare_0 4 rfl rfl)
theorem dJ20_compare_7 : decode cJ20_compare 7 = .ok (.aload_n 1, 1) := dk_43 (dk_at dksJ20_compare_0 7 rfl rfl)
theorem dJ20_compare_8 : decode cJ20_compare 8 = .ok (.checkcast 99, 3) := dk_192 0 99 (dk_at dksJ20_compare_0 8 rfl rfl)
theorem dJ20_compare_11 : decode cJ20_compare 11 = .ok (.aload_n 2, 1) := dk_44 (dk_at dksJ20_compare_0 11 rfl rfl)
theorem dJ20_compare_12 : decode cJ20_compare 12 = .ok (.invokeinterface 107 2, 5) := by decide +kernel
theorem dJ20_compare_17 : decode cJ20_compare 17 = .ok (.goto 14, 3) := dk_167 0 14 (dk_at dksJ20_compare_0 17 rfl rfl)
theorem dJ20_compare_20 : decode cJ20_compare 20 = .ok (.aload_n 0, 1) := dk_42 (dk_at dksJ20_compare_0 20 rfl rfl)
theorem dJ20_compare_21 : decode cJ20_compare 21 = .ok (.getfield 16, 3) := dk_180 0 16 (dk_at dksJ20_compare_0 21 rfl rfl)
theorem dJ20_compare_24 : decode cJ20_compare 24 = .ok (.aload_n 1, 1) := dk_43 (dk_at dksJ20_compare_1 0 rfl rfl)
theorem dJ20_compare_25 : decode cJ20_compare 25 = .ok (.aload_n 2, 1) := dk_44 (dk_at dksJ20_compare_1 1 rfl rfl)
theorem dJ20_compare_26 : decode cJ20_compare 26 = .ok (.invokeinterface 117 3, 5) := by decide +kernel
theorem dJ20_compare_31 : decode cJ20_compare 31 = .ok (.ireturn, 1) := dk_172 (dk_at dksJ20_compare_1 7 rfl rfl)
abbrev cJ20_addEntry : ByteArray := prog_61_method_29_code
def yJ20_addEntry : MethodName := ⟨RJ20, "addEntry", "(Ljava/lang/Object;Ljava/lang/Object;Ljava/util/TreeMap$Entry;Z)V"⟩
def dkwJ20_addEntry_2 : List UInt8 := [181, 0, 7, 42, 89, 180, 0, 13, 4, 96, 181, 0, 13, 177]
abbrev dktJ20_addEntry_2 : List UInt8 := dkwJ20_addEntry_2 ++ []
def dkwJ20_addEntry_1 : List UInt8 := [167, 0, 9, 45, 25, 5, 181, 0, 114, 42, 25, 5, 182, 0, 170, 42, 89, 180, 0, 7, 4, 96]
abbrev dktJ20_addEntry_1 : List UInt8 := dkwJ20_addEntry_1 ++ dktJ20_addEntry_2
def dkwJ20_addEntry_0 : List UInt8 := [187, 0, 59, 89, 43, 44, 45, 183, 0, 167, 58, 5, 21, 4, 153, 0, 12, 45, 25, 5, 181, 0, 111]
abbrev dktJ20_addEntry_0 : List UInt8 := dkwJ20_addEntry_0 ++ dktJ20_addEntry_1
theorem dksJ20_addEntry_0 : cJ20_addEntry.data.toList.drop 0 = dktJ20_addEntry_0 := by decide +kernel
theorem dksJ20_addEntry_1 : cJ20_addEntry.data.toList.drop 23 = dktJ20_addEntry_1 := dk_seg dksJ20_addEntry_0 23 rfl rfl
theorem dksJ20_addEntry_2 : cJ20_addEntry.data.toList.drop 45 = dktJ20_addEntry_2 := dk_seg dksJ20_addEntry_1 22 rfl rfl
theorem dJ20_addEntry_0 : decode cJ20_addEntry 0 = .ok (.new 59, 3) := dk_187 0 59 (dk_at dksJ20_addEntry_0 0 rfl rfl)
theorem dJ20_addEntry_3 : decode cJ20_addEntry 3 = .ok (.dup, 1) := dk_89 (dk_at dksJ20_addEntry_0 3 rfl rfl)
theorem dJ20_addEntry_4 : decode cJ20_addEntry 4 = .ok (.aload_n 1, 1) := dk_43 (dk_at dksJ20_addEntry_0 4 rfl rfl)
theorem dJ20_addEntry_5 : decode cJ20_addEntry 5 = .ok (.aload_n 2, 1) := dk_44 (dk_at dksJ20_addEntry_0 5 rfl rfl)
theorem dJ20_addEntry_6 : decode cJ20_addEntry 6 = .ok (.aload_n 3, 1) := dk_45 (dk_at dksJ20_addEntry_0 6 rfl rfl)
theorem dJ20_addEntry_7 : decode cJ20_addEntry 7 = .ok (.invokespecial 167, 3) := dk_183 0 167 (dk_at dksJ20_addEntry_0 7 rfl rfl)
theorem dJ20_addEntry_10 : decode cJ20_addEntry 10 = .ok (.astore 5, 2) := dk_58 5 (dk_at dksJ20_addEntry_0 10 rfl rfl)
theorem dJ20_addEntry_12 : decode cJ20_addEntry 12 = .ok (.iload 4, 2) := dk_21 4 (dk_at dksJ20_addEntry_0 12 rfl rfl)
theorem dJ20_addEntry_14 : decode cJ20_addEntry 14 = .ok (.ifCond .eq 12, 3) := dk_153 0 12 (dk_at dksJ20_addEntry_0 14 rfl rfl)
theorem dJ20_addEntry_17 : decode cJ20_addEntry 17 = .ok (.aload_n 3, 1) := dk_45 (dk_at dksJ20_addEntry_0 17 rfl rfl)
theorem dJ20_addEntry_18 : decode cJ20_addEntry 18 = .ok (.aload 5, 2) := dk_25 5 (dk_at dksJ20_addEntry_0 18 rfl rfl)
theorem dJ20_addEntry_20 : decode cJ20_addEntry 20 = .ok (.putfield 111, 3) := dk_181 0 111 (dk_at dksJ20_addEntry_0 20 rfl rfl)
theorem dJ20_addEntry_23 : decode cJ20_addEntry 23 = .ok (.goto 9, 3) := dk_167 0 9 (dk_at dksJ20_addEntry_1 0 rfl rfl)
theorem dJ20_addEntry_26 : decode cJ20_addEntry 26 = .ok (.aload_n 3, 1) := dk_45 (dk_at dksJ20_addEntry_1 3 rfl rfl)
theorem dJ20_addEntry_27 : decode cJ20_addEntry 27 = .ok (.aload 5, 2) := dk_25 5 (dk_at dksJ20_addEntry_1 4 rfl rfl)
theorem dJ20_addEntry_29 : decode cJ20_addEntry 29 = .ok (.putfield 114, 3) := dk_181 0 114 (dk_at dksJ20_addEntry_1 6 rfl rfl)
theorem dJ20_addEntry_32 : decode cJ20_addEntry 32 = .ok (.aload_n 0, 1) := dk_42 (dk_at dksJ20_addEntry_1 9 rfl rfl)
theorem dJ20_addEntry_33 : decode cJ20_addEntry 33 = .ok (.aload 5, 2) := dk_25 5 (dk_at dksJ20_addEntry_1 10 rfl rfl)
theorem dJ20_addEntry_35 : decode cJ20_addEntry 35 = .ok (.invokevirtual 170, 3) := dk_182 0 170 (dk_at dksJ20_addEntry_1 12 rfl rfl)
theorem dJ20_addEntry_38 : decode cJ20_addEntry 38 = .ok (.aload_n 0, 1) := dk_42 (dk_at dksJ20_addEntry_1 15 rfl rfl)
theorem dJ20_addEntry_39 : decode cJ20_addEntry 39 = .ok (.dup, 1) := dk_89 (dk_at dksJ20_addEntry_1 16 rfl rfl)
theorem dJ20_addEntry_40 : decode cJ20_addEntry 40 = .ok (.getfield 7, 3) := dk_180 0 7 (dk_at dksJ20_addEntry_1 17 rfl rfl)
theorem dJ20_addEntry_43 : decode cJ20_addEntry 43 = .ok (.iconst 1, 1) := dk_4 (dk_at dksJ20_addEntry_1 20 rfl rfl)
theorem dJ20_addEntry_44 : decode cJ20_addEntry 44 = .ok (.iadd, 1) := dk_96 (dk_at dksJ20_addEntry_1 21 rfl rfl)
theorem dJ20_addEntry_45 : decode cJ20_addEntry 45 = .ok (.putfield 7, 3) := dk_181 0 7 (dk_at dksJ20_addEntry_2 0 rfl rfl)
theorem dJ20_addEntry_48 : decode cJ20_addEntry 48 = .ok (.aload_n 0, 1) := dk_42 (dk_at dksJ20_addEntry_2 3 rfl rfl)
theorem dJ20_addEntry_49 : decode cJ20_addEntry 49 = .ok (.dup, 1) := dk_89 (dk_at dksJ20_addEntry_2 4 rfl rfl)
theorem dJ20_addEntry_50 : decode cJ20_addEntry 50 = .ok (.getfield 13, 3) := dk_180 0 13 (dk_at dksJ20_addEntry_2 5 rfl rfl)
theorem dJ20_addEntry_53 : decode cJ20_addEntry 53 = .ok (.iconst 1, 1) := dk_4 (dk_at dksJ20_addEntry_2 8 rfl rfl)
theorem dJ20_addEntry_54 : decode cJ20_addEntry 54 = .ok (.iadd, 1) := dk_96 (dk_at dksJ20_addEntry_2 9 rfl rfl)
theorem dJ20_addEntry_55 : decode cJ20_addEntry 55 = .ok (.putfield 13, 3) := dk_181 0 13 (dk_at dksJ20_addEntry_2 10 rfl rfl)
theorem dJ20_addEntry_58 : decode cJ20_addEntry 58 = .ok (.return_, 1) := dk_177 (dk_at dksJ20_addEntry_2 13 rfl rfl)
abbrev cJ20_fixAfterInsertion : ByteArray := prog_61_method_83_code
def yJ20_fixAfterInsertion : MethodName := ⟨RJ20, "fixAfterInsertion", "(Ljava/util/TreeMap$Entry;)V"⟩
def dkwJ20_fixAfterInsertion_11 : List UInt8 := [42, 180, 0, 101, 4, 181, 1, 34, 177]
abbrev dktJ20_fixAfterInsertion_11 : List UInt8 := dkwJ20_fixAfterInsertion_11 ++ []
def dkwJ20_fixAfterInsertion_10 : List UInt8 := [184, 1, 38, 184, 1, 38, 3, 184, 1, 51, 42, 43, 184, 1, 38, 184, 1, 38, 182, 1, 55, 167, 255, 6]
abbrev dktJ20_fixAfterInsertion_10 : List UInt8 := dkwJ20_fixAfterInsertion_10 ++ dktJ20_fixAfterInsertion_11
def dkwJ20_fixAfterInsertion_9 : List UInt8 := [166, 0, 13, 43, 184, 1, 38, 76, 42, 43, 182, 1, 58, 43, 184, 1, 38, 4, 184, 1, 51, 43]
abbrev dktJ20_fixAfterInsertion_9 : List UInt8 := dkwJ20_fixAfterInsertion_9 ++ dktJ20_fixAfterInsertion_10
def dkwJ20_fixAfterInsertion_8 : List UInt8 := [184, 1, 51, 43, 184, 1, 38, 184, 1, 38, 76, 167, 0, 54, 43, 43, 184, 1, 38, 184, 1, 41]
abbrev dktJ20_fixAfterInsertion_8 : List UInt8 := dkwJ20_fixAfterInsertion_8 ++ dktJ20_fixAfterInsertion_9
def dkwJ20_fixAfterInsertion_7 : List UInt8 := [154, 0, 38, 43, 184, 1, 38, 4, 184, 1, 51, 44, 4, 184, 1, 51, 43, 184, 1, 38, 184, 1, 38, 3]
abbrev dktJ20_fixAfterInsertion_7 : List UInt8 := dkwJ20_fixAfterInsertion_7 ++ dktJ20_fixAfterInsertion_8
def dkwJ20_fixAfterInsertion_6 : List UInt8 := [184, 1, 38, 182, 1, 58, 167, 255, 113, 43, 184, 1, 38, 184, 1, 38, 184, 1, 41, 77, 44, 184, 1, 47]
abbrev dktJ20_fixAfterInsertion_6 : List UInt8 := dkwJ20_fixAfterInsertion_6 ++ dktJ20_fixAfterInsertion_7
def dkwJ20_fixAfterInsertion_5 : List UInt8 := [43, 184, 1, 38, 4, 184, 1, 51, 43, 184, 1, 38, 184, 1, 38, 3, 184, 1, 51, 42, 43, 184, 1, 38]
abbrev dktJ20_fixAfterInsertion_5 : List UInt8 := dkwJ20_fixAfterInsertion_5 ++ dktJ20_fixAfterInsertion_6
def dkwJ20_fixAfterInsertion_4 : List UInt8 := [167, 0, 54, 43, 43, 184, 1, 38, 184, 1, 44, 166, 0, 13, 43, 184, 1, 38, 76, 42, 43, 182, 1, 55]
abbrev dktJ20_fixAfterInsertion_4 : List UInt8 := dkwJ20_fixAfterInsertion_4 ++ dktJ20_fixAfterInsertion_5
def dkwJ20_fixAfterInsertion_3 : List UInt8 := [184, 1, 51, 43, 184, 1, 38, 184, 1, 38, 3, 184, 1, 51, 43, 184, 1, 38, 184, 1, 38, 76]
abbrev dktJ20_fixAfterInsertion_3 : List UInt8 := dkwJ20_fixAfterInsertion_3 ++ dktJ20_fixAfterInsertion_4
def dkwJ20_fixAfterInsertion_2 : List UInt8 := [184, 1, 38, 184, 1, 44, 77, 44, 184, 1, 47, 154, 0, 38, 43, 184, 1, 38, 4, 184, 1, 51, 44, 4]
abbrev dktJ20_fixAfterInsertion_2 : List UInt8 := dkwJ20_fixAfterInsertion_2 ++ dktJ20_fixAfterInsertion_3
def dkwJ20_fixAfterInsertion_1 : List UInt8 := [154, 0, 234, 43, 184, 1, 38, 43, 184, 1, 38, 184, 1, 38, 184, 1, 41, 166, 0, 110, 43, 184, 1, 38]
abbrev dktJ20_fixAfterInsertion_1 : List UInt8 := dkwJ20_fixAfterInsertion_1 ++ dktJ20_fixAfterInsertion_2
def dkwJ20_fixAfterInsertion_0 : List UInt8 := [43, 3, 181, 1, 34, 43, 198, 0, 252, 43, 42, 180, 0, 101, 165, 0, 244, 43, 180, 0, 124, 180, 1, 34]
abbrev dktJ20_fixAfterInsertion_0 : List UInt8 := dkwJ20_fixAfterInsertion_0 ++ dktJ20_fixAfterInsertion_1
theorem dksJ20_fixAfterInsertion_0 : cJ20_fixAfterInsertion.data.toList.drop 0 = dktJ20_fixAfterInsertion_0 := by decide +kernel
theorem dksJ20_fixAfterInsertion_1 : cJ20_fixAfterInsertion.data.toList.drop 24 = dktJ20_fixAfterInsertion_1 := dk_seg dksJ20_fixAfterInsertion_0 24 rfl rfl
theorem dksJ20_fixAfterInsertion_2 : cJ20_fixAfterInsertion.data.toList.drop 48 = dktJ20_fixAfterInsertion_2 := dk_seg dksJ20_fixAfterInsertion_1 24 rfl rfl
theorem dksJ20_fixAfterInsertion_3 : cJ20_fixAfterInsertion.data.toList.drop 72 = dktJ20_fixAfterInsertion_3 := dk_seg dksJ20_fixAfterInsertion_2 24 rfl rfl
theorem dksJ20_fixAfterInsertion_4 : cJ20_fixAfterInsertion.data.toList.drop 94 = dktJ20_fixAfterInsertion_4 := dk_seg dksJ20_fixAfterInsertion_3 22 rfl rfl
theorem dksJ20_fixAfterInsertion_5 : cJ20_fixAfterInsertion.data.toList.drop 118 = dktJ20_fixAfterInsertion_5 := dk_seg dksJ20_fixAfterInsertion_4 24 rfl rfl
theorem dksJ20_fixAfterInsertion_6 : cJ20_fixAfterInsertion.data.toList.drop 142 = dktJ20_fixAfterInsertion_6 := dk_seg dksJ20_fixAfterInsertion_5 24 rfl rfl
theorem dksJ20_fixAfterInsertion_7 : cJ20_fixAfterInsertion.data.toList.drop 166 = dktJ20_fixAfterInsertion_7 := dk_seg dksJ20_fixAfterInsertion_6 24 rfl rfl
theorem dksJ20_fixAfterInsertion_8 : cJ20_fixAfterInsertion.data.toList.drop 190 = dktJ20_fixAfterInsertion_8 := dk_seg dksJ20_fixAfterInsertion_7 24 rfl rfl
theorem dksJ20_fixAfterInsertion_9 : cJ20_fixAfterInsertion.data.toList.drop 212 = dktJ20_fixAfterInsertion_9 := dk_seg dksJ20_fixAfterInsertion_8 22 rfl rfl
theorem dksJ20_fixAfterInsertion_10 : cJ20_fixAfterInsertion.data.toList.drop 234 = dktJ20_fixAfterInsertion_10 := dk_seg dksJ20_fixAfterInsertion_9 22 rfl rfl
theorem dksJ20_fixAfterInsertion_11 : cJ20_fixAfterInsertion.data.toList.drop 258 = dktJ20_fixAfterInsertion_11 := dk_seg dksJ20_fixAfterInsertion_10 24 rfl rfl
theorem dJ20_fixAfterInsertion_0 : decode cJ20_fixAfterInsertion 0 = .ok (.aload_n 1, 1) := dk_43 (dk_at dksJ20_fixAfterInsertion_0 0 rfl rfl)
theorem dJ20_fixAfterInsertion_1 : decode cJ20_fixAfterInsertion 1 = .ok (.iconst 0, 1) := dk_3 (dk_at dksJ20_fixAfterInsertion_0 1 rfl rfl)
theorem dJ20_fixAfterInsertion_2 : decode cJ20_fixAfterInsertion 2 = .ok (.putfield 290, 3) := dk_181 1 34 (dk_at dksJ20_fixAfterInsertion_0 2 rfl rfl)
theorem dJ20_fixAfterInsertion_5 : decode cJ20_fixAfterInsertion 5 = .ok (.aload_n 1, 1) := dk_43 (dk_at dksJ20_fixAfterInsertion_0 5 rfl rfl)
theorem dJ20_fixAfterInsertion_6 : decode cJ20_fixAfterInsertion 6 = .ok (.ifnull 252, 3) := dk_198 0 252 (dk_at dksJ20_fixAfterInsertion_0 6 rfl rfl)
theorem dJ20_fixAfterInsertion_9 : decode cJ20_fixAfterInsertion 9 = .ok (.aload_n 1, 1) := dk_43 (dk_at dksJ20_fixAfterInsertion_0 9 rfl rfl)
theorem dJ20_fixAfterInsertion_10 : decode cJ20_fixAfterInsertion 10 = .ok (.aload_n 0, 1) := dk_42 (dk_at dksJ20_fixAfterInsertion_0 10 rfl rfl)
theorem dJ20_fixAfterInsertion_11 : decode cJ20_fixAfterInsertion 11 = .ok (.getfield 101, 3) := dk_180 0 101 (dk_at dksJ20_fixAfterInsertion_0 11 rfl rfl)
theorem dJ20_fixAfterInsertion_14 : decode cJ20_fixAfterInsertion 14 = .ok (.if_acmp .eq 244, 3) := dk_165 0 244 (dk_at dksJ20_fixAfterInsertion_0 14 rfl rfl)
theorem dJ20_fixAfterInsertion_17 : decode cJ20_fixAfterInsertion 17 = .ok (.aload_n 1, 1) := dk_43 (dk_at dksJ20_fixAfterInsertion_0 17 rfl rfl)
theorem dJ20_fixAfterInsertion_18 : decode cJ20_fixAfterInsertion 18 = .ok (.getfield 124, 3) := dk_180 0 124 (dk_at dksJ20_fixAfterInsertion_0 18 rfl rfl)
theorem dJ20_fixAfterInsertion_21 : decode cJ20_fixAfterInsertion 21 = .ok (.getfield 290, 3) := dk_180 1 34 (dk_at dksJ20_fixAfterInsertion_0 21 rfl rfl)
theorem dJ20_fixAfterInsertion_24 : decode cJ20_fixAfterInsertion 24 = .ok (.ifCond .ne 234, 3) := dk_154 0 234 (dk_at dksJ20_fixAfterInsertion_1 0 rfl rfl)
theorem dJ20_fixAfterInsertion_27 : decode cJ20_fixAfterInsertion 27 = .ok (.aload_n 1, 1) := dk_43 (dk_at dksJ20_fixAfterInsertion_1 3 rfl rfl)
theorem dJ20_fixAfterInsertion_28 : decode cJ20_fixAfterInsertion 28 = .ok (.invokestatic 294, 3) := dk_184 1 38 (dk_at dksJ20_fixAfterInsertion_1 4 rfl rfl)
theorem dJ20_fixAfterInsertion_31 : decode cJ20_fixAfterInsertion 31 = .ok (.aload_n 1, 1) := dk_43 (dk_at dksJ20_fixAfterInsertion_1 7 rfl rfl)
theorem dJ20_fixAfterInsertion_32 : decode cJ20_fixAfterInsertion 32 = .ok (.invokestatic 294, 3) := dk_184 1 38 (dk_at dksJ20_fixAfterInsertion_1 8 rfl rfl)
theorem dJ20_fixAfterInsertion_35 : decode cJ20_fixAfterInsertion 35 = .ok (.invokestatic 294, 3) := dk_184 1 38 (dk_at dksJ20_fixAfterInsertion_1 11 rfl rfl)
theorem dJ20_fixAfterInsertion_38 : decode cJ20_fixAfterInsertion 38 = .ok (.invokestatic 297, 3) := dk_184 1 41 (dk_at dksJ20_fixAfterInsertion_1 14 rfl rfl)
theorem dJ20_fixAfterInsertion_41 : decode cJ20_fixAfterInsertion 41 = .ok (.if_acmp .ne 110, 3) := dk_166 0 110 (dk_at dksJ20_fixAfterInsertion_1 17 rfl rfl)
theorem dJ20_fixAfterInsertion_44 : decode cJ20_fixAfterInsertion 44 = .ok (.aload_n 1, 1) := dk_43 (dk_at dksJ20_fixAfterInsertion_1 20 rfl rfl)
theorem dJ20_fixAfterInsertion_45 : decode cJ20_fixAfterInsertion 45 = .ok (.invokestatic 294, 3) := dk_184 1 38 (dk_at dksJ20_fixAfterInsertion_1 21 rfl rfl)
theorem dJ20_fixAfterInsertion_48 : decode cJ20_fixAfterInsertion 48 = .ok (.invokestatic 294, 3) := dk_184 1 38 (dk_at dksJ20_fixAfterInsertion_2 0 rfl rfl)
theorem dJ20_fixAfterInsertion_51 : decode cJ20_fixAfterInsertion 51 = .ok (.invokestatic 300, 3) := dk_184 1 44 (dk_at dksJ20_fixAfterInsertion_2 3 rfl rfl)
theorem dJ20_fixAfterInsertion_54 : decode cJ20_fixAfterInsertion 54 = .ok (.astore_n 2, 1) := dk_77 (dk_at dksJ20_fixAfterInsertion_2 6 rfl rfl)
theorem dJ20_fixAfterInsertion_55 : decode cJ20_fixAfterInsertion 55 = .ok (.aload_n 2, 1) := dk_44 (dk_at dksJ20_fixAfterInsertion_2 7 rfl rfl)
theorem dJ20_fixAfterInsertion_56 : decode cJ20_fixAfterInsertion 56 = .ok (.invokestatic 303, 3) := dk_184 1 47 (dk_at dksJ20_fixAfterInsertion_2 8 rfl rfl)
theorem dJ20_fixAfterInsertion_59 : decode cJ20_fixAfterInsertion 59 = .ok (.ifCond .ne 38, 3) := dk_154 0 38 (dk_at dksJ20_fixAfterInsertion_2 11 rfl rfl)
theorem dJ20_fixAfterInsertion_62 : decode cJ20_fixAfterInsertion 62 = .ok (.aload_n 1, 1) := dk_43 (dk_at dksJ20_fixAfterInsertion_2 14 rfl rfl)
theorem dJ20_fixAfterInsertion_63 : decode cJ20_fixAfterInsertion 63 = .ok (.invokestatic 294, 3) := dk_184 1 38 (dk_at dksJ20_fixAfterInsertion_2 15 rfl rfl)
theorem dJ20_fixAfterInsertion_66 : decode cJ20_fixAfterInsertion 66 = .ok (.iconst 1, 1) := dk_4 (dk_at dksJ20_fixAfterInsertion_2 18 rfl rfl)
theorem dJ20_fixAfterInsertion_67 : decode cJ20_fixAfterInsertion 67 = .ok (.invokestatic 307, 3) := dk_184 1 51 (dk_at dksJ20_fixAfterInsertion_2 19 rfl rfl)
theorem dJ20_fixAfterInsertion_70 : decode cJ20_fixAfterInsertion 70 = .ok (.aload_n 2, 1) := dk_44 (dk_at dksJ20_fixAfterInsertion_2 22 rfl rfl)
theorem dJ20_fixAfterInsertion_71 : decode cJ20_fixAfterInsertion 71 = .ok (.iconst 1, 1) := dk_4 (dk_at dksJ20_fixAfterInsertion_2 23 rfl rfl)
theorem dJ20_fixAfterInsertion_72 : decode cJ20_fixAfterInsertion 72 = .ok (.invokestatic 307, 3) := dk_184 1 51 (dk_at dksJ20_fixAfterInsertion_3 0 rfl rfl)
theorem dJ20_fixAfterInsertion_75 : decode cJ20_fixAfterInsertion 75 = .ok (.aload_n 1, 1) := dk_43 (dk_at dksJ20_fixAfterInsertion_3 3 rfl rfl)
theorem dJ20_fixAfterInsertion_76 : decode cJ20_fixAfterInsertion 76 = .ok (.invokestatic 294, 3) := dk_184 1 38 (dk_at dksJ20_fixAfterInsertion_3 4 rfl rfl)
theorem dJ20_fixAfterInsertion_79 : decode cJ20_fixAfterInsertion 79 = .ok (.invokestatic 294, 3) := dk_184 1 38 (dk_at dksJ20_fixAfterInsertion_3 7 rfl rfl)
theorem dJ20_fixAfterInsertion_82 : decode cJ20_fixAfterInsertion 82 = .ok (.iconst 0, 1) := dk_3 (dk_at dksJ20_fixAfterInsertion_3 10 rfl rfl)
theorem dJ20_fixAfterInsertion_83 : decode cJ20_fixAfterInsertion 83 = .ok (.invokestatic 307, 3) := dk_184 1 51 (dk_at dksJ20_fixAfterInsertion_3 11 rfl rfl)
theorem dJ20_fixAfterInsertion_86 : decode cJ20_fixAfterInsertion 86 = .ok (.aload_n 1, 1) := dk_43 (dk_at dksJ20_fixAfterInsertion_3 14 rfl rfl)
theorem dJ20_fixAfterInsertion_87 : decode cJ20_fixAfterInsertion 87 = .ok (.invokestatic 294, 3) := dk_184 1 38 (dk_at dksJ20_fixAfterInsertion_3 15 rfl rfl)
theorem dJ20_fixAfterInsertion_90 : decode cJ20_fixAfterInsertion 90 = .ok (.invokestatic 294, 3) := dk_184 1 38 (dk_at dksJ20_fixAfterInsertion_3 18 rfl rfl)
theorem dJ20_fixAfterInsertion_93 : decode cJ20_fixAfterInsertion 93 = .ok (.astore_n 1, 1) := dk_76 (dk_at dksJ20_fixAfterInsertion_3 21 rfl rfl)
theorem dJ20_fixAfterInsertion_94 : decode cJ20_fixAfterInsertion 94 = .ok (.goto 54, 3) := dk_167 0 54 (dk_at dksJ20_fixAfterInsertion_4 0 rfl rfl)
theorem dJ20_fixAfterInsertion_97 : decode cJ20_fixAfterInsertion 97 = .ok (.aload_n 1, 1) := dk_43 (dk_at dksJ20_fixAfterInsertion_4 3 rfl rfl)
theorem dJ20_fixAfterInsertion_98 : decode cJ20_fixAfterInsertion 98 = .ok (.aload_n 1, 1) := dk_43 (dk_at dksJ20_fixAfterInsertion_4 4 rfl rfl)
theorem dJ20_fixAfterInsertion_99 : decode cJ20_fixAfterInsertion 99 = .ok (.invokestatic 294, 3) := dk_184 1 38 (dk_at dksJ20_fixAfterInsertion_4 5 rfl rfl)
theorem dJ20_fixAfterInsertion_102 : decode cJ20_fixAfterInsertion 102 = .ok (.invokestatic 300, 3) := dk_184 1 44 (dk_at dksJ20_fixAfterInsertion_4 8 rfl rfl)
theorem dJ20_fixAfterInsertion_105 : decode cJ20_fixAfterInsertion 105 = .ok (.if_acmp .ne 13, 3) := dk_166 0 13 (dk_at dksJ20_fixAfterInsertion_4 11 rfl rfl)
theorem dJ20_fixAfterInsertion_108 : decode cJ20_fixAfterInsertion 108 = .ok (.aload_n 1, 1) := dk_43 (dk_at dksJ20_fixAfterInsertion_4 14 rfl rfl)
theorem dJ20_fixAfterInsertion_109 : decode cJ20_fixAfterInsertion 109 = .ok (.invokestatic 294, 3) := dk_184 1 38 (dk_at dksJ20_fixAfterInsertion_4 15 rfl rfl)
theorem dJ20_fixAfterInsertion_112 : decode cJ20_fixAfterInsertion 112 = .ok (.astore_n 1, 1) := dk_76 (dk_at dksJ20_fixAfterInsertion_4 18 rfl rfl)
theorem dJ20_fixAfterInsertion_113 : decode cJ20_fixAfterInsertion 113 = .ok (.aload_n 0, 1) := dk_42 (dk_at dksJ20_fixAfterInsertion_4 19 rfl rfl)
theorem dJ20_fixAfterInsertion_114 : decode cJ20_fixAfterInsertion 114 = .ok (.aload_n 1, 1) := dk_43 (dk_at dksJ20_fixAfterInsertion_4 20 rfl rfl)
theorem dJ20_fixAfterInsertion_115 : decode cJ20_fixAfterInsertion 115 = .ok (.invokevirtual 311, 3) := dk_182 1 55 (dk_at dksJ20_fixAfterInsertion_4 21 rfl rfl)
theorem dJ20_fixAfterInsertion_118 : decode cJ20_fixAfterInsertion 118 = .ok (.aload_n 1, 1) := dk_43 (dk_at dksJ20_fixAfterInsertion_5 0 rfl rfl)
theorem dJ20_fixAfterInsertion_119 : decode cJ20_fixAfterInsertion 119 = .ok (.invokestatic 294, 3) := dk_184 1 38 (dk_at dksJ20_fixAfterInsertion_5 1 rfl rfl)
theorem dJ20_fixAfterInsertion_122 : decode cJ20_fixAfterInsertion 122 = .ok (.iconst 1, 1) := dk_4 (dk_at dksJ20_fixAfterInsertion_5 4 rfl rfl)
theorem dJ20_fixAfterInsertion_123 : decode cJ20_fixAfterInsertion 123 = .ok (.invokestatic 307, 3) := dk_184 1 51 (dk_at dksJ20_fixAfterInsertion_5 5 rfl rfl)
theorem dJ20_fixAfterInsertion_126 : decode cJ20_fixAfterInsertion 126 = .ok (.aload_n 1, 1) := dk_43 (dk_at dksJ20_fixAfterInsertion_5 8 rfl rfl)
theorem dJ20_fixAfterInsertion_127 : decode cJ20_fixAfterInsertion 127 = .ok (.invokestatic 294, 3) := dk_184 1 38 (dk_at dksJ20_fixAfterInsertion_5 9 rfl rfl)
theorem dJ20_fixAfterInsertion_130 : decode cJ20_fixAfterInsertion 130 = .ok (.invokestatic 294, 3) := dk_184 1 38 (dk_at dksJ20_fixAfterInsertion_5 12 rfl rfl)
theorem dJ20_fixAfterInsertion_133 : decode cJ20_fixAfterInsertion 133 = .ok (.iconst 0, 1) := dk_3 (dk_at dksJ20_fixAfterInsertion_5 15 rfl rfl)
theorem dJ20_fixAfterInsertion_134 : decode cJ20_fixAfterInsertion 134 = .ok (.invokestatic 307, 3) := dk_184 1 51 (dk_at dksJ20_fixAfterInsertion_5 16 rfl rfl)
theorem dJ20_fixAfterInsertion_137 : decode cJ20_fixAfterInsertion 137 = .ok (.aload_n 0, 1) := dk_42 (dk_at dksJ20_fixAfterInsertion_5 19 rfl rfl)
theorem dJ20_fixAfterInsertion_138 : decode cJ20_fixAfterInsertion 138 = .ok (.aload_n 1, 1) := dk_43 (dk_at dksJ20_fixAfterInsertion_5 20 rfl rfl)
theorem dJ20_fixAfterInsertion_139 : decode cJ20_fixAfterInsertion 139 = .ok (.invokestatic 294, 3) := dk_184 1 38 (dk_at dksJ20_fixAfterInsertion_5 21 rfl rfl)
theorem dJ20_fixAfterInsertion_142 : decode cJ20_fixAfterInsertion 142 = .ok (.invokestatic 294, 3) := dk_184 1 38 (dk_at dksJ20_fixAfterInsertion_6 0 rfl rfl)
theorem dJ20_fixAfterInsertion_145 : decode cJ20_fixAfterInsertion 145 = .ok (.invokevirtual 314, 3) := dk_182 1 58 (dk_at dksJ20_fixAfterInsertion_6 3 rfl rfl)
theorem dJ20_fixAfterInsertion_148 : decode cJ20_fixAfterInsertion 148 = .ok (.goto (-143), 3) := dk_167 255 113 (dk_at dksJ20_fixAfterInsertion_6 6 rfl rfl)
theorem dJ20_fixAfterInsertion_151 : decode cJ20_fixAfterInsertion 151 = .ok (.aload_n 1, 1) := dk_43 (dk_at dksJ20_fixAfterInsertion_6 9 rfl rfl)
theorem dJ20_fixAfterInsertion_152 : decode cJ20_fixAfterInsertion 152 = .ok (.invokestatic 294, 3) := dk_184 1 38 (dk_at dksJ20_fixAfterInsertion_6 10 rfl rfl)
theorem dJ20_fixAfterInsertion_155 : decode cJ20_fixAfterInsertion 155 = .ok (.invokestatic 294, 3) := dk_184 1 38 (dk_at dksJ20_fixAfterInsertion_6 13 rfl rfl)
theorem dJ20_fixAfterInsertion_158 : decode cJ20_fixAfterInsertion 158 = .ok (.invokestatic 297, 3) := dk_184 1 41 (dk_at dksJ20_fixAfterInsertion_6 16 rfl rfl)
theorem dJ20_fixAfterInsertion_161 : decode cJ20_fixAfterInsertion 161 = .ok (.astore_n 2, 1) := dk_77 (dk_at dksJ20_fixAfterInsertion_6 19 rfl rfl)
theorem dJ20_fixAfterInsertion_162 : decode cJ20_fixAfterInsertion 162 = .ok (.aload_n 2, 1) := dk_44 (dk_at dksJ20_fixAfterInsertion_6 20 rfl rfl)
theorem dJ20_fixAfterInsertion_163 : decode cJ20_fixAfterInsertion 163 = .ok (.invokestatic 303, 3) := dk_184 1 47 (dk_at dksJ20_fixAfterInsertion_6 21 rfl rfl)
theorem dJ20_fixAfterInsertion_166 : decode cJ20_fixAfterInsertion 166 = .ok (.ifCond .ne 38, 3) := dk_154 0 38 (dk_at dksJ20_fixAfterInsertion_7 0 rfl rfl)
theorem dJ20_fixAfterInsertion_169 : decode cJ20_fixAfterInsertion 169 = .ok (.aload_n 1, 1) := dk_43 (dk_at dksJ20_fixAfterInsertion_7 3 rfl rfl)
theorem dJ20_fixAfterInsertion_170 : decode cJ20_fixAfterInsertion 170 = .ok (.invokestatic 294, 3) := dk_184 1 38 (dk_at dksJ20_fixAfterInsertion_7 4 rfl rfl)
theorem dJ20_fixAfterInsertion_173 : decode cJ20_fixAfterInsertion 173 = .ok (.iconst 1, 1) := dk_4 (dk_at dksJ20_fixAfterInsertion_7 7 rfl rfl)
theorem dJ20_fixAfterInsertion_174 : decode cJ20_fixAfterInsertion 174 = .ok (.invokestatic 307, 3) := dk_184 1 51 (dk_at dksJ20_fixAfterInsertion_7 8 rfl rfl)
theorem dJ20_fixAfterInsertion_177 : decode cJ20_fixAfterInsertion 177 = .ok (.aload_n 2, 1) := dk_44 (dk_at dksJ20_fixAfterInsertion_7 11 rfl rfl)
theorem dJ20_fixAfterInsertion_178 : decode cJ20_fixAfterInsertion 178 = .ok (.iconst 1, 1) := dk_4 (dk_at dksJ20_fixAfterInsertion_7 12 rfl rfl)
theorem dJ20_fixAfterInsertion_179 : decode cJ20_fixAfterInsertion 179 = .ok (.invokestatic 307, 3) := dk_184 1 51 (dk_at dksJ20_fixAfterInsertion_7 13 rfl rfl)
theorem dJ20_fixAfterInsertion_182 : decode cJ20_fixAfterInsertion 182 = .ok (.aload_n 1, 1) := dk_43 (dk_at dksJ20_fixAfterInsertion_7 16 rfl rfl)
theorem dJ20_fixAfterInsertion_183 : decode cJ20_fixAfterInsertion 183 = .ok (.invokestatic 294, 3) := dk_184 1 38 (dk_at dksJ20_fixAfterInsertion_7 17 rfl rfl)
theorem dJ20_fixAfterInsertion_186 : decode cJ20_fixAfterInsertion 186 = .ok (.invokestatic 294, 3) := dk_184 1 38 (dk_at dksJ20_fixAfterInsertion_7 20 rfl rfl)
theorem dJ20_fixAfterInsertion_189 : decode cJ20_fixAfterInsertion 189 = .ok (.iconst 0, 1) := dk_3 (dk_at dksJ20_fixAfterInsertion_7 23 rfl rfl)
theorem dJ20_fixAfterInsertion_190 : decode cJ20_fixAfterInsertion 190 = .ok (.invokestatic 307, 3) := dk_184 1 51 (dk_at dksJ20_fixAfterInsertion_8 0 rfl rfl)
theorem dJ20_fixAfterInsertion_193 : decode cJ20_fixAfterInsertion 193 = .ok (.aload_n 1, 1) := dk_43 (dk_at dksJ20_fixAfterInsertion_8 3 rfl rfl)
theorem dJ20_fixAfterInsertion_194 : decode cJ20_fixAfterInsertion 194 = .ok (.invokestatic 294, 3) := dk_184 1 38 (dk_at dksJ20_fixAfterInsertion_8 4 rfl rfl)
theorem dJ20_fixAfterInsertion_197 : decode cJ20_fixAfterInsertion 197 = .ok (.invokestatic 294, 3) := dk_184 1 38 (dk_at dksJ20_fixAfterInsertion_8 7 rfl rfl)
theorem dJ20_fixAfterInsertion_200 : decode cJ20_fixAfterInsertion 200 = .ok (.astore_n 1, 1) := dk_76 (dk_at dksJ20_fixAfterInsertion_8 10 rfl rfl)
theorem dJ20_fixAfterInsertion_201 : decode cJ20_fixAfterInsertion 201 = .ok (.goto 54, 3) := dk_167 0 54 (dk_at dksJ20_fixAfterInsertion_8 11 rfl rfl)
theorem dJ20_fixAfterInsertion_204 : decode cJ20_fixAfterInsertion 204 = .ok (.aload_n 1, 1) := dk_43 (dk_at dksJ20_fixAfterInsertion_8 14 rfl rfl)
theorem dJ20_fixAfterInsertion_205 : decode cJ20_fixAfterInsertion 205 = .ok (.aload_n 1, 1) := dk_43 (dk_at dksJ20_fixAfterInsertion_8 15 rfl rfl)
theorem dJ20_fixAfterInsertion_206 : decode cJ20_fixAfterInsertion 206 = .ok (.invokestatic 294, 3) := dk_184 1 38 (dk_at dksJ20_fixAfterInsertion_8 16 rfl rfl)
theorem dJ20_fixAfterInsertion_209 : decode cJ20_fixAfterInsertion 209 = .ok (.invokestatic 297, 3) := dk_184 1 41 (dk_at dksJ20_fixAfterInsertion_8 19 rfl rfl)
theorem dJ20_fixAfterInsertion_212 : decode cJ20_fixAfterInsertion 212 = .ok (.if_acmp .ne 13, 3) := dk_166 0 13 (dk_at dksJ20_fixAfterInsertion_9 0 rfl rfl)
theorem dJ20_fixAfterInsertion_215 : decode cJ20_fixAfterInsertion 215 = .ok (.aload_n 1, 1) := dk_43 (dk_at dksJ20_fixAfterInsertion_9 3 rfl rfl)
theorem dJ20_fixAfterInsertion_216 : decode cJ20_fixAfterInsertion 216 = .ok (.invokestatic 294, 3) := dk_184 1 38 (dk_at dksJ20_fixAfterInsertion_9 4 rfl rfl)
theorem dJ20_fixAfterInsertion_219 : decode cJ20_fixAfterInsertion 219 = .ok (.astore_n 1, 1) := dk_76 (dk_at dksJ20_fixAfterInsertion_9 7 rfl rfl)
theorem dJ20_fixAfterInsertion_220 : decode cJ20_fixAfterInsertion 220 = .ok (.aload_n 0, 1) := dk_42 (dk_at dksJ20_fixAfterInsertion_9 8 rfl rfl)
theorem dJ20_fixAfterInsertion_221 : decode cJ20_fixAfterInsertion 221 = .ok (.aload_n 1, 1) := dk_43 (dk_at dksJ20_fixAfterInsertion_9 9 rfl rfl)
theorem dJ20_fixAfterInsertion_222 : decode cJ20_fixAfterInsertion 222 = .ok (.invokevirtual 314, 3) := dk_182 1 58 (dk_at dksJ20_fixAfterInsertion_9 10 rfl rfl)
theorem dJ20_fixAfterInsertion_225 : decode cJ20_fixAfterInsertion 225 = .ok (.aload_n 1, 1) := dk_43 (dk_at dksJ20_fixAfterInsertion_9 13 rfl rfl)
theorem dJ20_fixAfterInsertion_226 : decode cJ20_fixAfterInsertion 226 = .ok (.invokestatic 294, 3) := dk_184 1 38 (dk_at dksJ20_fixAfterInsertion_9 14 rfl rfl)
theorem dJ20_fixAfterInsertion_229 : decode cJ20_fixAfterInsertion 229 = .ok (.iconst 1, 1) := dk_4 (dk_at dksJ20_fixAfterInsertion_9 17 rfl rfl)
theorem dJ20_fixAfterInsertion_230 : decode cJ20_fixAfterInsertion 230 = .ok (.invokestatic 307, 3) := dk_184 1 51 (dk_at dksJ20_fixAfterInsertion_9 18 rfl rfl)
theorem dJ20_fixAfterInsertion_233 : decode cJ20_fixAfterInsertion 233 = .ok (.aload_n 1, 1) := dk_43 (dk_at dksJ20_fixAfterInsertion_9 21 rfl rfl)
theorem dJ20_fixAfterInsertion_234 : decode cJ20_fixAfterInsertion 234 = .ok (.invokestatic 294, 3) := dk_184 1 38 (dk_at dksJ20_fixAfterInsertion_10 0 rfl rfl)
theorem dJ20_fixAfterInsertion_237 : decode cJ20_fixAfterInsertion 237 = .ok (.invokestatic 294, 3) := dk_184 1 38 (dk_at dksJ20_fixAfterInsertion_10 3 rfl rfl)
theorem dJ20_fixAfterInsertion_240 : decode cJ20_fixAfterInsertion 240 = .ok (.iconst 0, 1) := dk_3 (dk_at dksJ20_fixAfterInsertion_10 6 rfl rfl)
theorem dJ20_fixAfterInsertion_241 : decode cJ20_fixAfterInsertion 241 = .ok (.invokestatic 307, 3) := dk_184 1 51 (dk_at dksJ20_fixAfterInsertion_10 7 rfl rfl)
theorem dJ20_fixAfterInsertion_244 : decode cJ20_fixAfterInsertion 244 = .ok (.aload_n 0, 1) := dk_42 (dk_at dksJ20_fixAfterInsertion_10 10 rfl rfl)
theorem dJ20_fixAfterInsertion_245 : decode cJ20_fixAfterInsertion 245 = .ok (.aload_n 1, 1) := dk_43 (dk_at dksJ20_fixAfterInsertion_10 11 rfl rfl)
theorem dJ20_fixAfterInsertion_246 : decode cJ20_fixAfterInsertion 246 = .ok (.invokestatic 294, 3) := dk_184 1 38 (dk_at dksJ20_fixAfterInsertion_10 12 rfl rfl)
theorem dJ20_fixAfterInsertion_249 : decode cJ20_fixAfterInsertion 249 = .ok (.invokestatic 294, 3) := dk_184 1 38 (dk_at dksJ20_fixAfterInsertion_10 15 rfl rfl)
theorem dJ20_fixAfterInsertion_252 : decode cJ20_fixAfterInsertion 252 = .ok (.invokevirtual 311, 3) := dk_182 1 55 (dk_at dksJ20_fixAfterInsertion_10 18 rfl rfl)
theorem dJ20_fixAfterInsertion_255 : decode cJ20_fixAfterInsertion 255 = .ok (.goto (-250), 3) := dk_167 255 6 (dk_at dksJ20_fixAfterInsertion_10 21 rfl rfl)
theorem dJ20_fixAfterInsertion_258 : decode cJ20_fixAfterInsertion 258 = .ok (.aload_n 0, 1) := dk_42 (dk_at dksJ20_fixAfterInsertion_11 0 rfl rfl)
theorem dJ20_fixAfterInsertion_259 : decode cJ20_fixAfterInsertion 259 = .ok (.getfield 101, 3) := dk_180 0 101 (dk_at dksJ20_fixAfterInsertion_11 1 rfl rfl)
theorem dJ20_fixAfterInsertion_262 : decode cJ20_fixAfterInsertion 262 = .ok (.iconst 1, 1) := dk_4 (dk_at dksJ20_fixAfterInsertion_11 4 rfl rfl)
theorem dJ20_fixAfterInsertion_263 : decode cJ20_fixAfterInsertion 263 = .ok (.putfield 290, 3) := dk_181 1 34 (dk_at dksJ20_fixAfterInsertion_11 5 rfl rfl)
theorem dJ20_fixAfterInsertion_266 : decode cJ20_fixAfterInsertion 266 = .ok (.return_, 1) := dk_177 (dk_at dksJ20_fixAfterInsertion_11 8 rfl rfl)
abbrev cJ20_parentOf : ByteArray := prog_61_method_77_code
def yJ20_parentOf : MethodName := ⟨RJ20, "parentOf", "(Ljava/util/TreeMap$Entry;)Ljava/util/TreeMap$Entry;"⟩
def dkwJ20_parentOf_0 : List UInt8 := [42, 199, 0, 7, 1, 167, 0, 7, 42, 180, 0, 124, 176]
abbrev dktJ20_parentOf_0 : List UInt8 := dkwJ20_parentOf_0 ++ []
theorem dksJ20_parentOf_0 : cJ20_parentOf.data.toList.drop 0 = dktJ20_parentOf_0 := by decide +kernel
theorem dJ20_parentOf_0 : decode cJ20_parentOf 0 = .ok (.aload_n 0, 1) := dk_42 (dk_at dksJ20_parentOf_0 0 rfl rfl)
theorem dJ20_parentOf_1 : decode cJ20_parentOf 1 = .ok (.ifnonnull 7, 3) := dk_199 0 7 (dk_at dksJ20_parentOf_0 1 rfl rfl)
theorem dJ20_parentOf_4 : decode cJ20_parentOf 4 = .ok (.aconst_null, 1) := dk_1 (dk_at dksJ20_parentOf_0 4 rfl rfl)
theorem dJ20_parentOf_5 : decode cJ20_parentOf 5 = .ok (.goto 7, 3) := dk_167 0 7 (dk_at dksJ20_parentOf_0 5 rfl rfl)
theorem dJ20_parentOf_8 : decode cJ20_parentOf 8 = .ok (.aload_n 0, 1) := dk_42 (dk_at dksJ20_parentOf_0 8 rfl rfl)
theorem dJ20_parentOf_9 : decode cJ20_parentOf 9 = .ok (.getfield 124, 3) := dk_180 0 124 (dk_at dksJ20_parentOf_0 9 rfl rfl)
theorem dJ20_parentOf_12 : decode cJ20_parentOf 12 = .ok (.areturn, 1) := dk_176 (dk_at dksJ20_parentOf_0 12 rfl rfl)
abbrev cJ20_leftOf : ByteArray := prog_61_method_79_code
def yJ20_leftOf : MethodName := ⟨RJ20, "leftOf", "(Ljava/util/TreeMap$Entry;)Ljava/util/TreeMap$Entry;"⟩
def dkwJ20_leftOf_0 : List UInt8 := [42, 199, 0, 7, 1, 167, 0, 7, 42, 180, 0, 111, 176]
abbrev dktJ20_leftOf_0 : List UInt8 := dkwJ20_leftOf_0 ++ []
theorem dksJ20_leftOf_0 : cJ20_leftOf.data.toList.drop 0 = dktJ20_leftOf_0 := by decide +kernel
theorem dJ20_leftOf_0 : decode cJ20_leftOf 0 = .ok (.aload_n 0, 1) := dk_42 (dk_at dksJ20_leftOf_0 0 rfl rfl)
theorem dJ20_leftOf_1 : decode cJ20_leftOf 1 = .ok (.ifnonnull 7, 3) := dk_199 0 7 (dk_at dksJ20_leftOf_0 1 rfl rfl)
theorem dJ20_leftOf_4 : decode cJ20_leftOf 4 = .ok (.aconst_null, 1) := dk_1 (dk_at dksJ20_leftOf_0 4 rfl rfl)
theorem dJ20_leftOf_5 : decode cJ20_leftOf 5 = .ok (.goto 7, 3) := dk_167 0 7 (dk_at dksJ20_leftOf_0 5 rfl rfl)
theorem dJ20_leftOf_8 : decode cJ20_leftOf 8 = .ok (.aload_n 0, 1) := dk_42 (dk_at dksJ20_leftOf_0 8 rfl rfl)
theorem dJ20_leftOf_9 : decode cJ20_leftOf 9 = .ok (.getfield 111, 3) := dk_180 0 111 (dk_at dksJ20_leftOf_0 9 rfl rfl)
theorem dJ20_leftOf_12 : decode cJ20_leftOf 12 = .ok (.areturn, 1) := dk_176 (dk_at dksJ20_leftOf_0 12 rfl rfl)
abbrev cJ20_rightOf : ByteArray := prog_61_method_80_code
def yJ20_rightOf : MethodName := ⟨RJ20, "rightOf", "(Ljava/util/TreeMap$Entry;)Ljava/util/TreeMap$Entry;"⟩
def dkwJ20_rightOf_0 : List UInt8 := [42, 199, 0, 7, 1, 167, 0, 7, 42, 180, 0, 114, 176]
abbrev dktJ20_rightOf_0 : List UInt8 := dkwJ20_rightOf_0 ++ []
theorem dksJ20_rightOf_0 : cJ20_rightOf.data.toList.drop 0 = dktJ20_rightOf_0 := by decide +kernel
theorem dJ20_rightOf_0 : decode cJ20_rightOf 0 = .ok (.aload_n 0, 1) := dk_42 (dk_at dksJ20_rightOf_0 0 rfl rfl)
theorem dJ20_rightOf_1 : decode cJ20_rightOf 1 = .ok (.ifnonnull 7, 3) := dk_199 0 7 (dk_at dksJ20_rightOf_0 1 rfl rfl)
theorem dJ20_rightOf_4 : decode cJ20_rightOf 4 = .ok (.aconst_null, 1) := dk_1 (dk_at dksJ20_rightOf_0 4 rfl rfl)
theorem dJ20_rightOf_5 : decode cJ20_rightOf 5 = .ok (.goto 7, 3) := dk_167 0 7 (dk_at dksJ20_rightOf_0 5 rfl rfl)
theorem dJ20_rightOf_8 : decode cJ20_rightOf 8 = .ok (.aload_n 0, 1) := dk_42 (dk_at dksJ20_rightOf_0 8 rfl rfl)
theorem dJ20_rightOf_9 : decode cJ20_rightOf 9 = .ok (.getfield 114, 3) := dk_180 0 114 (dk_at dksJ20_rightOf_0 9 rfl rfl)
theorem dJ20_rightOf_12 : decode cJ20_rightOf 12 = .ok (.areturn, 1) := dk_176 (dk_at dksJ20_rightOf_0 12 rfl rfl)
abbrev cJ20_colorOf : ByteArray := prog_61_method_76_code
def yJ20_colorOf : MethodName := ⟨RJ20, "colorOf", "(Ljava/util/TreeMap$Entry;)Z"⟩
def dkwJ20_colorOf_0 : List UInt8 := [42, 199, 0, 7, 4, 167, 0, 7, 42, 180, 1, 34, 172]
abbrev dktJ20_colorOf_0 : List UInt8 := dkwJ20_colorOf_0 ++ []
theorem dksJ20_colorOf_0 : cJ20_colorOf.data.toList.drop 0 = dktJ20_colorOf_0 := by decide +kernel
theorem dJ20_colorOf_0 : decode cJ20_colorOf 0 = .ok (.aload_n 0, 1) := dk_42 (dk_at dksJ20_colorOf_0 0 rfl rfl)
theorem dJ20_colorOf_1 : decode cJ20_colorOf 1 = .ok (.ifnonnull 7, 3) := dk_199 0 7 (dk_at dksJ20_colorOf_0 1 rfl rfl)
theorem dJ20_colorOf_4 : decode cJ20_colorOf 4 = .ok (.iconst 1, 1) := dk_4 (dk_at dksJ20_colorOf_0 4 rfl rfl)
theorem dJ20_colorOf_5 : decode cJ20_colorOf 5 = .ok (.goto 7, 3) := dk_167 0 7 (dk_at dksJ20_colorOf_0 5 rfl rfl)
theorem dJ20_colorOf_8 : decode cJ20_colorOf 8 = .ok (.aload_n 0, 1) := dk_42 (dk_at dksJ20_colorOf_0 8 rfl rfl)
theorem dJ20_colorOf_9 : decode cJ20_colorOf 9 = .ok (.getfield 290, 3) := dk_180 1 34 (dk_at dksJ20_colorOf_0 9 rfl rfl)
theorem dJ20_colorOf_12 : decode cJ20_colorOf 12 = .ok (.ireturn, 1) := dk_172 (dk_at dksJ20_colorOf_0 12 rfl rfl)
abbrev cJ20_setColor : ByteArray := prog_61_method_78_code
def yJ20_setColor : MethodName := ⟨RJ20, "setColor", "(Ljava/util/TreeMap$Entry;Z)V"⟩
def dkwJ20_setColor_0 : List UInt8 := [42, 198, 0, 8, 42, 27, 181, 1, 34, 177]
abbrev dktJ20_setColor_0 : List UInt8 := dkwJ20_setColor_0 ++ []
theorem dksJ20_setColor_0 : cJ20_setColor.data.toList.drop 0 = dktJ20_setColor_0 := by decide +kernel
theorem dJ20_setColor_0 : decode cJ20_setColor 0 = .ok (.aload_n 0, 1) := dk_42 (dk_at dksJ20_setColor_0 0 rfl rfl)
theorem dJ20_setColor_1 : decode cJ20_setColor 1 = .ok (.ifnull 8, 3) := dk_198 0 8 (dk_at dksJ20_setColor_0 1 rfl rfl)
theorem dJ20_setColor_4 : decode cJ20_setColor 4 = .ok (.aload_n 0, 1) := dk_42 (dk_at dksJ20_setColor_0 4 rfl rfl)
theorem dJ20_setColor_5 : decode cJ20_setColor 5 = .ok (.iload_n 1, 1) := dk_27 (dk_at dksJ20_setColor_0 5 rfl rfl)
theorem dJ20_setColor_6 : decode cJ20_setColor 6 = .ok (.putfield 290, 3) := dk_181 1 34 (dk_at dksJ20_setColor_0 6 rfl rfl)
theorem dJ20_setColor_9 : decode cJ20_setColor 9 = .ok (.return_, 1) := dk_177 (dk_at dksJ20_setColor_0 9 rfl rfl)
abbrev cJ20_rotateLeft : ByteArray := prog_61_method_81_code
def yJ20_rotateLeft : MethodName := ⟨RJ20, "rotateLeft", "(Ljava/util/TreeMap$Entry;)V"⟩
def dkwJ20_rotateLeft_4 : List UInt8 := [177]
abbrev dktJ20_rotateLeft_4 : List UInt8 := dkwJ20_rotateLeft_4 ++ []
def dkwJ20_rotateLeft_3 : List UInt8 := [181, 0, 111, 167, 0, 11, 43, 180, 0, 124, 44, 181, 0, 114, 44, 43, 181, 0, 111, 43, 44, 181, 0, 124]
abbrev dktJ20_rotateLeft_3 : List UInt8 := dkwJ20_rotateLeft_3 ++ dktJ20_rotateLeft_4
def dkwJ20_rotateLeft_2 : List UInt8 := [44, 181, 0, 101, 167, 0, 33, 43, 180, 0, 124, 180, 0, 111, 43, 166, 0, 14, 43, 180, 0, 124, 44]
abbrev dktJ20_rotateLeft_2 : List UInt8 := dkwJ20_rotateLeft_2 ++ dktJ20_rotateLeft_3
def dkwJ20_rotateLeft_1 : List UInt8 := [44, 180, 0, 111, 43, 181, 0, 124, 44, 43, 180, 0, 124, 181, 0, 124, 43, 180, 0, 124, 199, 0, 11, 42]
abbrev dktJ20_rotateLeft_1 : List UInt8 := dkwJ20_rotateLeft_1 ++ dktJ20_rotateLeft_2
def dkwJ20_rotateLeft_0 : List UInt8 := [43, 198, 0, 94, 43, 180, 0, 114, 77, 43, 44, 180, 0, 111, 181, 0, 114, 44, 180, 0, 111, 198, 0, 11]
abbrev dktJ20_rotateLeft_0 : List UInt8 := dkwJ20_rotateLeft_0 ++ dktJ20_rotateLeft_1
theorem dksJ20_rotateLeft_0 : cJ20_rotateLeft.data.toList.drop 0 = dktJ20_rotateLeft_0 := by decide +kernel
theorem dksJ20_rotateLeft_1 : cJ20_rotateLeft.data.toList.drop 24 = dktJ20_rotateLeft_1 := dk_seg dksJ20_rotateLeft_0 24 rfl rfl
theorem dksJ20_rotateLeft_2 : cJ20_rotateLeft.data.toList.drop 48 = dktJ20_rotateLeft_2 := dk_seg dksJ20_rotateLeft_1 24 rfl rfl
theorem dksJ20_rotateLeft_3 : cJ20_rotateLeft.data.toList.drop 71 = dktJ20_rotateLeft_3 := dk_seg dksJ20_rotateLeft_2 23 rfl rfl
theorem dksJ20_rotateLeft_4 : cJ20_rotateLeft.data.toList.drop 95 = dktJ20_rotateLeft_4 := dk_seg dksJ20_rotateLeft_3 24 rfl rfl
theorem dJ20_rotateLeft_0 : decode cJ20_rotateLeft 0 = .ok (.aload_n 1, 1) := dk_43 (dk_at dksJ20_rotateLeft_0 0 rfl rfl)
theorem dJ20_rotateLeft_1 : decode cJ20_rotateLeft 1 = .ok (.ifnull 94, 3) := dk_198 0 94 (dk_at dksJ20_rotateLeft_0 1 rfl rfl)
theorem dJ20_rotateLeft_4 : decode cJ20_rotateLeft 4 = .ok (.aload_n 1, 1) := dk_43 (dk_at dksJ20_rotateLeft_0 4 rfl rfl)
theorem dJ20_rotateLeft_5 : decode cJ20_rotateLeft 5 = .ok (.getfield 114, 3) := dk_180 0 114 (dk_at dksJ20_rotateLeft_0 5 rfl rfl)
theorem dJ20_rotateLeft_8 : decode cJ20_rotateLeft 8 = .ok (.astore_n 2, 1) := dk_77 (dk_at dksJ20_rotateLeft_0 8 rfl rfl)
theorem dJ20_rotateLeft_9 : decode cJ20_rotateLeft 9 = .ok (.aload_n 1, 1) := dk_43 (dk_at dksJ20_rotateLeft_0 9 rfl rfl)
theorem dJ20_rotateLeft_10 : decode cJ20_rotateLeft 10 = .ok (.aload_n 2, 1) := dk_44 (dk_at dksJ20_rotateLeft_0 10 rfl rfl)
theorem dJ20_rotateLeft_11 : decode cJ20_rotateLeft 11 = .ok (.getfield 111, 3) := dk_180 0 111 (dk_at dksJ20_rotateLeft_0 11 rfl rfl)
theorem dJ20_rotateLeft_14 : decode cJ20_rotateLeft 14 = .ok (.putfield 114, 3) := dk_181 0 114 (dk_at dksJ20_rotateLeft_0 14 rfl rfl)
theorem dJ20_rotateLeft_17 : decode cJ20_rotateLeft 17 = .ok (.aload_n 2, 1) := dk_44 (dk_at dksJ20_rotateLeft_0 17 rfl rfl)
theorem dJ20_rotateLeft_18 : decode cJ20_rotateLeft 18 = .ok (.getfield 111, 3) := dk_180 0 111 (dk_at dksJ20_rotateLeft_0 18 rfl rfl)
theorem dJ20_rotateLeft_21 : decode cJ20_rotateLeft 21 = .ok (.ifnull 11, 3) := dk_198 0 11 (dk_at dksJ20_rotateLeft_0 21 rfl rfl)
theorem dJ20_rotateLeft_24 : decode cJ20_rotateLeft 24 = .ok (.aload_n 2, 1) := dk_44 (dk_at dksJ20_rotateLeft_1 0 rfl rfl)
theorem dJ20_rotateLeft_25 : decode cJ20_rotateLeft 25 = .ok (.getfield 111, 3) := dk_180 0 111 (dk_at dksJ20_rotateLeft_1 1 rfl rfl)
theorem dJ20_rotateLeft_28 : decode cJ20_rotateLeft 28 = .ok (.aload_n 1, 1) := dk_43 (dk_at dksJ20_rotateLeft_1 4 rfl rfl)
theorem dJ20_rotateLeft_29 : decode cJ20_rotateLeft 29 = .ok (.putfield 124, 3) := dk_181 0 124 (dk_at dksJ20_rotateLeft_1 5 rfl rfl)
theorem dJ20_rotateLeft_32 : decode cJ20_rotateLeft 32 = .ok (.aload_n 2, 1) := dk_44 (dk_at dksJ20_rotateLeft_1 8 rfl rfl)
theorem dJ20_rotateLeft_33 : decode cJ20_rotateLeft 33 = .ok (.aload_n 1, 1) := dk_43 (dk_at dksJ20_rotateLeft_1 9 rfl rfl)
theorem dJ20_rotateLeft_34 : decode cJ20_rotateLeft 34 = .ok (.getfield 124, 3) := dk_180 0 124 (dk_at dksJ20_rotateLeft_1 10 rfl rfl)
theorem dJ20_rotateLeft_37 : decode cJ20_rotateLeft 37 = .ok (.putfield 124, 3) := dk_181 0 124 (dk_at dksJ20_rotateLeft_1 13 rfl rfl)
theorem dJ20_rotateLeft_40 : decode cJ20_rotateLeft 40 = .ok (.aload_n 1, 1) := dk_43 (dk_at dksJ20_rotateLeft_1 16 rfl rfl)
theorem dJ20_rotateLeft_41 : decode cJ20_rotateLeft 41 = .ok (.getfield 124, 3) := dk_180 0 124 (dk_at dksJ20_rotateLeft_1 17 rfl rfl)
theorem dJ20_rotateLeft_44 : decode cJ20_rotateLeft 44 = .ok (.ifnonnull 11, 3) := dk_199 0 11 (dk_at dksJ20_rotateLeft_1 20 rfl rfl)
theorem dJ20_rotateLeft_47 : decode cJ20_rotateLeft 47 = .ok (.aload_n 0, 1) := dk_42 (dk_at dksJ20_rotateLeft_1 23 rfl rfl)
theorem dJ20_rotateLeft_48 : decode cJ20_rotateLeft 48 = .ok (.aload_n 2, 1) := dk_44 (dk_at dksJ20_rotateLeft_2 0 rfl rfl)
theorem dJ20_rotateLeft_49 : decode cJ20_rotateLeft 49 = .ok (.putfield 101, 3) := dk_181 0 101 (dk_at dksJ20_rotateLeft_2 1 rfl rfl)
theorem dJ20_rotateLeft_52 : decode cJ20_rotateLeft 52 = .ok (.goto 33, 3) := dk_167 0 33 (dk_at dksJ20_rotateLeft_2 4 rfl rfl)
theorem dJ20_rotateLeft_55 : decode cJ20_rotateLeft 55 = .ok (.aload_n 1, 1) := dk_43 (dk_at dksJ20_rotateLeft_2 7 rfl rfl)
theorem dJ20_rotateLeft_56 : decode cJ20_rotateLeft 56 = .ok (.getfield 124, 3) := dk_180 0 124 (dk_at dksJ20_rotateLeft_2 8 rfl rfl)
theorem dJ20_rotateLeft_59 : decode cJ20_rotateLeft 59 = .ok (.getfield 111, 3) := dk_180 0 111 (dk_at dksJ20_rotateLeft_2 11 rfl rfl)
theorem dJ20_rotateLeft_62 : decode cJ20_rotateLeft 62 = .ok (.aload_n 1, 1) := dk_43 (dk_at dksJ20_rotateLeft_2 14 rfl rfl)
theorem dJ20_rotateLeft_63 : decode cJ20_rotateLeft 63 = .ok (.if_acmp .ne 14, 3) := dk_166 0 14 (dk_at dksJ20_rotateLeft_2 15 rfl rfl)
theorem dJ20_rotateLeft_66 : decode cJ20_rotateLeft 66 = .ok (.aload_n 1, 1) := dk_43 (dk_at dksJ20_rotateLeft_2 18 rfl rfl)
theorem dJ20_rotateLeft_67 : decode cJ20_rotateLeft 67 = .ok (.getfield 124, 3) := dk_180 0 124 (dk_at dksJ20_rotateLeft_2 19 rfl rfl)
theorem dJ20_rotateLeft_70 : decode cJ20_rotateLeft 70 = .ok (.aload_n 2, 1) := dk_44 (dk_at dksJ20_rotateLeft_2 22 rfl rfl)
theorem dJ20_rotateLeft_71 : decode cJ20_rotateLeft 71 = .ok (.putfield 111, 3) := dk_181 0 111 (dk_at dksJ20_rotateLeft_3 0 rfl rfl)
theorem dJ20_rotateLeft_74 : decode cJ20_rotateLeft 74 = .ok (.goto 11, 3) := dk_167 0 11 (dk_at dksJ20_rotateLeft_3 3 rfl rfl)
theorem dJ20_rotateLeft_77 : decode cJ20_rotateLeft 77 = .ok (.aload_n 1, 1) := dk_43 (dk_at dksJ20_rotateLeft_3 6 rfl rfl)
theorem dJ20_rotateLeft_78 : decode cJ20_rotateLeft 78 = .ok (.getfield 124, 3) := dk_180 0 124 (dk_at dksJ20_rotateLeft_3 7 rfl rfl)
theorem dJ20_rotateLeft_81 : decode cJ20_rotateLeft 81 = .ok (.aload_n 2, 1) := dk_44 (dk_at dksJ20_rotateLeft_3 10 rfl rfl)
theorem dJ20_rotateLeft_82 : decode cJ20_rotateLeft 82 = .ok (.putfield 114, 3) := dk_181 0 114 (dk_at dksJ20_rotateLeft_3 11 rfl rfl)
theorem dJ20_rotateLeft_85 : decode cJ20_rotateLeft 85 = .ok (.aload_n 2, 1) := dk_44 (dk_at dksJ20_rotateLeft_3 14 rfl rfl)
theorem dJ20_rotateLeft_86 : decode cJ20_rotateLeft 86 = .ok (.aload_n 1, 1) := dk_43 (dk_at dksJ20_rotateLeft_3 15 rfl rfl)
theorem dJ20_rotateLeft_87 : decode cJ20_rotateLeft 87 = .ok (.putfield 111, 3) := dk_181 0 111 (dk_at dksJ20_rotateLeft_3 16 rfl rfl)
theorem dJ20_rotateLeft_90 : decode cJ20_rotateLeft 90 = .ok (.aload_n 1, 1) := dk_43 (dk_at dksJ20_rotateLeft_3 19 rfl rfl)
theorem dJ20_rotateLeft_91 : decode cJ20_rotateLeft 91 = .ok (.aload_n 2, 1) := dk_44 (dk_at dksJ20_rotateLeft_3 20 rfl rfl)
theorem dJ20_rotateLeft_92 : decode cJ20_rotateLeft 92 = .ok (.putfield 124, 3) := dk_181 0 124 (dk_at dksJ20_rotateLeft_3 21 rfl rfl)
theorem dJ20_rotateLeft_95 : decode cJ20_rotateLeft 95 = .ok (.return_, 1) := dk_177 (dk_at dksJ20_rotateLeft_4 0 rfl rfl)
abbrev cJ20_rotateRight : ByteArray := prog_61_method_82_code
def yJ20_rotateRight : MethodName := ⟨RJ20, "rotateRight", "(Ljava/util/TreeMap$Entry;)V"⟩
def dkwJ20_rotateRight_4 : List UInt8 := [177]
abbrev dktJ20_rotateRight_4 : List UInt8 := dkwJ20_rotateRight_4 ++ []
def dkwJ20_rotateRight_3 : List UInt8 := [181, 0, 114, 167, 0, 11, 43, 180, 0, 124, 44, 181, 0, 111, 44, 43, 181, 0, 114, 43, 44, 181, 0, 124]
abbrev dktJ20_rotateRight_3 : List UInt8 := dkwJ20_rotateRight_3 ++ dktJ20_rotateRight_4
def dkwJ20_rotateRight_2 : List UInt8 := [44, 181, 0, 101, 167, 0, 33, 43, 180, 0, 124, 180, 0, 114, 43, 166, 0, 14, 43, 180, 0, 124, 44]
abbrev dktJ20_rotateRight_2 : List UInt8 := dkwJ20_rotateRight_2 ++ dktJ20_rotateRight_3
def dkwJ20_rotateRight_1 : List UInt8 := [44, 180, 0, 114, 43, 181, 0, 124, 44, 43, 180, 0, 124, 181, 0, 124, 43, 180, 0, 124, 199, 0, 11, 42]
abbrev dktJ20_rotateRight_1 : List UInt8 := dkwJ20_rotateRight_1 ++ dktJ20_rotateRight_2
def dkwJ20_rotateRight_0 : List UInt8 := [43, 198, 0, 94, 43, 180, 0, 111, 77, 43, 44, 180, 0, 114, 181, 0, 111, 44, 180, 0, 114, 198, 0, 11]
abbrev dktJ20_rotateRight_0 : List UInt8 := dkwJ20_rotateRight_0 ++ dktJ20_rotateRight_1
theorem dksJ20_rotateRight_0 : cJ20_rotateRight.data.toList.drop 0 = dktJ20_rotateRight_0 := by decide +kernel
theorem dksJ20_rotateRight_1 : cJ20_rotateRight.data.toList.drop 24 = dktJ20_rotateRight_1 := dk_seg dksJ20_rotateRight_0 24 rfl rfl
theorem dksJ20_rotateRight_2 : cJ20_rotateRight.data.toList.drop 48 = dktJ20_rotateRight_2 := dk_seg dksJ20_rotateRight_1 24 rfl rfl
theorem dksJ20_rotateRight_3 : cJ20_rotateRight.data.toList.drop 71 = dktJ20_rotateRight_3 := dk_seg dksJ20_rotateRight_2 23 rfl rfl
theorem dksJ20_rotateRight_4 : cJ20_rotateRight.data.toList.drop 95 = dktJ20_rotateRight_4 := dk_seg dksJ20_rotateRight_3 24 rfl rfl
theorem dJ20_rotateRight_0 : decode cJ20_rotateRight 0 = .ok (.aload_n 1, 1) := dk_43 (dk_at dksJ20_rotateRight_0 0 rfl rfl)
theorem dJ20_rotateRight_1 : decode cJ20_rotateRight 1 = .ok (.ifnull 94, 3) := dk_198 0 94 (dk_at dksJ20_rotateRight_0 1 rfl rfl)
theorem dJ20_rotateRight_4 : decode cJ20_rotateRight 4 = .ok (.aload_n 1, 1) := dk_43 (dk_at dksJ20_rotateRight_0 4 rfl rfl)
theorem dJ20_rotateRight_5 : decode cJ20_rotateRight 5 = .ok (.getfield 111, 3) := dk_180 0 111 (dk_at dksJ20_rotateRight_0 5 rfl rfl)
theorem dJ20_rotateRight_8 : decode cJ20_rotateRight 8 = .ok (.astore_n 2, 1) := dk_77 (dk_at dksJ20_rotateRight_0 8 rfl rfl)
theorem dJ20_rotateRight_9 : decode cJ20_rotateRight 9 = .ok (.aload_n 1, 1) := dk_43 (dk_at dksJ20_rotateRight_0 9 rfl rfl)
theorem dJ20_rotateRight_10 : decode cJ20_rotateRight 10 = .ok (.aload_n 2, 1) := dk_44 (dk_at dksJ20_rotateRight_0 10 rfl rfl)
theorem dJ20_rotateRight_11 : decode cJ20_rotateRight 11 = .ok (.getfield 114, 3) := dk_180 0 114 (dk_at dksJ20_rotateRight_0 11 rfl rfl)
theorem dJ20_rotateRight_14 : decode cJ20_rotateRight 14 = .ok (.putfield 111, 3) := dk_181 0 111 (dk_at dksJ20_rotateRight_0 14 rfl rfl)
theorem dJ20_rotateRight_17 : decode cJ20_rotateRight 17 = .ok (.aload_n 2, 1) := dk_44 (dk_at dksJ20_rotateRight_0 17 rfl rfl)
theorem dJ20_rotateRight_18 : decode cJ20_rotateRight 18 = .ok (.getfield 114, 3) := dk_180 0 114 (dk_at dksJ20_rotateRight_0 18 rfl rfl)
theorem dJ20_rotateRight_21 : decode cJ20_rotateRight 21 = .ok (.ifnull 11, 3) := dk_198 0 11 (dk_at dksJ20_rotateRight_0 21 rfl rfl)
theorem dJ20_rotateRight_24 : decode cJ20_rotateRight 24 = .ok (.aload_n 2, 1) := dk_44 (dk_at dksJ20_rotateRight_1 0 rfl rfl)
theorem dJ20_rotateRight_25 : decode cJ20_rotateRight 25 = .ok (.getfield 114, 3) := dk_180 0 114 (dk_at dksJ20_rotateRight_1 1 rfl rfl)
theorem dJ20_rotateRight_28 : decode cJ20_rotateRight 28 = .ok (.aload_n 1, 1) := dk_43 (dk_at dksJ20_rotateRight_1 4 rfl rfl)
theorem dJ20_rotateRight_29 : decode cJ20_rotateRight 29 = .ok (.putfield 124, 3) := dk_181 0 124 (dk_at dksJ20_rotateRight_1 5 rfl rfl)
theorem dJ20_rotateRight_32 : decode cJ20_rotateRight 32 = .ok (.aload_n 2, 1) := dk_44 (dk_at dksJ20_rotateRight_1 8 rfl rfl)
theorem dJ20_rotateRight_33 : decode cJ20_rotateRight 33 = .ok (.aload_n 1, 1) := dk_43 (dk_at dksJ20_rotateRight_1 9 rfl rfl)
theorem dJ20_rotateRight_34 : decode cJ20_rotateRight 34 = .ok (.getfield 124, 3) := dk_180 0 124 (dk_at dksJ20_rotateRight_1 10 rfl rfl)
theorem dJ20_rotateRight_37 : decode cJ20_rotateRight 37 = .ok (.putfield 124, 3) := dk_181 0 124 (dk_at dksJ20_rotateRight_1 13 rfl rfl)
theorem dJ20_rotateRight_40 : decode cJ20_rotateRight 40 = .ok (.aload_n 1, 1) := dk_43 (dk_at dksJ20_rotateRight_1 16 rfl rfl)
theorem dJ20_rotateRight_41 : decode cJ20_rotateRight 41 = .ok (.getfield 124, 3) := dk_180 0 124 (dk_at dksJ20_rotateRight_1 17 rfl rfl)
theorem dJ20_rotateRight_44 : decode cJ20_rotateRight 44 = .ok (.ifnonnull 11, 3) := dk_199 0 11 (dk_at dksJ20_rotateRight_1 20 rfl rfl)
theorem dJ20_rotateRight_47 : decode cJ20_rotateRight 47 = .ok (.aload_n 0, 1) := dk_42 (dk_at dksJ20_rotateRight_1 23 rfl rfl)
theorem dJ20_rotateRight_48 : decode cJ20_rotateRight 48 = .ok (.aload_n 2, 1) := dk_44 (dk_at dksJ20_rotateRight_2 0 rfl rfl)
theorem dJ20_rotateRight_49 : decode cJ20_rotateRight 49 = .ok (.putfield 101, 3) := dk_181 0 101 (dk_at dksJ20_rotateRight_2 1 rfl rfl)
theorem dJ20_rotateRight_52 : decode cJ20_rotateRight 52 = .ok (.goto 33, 3) := dk_167 0 33 (dk_at dksJ20_rotateRight_2 4 rfl rfl)
theorem dJ20_rotateRight_55 : decode cJ20_rotateRight 55 = .ok (.aload_n 1, 1) := dk_43 (dk_at dksJ20_rotateRight_2 7 rfl rfl)
theorem dJ20_rotateRight_56 : decode cJ20_rotateRight 56 = .ok (.getfield 124, 3) := dk_180 0 124 (dk_at dksJ20_rotateRight_2 8 rfl rfl)
theorem dJ20_rotateRight_59 : decode cJ20_rotateRight 59 = .ok (.getfield 114, 3) := dk_180 0 114 (dk_at dksJ20_rotateRight_2 11 rfl rfl)
theorem dJ20_rotateRight_62 : decode cJ20_rotateRight 62 = .ok (.aload_n 1, 1) := dk_43 (dk_at dksJ20_rotateRight_2 14 rfl rfl)
theorem dJ20_rotateRight_63 : decode cJ20_rotateRight 63 = .ok (.if_acmp .ne 14, 3) := dk_166 0 14 (dk_at dksJ20_rotateRight_2 15 rfl rfl)
theorem dJ20_rotateRight_66 : decode cJ20_rotateRight 66 = .ok (.aload_n 1, 1) := dk_43 (dk_at dksJ20_rotateRight_2 18 rfl rfl)
theorem dJ20_rotateRight_67 : decode cJ20_rotateRight 67 = .ok (.getfield 124, 3) := dk_180 0 124 (dk_at dksJ20_rotateRight_2 19 rfl rfl)
theorem dJ20_rotateRight_70 : decode cJ20_rotateRight 70 = .ok (.aload_n 2, 1) := dk_44 (dk_at dksJ20_rotateRight_2 22 rfl rfl)
theorem dJ20_rotateRight_71 : decode cJ20_rotateRight 71 = .ok (.putfield 114, 3) := dk_181 0 114 (dk_at dksJ20_rotateRight_3 0 rfl rfl)
theorem dJ20_rotateRight_74 : decode cJ20_rotateRight 74 = .ok (.goto 11, 3) := dk_167 0 11 (dk_at dksJ20_rotateRight_3 3 rfl rfl)
theorem dJ20_rotateRight_77 : decode cJ20_rotateRight 77 = .ok (.aload_n 1, 1) := dk_43 (dk_at dksJ20_rotateRight_3 6 rfl rfl)
theorem dJ20_rotateRight_78 : decode cJ20_rotateRight 78 = .ok (.getfield 124, 3) := dk_180 0 124 (dk_at dksJ20_rotateRight_3 7 rfl rfl)
theorem dJ20_rotateRight_81 : decode cJ20_rotateRight 81 = .ok (.aload_n 2, 1) := dk_44 (dk_at dksJ20_rotateRight_3 10 rfl rfl)
theorem dJ20_rotateRight_82 : decode cJ20_rotateRight 82 = .ok (.putfield 111, 3) := dk_181 0 111 (dk_at dksJ20_rotateRight_3 11 rfl rfl)
theorem dJ20_rotateRight_85 : decode cJ20_rotateRight 85 = .ok (.aload_n 2, 1) := dk_44 (dk_at dksJ20_rotateRight_3 14 rfl rfl)
theorem dJ20_rotateRight_86 : decode cJ20_rotateRight 86 = .ok (.aload_n 1, 1) := dk_43 (dk_at dksJ20_rotateRight_3 15 rfl rfl)
theorem dJ20_rotateRight_87 : decode cJ20_rotateRight 87 = .ok (.putfield 114, 3) := dk_181 0 114 (dk_at dksJ20_rotateRight_3 16 rfl rfl)
theorem dJ20_rotateRight_90 : decode cJ20_rotateRight 90 = .ok (.aload_n 1, 1) := dk_43 (dk_at dksJ20_rotateRight_3 19 rfl rfl)
theorem dJ20_rotateRight_91 : decode cJ20_rotateRight 91 = .ok (.aload_n 2, 1) := dk_44 (dk_at dksJ20_rotateRight_3 20 rfl rfl)
theorem dJ20_rotateRight_92 : decode cJ20_rotateRight 92 = .ok (.putfield 124, 3) := dk_181 0 124 (dk_at dksJ20_rotateRight_3 21 rfl rfl)
theorem dJ20_rotateRight_95 : decode cJ20_rotateRight 95 = .ok (.return_, 1) := dk_177 (dk_at dksJ20_rotateRight_4 0 rfl rfl)
abbrev cJ20_entrySet : ByteArray := prog_61_method_53_code
def yJ20_entrySet : MethodName := ⟨RJ20, "entrySet", "()Ljava/util/Set;"⟩
def dkwJ20_entrySet_1 : List UInt8 := [181, 0, 188, 176]
abbrev dktJ20_entrySet_1 : List UInt8 := dkwJ20_entrySet_1 ++ []
def dkwJ20_entrySet_0 : List UInt8 := [42, 180, 0, 188, 76, 43, 198, 0, 7, 43, 167, 0, 16, 42, 187, 0, 242, 89, 42, 183, 0, 244, 90]
abbrev dktJ20_entrySet_0 : List UInt8 := dkwJ20_entrySet_0 ++ dktJ20_entrySet_1
theorem dksJ20_entrySet_0 : cJ20_entrySet.data.toList.drop 0 = dktJ20_entrySet_0 := by decide +kernel
theorem dksJ20_entrySet_1 : cJ20_entrySet.data.toList.drop 23 = dktJ20_entrySet_1 := dk_seg dksJ20_entrySet_0 23 rfl rfl
theorem dJ20_entrySet_0 : decode cJ20_entrySet 0 = .ok (.aload_n 0, 1) := dk_42 (dk_at dksJ20_entrySet_0 0 rfl rfl)
theorem dJ20_entrySet_1 : decode cJ20_entrySet 1 = .ok (.getfield 188, 3) := dk_180 0 188 (dk_at dksJ20_entrySet_0 1 rfl rfl)
theorem dJ20_entrySet_4 : decode cJ20_entrySet 4 = .ok (.astore_n 1, 1) := dk_76 (dk_at dksJ20_entrySet_0 4 rfl rfl)
theorem dJ20_entrySet_5 : decode cJ20_entrySet 5 = .ok (.aload_n 1, 1) := dk_43 (dk_at dksJ20_entrySet_0 5 rfl rfl)
theorem dJ20_entrySet_6 : decode cJ20_entrySet 6 = .ok (.ifnull 7, 3) := dk_198 0 7 (dk_at dksJ20_entrySet_0 6 rfl rfl)
theorem dJ20_entrySet_9 : decode cJ20_entrySet 9 = .ok (.aload_n 1, 1) := dk_43 (dk_at dksJ20_entrySet_0 9 rfl rfl)
theorem dJ20_entrySet_10 : decode cJ20_entrySet 10 = .ok (.goto 16, 3) := dk_167 0 16 (dk_at dksJ20_entrySet_0 10 rfl rfl)
theorem dJ20_entrySet_13 : decode cJ20_entrySet 13 = .ok (.aload_n 0, 1) := dk_42 (dk_at dksJ20_entrySet_0 13 rfl rfl)
theorem dJ20_entrySet_14 : decode cJ20_entrySet 14 = .ok (.new 242, 3) := dk_187 0 242 (dk_at dksJ20_entrySet_0 14 rfl rfl)
theorem dJ20_entrySet_17 : decode cJ20_entrySet 17 = .ok (.dup, 1) := dk_89 (dk_at dksJ20_entrySet_0 17 rfl rfl)
theorem dJ20_entrySet_18 : decode cJ20_entrySet 18 = .ok (.aload_n 0, 1) := dk_42 (dk_at dksJ20_entrySet_0 18 rfl rfl)
theorem dJ20_entrySet_19 : decode cJ20_entrySet 19 = .ok (.invokespecial 244, 3) := dk_183 0 244 (dk_at dksJ20_entrySet_0 19 rfl rfl)
theorem dJ20_entrySet_22 : decode cJ20_entrySet 22 = .ok (.dup_x1, 1) := dk_90 (dk_at dksJ20_entrySet_0 22 rfl rfl)
theorem dJ20_entrySet_23 : decode cJ20_entrySet 23 = .ok (.putfield 188, 3) := dk_181 0 188 (dk_at dksJ20_entrySet_1 0 rfl rfl)
theorem dJ20_entrySet_26 : decode cJ20_entrySet 26 = .ok (.areturn, 1) := dk_176 (dk_at dksJ20_entrySet_1 3 rfl rfl)
abbrev cJ20_getFirstEntry : ByteArray := prog_61_method_72_code
def yJ20_getFirstEntry : MethodName := ⟨RJ20, "getFirstEntry", "()Ljava/util/TreeMap$Entry;"⟩
def dkwJ20_getFirstEntry_1 : List UInt8 := [43, 176]
abbrev dktJ20_getFirstEntry_1 : List UInt8 := dkwJ20_getFirstEntry_1 ++ []
def dkwJ20_getFirstEntry_0 : List UInt8 := [42, 180, 0, 101, 76, 43, 198, 0, 18, 43, 180, 0, 111, 198, 0, 11, 43, 180, 0, 111, 76, 167, 255, 244]
abbrev dktJ20_getFirstEntry_0 : List UInt8 := dkwJ20_getFirstEntry_0 ++ dktJ20_getFirstEntry_1
theorem dksJ20_getFirstEntry_0 : cJ20_getFirstEntry.data.toList.drop 0 = dktJ20_getFirstEntry_0 := by decide +kernel
theorem dksJ20_getFirstEntry_1 : cJ20_getFirstEntry.data.toList.drop 24 = dktJ20_getFirstEntry_1 := dk_seg dksJ20_getFirstEntry_0 24 rfl rfl
theorem dJ20_getFirstEntry_0 : decode cJ20_getFirstEntry 0 = .ok (.aload_n 0, 1) := dk_42 (dk_at dksJ20_getFirstEntry_0 0 rfl rfl)
theorem dJ20_getFirstEntry_1 : decode cJ20_getFirstEntry 1 = .ok (.getfield 101, 3) := dk_180 0 101 (dk_at dksJ20_getFirstEntry_0 1 rfl rfl)
theorem dJ20_getFirstEntry_4 : decode cJ20_getFirstEntry 4 = .ok (.astore_n 1, 1) := dk_76 (dk_at dksJ20_getFirstEntry_0 4 rfl rfl)
theorem dJ20_getFirstEntry_5 : decode cJ20_getFirstEntry 5 = .ok (.aload_n 1, 1) := dk_43 (dk_at dksJ20_getFirstEntry_0 5 rfl rfl)
theorem dJ20_getFirstEntry_6 : decode cJ20_getFirstEntry 6 = .ok (.ifnull 18, 3) := dk_198 0 18 (dk_at dksJ20_getFirstEntry_0 6 rfl rfl)
theorem dJ20_getFirstEntry_9 : decode cJ20_getFirstEntry 9 = .ok (.aload_n 1, 1) := dk_43 (dk_at dksJ20_getFirstEntry_0 9 rfl rfl)
theorem dJ20_getFirstEntry_10 : decode cJ20_getFirstEntry 10 = .ok (.getfield 111, 3) := dk_180 0 111 (dk_at dksJ20_getFirstEntry_0 10 rfl rfl)
theorem dJ20_getFirstEntry_13 : decode cJ20_getFirstEntry 13 = .ok (.ifnull 11, 3) := dk_198 0 11 (dk_at dksJ20_getFirstEntry_0 13 rfl rfl)
theorem dJ20_getFirstEntry_16 : decode cJ20_getFirstEntry 16 = .ok (.aload_n 1, 1) := dk_43 (dk_at dksJ20_getFirstEntry_0 16 rfl rfl)
theorem dJ20_getFirstEntry_17 : decode cJ20_getFirstEntry 17 = .ok (.getfield 111, 3) := dk_180 0 111 (dk_at dksJ20_getFirstEntry_0 17 rfl rfl)
theorem dJ20_getFirstEntry_20 : decode cJ20_getFirstEntry 20 = .ok (.astore_n 1, 1) := dk_76 (dk_at dksJ20_getFirstEntry_0 20 rfl rfl)
theorem dJ20_getFirstEntry_21 : decode cJ20_getFirstEntry 21 = .ok (.goto (-12), 3) := dk_167 255 244 (dk_at dksJ20_getFirstEntry_0 21 rfl rfl)
theorem dJ20_getFirstEntry_24 : decode cJ20_getFirstEntry 24 = .ok (.aload_n 1, 1) := dk_43 (dk_at dksJ20_getFirstEntry_1 0 rfl rfl)
theorem dJ20_getFirstEntry_25 : decode cJ20_getFirstEntry 25 = .ok (.areturn, 1) := dk_176 (dk_at dksJ20_getFirstEntry_1 1 rfl rfl)
abbrev cJ20_successor : ByteArray := prog_61_method_74_code
def yJ20_successor : MethodName := ⟨RJ20, "successor", "(Ljava/util/TreeMap$Entry;)Ljava/util/TreeMap$Entry;"⟩
def dkwJ20_successor_2 : List UInt8 := [44, 43, 180, 0, 114, 166, 0, 13, 43, 77, 43, 180, 0, 124, 76, 167, 255, 237, 43, 176]
abbrev dktJ20_successor_2 : List UInt8 := dkwJ20_successor_2 ++ []
def dkwJ20_successor_1 : List UInt8 := [198, 0, 11, 43, 180, 0, 111, 76, 167, 255, 244, 43, 176, 42, 180, 0, 124, 76, 42, 77, 43, 198, 0, 21]
abbrev dktJ20_successor_1 : List UInt8 := dkwJ20_successor_1 ++ dktJ20_successor_2
def dkwJ20_successor_0 : List UInt8 := [42, 199, 0, 5, 1, 176, 42, 180, 0, 114, 198, 0, 25, 42, 180, 0, 114, 76, 43, 180, 0, 111]
abbrev dktJ20_successor_0 : List UInt8 := dkwJ20_successor_0 ++ dktJ20_successor_1
theorem dksJ20_successor_0 : cJ20_successor.data.toList.drop 0 = dktJ20_successor_0 := by decide +kernel
theorem dksJ20_successor_1 : cJ20_successor.data.toList.drop 22 = dktJ20_successor_1 := dk_seg dksJ20_successor_0 22 rfl rfl
theorem dksJ20_successor_2 : cJ20_successor.data.toList.drop 46 = dktJ20_successor_2 := dk_seg dksJ20_successor_1 24 rfl rfl
theorem dJ20_successor_0 : decode cJ20_successor 0 = .ok (.aload_n 0, 1) := dk_42 (dk_at dksJ20_successor_0 0 rfl rfl)
theorem dJ20_successor_1 : decode cJ20_successor 1 = .ok (.ifnonnull 5, 3) := dk_199 0 5 (dk_at dksJ20_successor_0 1 rfl rfl)
theorem dJ20_successor_4 : decode cJ20_successor 4 = .ok (.aconst_null, 1) := dk_1 (dk_at dksJ20_successor_0 4 rfl rfl)
theorem dJ20_successor_5 : decode cJ20_successor 5 = .ok (.areturn, 1) := dk_176 (dk_at dksJ20_successor_0 5 rfl rfl)
theorem dJ20_successor_6 : decode cJ20_successor 6 = .ok (.aload_n 0, 1) := dk_42 (dk_at dksJ20_successor_0 6 rfl rfl)
theorem dJ20_successor_7 : decode cJ20_successor 7 = .ok (.getfield 114, 3) := dk_180 0 114 (dk_at dksJ20_successor_0 7 rfl rfl)
theorem dJ20_successor_10 : decode cJ20_successor 10 = .ok (.ifnull 25, 3) := dk_198 0 25 (dk_at dksJ20_successor_0 10 rfl rfl)
theorem dJ20_successor_13 : decode cJ20_successor 13 = .ok (.aload_n 0, 1) := dk_42 (dk_at dksJ20_successor_0 13 rfl rfl)
theorem dJ20_successor_14 : decode cJ20_successor 14 = .ok (.getfield 114, 3) := dk_180 0 114 (dk_at dksJ20_successor_0 14 rfl rfl)
theorem dJ20_successor_17 : decode cJ20_successor 17 = .ok (.astore_n 1, 1) := dk_76 (dk_at dksJ20_successor_0 17 rfl rfl)
theorem dJ20_successor_18 : decode cJ20_successor 18 = .ok (.aload_n 1, 1) := dk_43 (dk_at dksJ20_successor_0 18 rfl rfl)
theorem dJ20_successor_19 : decode cJ20_successor 19 = .ok (.getfield 111, 3) := dk_180 0 111 (dk_at dksJ20_successor_0 19 rfl rfl)
theorem dJ20_successor_22 : decode cJ20_successor 22 = .ok (.ifnull 11, 3) := dk_198 0 11 (dk_at dksJ20_successor_1 0 rfl rfl)
theorem dJ20_successor_25 : decode cJ20_successor 25 = .ok (.aload_n 1, 1) := dk_43 (dk_at dksJ20_successor_1 3 rfl rfl)
theorem dJ20_successor_26 : decode cJ20_successor 26 = .ok (.getfield 111, 3) := dk_180 0 111 (dk_at dksJ20_successor_1 4 rfl rfl)
theorem dJ20_successor_29 : decode cJ20_successor 29 = .ok (.astore_n 1, 1) := dk_76 (dk_at dksJ20_successor_1 7 rfl rfl)
theorem dJ20_successor_30 : decode cJ20_successor 30 = .ok (.goto (-12), 3) := dk_167 255 244 (dk_at dksJ20_successor_1 8 rfl rfl)
theorem dJ20_successor_33 : decode cJ20_successor 33 = .ok (.aload_n 1, 1) := dk_43 (dk_at dksJ20_successor_1 11 rfl rfl)
theorem dJ20_successor_34 : decode cJ20_successor 34 = .ok (.areturn, 1) := dk_176 (dk_at dksJ20_successor_1 12 rfl rfl)
theorem dJ20_successor_35 : decode cJ20_successor 35 = .ok (.aload_n 0, 1) := dk_42 (dk_at dksJ20_successor_1 13 rfl rfl)
theorem dJ20_successor_36 : decode cJ20_successor 36 = .ok (.getfield 124, 3) := dk_180 0 124 (dk_at dksJ20_successor_1 14 rfl rfl)
theorem dJ20_successor_39 : decode cJ20_successor 39 = .ok (.astore_n 1, 1) := dk_76 (dk_at dksJ20_successor_1 17 rfl rfl)
theorem dJ20_successor_40 : decode cJ20_successor 40 = .ok (.aload_n 0, 1) := dk_42 (dk_at dksJ20_successor_1 18 rfl rfl)
theorem dJ20_successor_41 : decode cJ20_successor 41 = .ok (.astore_n 2, 1) := dk_77 (dk_at dksJ20_successor_1 19 rfl rfl)
theorem dJ20_successor_42 : decode cJ20_successor 42 = .ok (.aload_n 1, 1) := dk_43 (dk_at dksJ20_successor_1 20 rfl rfl)
theorem dJ20_successor_43 : decode cJ20_successor 43 = .ok (.ifnull 21, 3) := dk_198 0 21 (dk_at dksJ20_successor_1 21 rfl rfl)
theorem dJ20_successor_46 : decode cJ20_successor 46 = .ok (.aload_n 2, 1) := dk_44 (dk_at dksJ20_successor_2 0 rfl rfl)
theorem dJ20_successor_47 : decode cJ20_successor 47 = .ok (.aload_n 1, 1) := dk_43 (dk_at dksJ20_successor_2 1 rfl rfl)
theorem dJ20_successor_48 : decode cJ20_successor 48 = .ok (.getfield 114, 3) := dk_180 0 114 (dk_at dksJ20_successor_2 2 rfl rfl)
theorem dJ20_successor_51 : decode cJ20_successor 51 = .ok (.if_acmp .ne 13, 3) := dk_166 0 13 (dk_at dksJ20_successor_2 5 rfl rfl)
theorem dJ20_successor_54 : decode cJ20_successor 54 = .ok (.aload_n 1, 1) := dk_43 (dk_at dksJ20_successor_2 8 rfl rfl)
theorem dJ20_successor_55 : decode cJ20_successor 55 = .ok (.astore_n 2, 1) := dk_77 (dk_at dksJ20_successor_2 9 rfl rfl)
theorem dJ20_successor_56 : decode cJ20_successor 56 = .ok (.aload_n 1, 1) := dk_43 (dk_at dksJ20_successor_2 10 rfl rfl)
theorem dJ20_successor_57 : decode cJ20_successor 57 = .ok (.getfield 124, 3) := dk_180 0 124 (dk_at dksJ20_successor_2 11 rfl rfl)
theorem dJ20_successor_60 : decode cJ20_successor 60 = .ok (.astore_n 1, 1) := dk_76 (dk_at dksJ20_successor_2 14 rfl rfl)
theorem dJ20_successor_61 : decode cJ20_successor 61 = .ok (.goto (-19), 3) := dk_167 255 237 (dk_at dksJ20_successor_2 15 rfl rfl)
theorem dJ20_successor_64 : decode cJ20_successor 64 = .ok (.aload_n 1, 1) := dk_43 (dk_at dksJ20_successor_2 18 rfl rfl)
theorem dJ20_successor_65 : decode cJ20_successor 65 = .ok (.areturn, 1) := dk_176 (dk_at dksJ20_successor_2 19 rfl rfl)
abbrev cJ20_get : ByteArray := prog_61_method_8_code
def yJ20_get : MethodName := ⟨RJ20, "get", "(Ljava/lang/Object;)Ljava/lang/Object;"⟩
def dkwJ20_get_0 : List UInt8 := [42, 43, 182, 0, 50, 77, 44, 199, 0, 7, 1, 167, 0, 7, 44, 180, 0, 58, 176]
abbrev dktJ20_get_0 : List UInt8 := dkwJ20_get_0 ++ []
theorem dksJ20_get_0 : cJ20_get.data.toList.drop 0 = dktJ20_get_0 := by decide +kernel
theorem dJ20_get_0 : decode cJ20_get 0 = .ok (.aload_n 0, 1) := dk_42 (dk_at dksJ20_get_0 0 rfl rfl)
theorem dJ20_get_1 : decode cJ20_get 1 = .ok (.aload_n 1, 1) := dk_43 (dk_at dksJ20_get_0 1 rfl rfl)
theorem dJ20_get_2 : decode cJ20_get 2 = .ok (.invokevirtual 50, 3) := dk_182 0 50 (dk_at dksJ20_get_0 2 rfl rfl)
theorem dJ20_get_5 : decode cJ20_get 5 = .ok (.astore_n 2, 1) := dk_77 (dk_at dksJ20_get_0 5 rfl rfl)
theorem dJ20_get_6 : decode cJ20_get 6 = .ok (.aload_n 2, 1) := dk_44 (dk_at dksJ20_get_0 6 rfl rfl)
theorem dJ20_get_7 : decode cJ20_get 7 = .ok (.ifnonnull 7, 3) := dk_199 0 7 (dk_at dksJ20_get_0 7 rfl rfl)
theorem dJ20_get_10 : decode cJ20_get 10 = .ok (.aconst_null, 1) := dk_1 (dk_at dksJ20_get_0 10 rfl rfl)
theorem dJ20_get_11 : decode cJ20_get 11 = .ok (.goto 7, 3) := dk_167 0 7 (dk_at dksJ20_get_0 11 rfl rfl)
theorem dJ20_get_14 : decode cJ20_get 14 = .ok (.aload_n 2, 1) := dk_44 (dk_at dksJ20_get_0 14 rfl rfl)
theorem dJ20_get_15 : decode cJ20_get 15 = .ok (.getfield 58, 3) := dk_180 0 58 (dk_at dksJ20_get_0 15 rfl rfl)
theorem dJ20_get_18 : decode cJ20_get 18 = .ok (.areturn, 1) := dk_176 (dk_at dksJ20_get_0 18 rfl rfl)
abbrev cJ20_getEntry : ByteArray := prog_61_method_15_code
def yJ20_getEntry : MethodName := ⟨RJ20, "getEntry", "(Ljava/lang/Object;)Ljava/util/TreeMap$Entry;"⟩
def dkwJ20_getEntry_3 : List UInt8 := [45, 176, 167, 255, 212, 1, 176]
abbrev dktJ20_getEntry_3 : List UInt8 := dkwJ20_getEntry_3 ++ []
def dkwJ20_getEntry_2 : List UInt8 := [156, 0, 11, 45, 180, 0, 111, 78, 167, 0, 18, 21, 4, 158, 0, 11, 45, 180, 0, 114, 78, 167, 0, 5]
abbrev dktJ20_getEntry_2 : List UInt8 := dkwJ20_getEntry_2 ++ dktJ20_getEntry_3
def dkwJ20_getEntry_1 : List UInt8 := [180, 0, 101, 78, 45, 198, 0, 46, 44, 45, 180, 0, 105, 185, 0, 107, 2, 0, 54, 4, 21, 4]
abbrev dktJ20_getEntry_1 : List UInt8 := dkwJ20_getEntry_1 ++ dktJ20_getEntry_2
def dkwJ20_getEntry_0 : List UInt8 := [42, 180, 0, 16, 198, 0, 9, 42, 43, 182, 0, 92, 176, 43, 184, 0, 95, 87, 43, 192, 0, 99, 77, 42]
abbrev dktJ20_getEntry_0 : List UInt8 := dkwJ20_getEntry_0 ++ dktJ20_getEntry_1
theorem dksJ20_getEntry_0 : cJ20_getEntry.data.toList.drop 0 = dktJ20_getEntry_0 := by decide +kernel
theorem dksJ20_getEntry_1 : cJ20_getEntry.data.toList.drop 24 = dktJ20_getEntry_1 := dk_seg dksJ20_getEntry_0 24 rfl rfl
theorem dksJ20_getEntry_2 : cJ20_getEntry.data.toList.drop 46 = dktJ20_getEntry_2 := dk_seg dksJ20_getEntry_1 22 rfl rfl
theorem dksJ20_getEntry_3 : cJ20_getEntry.data.toList.drop 70 = dktJ20_getEntry_3 := dk_seg dksJ20_getEntry_2 24 rfl rfl
theorem dJ20_getEntry_0 : decode cJ20_getEntry 0 = .ok (.aload_n 0, 1) := dk_42 (dk_at dksJ20_getEntry_0 0 rfl rfl)
theorem dJ20_getEntry_1 : decode cJ20_getEntry 1 = .ok (.getfield 16, 3) := dk_180 0 16 (dk_at dksJ20_getEntry_0 1 rfl rfl)
theorem dJ20_getEntry_4 : decode cJ20_getEntry 4 = .ok (.ifnull 9, 3) := dk_198 0 9 (dk_at dksJ20_getEntry_0 4 rfl rfl)
theorem dJ20_getEntry_7 : decode cJ20_getEntry 7 = .ok (.aload_n 0, 1) := dk_42 (dk_at dksJ20_getEntry_0 7 rfl rfl)
theorem dJ20_getEntry_8 : decode cJ20_getEntry 8 = .ok (.aload_n 1, 1) := dk_43 (dk_at dksJ20_getEntry_0 8 rfl rfl)
theorem dJ20_getEntry_9 : decode cJ20_getEntry 9 = .ok (.invokevirtual 92, 3) := dk_182 0 92 (dk_at dksJ20_getEntry_0 9 rfl rfl)
theorem dJ20_getEntry_12 : decode cJ20_getEntry 12 = .ok (.areturn, 1) := dk_176 (dk_at dksJ20_getEntry_0 12 rfl rfl)
theorem dJ20_getEntry_13 : decode cJ20_getEntry 13 = .ok (.aload_n 1, 1) := dk_43 (dk_at dksJ20_getEntry_0 13 rfl rfl)
theorem dJ20_getEntry_14 : decode cJ20_getEntry 14 = .ok (.invokestatic 95, 3) := dk_184 0 95 (dk_at dksJ20_getEntry_0 14 rfl rfl)
theorem dJ20_getEntry_17 : decode cJ20_getEntry 17 = .ok (.pop, 1) := dk_87 (dk_at dksJ20_getEntry_0 17 rfl rfl)
theorem dJ20_getEntry_18 : decode cJ20_getEntry 18 = .ok (.aload_n 1, 1) := dk_43 (dk_at dksJ20_getEntry_0 18 rfl rfl)
theorem dJ20_getEntry_19 : decode cJ20_getEntry 19 = .ok (.checkcast 99, 3) := dk_192 0 99 (dk_at dksJ20_getEntry_0 19 rfl rfl)
theorem dJ20_getEntry_22 : decode cJ20_getEntry 22 = .ok (.astore_n 2, 1) := dk_77 (dk_at dksJ20_getEntry_0 22 rfl rfl)
theorem dJ20_getEntry_23 : decode cJ20_getEntry 23 = .ok (.aload_n 0, 1) := dk_42 (dk_at dksJ20_getEntry_0 23 rfl rfl)
theorem dJ20_getEntry_24 : decode cJ20_getEntry 24 = .ok (.getfield 101, 3) := dk_180 0 101 (dk_at dksJ20_getEntry_1 0 rfl rfl)
theorem dJ20_getEntry_27 : decode cJ20_getEntry 27 = .ok (.astore_n 3, 1) := dk_78 (dk_at dksJ20_getEntry_1 3 rfl rfl)
theorem dJ20_getEntry_28 : decode cJ20_getEntry 28 = .ok (.aload_n 3, 1) := dk_45 (dk_at dksJ20_getEntry_1 4 rfl rfl)
theorem dJ20_getEntry_29 : decode cJ20_getEntry 29 = .ok (.ifnull 46, 3) := dk_198 0 46 (dk_at dksJ20_getEntry_1 5 rfl rfl)
theorem dJ20_getEntry_32 : decode cJ20_getEntry 32 = .ok (.aload_n 2, 1) := dk_44 (dk_at dksJ20_getEntry_1 8 rfl rfl)
theorem dJ20_getEntry_33 : decode cJ20_getEntry 33 = .ok (.aload_n 3, 1) := dk_45 (dk_at dksJ20_getEntry_1 9 rfl rfl)
theorem dJ20_getEntry_34 : decode cJ20_getEntry 34 = .ok (.getfield 105, 3) := dk_180 0 105 (dk_at dksJ20_getEntry_1 10 rfl rfl)
theorem dJ20_getEntry_37 : decode cJ20_getEntry 37 = .ok (.invokeinterface 107 2, 5) := by decide +kernel
theorem dJ20_getEntry_42 : decode cJ20_getEntry 42 = .ok (.istore 4, 2) := dk_54 4 (dk_at dksJ20_getEntry_1 18 rfl rfl)
theorem dJ20_getEntry_44 : decode cJ20_getEntry 44 = .ok (.iload 4, 2) := dk_21 4 (dk_at dksJ20_getEntry_1 20 rfl rfl)
theorem dJ20_getEntry_46 : decode cJ20_getEntry 46 = .ok (.ifCond .ge 11, 3) := dk_156 0 11 (dk_at dksJ20_getEntry_2 0 rfl rfl)
theorem dJ20_getEntry_49 : decode cJ20_getEntry 49 = .ok (.aload_n 3, 1) := dk_45 (dk_at dksJ20_getEntry_2 3 rfl rfl)
theorem dJ20_getEntry_50 : decode cJ20_getEntry 50 = .ok (.getfield 111, 3) := dk_180 0 111 (dk_at dksJ20_getEntry_2 4 rfl rfl)
theorem dJ20_getEntry_53 : decode cJ20_getEntry 53 = .ok (.astore_n 3, 1) := dk_78 (dk_at dksJ20_getEntry_2 7 rfl rfl)
theorem dJ20_getEntry_54 : decode cJ20_getEntry 54 = .ok (.goto 18, 3) := dk_167 0 18 (dk_at dksJ20_getEntry_2 8 rfl rfl)
theorem dJ20_getEntry_57 : decode cJ20_getEntry 57 = .ok (.iload 4, 2) := dk_21 4 (dk_at dksJ20_getEntry_2 11 rfl rfl)
theorem dJ20_getEntry_59 : decode cJ20_getEntry 59 = .ok (.ifCond .le 11, 3) := dk_158 0 11 (dk_at dksJ20_getEntry_2 13 rfl rfl)
theorem dJ20_getEntry_62 : decode cJ20_getEntry 62 = .ok (.aload_n 3, 1) := dk_45 (dk_at dksJ20_getEntry_2 16 rfl rfl)
theorem dJ20_getEntry_63 : decode cJ20_getEntry 63 = .ok (.getfield 114, 3) := dk_180 0 114 (dk_at dksJ20_getEntry_2 17 rfl rfl)
theorem dJ20_getEntry_66 : decode cJ20_getEntry 66 = .ok (.astore_n 3, 1) := dk_78 (dk_at dksJ20_getEntry_2 20 rfl rfl)
theorem dJ20_getEntry_67 : decode cJ20_getEntry 67 = .ok (.goto 5, 3) := dk_167 0 5 (dk_at dksJ20_getEntry_2 21 rfl rfl)
theorem dJ20_getEntry_70 : decode cJ20_getEntry 70 = .ok (.aload_n 3, 1) := dk_45 (dk_at dksJ20_getEntry_3 0 rfl rfl)
theorem dJ20_getEntry_71 : decode cJ20_getEntry 71 = .ok (.areturn, 1) := dk_176 (dk_at dksJ20_getEntry_3 1 rfl rfl)
theorem dJ20_getEntry_72 : decode cJ20_getEntry 72 = .ok (.goto (-44), 3) := dk_167 255 212 (dk_at dksJ20_getEntry_3 2 rfl rfl)
theorem dJ20_getEntry_75 : decode cJ20_getEntry 75 = .ok (.aconst_null, 1) := dk_1 (dk_at dksJ20_getEntry_3 5 rfl rfl)
theorem dJ20_getEntry_76 : decode cJ20_getEntry 76 = .ok (.areturn, 1) := dk_176 (dk_at dksJ20_getEntry_3 6 rfl rfl)
abbrev cJ20_getEntryUsingComparator : ByteArray := prog_61_method_16_code
def yJ20_getEntryUsingComparator : MethodName := ⟨RJ20, "getEntryUsingComparator", "(Ljava/lang/Object;)Ljava/util/TreeMap$Entry;"⟩
def dkwJ20_getEntryUsingComparator_3 : List UInt8 := [1, 176]
abbrev dktJ20_getEntryUsingComparator_3 : List UInt8 := dkwJ20_getEntryUsingComparator_3 ++ []
def dkwJ20_getEntryUsingComparator_2 : List UInt8 := [167, 0, 21, 21, 5, 158, 0, 13, 25, 4, 180, 0, 114, 58, 4, 167, 0, 6, 25, 4, 176, 167, 255, 204]
abbrev dktJ20_getEntryUsingComparator_2 : List UInt8 := dkwJ20_getEntryUsingComparator_2 ++ dktJ20_getEntryUsingComparator_3
def dkwJ20_getEntryUsingComparator_1 : List UInt8 := [25, 4, 180, 0, 105, 185, 0, 117, 3, 0, 54, 5, 21, 5, 156, 0, 13, 25, 4, 180, 0, 111, 58, 4]
abbrev dktJ20_getEntryUsingComparator_1 : List UInt8 := dkwJ20_getEntryUsingComparator_1 ++ dktJ20_getEntryUsingComparator_2
def dkwJ20_getEntryUsingComparator_0 : List UInt8 := [43, 77, 42, 180, 0, 16, 78, 45, 198, 0, 64, 42, 180, 0, 101, 58, 4, 25, 4, 198, 0, 53, 45, 44]
abbrev dktJ20_getEntryUsingComparator_0 : List UInt8 := dkwJ20_getEntryUsingComparator_0 ++ dktJ20_getEntryUsingComparator_1
theorem dksJ20_getEntryUsingComparator_0 : cJ20_getEntryUsingComparator.data.toList.drop 0 = dktJ20_getEntryUsingComparator_0 := by decide +kernel
theorem dksJ20_getEntryUsingComparator_1 : cJ20_getEntryUsingComparator.data.toList.drop 24 = dktJ20_getEntryUsingComparator_1 := dk_seg dksJ20_getEntryUsingComparator_0 24 rfl rfl
theorem dksJ20_getEntryUsingComparator_2 : cJ20_getEntryUsingComparator.data.toList.drop 48 = dktJ20_getEntryUsingComparator_2 := dk_seg dksJ20_getEntryUsingComparator_1 24 rfl rfl
theorem dksJ20_getEntryUsingComparator_3 : cJ20_getEntryUsingComparator.data.toList.drop 72 = dktJ20_getEntryUsingComparator_3 := dk_seg dksJ20_getEntryUsingComparator_2 24 rfl rfl
theorem dJ20_getEntryUsingComparator_0 : decode cJ20_getEntryUsingComparator 0 = .ok (.aload_n 1, 1) := dk_43 (dk_at dksJ20_getEntryUsingComparator_0 0 rfl rfl)
theorem dJ20_getEntryUsingComparator_1 : decode cJ20_getEntryUsingComparator 1 = .ok (.astore_n 2, 1) := dk_77 (dk_at dksJ20_getEntryUsingComparator_0 1 rfl rfl)
theorem dJ20_getEntryUsingComparator_2 : decode cJ20_getEntryUsingComparator 2 = .ok (.aload_n 0, 1) := dk_42 (dk_at dksJ20_getEntryUsingComparator_0 2 rfl rfl)
theorem dJ20_getEntryUsingComparator_3 : decode cJ20_getEntryUsingComparator 3 = .ok (.getfield 16, 3) := dk_180 0 16 (dk_at dksJ20_getEntryUsingComparator_0 3 rfl rfl)
theorem dJ20_getEntryUsingComparator_6 : decode cJ20_getEntryUsingComparator 6 = .ok (.astore_n 3, 1) := dk_78 (dk_at dksJ20_getEntryUsingComparator_0 6 rfl rfl)
theorem dJ20_getEntryUsingComparator_7 : decode cJ20_getEntryUsingComparator 7 = .ok (.aload_n 3, 1) := dk_45 (dk_at dksJ20_getEntryUsingComparator_0 7 rfl rfl)
theorem dJ20_getEntryUsingComparator_8 : decode cJ20_getEntryUsingComparator 8 = .ok (.ifnull 64, 3) := dk_198 0 64 (dk_at dksJ20_getEntryUsingComparator_0 8 rfl rfl)
theorem dJ20_getEntryUsingComparator_11 : decode cJ20_getEntryUsingComparator 11 = .ok (.aload_n 0, 1) := dk_42 (dk_at dksJ20_getEntryUsingComparator_0 11 rfl rfl)
theorem dJ20_getEntryUsingComparator_12 : decode cJ20_getEntryUsingComparator 12 = .ok (.getfield 101, 3) := dk_180 0 101 (dk_at dksJ20_getEntryUsingComparator_0 12 rfl rfl)
theorem dJ20_getEntryUsingComparator_15 : decode cJ20_getEntryUsingComparator 15 = .ok (.astore 4, 2) := dk_58 4 (dk_at dksJ20_getEntryUsingComparator_0 15 rfl rfl)
theorem dJ20_getEntryUsingComparator_17 : decode cJ20_getEntryUsingComparator 17 = .ok (.aload 4, 2) := dk_25 4 (dk_at dksJ20_getEntryUsingComparator_0 17 rfl rfl)
theorem dJ20_getEntryUsingComparator_19 : decode cJ20_getEntryUsingComparator 19 = .ok (.ifnull 53, 3) := dk_198 0 53 (dk_at dksJ20_getEntryUsingComparator_0 19 rfl rfl)
theorem dJ20_getEntryUsingComparator_22 : decode cJ20_getEntryUsingComparator 22 = .ok (.aload_n 3, 1) := dk_45 (dk_at dksJ20_getEntryUsingComparator_0 22 rfl rfl)
theorem dJ20_getEntryUsingComparator_23 : decode cJ20_getEntryUsingComparator 23 = .ok (.aload_n 2, 1) := dk_44 (dk_at dksJ20_getEntryUsingComparator_0 23 rfl rfl)
theorem dJ20_getEntryUsingComparator_24 : decode cJ20_getEntryUsingComparator 24 = .ok (.aload 4, 2) := dk_25 4 (dk_at dksJ20_getEntryUsingComparator_1 0 rfl rfl)
theorem dJ20_getEntryUsingComparator_26 : decode cJ20_getEntryUsingComparator 26 = .ok (.getfield 105, 3) := dk_180 0 105 (dk_at dksJ20_getEntryUsingComparator_1 2 rfl rfl)
theorem dJ20_getEntryUsingComparator_29 : decode cJ20_getEntryUsingComparator 29 = .ok (.invokeinterface 117 3, 5) := by decide +kernel
theorem dJ20_getEntryUsingComparator_34 : decode cJ20_getEntryUsingComparator 34 = .ok (.istore 5, 2) := dk_54 5 (dk_at dksJ20_getEntryUsingComparator_1 10 rfl rfl)
theorem dJ20_getEntryUsingComparator_36 : decode cJ20_getEntryUsingComparator 36 = .ok (.iload 5, 2) := dk_21 5 (dk_at dksJ20_getEntryUsingComparator_1 12 rfl rfl)
theorem dJ20_getEntryUsingComparator_38 : decode cJ20_getEntryUsingComparator 38 = .ok (.ifCond .ge 13, 3) := dk_156 0 13 (dk_at dksJ20_getEntryUsingComparator_1 14 rfl rfl)
theorem dJ20_getEntryUsingComparator_41 : decode cJ20_getEntryUsingComparator 41 = .ok (.aload 4, 2) := dk_25 4 (dk_at dksJ20_getEntryUsingComparator_1 17 rfl rfl)
theorem dJ20_getEntryUsingComparator_43 : decode cJ20_getEntryUsingComparator 43 = .ok (.getfield 111, 3) := dk_180 0 111 (dk_at dksJ20_getEntryUsingComparator_1 19 rfl rfl)
theorem dJ20_getEntryUsingComparator_46 : decode cJ20_getEntryUsingComparator 46 = .ok (.astore 4, 2) := dk_58 4 (dk_at dksJ20_getEntryUsingComparator_1 22 rfl rfl)
theorem dJ20_getEntryUsingComparator_48 : decode cJ20_getEntryUsingComparator 48 = .ok (.goto 21, 3) := dk_167 0 21 (dk_at dksJ20_getEntryUsingComparator_2 0 rfl rfl)
theorem dJ20_getEntryUsingComparator_51 : decode cJ20_getEntryUsingComparator 51 = .ok (.iload 5, 2) := dk_21 5 (dk_at dksJ20_getEntryUsingComparator_2 3 rfl rfl)
theorem dJ20_getEntryUsingComparator_53 : decode cJ20_getEntryUsingComparator 53 = .ok (.ifCond .le 13, 3) := dk_158 0 13 (dk_at dksJ20_getEntryUsingComparator_2 5 rfl rfl)
theorem dJ20_getEntryUsingComparator_56 : decode cJ20_getEntryUsingComparator 56 = .ok (.aload 4, 2) := dk_25 4 (dk_at dksJ20_getEntryUsingComparator_2 8 rfl rfl)
theorem dJ20_getEntryUsingComparator_58 : decode cJ20_getEntryUsingComparator 58 = .ok (.getfield 114, 3) := dk_180 0 114 (dk_at dksJ20_getEntryUsingComparator_2 10 rfl rfl)
theorem dJ20_getEntryUsingComparator_61 : decode cJ20_getEntryUsingComparator 61 = .ok (.astore 4, 2) := dk_58 4 (dk_at dksJ20_getEntryUsingComparator_2 13 rfl rfl)
theorem dJ20_getEntryUsingComparator_63 : decode cJ20_getEntryUsingComparator 63 = .ok (.goto 6, 3) := dk_167 0 6 (dk_at dksJ20_getEntryUsingComparator_2 15 rfl rfl)
theorem dJ20_getEntryUsingComparator_66 : decode cJ20_getEntryUsingComparator 66 = .ok (.aload 4, 2) := dk_25 4 (dk_at dksJ20_getEntryUsingComparator_2 18 rfl rfl)
theorem dJ20_getEntryUsingComparator_68 : decode cJ20_getEntryUsingComparator 68 = .ok (.areturn, 1) := dk_176 (dk_at dksJ20_getEntryUsingComparator_2 20 rfl rfl)
theorem dJ20_getEntryUsingComparator_69 : decode cJ20_getEntryUsingComparator 69 = .ok (.goto (-52), 3) := dk_167 255 204 (dk_at dksJ20_getEntryUsingComparator_2 21 rfl rfl)
theorem dJ20_getEntryUsingComparator_72 : decode cJ20_getEntryUsingComparator 72 = .ok (.aconst_null, 1) := dk_1 (dk_at dksJ20_getEntryUsingComparator_3 0 rfl rfl)
theorem dJ20_getEntryUsingComparator_73 : decode cJ20_getEntryUsingComparator 73 = .ok (.areturn, 1) := dk_176 (dk_at dksJ20_getEntryUsingComparator_3 1 rfl rfl)
theorem q111 : (Jvm.Cond.initialized "java/util/TreeMap") ∈ lw_all := lw_g (lw_at lw_m1 27 rfl) rfl
theorem q915 : (Jvm.Cond.selects "java/util/TreeMap" ({ cls := "java/lang/Object", name := "getClass", desc := "()Ljava/lang/Class;" } : Jvm.MethodName) ({ cls := "java/lang/Object", name := "getClass", desc := "()Ljava/lang/Class;" } : Jvm.MethodName)) ∈ lw_all := lw_g (lw_at lw_m4 111 rfl) rfl
theorem q1271 : (Jvm.Cond.instantiable "java/util/TreeMap" (9 : Nat)) ∈ lw_all := lw_g (lw_at lw_m5 227 rfl) rfl
theorem q1273 : (Jvm.Cond.instanceMethod ({ cls := "java/util/TreeMap", name := "<init>", desc := "()V" } : Jvm.MethodName)) ∈ lw_all := lw_g (lw_at lw_m5 229 rfl) rfl
theorem q1274 : (Jvm.Cond.code ({ cls := "java/util/TreeMap", name := "<init>", desc := "()V" } : Jvm.MethodName) prog_61_method_1_code (1 : Nat) (Option.none : Option Jvm.ClassFile.FieldType)) ∈ lw_all := lw_g (lw_at lw_m5 230 rfl) rfl
theorem q1275 : (Jvm.Cond.methodLink "java/util/TreeMap" (1 : Nat) ({ cls := "java/util/AbstractMap", name := "<init>", desc := "()V" } : Jvm.MethodName)) ∈ lw_all := lw_g (lw_at lw_m5 231 rfl) rfl
theorem q1279 : (Jvm.Cond.fieldLink "java/util/TreeMap" (16 : Nat) "java/util/TreeMap" "comparator" "Ljava/util/Comparator;") ∈ lw_all := lw_g (lw_at lw_m5 235 rfl) rfl
theorem q1280 : (Jvm.Cond.fieldLink "java/util/TreeMap" (101 : Nat) "java/util/TreeMap" "root" "Ljava/util/TreeMap$Entry;") ∈ lw_all := lw_g (lw_at lw_m5 236 rfl) rfl
theorem q1281 : (Jvm.Cond.fieldLink "java/util/TreeMap" (7 : Nat) "java/util/TreeMap" "size" "I") ∈ lw_all := lw_g (lw_at lw_m5 237 rfl) rfl
theorem q1282 : (Jvm.Cond.fieldLink "java/util/TreeMap" (13 : Nat) "java/util/TreeMap" "modCount" "I") ∈ lw_all := lw_g (lw_at lw_m5 238 rfl) rfl
theorem q1284 : (Jvm.Cond.fieldLink "java/util/TreeMap" (188 : Nat) "java/util/TreeMap" "entrySet" "Ljava/util/TreeMap$EntrySet;") ∈ lw_all := lw_g (lw_at lw_m6 0 rfl) rfl
theorem q1285 : (Jvm.Cond.laysFinal "java/util/TreeMap" "java/util/TreeMap" "comparator" "Ljava/util/Comparator;") ∈ lw_all := lw_g (lw_at lw_m6 1 rfl) rfl
theorem q1286 : (Jvm.Cond.soleField "java/util/TreeMap" "comparator") ∈ lw_all := lw_g (lw_at lw_m6 2 rfl) rfl
theorem q1287 : (Jvm.Cond.lays "java/util/TreeMap" "java/util/TreeMap" "root" "Ljava/util/TreeMap$Entry;") ∈ lw_all := lw_g (lw_at lw_m6 3 rfl) rfl
theorem q1288 : (Jvm.Cond.soleField "java/util/TreeMap" "root") ∈ lw_all := lw_g (lw_at lw_m6 4 rfl) rfl
theorem q1289 : (Jvm.Cond.lays "java/util/TreeMap" "java/util/TreeMap" "size" "I") ∈ lw_all := lw_g (lw_at lw_m6 5 rfl) rfl
theorem q1290 : (Jvm.Cond.soleField "java/util/TreeMap" "size") ∈ lw_all := lw_g (lw_at lw_m6 6 rfl) rfl
theorem q1291 : (Jvm.Cond.lays "java/util/TreeMap" "java/util/TreeMap" "modCount" "I") ∈ lw_all := lw_g (lw_at lw_m6 7 rfl) rfl
theorem q1292 : (Jvm.Cond.soleField "java/util/TreeMap" "modCount") ∈ lw_all := lw_g (lw_at lw_m6 8 rfl) rfl
theorem q1293 : (Jvm.Cond.lays "java/util/TreeMap" "java/util/TreeMap" "entrySet" "Ljava/util/TreeMap$EntrySet;") ∈ lw_all := lw_g (lw_at lw_m6 9 rfl) rfl
theorem q1294 : (Jvm.Cond.soleField "java/util/TreeMap" "entrySet") ∈ lw_all := lw_g (lw_at lw_m6 10 rfl) rfl
theorem q1295 : (Jvm.Cond.lays "java/util/TreeMap" "java/util/TreeMap" "navigableKeySet" "Ljava/util/TreeMap$KeySet;") ∈ lw_all := lw_g (lw_at lw_m6 11 rfl) rfl
theorem q1296 : (Jvm.Cond.soleField "java/util/TreeMap" "navigableKeySet") ∈ lw_all := lw_g (lw_at lw_m6 12 rfl) rfl
theorem q1297 : (Jvm.Cond.lays "java/util/TreeMap" "java/util/TreeMap" "descendingMap" "Ljava/util/NavigableMap;") ∈ lw_all := lw_g (lw_at lw_m6 13 rfl) rfl
theorem q1298 : (Jvm.Cond.soleField "java/util/TreeMap" "descendingMap") ∈ lw_all := lw_g (lw_at lw_m6 14 rfl) rfl
theorem q1299 : (Jvm.Cond.lays "java/util/TreeMap" "java/util/AbstractMap" "keySet" "Ljava/util/Set;") ∈ lw_all := lw_g (lw_at lw_m6 15 rfl) rfl
theorem q1301 : (Jvm.Cond.lays "java/util/TreeMap" "java/util/AbstractMap" "values" "Ljava/util/Collection;") ∈ lw_all := lw_g (lw_at lw_m6 17 rfl) rfl
theorem q1303 : (Jvm.Cond.superclass "java/util/TreeMap" "java/util/AbstractMap") ∈ lw_all := lw_g (lw_at lw_m6 19 rfl) rfl
theorem q1340 : (Jvm.Cond.instanceMethod ({ cls := "java/util/TreeMap", name := "put", desc := "(Ljava/lang/Object;Ljava/lang/Object;)Ljava/lang/Object;" } : Jvm.MethodName)) ∈ lw_all := lw_g (lw_at lw_m6 56 rfl) rfl
theorem q1341 : (Jvm.Cond.selects "java/util/TreeMap" ({ cls := "java/util/TreeMap", name := "put", desc := "(Ljava/lang/Object;Ljava/lang/Object;)Ljava/lang/Object;" } : Jvm.MethodName) ({ cls := "java/util/TreeMap", name := "put", desc := "(Ljava/lang/Object;Ljava/lang/Object;)Ljava/lang/Object;" } : Jvm.MethodName)) ∈ lw_all := lw_g (lw_at lw_m6 57 rfl) rfl
theorem q1342 : (Jvm.Cond.code ({ cls := "java/util/TreeMap", name := "put", desc := "(Ljava/lang/Object;Ljava/lang/Object;)Ljava/lang/Object;" } : Jvm.MethodName) prog_61_method_21_code (3 : Nat) (Option.some (Jvm.ClassFile.FieldType.object "java/lang/Object"))) ∈ lw_all := lw_g (lw_at lw_m6 58 rfl) rfl
theorem q1343 : (Jvm.Cond.methodLink "java/util/TreeMap" (127 : Nat) ({ cls := "java/util/TreeMap", name := "put", desc := "(Ljava/lang/Object;Ljava/lang/Object;Z)Ljava/lang/Object;" } : Jvm.MethodName)) ∈ lw_all := lw_g (lw_at lw_m6 59 rfl) rfl
theorem q1344 : (Jvm.Cond.privateMethod ({ cls := "java/util/TreeMap", name := "put", desc := "(Ljava/lang/Object;Ljava/lang/Object;Z)Ljava/lang/Object;" } : Jvm.MethodName)) ∈ lw_tbl := lw_at lw_m6 60 rfl
theorem q1345 : (Jvm.Cond.instanceMethod ({ cls := "java/util/TreeMap", name := "put", desc := "(Ljava/lang/Object;Ljava/lang/Object;Z)Ljava/lang/Object;" } : Jvm.MethodName)) ∈ lw_all := lw_g (lw_at lw_m6 61 rfl) rfl
theorem q1346 : (Jvm.Cond.code ({ cls := "java/util/TreeMap", name := "put", desc := "(Ljava/lang/Object;Ljava/lang/Object;Z)Ljava/lang/Object;" } : Jvm.MethodName) prog_61_method_31_code (10 : Nat) (Option.some (Jvm.ClassFile.FieldType.object "java/lang/Object"))) ∈ lw_all := lw_g (lw_at lw_m6 62 rfl) rfl
theorem q1347 : (Jvm.Cond.methodLink "java/util/TreeMap" (135 : Nat) ({ cls := "java/util/TreeMap", name := "addEntryToEmptyMap", desc := "(Ljava/lang/Object;Ljava/lang/Object;)V" } : Jvm.MethodName)) ∈ lw_all := lw_g (lw_at lw_m6 63 rfl) rfl
theorem q1348 : (Jvm.Cond.privateMethod ({ cls := "java/util/TreeMap", name := "addEntryToEmptyMap", desc := "(Ljava/lang/Object;Ljava/lang/Object;)V" } : Jvm.MethodName)) ∈ lw_tbl := lw_at lw_m6 64 rfl
theorem q1349 : (Jvm.Cond.instanceMethod ({ cls := "java/util/TreeMap", name := "addEntryToEmptyMap", desc := "(Ljava/lang/Object;Ljava/lang/Object;)V" } : Jvm.MethodName)) ∈ lw_all := lw_g (lw_at lw_m6 65 rfl) rfl
theorem q1350 : (Jvm.Cond.code ({ cls := "java/util/TreeMap", name := "addEntryToEmptyMap", desc := "(Ljava/lang/Object;Ljava/lang/Object;)V" } : Jvm.MethodName) prog_61_method_30_code (3 : Nat) (Option.none : Option Jvm.ClassFile.FieldType)) ∈ lw_all := lw_g (lw_at lw_m6 66 rfl) rfl
theorem q1351 : (Jvm.Cond.methodLink "java/util/TreeMap" (123 : Nat) ({ cls := "java/util/TreeMap", name := "compare", desc := "(Ljava/lang/Object;Ljava/lang/Object;)I" } : Jvm.MethodName)) ∈ lw_all := lw_g (lw_at lw_m6 67 rfl) rfl
theorem q1352 : (Jvm.Cond.instanceMethod ({ cls := "java/util/TreeMap", name := "compare", desc := "(Ljava/lang/Object;Ljava/lang/Object;)I" } : Jvm.MethodName)) ∈ lw_all := lw_g (lw_at lw_m6 68 rfl) rfl
theorem q1353 : (Jvm.Cond.selects "java/util/TreeMap" ({ cls := "java/util/TreeMap", name := "compare", desc := "(Ljava/lang/Object;Ljava/lang/Object;)I" } : Jvm.MethodName) ({ cls := "java/util/TreeMap", name := "compare", desc := "(Ljava/lang/Object;Ljava/lang/Object;)I" } : Jvm.MethodName)) ∈ lw_all := lw_g (lw_at lw_m6 69 rfl) rfl
theorem q1354 : (Jvm.Cond.code ({ cls := "java/util/TreeMap", name := "compare", desc := "(Ljava/lang/Object;Ljava/lang/Object;)I" } : Jvm.MethodName) prog_61_method_67_code (3 : Nat) (Option.some Jvm.ClassFile.FieldType.int)) ∈ lw_all := lw_g (lw_at lw_m6 70 rfl) rfl
theorem q1355 : (Jvm.Cond.classLink "java/util/TreeMap" (99 : Nat) "java/lang/Comparable") ∈ lw_all := lw_g (lw_at lw_m6 71 rfl) rfl
theorem q1356 : (Jvm.Cond.interfaceEntry "java/util/TreeMap" (107 : Nat)) ∈ lw_tbl := lw_at lw_m6 72 rfl
theorem q1357 : (Jvm.Cond.methodLink "java/util/TreeMap" (107 : Nat) ({ cls := "java/lang/Comparable", name := "compareTo", desc := "(Ljava/lang/Object;)I" } : Jvm.MethodName)) ∈ lw_all := lw_g (lw_at lw_m6 73 rfl) rfl
theorem q1358 : (Jvm.Cond.interfaceEntry "java/util/TreeMap" (117 : Nat)) ∈ lw_tbl := lw_at lw_m6 74 rfl
theorem q1359 : (Jvm.Cond.methodLink "java/util/TreeMap" (117 : Nat) ({ cls := "java/util/Comparator", name := "compare", desc := "(Ljava/lang/Object;Ljava/lang/Object;)I" } : Jvm.MethodName)) ∈ lw_all := lw_g (lw_at lw_m6 75 rfl) rfl
theorem q1360 : (Jvm.Cond.classLink "java/util/TreeMap" (59 : Nat) "java/util/TreeMap$Entry") ∈ lw_all := lw_g (lw_at lw_m6 76 rfl) rfl
theorem q1362 : (Jvm.Cond.methodLink "java/util/TreeMap" (167 : Nat) ({ cls := "java/util/TreeMap$Entry", name := "<init>", desc := "(Ljava/lang/Object;Ljava/lang/Object;Ljava/util/TreeMap$Entry;)V" } : Jvm.MethodName)) ∈ lw_all := lw_g (lw_at lw_m6 78 rfl) rfl
theorem q1367 : (Jvm.Cond.fieldLink "java/util/TreeMap" (105 : Nat) "java/util/TreeMap$Entry" "key" "Ljava/lang/Object;") ∈ lw_all := lw_g (lw_at lw_m6 83 rfl) rfl
theorem q1369 : (Jvm.Cond.fieldLink "java/util/TreeMap" (58 : Nat) "java/util/TreeMap$Entry" "value" "Ljava/lang/Object;") ∈ lw_all := lw_g (lw_at lw_m6 85 rfl) rfl
theorem q1370 : (Jvm.Cond.fieldLink "java/util/TreeMap" (111 : Nat) "java/util/TreeMap$Entry" "left" "Ljava/util/TreeMap$Entry;") ∈ lw_all := lw_g (lw_at lw_m6 86 rfl) rfl
theorem q1371 : (Jvm.Cond.fieldLink "java/util/TreeMap" (114 : Nat) "java/util/TreeMap$Entry" "right" "Ljava/util/TreeMap$Entry;") ∈ lw_all := lw_g (lw_at lw_m6 87 rfl) rfl
theorem q1373 : (Jvm.Cond.fieldLink "java/util/TreeMap" (124 : Nat) "java/util/TreeMap$Entry" "parent" "Ljava/util/TreeMap$Entry;") ∈ lw_all := lw_g (lw_at lw_m6 89 rfl) rfl
theorem q1375 : (Jvm.Cond.fieldLink "java/util/TreeMap" (290 : Nat) "java/util/TreeMap$Entry" "color" "Z") ∈ lw_all := lw_g (lw_at lw_m6 91 rfl) rfl
theorem q1389 : (Jvm.Cond.methodLink "java/util/TreeMap" (95 : Nat) ({ cls := "java/util/Objects", name := "requireNonNull", desc := "(Ljava/lang/Object;)Ljava/lang/Object;" } : Jvm.MethodName)) ∈ lw_all := lw_g (lw_at lw_m6 105 rfl) rfl
theorem q1392 : (Jvm.Cond.methodLink "java/util/TreeMap" (139 : Nat) ({ cls := "java/util/TreeMap", name := "addEntry", desc := "(Ljava/lang/Object;Ljava/lang/Object;Ljava/util/TreeMap$Entry;Z)V" } : Jvm.MethodName)) ∈ lw_all := lw_g (lw_at lw_m6 108 rfl) rfl
theorem q1393 : (Jvm.Cond.privateMethod ({ cls := "java/util/TreeMap", name := "addEntry", desc := "(Ljava/lang/Object;Ljava/lang/Object;Ljava/util/TreeMap$Entry;Z)V" } : Jvm.MethodName)) ∈ lw_tbl := lw_at lw_m6 109 rfl
theorem q1394 : (Jvm.Cond.instanceMethod ({ cls := "java/util/TreeMap", name := "addEntry", desc := "(Ljava/lang/Object;Ljava/lang/Object;Ljava/util/TreeMap$Entry;Z)V" } : Jvm.MethodName)) ∈ lw_all := lw_g (lw_at lw_m6 110 rfl) rfl
theorem q1395 : (Jvm.Cond.code ({ cls := "java/util/TreeMap", name := "addEntry", desc := "(Ljava/lang/Object;Ljava/lang/Object;Ljava/util/TreeMap$Entry;Z)V" } : Jvm.MethodName) prog_61_method_29_code (6 : Nat) (Option.none : Option Jvm.ClassFile.FieldType)) ∈ lw_all := lw_g (lw_at lw_m6 111 rfl) rfl
theorem q1396 : (Jvm.Cond.methodLink "java/util/TreeMap" (170 : Nat) ({ cls := "java/util/TreeMap", name := "fixAfterInsertion", desc := "(Ljava/util/TreeMap$Entry;)V" } : Jvm.MethodName)) ∈ lw_all := lw_g (lw_at lw_m6 112 rfl) rfl
theorem q1397 : (Jvm.Cond.privateMethod ({ cls := "java/util/TreeMap", name := "fixAfterInsertion", desc := "(Ljava/util/TreeMap$Entry;)V" } : Jvm.MethodName)) ∈ lw_tbl := lw_at lw_m6 113 rfl
theorem q1398 : (Jvm.Cond.instanceMethod ({ cls := "java/util/TreeMap", name := "fixAfterInsertion", desc := "(Ljava/util/TreeMap$Entry;)V" } : Jvm.MethodName)) ∈ lw_all := lw_g (lw_at lw_m6 114 rfl) rfl
theorem q1399 : (Jvm.Cond.code ({ cls := "java/util/TreeMap", name := "fixAfterInsertion", desc := "(Ljava/util/TreeMap$Entry;)V" } : Jvm.MethodName) prog_61_method_83_code (3 : Nat) (Option.none : Option Jvm.ClassFile.FieldType)) ∈ lw_all := lw_g (lw_at lw_m6 115 rfl) rfl
theorem q1400 : (Jvm.Cond.methodLink "java/util/TreeMap" (294 : Nat) ({ cls := "java/util/TreeMap", name := "parentOf", desc := "(Ljava/util/TreeMap$Entry;)Ljava/util/TreeMap$Entry;" } : Jvm.MethodName)) ∈ lw_all := lw_g (lw_at lw_m6 116 rfl) rfl
theorem q1401 : (Jvm.Cond.static ({ cls := "java/util/TreeMap", name := "parentOf", desc := "(Ljava/util/TreeMap$Entry;)Ljava/util/TreeMap$Entry;" } : Jvm.MethodName)) ∈ lw_all := lw_g (lw_at lw_m6 117 rfl) rfl
theorem q1402 : (Jvm.Cond.code ({ cls := "java/util/TreeMap", name := "parentOf", desc := "(Ljava/util/TreeMap$Entry;)Ljava/util/TreeMap$Entry;" } : Jvm.MethodName) prog_61_method_77_code (1 : Nat) (Option.some (Jvm.ClassFile.FieldType.object "java/util/TreeMap$Entry"))) ∈ lw_all := lw_g (lw_at lw_m6 118 rfl) rfl
theorem q1403 : (Jvm.Cond.methodLink "java/util/TreeMap" (297 : Nat) ({ cls := "java/util/TreeMap", name := "leftOf", desc := "(Ljava/util/TreeMap$Entry;)Ljava/util/TreeMap$Entry;" } : Jvm.MethodName)) ∈ lw_all := lw_g (lw_at lw_m6 119 rfl) rfl
theorem q1404 : (Jvm.Cond.static ({ cls := "java/util/TreeMap", name := "leftOf", desc := "(Ljava/util/TreeMap$Entry;)Ljava/util/TreeMap$Entry;" } : Jvm.MethodName)) ∈ lw_all := lw_g (lw_at lw_m6 120 rfl) rfl
theorem q1405 : (Jvm.Cond.code ({ cls := "java/util/TreeMap", name := "leftOf", desc := "(Ljava/util/TreeMap$Entry;)Ljava/util/TreeMap$Entry;" } : Jvm.MethodName) prog_61_method_79_code (1 : Nat) (Option.some (Jvm.ClassFile.FieldType.object "java/util/TreeMap$Entry"))) ∈ lw_all := lw_g (lw_at lw_m6 121 rfl) rfl
theorem q1406 : (Jvm.Cond.methodLink "java/util/TreeMap" (300 : Nat) ({ cls := "java/util/TreeMap", name := "rightOf", desc := "(Ljava/util/TreeMap$Entry;)Ljava/util/TreeMap$Entry;" } : Jvm.MethodName)) ∈ lw_all := lw_g (lw_at lw_m6 122 rfl) rfl
theorem q1407 : (Jvm.Cond.static ({ cls := "java/util/TreeMap", name := "rightOf", desc := "(Ljava/util/TreeMap$Entry;)Ljava/util/TreeMap$Entry;" } : Jvm.MethodName)) ∈ lw_all := lw_g (lw_at lw_m6 123 rfl) rfl
theorem q1408 : (Jvm.Cond.code ({ cls := "java/util/TreeMap", name := "rightOf", desc := "(Ljava/util/TreeMap$Entry;)Ljava/util/TreeMap$Entry;" } : Jvm.MethodName) prog_61_method_80_code (1 : Nat) (Option.some (Jvm.ClassFile.FieldType.object "java/util/TreeMap$Entry"))) ∈ lw_all := lw_g (lw_at lw_m6 124 rfl) rfl
theorem q1409 : (Jvm.Cond.methodLink "java/util/TreeMap" (303 : Nat) ({ cls := "java/util/TreeMap", name := "colorOf", desc := "(Ljava/util/TreeMap$Entry;)Z" } : Jvm.MethodName)) ∈ lw_all := lw_g (lw_at lw_m6 125 rfl) rfl
theorem q1410 : (Jvm.Cond.static ({ cls := "java/util/TreeMap", name := "colorOf", desc := "(Ljava/util/TreeMap$Entry;)Z" } : Jvm.MethodName)) ∈ lw_all := lw_g (lw_at lw_m6 126 rfl) rfl
theorem q1411 : (Jvm.Cond.code ({ cls := "java/util/TreeMap", name := "colorOf", desc := "(Ljava/util/TreeMap$Entry;)Z" } : Jvm.MethodName) prog_61_method_76_code (1 : Nat) (Option.some Jvm.ClassFile.FieldType.boolean)) ∈ lw_all := lw_g (lw_at lw_m6 127 rfl) rfl
theorem q1412 : (Jvm.Cond.methodLink "java/util/TreeMap" (307 : Nat) ({ cls := "java/util/TreeMap", name := "setColor", desc := "(Ljava/util/TreeMap$Entry;Z)V" } : Jvm.MethodName)) ∈ lw_all := lw_g (lw_at lw_m6 128 rfl) rfl
theorem q1413 : (Jvm.Cond.static ({ cls := "java/util/TreeMap", name := "setColor", desc := "(Ljava/util/TreeMap$Entry;Z)V" } : Jvm.MethodName)) ∈ lw_all := lw_g (lw_at lw_m6 129 rfl) rfl
theorem q1414 : (Jvm.Cond.code ({ cls := "java/util/TreeMap", name := "setColor", desc := "(Ljava/util/TreeMap$Entry;Z)V" } : Jvm.MethodName) prog_61_method_78_code (2 : Nat) (Option.none : Option Jvm.ClassFile.FieldType)) ∈ lw_all := lw_g (lw_at lw_m6 130 rfl) rfl
theorem q1415 : (Jvm.Cond.methodLink "java/util/TreeMap" (311 : Nat) ({ cls := "java/util/TreeMap", name := "rotateLeft", desc := "(Ljava/util/TreeMap$Entry;)V" } : Jvm.MethodName)) ∈ lw_all := lw_g (lw_at lw_m6 131 rfl) rfl
theorem q1416 : (Jvm.Cond.privateMethod ({ cls := "java/util/TreeMap", name := "rotateLeft", desc := "(Ljava/util/TreeMap$Entry;)V" } : Jvm.MethodName)) ∈ lw_tbl := lw_at lw_m6 132 rfl
theorem q1417 : (Jvm.Cond.instanceMethod ({ cls := "java/util/TreeMap", name := "rotateLeft", desc := "(Ljava/util/TreeMap$Entry;)V" } : Jvm.MethodName)) ∈ lw_all := lw_g (lw_at lw_m6 133 rfl) rfl
theorem q1418 : (Jvm.Cond.code ({ cls := "java/util/TreeMap", name := "rotateLeft", desc := "(Ljava/util/TreeMap$Entry;)V" } : Jvm.MethodName) prog_61_method_81_code (3 : Nat) (Option.none : Option Jvm.ClassFile.FieldType)) ∈ lw_all := lw_g (lw_at lw_m6 134 rfl) rfl
theorem q1419 : (Jvm.Cond.methodLink "java/util/TreeMap" (314 : Nat) ({ cls := "java/util/TreeMap", name := "rotateRight", desc := "(Ljava/util/TreeMap$Entry;)V" } : Jvm.MethodName)) ∈ lw_all := lw_g (lw_at lw_m6 135 rfl) rfl
theorem q1420 : (Jvm.Cond.privateMethod ({ cls := "java/util/TreeMap", name := "rotateRight", desc := "(Ljava/util/TreeMap$Entry;)V" } : Jvm.MethodName)) ∈ lw_tbl := lw_at lw_m6 136 rfl
theorem q1421 : (Jvm.Cond.instanceMethod ({ cls := "java/util/TreeMap", name := "rotateRight", desc := "(Ljava/util/TreeMap$Entry;)V" } : Jvm.MethodName)) ∈ lw_all := lw_g (lw_at lw_m6 137 rfl) rfl
theorem q1422 : (Jvm.Cond.code ({ cls := "java/util/TreeMap", name := "rotateRight", desc := "(Ljava/util/TreeMap$Entry;)V" } : Jvm.MethodName) prog_61_method_82_code (3 : Nat) (Option.none : Option Jvm.ClassFile.FieldType)) ∈ lw_all := lw_g (lw_at lw_m6 138 rfl) rfl
theorem q1441 : (Jvm.Cond.instanceMethod ({ cls := "java/util/TreeMap", name := "entrySet", desc := "()Ljava/util/Set;" } : Jvm.MethodName)) ∈ lw_all := lw_g (lw_at lw_m6 157 rfl) rfl
theorem q1442 : (Jvm.Cond.selects "java/util/TreeMap" ({ cls := "java/util/TreeMap", name := "entrySet", desc := "()Ljava/util/Set;" } : Jvm.MethodName) ({ cls := "java/util/TreeMap", name := "entrySet", desc := "()Ljava/util/Set;" } : Jvm.MethodName)) ∈ lw_all := lw_g (lw_at lw_m6 158 rfl) rfl
theorem q1443 : (Jvm.Cond.code ({ cls := "java/util/TreeMap", name := "entrySet", desc := "()Ljava/util/Set;" } : Jvm.MethodName) prog_61_method_53_code (2 : Nat) (Option.some (Jvm.ClassFile.FieldType.object "java/util/Set"))) ∈ lw_all := lw_g (lw_at lw_m6 159 rfl) rfl
theorem q1444 : (Jvm.Cond.classLink "java/util/TreeMap" (242 : Nat) "java/util/TreeMap$EntrySet") ∈ lw_all := lw_g (lw_at lw_m6 160 rfl) rfl
theorem q1446 : (Jvm.Cond.methodLink "java/util/TreeMap" (244 : Nat) ({ cls := "java/util/TreeMap$EntrySet", name := "<init>", desc := "(Ljava/util/TreeMap;)V" } : Jvm.MethodName)) ∈ lw_all := lw_g (lw_at lw_m6 162 rfl) rfl
theorem q1470 : (Jvm.Cond.instanceMethod ({ cls := "java/util/TreeMap", name := "getFirstEntry", desc := "()Ljava/util/TreeMap$Entry;" } : Jvm.MethodName)) ∈ lw_all := lw_g (lw_at lw_m6 186 rfl) rfl
theorem q1471 : (Jvm.Cond.selects "java/util/TreeMap" ({ cls := "java/util/TreeMap", name := "getFirstEntry", desc := "()Ljava/util/TreeMap$Entry;" } : Jvm.MethodName) ({ cls := "java/util/TreeMap", name := "getFirstEntry", desc := "()Ljava/util/TreeMap$Entry;" } : Jvm.MethodName)) ∈ lw_all := lw_g (lw_at lw_m6 187 rfl) rfl
theorem q1472 : (Jvm.Cond.code ({ cls := "java/util/TreeMap", name := "getFirstEntry", desc := "()Ljava/util/TreeMap$Entry;" } : Jvm.MethodName) prog_61_method_72_code (2 : Nat) (Option.some (Jvm.ClassFile.FieldType.object "java/util/TreeMap$Entry"))) ∈ lw_all := lw_g (lw_at lw_m6 188 rfl) rfl
theorem q1523 : (Jvm.Cond.static ({ cls := "java/util/TreeMap", name := "successor", desc := "(Ljava/util/TreeMap$Entry;)Ljava/util/TreeMap$Entry;" } : Jvm.MethodName)) ∈ lw_all := lw_g (lw_at lw_m6 239 rfl) rfl
theorem q1524 : (Jvm.Cond.code ({ cls := "java/util/TreeMap", name := "successor", desc := "(Ljava/util/TreeMap$Entry;)Ljava/util/TreeMap$Entry;" } : Jvm.MethodName) prog_61_method_74_code (3 : Nat) (Option.some (Jvm.ClassFile.FieldType.object "java/util/TreeMap$Entry"))) ∈ lw_all := lw_g (lw_at lw_m7 0 rfl) rfl
theorem q1567 : (Jvm.Cond.instanceMethod ({ cls := "java/util/TreeMap", name := "get", desc := "(Ljava/lang/Object;)Ljava/lang/Object;" } : Jvm.MethodName)) ∈ lw_all := lw_g (lw_at lw_m7 43 rfl) rfl
theorem q1568 : (Jvm.Cond.selects "java/util/TreeMap" ({ cls := "java/util/TreeMap", name := "get", desc := "(Ljava/lang/Object;)Ljava/lang/Object;" } : Jvm.MethodName) ({ cls := "java/util/TreeMap", name := "get", desc := "(Ljava/lang/Object;)Ljava/lang/Object;" } : Jvm.MethodName)) ∈ lw_all := lw_g (lw_at lw_m7 44 rfl) rfl
theorem q1569 : (Jvm.Cond.code ({ cls := "java/util/TreeMap", name := "get", desc := "(Ljava/lang/Object;)Ljava/lang/Object;" } : Jvm.MethodName) prog_61_method_8_code (3 : Nat) (Option.some (Jvm.ClassFile.FieldType.object "java/lang/Object"))) ∈ lw_all := lw_g (lw_at lw_m7 45 rfl) rfl
theorem q1570 : (Jvm.Cond.methodLink "java/util/TreeMap" (50 : Nat) ({ cls := "java/util/TreeMap", name := "getEntry", desc := "(Ljava/lang/Object;)Ljava/util/TreeMap$Entry;" } : Jvm.MethodName)) ∈ lw_all := lw_g (lw_at lw_m7 46 rfl) rfl
theorem q1571 : (Jvm.Cond.instanceMethod ({ cls := "java/util/TreeMap", name := "getEntry", desc := "(Ljava/lang/Object;)Ljava/util/TreeMap$Entry;" } : Jvm.MethodName)) ∈ lw_all := lw_g (lw_at lw_m7 47 rfl) rfl
theorem q1572 : (Jvm.Cond.selects "java/util/TreeMap" ({ cls := "java/util/TreeMap", name := "getEntry", desc := "(Ljava/lang/Object;)Ljava/util/TreeMap$Entry;" } : Jvm.MethodName) ({ cls := "java/util/TreeMap", name := "getEntry", desc := "(Ljava/lang/Object;)Ljava/util/TreeMap$Entry;" } : Jvm.MethodName)) ∈ lw_all := lw_g (lw_at lw_m7 48 rfl) rfl
theorem q1573 : (Jvm.Cond.code ({ cls := "java/util/TreeMap", name := "getEntry", desc := "(Ljava/lang/Object;)Ljava/util/TreeMap$Entry;" } : Jvm.MethodName) prog_61_method_15_code (5 : Nat) (Option.some (Jvm.ClassFile.FieldType.object "java/util/TreeMap$Entry"))) ∈ lw_all := lw_g (lw_at lw_m7 49 rfl) rfl
theorem q1574 : (Jvm.Cond.methodLink "java/util/TreeMap" (92 : Nat) ({ cls := "java/util/TreeMap", name := "getEntryUsingComparator", desc := "(Ljava/lang/Object;)Ljava/util/TreeMap$Entry;" } : Jvm.MethodName)) ∈ lw_all := lw_g (lw_at lw_m7 50 rfl) rfl
theorem q1575 : (Jvm.Cond.instanceMethod ({ cls := "java/util/TreeMap", name := "getEntryUsingComparator", desc := "(Ljava/lang/Object;)Ljava/util/TreeMap$Entry;" } : Jvm.MethodName)) ∈ lw_all := lw_g (lw_at lw_m7 51 rfl) rfl
theorem q1576 : (Jvm.Cond.selects "java/util/TreeMap" ({ cls := "java/util/TreeMap", name := "getEntryUsingComparator", desc := "(Ljava/lang/Object;)Ljava/util/TreeMap$Entry;" } : Jvm.MethodName) ({ cls := "java/util/TreeMap", name := "getEntryUsingComparator", desc := "(Ljava/lang/Object;)Ljava/util/TreeMap$Entry;" } : Jvm.MethodName)) ∈ lw_all := lw_g (lw_at lw_m7 52 rfl) rfl
theorem q1577 : (Jvm.Cond.code ({ cls := "java/util/TreeMap", name := "getEntryUsingComparator", desc := "(Ljava/lang/Object;)Ljava/util/TreeMap$Entry;" } : Jvm.MethodName) prog_61_method_16_code (6 : Nat) (Option.some (Jvm.ClassFile.FieldType.object "java/util/TreeMap$Entry"))) ∈ lw_all := lw_g (lw_at lw_m7 53 rfl) rfl
theorem q2291 : (Jvm.Cond.castable "java/util/TreeMap" "java/lang/Object") ∈ lw_tbl := lw_at lw_m10 47 rfl
theorem in_J20 : ∀ w ∈ wsJ200, w ∈ lw_all := lw_in wsJ200 [1299, 1301, 1285, 1287, 1289, 1291, 1293, 1295, 1297] (by decide +kernel) (by decide +kernel)
/-! java/lang/Long -/
set_option maxRecDepth 100000
def RJ21 : String := "java/lang/Long"
def TJ21 : u_T := fun k => match k with
  | _ => ("java/lang/Long", "value", "J", true)
def tyJ21 : Nat → FieldType := fun k => match k with
  | _ => .long
abbrev wsJ210 : List Cond := u_ws RJ21 TJ21 1
theorem nmJ21 : ∀ a, a < 1 → ∀ b, b < 1 → a ≠ b → (TJ21 a).2.1 ≠ (TJ21 b).2.1 := by decide +kernel
theorem tyJ21_ok : ∀ k, k < 1 → parseFieldDescriptor (TJ21 k).2.2.1 = some (tyJ21 k) := by decide +kernel
abbrev cJ21_compareTo : ByteArray := prog_25_method_64_code
def yJ21_compareTo : MethodName := ⟨RJ21, "compareTo", "(Ljava/lang/Object;)I"⟩
def dkwJ21_compareTo_0 : List UInt8 := [42, 43, 192, 0, 1, 182, 1, 87, 172]
abbrev dktJ21_compareTo_0 : List UInt8 := dkwJ21_compareTo_0 ++ []
theorem dksJ21_compareTo_0 : cJ21_compareTo.data.toList.drop 0 = dktJ21_compareTo_0 := by decide +kernel
theorem dJ21_compareTo_0 : decode cJ21_compareTo 0 = .ok (.aload_n 0, 1) := dk_42 (dk_at dksJ21_compareTo_0 0 rfl rfl)
theorem dJ21_compareTo_1 : decode cJ21_compareTo 1 = .ok (.aload_n 1, 1) := dk_43 (dk_at dksJ21_compareTo_0 1 rfl rfl)
theorem dJ21_compareTo_2 : decode cJ21_compareTo 2 = .ok (.checkcast 1, 3) := dk_192 0 1 (dk_at dksJ21_compareTo_0 2 rfl rfl)
theorem dJ21_compareTo_5 : decode cJ21_compareTo 5 = .ok (.invokevirtual 343, 3) := dk_182 1 87 (dk_at dksJ21_compareTo_0 5 rfl rfl)
theorem dJ21_compareTo_8 : decode cJ21_compareTo 8 = .ok (.ireturn, 1) := dk_172 (dk_at dksJ21_compareTo_0 8 rfl rfl)
abbrev cJ21_compareTo_2 : ByteArray := prog_25_method_41_code
def yJ21_compareTo_2 : MethodName := ⟨RJ21, "compareTo", "(Ljava/lang/Long;)I"⟩
def dkwJ21_compareTo_2_0 : List UInt8 := [42, 180, 1, 17, 43, 180, 1, 17, 184, 1, 46, 172]
abbrev dktJ21_compareTo_2_0 : List UInt8 := dkwJ21_compareTo_2_0 ++ []
theorem dksJ21_compareTo_2_0 : cJ21_compareTo_2.data.toList.drop 0 = dktJ21_compareTo_2_0 := by decide +kernel
theorem dJ21_compareTo_2_0 : decode cJ21_compareTo_2 0 = .ok (.aload_n 0, 1) := dk_42 (dk_at dksJ21_compareTo_2_0 0 rfl rfl)
theorem dJ21_compareTo_2_1 : decode cJ21_compareTo_2 1 = .ok (.getfield 273, 3) := dk_180 1 17 (dk_at dksJ21_compareTo_2_0 1 rfl rfl)
theorem dJ21_compareTo_2_4 : decode cJ21_compareTo_2 4 = .ok (.aload_n 1, 1) := dk_43 (dk_at dksJ21_compareTo_2_0 4 rfl rfl)
theorem dJ21_compareTo_2_5 : decode cJ21_compareTo_2 5 = .ok (.getfield 273, 3) := dk_180 1 17 (dk_at dksJ21_compareTo_2_0 5 rfl rfl)
theorem dJ21_compareTo_2_8 : decode cJ21_compareTo_2 8 = .ok (.invokestatic 302, 3) := dk_184 1 46 (dk_at dksJ21_compareTo_2_0 8 rfl rfl)
theorem dJ21_compareTo_2_11 : decode cJ21_compareTo_2 11 = .ok (.ireturn, 1) := dk_172 (dk_at dksJ21_compareTo_2_0 11 rfl rfl)
abbrev cJ21_compare : ByteArray := prog_25_method_42_code
def yJ21_compare : MethodName := ⟨RJ21, "compare", "(JJ)I"⟩
def dkwJ21_compare_0 : List UInt8 := [30, 32, 148, 156, 0, 7, 2, 167, 0, 14, 30, 32, 148, 154, 0, 7, 3, 167, 0, 4, 4, 172]
abbrev dktJ21_compare_0 : List UInt8 := dkwJ21_compare_0 ++ []
theorem dksJ21_compare_0 : cJ21_compare.data.toList.drop 0 = dktJ21_compare_0 := by decide +kernel
theorem dJ21_compare_0 : decode cJ21_compare 0 = .ok (.lload_n 0, 1) := dk_30 (dk_at dksJ21_compare_0 0 rfl rfl)
theorem dJ21_compare_1 : decode cJ21_compare 1 = .ok (.lload_n 2, 1) := dk_32 (dk_at dksJ21_compare_0 1 rfl rfl)
theorem dJ21_compare_2 : decode cJ21_compare 2 = .ok (.lcmp, 1) := dk_148 (dk_at dksJ21_compare_0 2 rfl rfl)
theorem dJ21_compare_3 : decode cJ21_compare 3 = .ok (.ifCond .ge 7, 3) := dk_156 0 7 (dk_at dksJ21_compare_0 3 rfl rfl)
theorem dJ21_compare_6 : decode cJ21_compare 6 = .ok (.iconst (-1), 1) := dk_2 (dk_at dksJ21_compare_0 6 rfl rfl)
theorem dJ21_compare_7 : decode cJ21_compare 7 = .ok (.goto 14, 3) := dk_167 0 14 (dk_at dksJ21_compare_0 7 rfl rfl)
theorem dJ21_compare_10 : decode cJ21_compare 10 = .ok (.lload_n 0, 1) := dk_30 (dk_at dksJ21_compare_0 10 rfl rfl)
theorem dJ21_compare_11 : decode cJ21_compare 11 = .ok (.lload_n 2, 1) := dk_32 (dk_at dksJ21_compare_0 11 rfl rfl)
theorem dJ21_compare_12 : decode cJ21_compare 12 = .ok (.lcmp, 1) := dk_148 (dk_at dksJ21_compare_0 12 rfl rfl)
theorem dJ21_compare_13 : decode cJ21_compare 13 = .ok (.ifCond .ne 7, 3) := dk_154 0 7 (dk_at dksJ21_compare_0 13 rfl rfl)
theorem dJ21_compare_16 : decode cJ21_compare 16 = .ok (.iconst 0, 1) := dk_3 (dk_at dksJ21_compare_0 16 rfl rfl)
theorem dJ21_compare_17 : decode cJ21_compare 17 = .ok (.goto 4, 3) := dk_167 0 4 (dk_at dksJ21_compare_0 17 rfl rfl)
theorem dJ21_compare_20 : decode cJ21_compare 20 = .ok (.iconst 1, 1) := dk_4 (dk_at dksJ21_compare_0 20 rfl rfl)
theorem dJ21_compare_21 : decode cJ21_compare 21 = .ok (.ireturn, 1) := dk_172 (dk_at dksJ21_compare_0 21 rfl rfl)
abbrev cJ21_numberOfLeadingZeros : ByteArray := prog_25_method_48_code
def yJ21_numberOfLeadingZeros : MethodName := ⟨RJ21, "numberOfLeadingZeros", "(J)I"⟩
def dkwJ21_numberOfLeadingZeros_1 : List UInt8 := [184, 1, 52, 172]
abbrev dktJ21_numberOfLeadingZeros_1 : List UInt8 := dkwJ21_numberOfLeadingZeros_1 ++ []
def dkwJ21_numberOfLeadingZeros_0 : List UInt8 := [30, 16, 32, 125, 136, 61, 28, 154, 0, 14, 16, 32, 30, 136, 184, 1, 52, 96, 167, 0, 7, 28]
abbrev dktJ21_numberOfLeadingZeros_0 : List UInt8 := dkwJ21_numberOfLeadingZeros_0 ++ dktJ21_numberOfLeadingZeros_1
theorem dksJ21_numberOfLeadingZeros_0 : cJ21_numberOfLeadingZeros.data.toList.drop 0 = dktJ21_numberOfLeadingZeros_0 := by decide +kernel
theorem dksJ21_numberOfLeadingZeros_1 : cJ21_numberOfLeadingZeros.data.toList.drop 22 = dktJ21_numberOfLeadingZeros_1 := dk_seg dksJ21_numberOfLeadingZeros_0 22 rfl rfl
theorem dJ21_numberOfLeadingZeros_0 : decode cJ21_numberOfLeadingZeros 0 = .ok (.lload_n 0, 1) := dk_30 (dk_at dksJ21_numberOfLeadingZeros_0 0 rfl rfl)
theorem dJ21_numberOfLeadingZeros_1 : decode cJ21_numberOfLeadingZeros 1 = .ok (.bipush 32, 2) := dk_16 32 (dk_at dksJ21_numberOfLeadingZeros_0 1 rfl rfl)
theorem dJ21_numberOfLeadingZeros_3 : decode cJ21_numberOfLeadingZeros 3 = .ok (.lushr, 1) := dk_125 (dk_at dksJ21_numberOfLeadingZeros_0 3 rfl rfl)
theorem dJ21_numberOfLeadingZeros_4 : decode cJ21_numberOfLeadingZeros 4 = .ok (.l2i, 1) := dk_136 (dk_at dksJ21_numberOfLeadingZeros_0 4 rfl rfl)
theorem dJ21_numberOfLeadingZeros_5 : decode cJ21_numberOfLeadingZeros 5 = .ok (.istore_n 2, 1) := dk_61 (dk_at dksJ21_numberOfLeadingZeros_0 5 rfl rfl)
theorem dJ21_numberOfLeadingZeros_6 : decode cJ21_numberOfLeadingZeros 6 = .ok (.iload_n 2, 1) := dk_28 (dk_at dksJ21_numberOfLeadingZeros_0 6 rfl rfl)
theorem dJ21_numberOfLeadingZeros_7 : decode cJ21_numberOfLeadingZeros 7 = .ok (.ifCond .ne 14, 3) := dk_154 0 14 (dk_at dksJ21_numberOfLeadingZeros_0 7 rfl rfl)
theorem dJ21_numberOfLeadingZeros_10 : decode cJ21_numberOfLeadingZeros 10 = .ok (.bipush 32, 2) := dk_16 32 (dk_at dksJ21_numberOfLeadingZeros_0 10 rfl rfl)
theorem dJ21_numberOfLeadingZeros_12 : decode cJ21_numberOfLeadingZeros 12 = .ok (.lload_n 0, 1) := dk_30 (dk_at dksJ21_numberOfLeadingZeros_0 12 rfl rfl)
theorem dJ21_numberOfLeadingZeros_13 : decode cJ21_numberOfLeadingZeros 13 = .ok (.l2i, 1) := dk_136 (dk_at dksJ21_numberOfLeadingZeros_0 13 rfl rfl)
theorem dJ21_numberOfLeadingZeros_14 : decode cJ21_numberOfLeadingZeros 14 = .ok (.invokestatic 308, 3) := dk_184 1 52 (dk_at dksJ21_numberOfLeadingZeros_0 14 rfl rfl)
theorem dJ21_numberOfLeadingZeros_17 : decode cJ21_numberOfLeadingZeros 17 = .ok (.iadd, 1) := dk_96 (dk_at dksJ21_numberOfLeadingZeros_0 17 rfl rfl)
theorem dJ21_numberOfLeadingZeros_18 : decode cJ21_numberOfLeadingZeros 18 = .ok (.goto 7, 3) := dk_167 0 7 (dk_at dksJ21_numberOfLeadingZeros_0 18 rfl rfl)
theorem dJ21_numberOfLeadingZeros_21 : decode cJ21_numberOfLeadingZeros 21 = .ok (.iload_n 2, 1) := dk_28 (dk_at dksJ21_numberOfLeadingZeros_0 21 rfl rfl)
theorem dJ21_numberOfLeadingZeros_22 : decode cJ21_numberOfLeadingZeros 22 = .ok (.invokestatic 308, 3) := dk_184 1 52 (dk_at dksJ21_numberOfLeadingZeros_1 0 rfl rfl)
theorem dJ21_numberOfLeadingZeros_25 : decode cJ21_numberOfLeadingZeros 25 = .ok (.ireturn, 1) := dk_172 (dk_at dksJ21_numberOfLeadingZeros_1 3 rfl rfl)
abbrev cJ21_numberOfTrailingZeros : ByteArray := prog_25_method_49_code
def yJ21_numberOfTrailingZeros : MethodName := ⟨RJ21, "numberOfTrailingZeros", "(J)I"⟩
def dkwJ21_numberOfTrailingZeros_1 : List UInt8 := [184, 1, 55, 172]
abbrev dktJ21_numberOfTrailingZeros_1 : List UInt8 := dkwJ21_numberOfTrailingZeros_1 ++ []
def dkwJ21_numberOfTrailingZeros_0 : List UInt8 := [30, 136, 61, 28, 154, 0, 17, 16, 32, 30, 16, 32, 125, 136, 184, 1, 55, 96, 167, 0, 7, 28]
abbrev dktJ21_numberOfTrailingZeros_0 : List UInt8 := dkwJ21_numberOfTrailingZeros_0 ++ dktJ21_numberOfTrailingZeros_1
theorem dksJ21_numberOfTrailingZeros_0 : cJ21_numberOfTrailingZeros.data.toList.drop 0 = dktJ21_numberOfTrailingZeros_0 := by decide +kernel
theorem dksJ21_numberOfTrailingZeros_1 : cJ21_numberOfTrailingZeros.data.toList.drop 22 = dktJ21_numberOfTrailingZeros_1 := dk_seg dksJ21_numberOfTrailingZeros_0 22 rfl rfl
theorem dJ21_numberOfTrailingZeros_0 : decode cJ21_numberOfTrailingZeros 0 = .ok (.lload_n 0, 1) := dk_30 (dk_at dksJ21_numberOfTrailingZeros_0 0 rfl rfl)
theorem dJ21_numberOfTrailingZeros_1 : decode cJ21_numberOfTrailingZeros 1 = .ok (.l2i, 1) := dk_136 (dk_at dksJ21_numberOfTrailingZeros_0 1 rfl rfl)
theorem dJ21_numberOfTrailingZeros_2 : decode cJ21_numberOfTrailingZeros 2 = .ok (.istore_n 2, 1) := dk_61 (dk_at dksJ21_numberOfTrailingZeros_0 2 rfl rfl)
theorem dJ21_numberOfTrailingZeros_3 : decode cJ21_numberOfTrailingZeros 3 = .ok (.iload_n 2, 1) := dk_28 (dk_at dksJ21_numberOfTrailingZeros_0 3 rfl rfl)
theorem dJ21_numberOfTrailingZeros_4 : decode cJ21_numberOfTrailingZeros 4 = .ok (.ifCond .ne 17, 3) := dk_154 0 17 (dk_at dksJ21_numberOfTrailingZeros_0 4 rfl rfl)
theorem dJ21_numberOfTrailingZeros_7 : decode cJ21_numberOfTrailingZeros 7 = .ok (.bipush 32, 2) := dk_16 32 (dk_at dksJ21_numberOfTrailingZeros_0 7 rfl rfl)
theorem dJ21_numberOfTrailingZeros_9 : decode cJ21_numberOfTrailingZeros 9 = .ok (.lload_n 0, 1) := dk_30 (dk_at dksJ21_numberOfTrailingZeros_0 9 rfl rfl)
theorem dJ21_numberOfTrailingZeros_10 : decode cJ21_numberOfTrailingZeros 10 = .ok (.bipush 32, 2) := dk_16 32 (dk_at dksJ21_numberOfTrailingZeros_0 10 rfl rfl)
theorem dJ21_numberOfTrailingZeros_12 : decode cJ21_numberOfTrailingZeros 12 = .ok (.lushr, 1) := dk_125 (dk_at dksJ21_numberOfTrailingZeros_0 12 rfl rfl)
theorem dJ21_numberOfTrailingZeros_13 : decode cJ21_numberOfTrailingZeros 13 = .ok (.l2i, 1) := dk_136 (dk_at dksJ21_numberOfTrailingZeros_0 13 rfl rfl)
theorem dJ21_numberOfTrailingZeros_14 : decode cJ21_numberOfTrailingZeros 14 = .ok (.invokestatic 311, 3) := dk_184 1 55 (dk_at dksJ21_numberOfTrailingZeros_0 14 rfl rfl)
theorem dJ21_numberOfTrailingZeros_17 : decode cJ21_numberOfTrailingZeros 17 = .ok (.iadd, 1) := dk_96 (dk_at dksJ21_numberOfTrailingZeros_0 17 rfl rfl)
theorem dJ21_numberOfTrailingZeros_18 : decode cJ21_numberOfTrailingZeros 18 = .ok (.goto 7, 3) := dk_167 0 7 (dk_at dksJ21_numberOfTrailingZeros_0 18 rfl rfl)
theorem dJ21_numberOfTrailingZeros_21 : decode cJ21_numberOfTrailingZeros 21 = .ok (.iload_n 2, 1) := dk_28 (dk_at dksJ21_numberOfTrailingZeros_0 21 rfl rfl)
theorem dJ21_numberOfTrailingZeros_22 : decode cJ21_numberOfTrailingZeros 22 = .ok (.invokestatic 311, 3) := dk_184 1 55 (dk_at dksJ21_numberOfTrailingZeros_1 0 rfl rfl)
theorem dJ21_numberOfTrailingZeros_25 : decode cJ21_numberOfTrailingZeros 25 = .ok (.ireturn, 1) := dk_172 (dk_at dksJ21_numberOfTrailingZeros_1 3 rfl rfl)
abbrev cJ21_valueOf : ByteArray := prog_25_method_24_code
def yJ21_valueOf : MethodName := ⟨RJ21, "valueOf", "(J)Ljava/lang/Long;"⟩
def dkwJ21_valueOf_1 : List UInt8 := [136, 17, 0, 128, 96, 50, 176, 187, 0, 1, 89, 30, 183, 0, 240, 176]
abbrev dktJ21_valueOf_1 : List UInt8 := dkwJ21_valueOf_1 ++ []
def dkwJ21_valueOf_0 : List UInt8 := [17, 0, 128, 61, 30, 20, 0, 230, 148, 155, 0, 22, 30, 20, 0, 232, 148, 157, 0, 14, 178, 0, 234, 30]
abbrev dktJ21_valueOf_0 : List UInt8 := dkwJ21_valueOf_0 ++ dktJ21_valueOf_1
theorem dksJ21_valueOf_0 : cJ21_valueOf.data.toList.drop 0 = dktJ21_valueOf_0 := by decide +kernel
theorem dksJ21_valueOf_1 : cJ21_valueOf.data.toList.drop 24 = dktJ21_valueOf_1 := dk_seg dksJ21_valueOf_0 24 rfl rfl
theorem dJ21_valueOf_0 : decode cJ21_valueOf 0 = .ok (.sipush 128, 3) := dk_17 0 128 (dk_at dksJ21_valueOf_0 0 rfl rfl)
theorem dJ21_valueOf_3 : decode cJ21_valueOf 3 = .ok (.istore_n 2, 1) := dk_61 (dk_at dksJ21_valueOf_0 3 rfl rfl)
theorem dJ21_valueOf_4 : decode cJ21_valueOf 4 = .ok (.lload_n 0, 1) := dk_30 (dk_at dksJ21_valueOf_0 4 rfl rfl)
theorem dJ21_valueOf_5 : decode cJ21_valueOf 5 = .ok (.ldc2_w 230, 3) := dk_20 0 230 (dk_at dksJ21_valueOf_0 5 rfl rfl)
theorem dJ21_valueOf_8 : decode cJ21_valueOf 8 = .ok (.lcmp, 1) := dk_148 (dk_at dksJ21_valueOf_0 8 rfl rfl)
theorem dJ21_valueOf_9 : decode cJ21_valueOf 9 = .ok (.ifCond .lt 22, 3) := dk_155 0 22 (dk_at dksJ21_valueOf_0 9 rfl rfl)
theorem dJ21_valueOf_12 : decode cJ21_valueOf 12 = .ok (.lload_n 0, 1) := dk_30 (dk_at dksJ21_valueOf_0 12 rfl rfl)
theorem dJ21_valueOf_13 : decode cJ21_valueOf 13 = .ok (.ldc2_w 232, 3) := dk_20 0 232 (dk_at dksJ21_valueOf_0 13 rfl rfl)
theorem dJ21_valueOf_16 : decode cJ21_valueOf 16 = .ok (.lcmp, 1) := dk_148 (dk_at dksJ21_valueOf_0 16 rfl rfl)
theorem dJ21_valueOf_17 : decode cJ21_valueOf 17 = .ok (.ifCond .gt 14, 3) := dk_157 0 14 (dk_at dksJ21_valueOf_0 17 rfl rfl)
theorem dJ21_valueOf_20 : decode cJ21_valueOf 20 = .ok (.getstatic 234, 3) := dk_178 0 234 (dk_at dksJ21_valueOf_0 20 rfl rfl)
theorem dJ21_valueOf_23 : decode cJ21_valueOf 23 = .ok (.lload_n 0, 1) := dk_30 (dk_at dksJ21_valueOf_0 23 rfl rfl)
theorem dJ21_valueOf_24 : decode cJ21_valueOf 24 = .ok (.l2i, 1) := dk_136 (dk_at dksJ21_valueOf_1 0 rfl rfl)
theorem dJ21_valueOf_25 : decode cJ21_valueOf 25 = .ok (.sipush 128, 3) := dk_17 0 128 (dk_at dksJ21_valueOf_1 1 rfl rfl)
theorem dJ21_valueOf_28 : decode cJ21_valueOf 28 = .ok (.iadd, 1) := dk_96 (dk_at dksJ21_valueOf_1 4 rfl rfl)
theorem dJ21_valueOf_29 : decode cJ21_valueOf 29 = .ok (.aaload, 1) := dk_50 (dk_at dksJ21_valueOf_1 5 rfl rfl)
theorem dJ21_valueOf_30 : decode cJ21_valueOf 30 = .ok (.areturn, 1) := dk_176 (dk_at dksJ21_valueOf_1 6 rfl rfl)
theorem dJ21_valueOf_31 : decode cJ21_valueOf 31 = .ok (.new 1, 3) := dk_187 0 1 (dk_at dksJ21_valueOf_1 7 rfl rfl)
theorem dJ21_valueOf_34 : decode cJ21_valueOf 34 = .ok (.dup, 1) := dk_89 (dk_at dksJ21_valueOf_1 10 rfl rfl)
theorem dJ21_valueOf_35 : decode cJ21_valueOf 35 = .ok (.lload_n 0, 1) := dk_30 (dk_at dksJ21_valueOf_1 11 rfl rfl)
theorem dJ21_valueOf_36 : decode cJ21_valueOf 36 = .ok (.invokespecial 240, 3) := dk_183 0 240 (dk_at dksJ21_valueOf_1 12 rfl rfl)
theorem dJ21_valueOf_39 : decode cJ21_valueOf 39 = .ok (.areturn, 1) := dk_176 (dk_at dksJ21_valueOf_1 15 rfl rfl)
abbrev cJ21_init : ByteArray := prog_25_method_26_code
def yJ21_init : MethodName := ⟨RJ21, "<init>", "(J)V"⟩
def dkwJ21_init_0 : List UInt8 := [42, 183, 1, 14, 42, 31, 181, 1, 17, 177]
abbrev dktJ21_init_0 : List UInt8 := dkwJ21_init_0 ++ []
theorem dksJ21_init_0 : cJ21_init.data.toList.drop 0 = dktJ21_init_0 := by decide +kernel
theorem dJ21_init_0 : decode cJ21_init 0 = .ok (.aload_n 0, 1) := dk_42 (dk_at dksJ21_init_0 0 rfl rfl)
theorem dJ21_init_1 : decode cJ21_init 1 = .ok (.invokespecial 270, 3) := dk_183 1 14 (dk_at dksJ21_init_0 1 rfl rfl)
theorem dJ21_init_4 : decode cJ21_init 4 = .ok (.aload_n 0, 1) := dk_42 (dk_at dksJ21_init_0 4 rfl rfl)
theorem dJ21_init_5 : decode cJ21_init 5 = .ok (.lload_n 1, 1) := dk_31 (dk_at dksJ21_init_0 5 rfl rfl)
theorem dJ21_init_6 : decode cJ21_init 6 = .ok (.putfield 273, 3) := dk_181 1 17 (dk_at dksJ21_init_0 6 rfl rfl)
theorem dJ21_init_9 : decode cJ21_init 9 = .ok (.return_, 1) := dk_177 (dk_at dksJ21_init_0 9 rfl rfl)
abbrev cJ21_longValue : ByteArray := prog_25_method_31_code
def yJ21_longValue : MethodName := ⟨RJ21, "longValue", "()J"⟩
theorem dJ21_longValue_0 : decode cJ21_longValue 0 = .ok (.aload_n 0, 1) := by decide +kernel
theorem dJ21_longValue_1 : decode cJ21_longValue 1 = .ok (.getfield 273, 3) := by decide +kernel
theorem dJ21_longValue_4 : decode cJ21_longValue 4 = .ok (.lreturn, 1) := by decide +kernel
theorem q113 : (Jvm.Cond.initialized "java/lang/Long") ∈ lw_all := lw_g (lw_at lw_m1 29 rfl) rfl
theorem q910 : (Jvm.Cond.selects "java/lang/Long" ({ cls := "java/lang/Object", name := "getClass", desc := "()Ljava/lang/Class;" } : Jvm.MethodName) ({ cls := "java/lang/Object", name := "getClass", desc := "()Ljava/lang/Class;" } : Jvm.MethodName)) ∈ lw_all := lw_g (lw_at lw_m4 106 rfl) rfl
theorem q986 : (Jvm.Cond.castable "java/lang/Long" "java/lang/Comparable") ∈ lw_tbl := lw_at lw_m4 182 rfl
theorem q987 : (Jvm.Cond.selects "java/lang/Long" ({ cls := "java/lang/Comparable", name := "compareTo", desc := "(Ljava/lang/Object;)I" } : Jvm.MethodName) ({ cls := "java/lang/Long", name := "compareTo", desc := "(Ljava/lang/Object;)I" } : Jvm.MethodName)) ∈ lw_all := lw_g (lw_at lw_m4 183 rfl) rfl
theorem q988 : (Jvm.Cond.unhidden "java/lang/Long" "compareTo" "(Ljava/lang/Object;)I") ∈ lw_tbl := lw_at lw_m4 184 rfl
theorem q989 : (Jvm.Cond.instanceMethod ({ cls := "java/lang/Long", name := "compareTo", desc := "(Ljava/lang/Object;)I" } : Jvm.MethodName)) ∈ lw_all := lw_g (lw_at lw_m4 185 rfl) rfl
theorem q990 : (Jvm.Cond.publicMethod ({ cls := "java/lang/Long", name := "compareTo", desc := "(Ljava/lang/Object;)I" } : Jvm.MethodName)) ∈ lw_tbl := lw_at lw_m4 186 rfl
theorem q991 : (Jvm.Cond.code ({ cls := "java/lang/Long", name := "compareTo", desc := "(Ljava/lang/Object;)I" } : Jvm.MethodName) prog_25_method_64_code (2 : Nat) (Option.some Jvm.ClassFile.FieldType.int)) ∈ lw_all := lw_g (lw_at lw_m4 187 rfl) rfl
theorem q992 : (Jvm.Cond.classLink "java/lang/Long" (1 : Nat) "java/lang/Long") ∈ lw_all := lw_g (lw_at lw_m4 188 rfl) rfl
theorem q993 : (Jvm.Cond.methodLink "java/lang/Long" (343 : Nat) ({ cls := "java/lang/Long", name := "compareTo", desc := "(Ljava/lang/Long;)I" } : Jvm.MethodName)) ∈ lw_all := lw_g (lw_at lw_m4 189 rfl) rfl
theorem q994 : (Jvm.Cond.instanceMethod ({ cls := "java/lang/Long", name := "compareTo", desc := "(Ljava/lang/Long;)I" } : Jvm.MethodName)) ∈ lw_all := lw_g (lw_at lw_m4 190 rfl) rfl
theorem q995 : (Jvm.Cond.selects "java/lang/Long" ({ cls := "java/lang/Long", name := "compareTo", desc := "(Ljava/lang/Long;)I" } : Jvm.MethodName) ({ cls := "java/lang/Long", name := "compareTo", desc := "(Ljava/lang/Long;)I" } : Jvm.MethodName)) ∈ lw_all := lw_g (lw_at lw_m4 191 rfl) rfl
theorem q996 : (Jvm.Cond.code ({ cls := "java/lang/Long", name := "compareTo", desc := "(Ljava/lang/Long;)I" } : Jvm.MethodName) prog_25_method_41_code (2 : Nat) (Option.some Jvm.ClassFile.FieldType.int)) ∈ lw_all := lw_g (lw_at lw_m4 192 rfl) rfl
theorem q997 : (Jvm.Cond.methodLink "java/lang/Long" (302 : Nat) ({ cls := "java/lang/Long", name := "compare", desc := "(JJ)I" } : Jvm.MethodName)) ∈ lw_all := lw_g (lw_at lw_m4 193 rfl) rfl
theorem q998 : (Jvm.Cond.static ({ cls := "java/lang/Long", name := "compare", desc := "(JJ)I" } : Jvm.MethodName)) ∈ lw_all := lw_g (lw_at lw_m4 194 rfl) rfl
theorem q999 : (Jvm.Cond.code ({ cls := "java/lang/Long", name := "compare", desc := "(JJ)I" } : Jvm.MethodName) prog_25_method_42_code (4 : Nat) (Option.some Jvm.ClassFile.FieldType.int)) ∈ lw_all := lw_g (lw_at lw_m4 195 rfl) rfl
theorem q1087 : (Jvm.Cond.static ({ cls := "java/lang/Long", name := "numberOfLeadingZeros", desc := "(J)I" } : Jvm.MethodName)) ∈ lw_all := lw_g (lw_at lw_m5 43 rfl) rfl
theorem q1088 : (Jvm.Cond.code ({ cls := "java/lang/Long", name := "numberOfLeadingZeros", desc := "(J)I" } : Jvm.MethodName) prog_25_method_48_code (3 : Nat) (Option.some Jvm.ClassFile.FieldType.int)) ∈ lw_all := lw_g (lw_at lw_m5 44 rfl) rfl
theorem q1089 : (Jvm.Cond.methodLink "java/lang/Long" (308 : Nat) ({ cls := "java/lang/Integer", name := "numberOfLeadingZeros", desc := "(I)I" } : Jvm.MethodName)) ∈ lw_all := lw_g (lw_at lw_m5 45 rfl) rfl
theorem q1095 : (Jvm.Cond.static ({ cls := "java/lang/Long", name := "numberOfTrailingZeros", desc := "(J)I" } : Jvm.MethodName)) ∈ lw_all := lw_g (lw_at lw_m5 51 rfl) rfl
theorem q1096 : (Jvm.Cond.code ({ cls := "java/lang/Long", name := "numberOfTrailingZeros", desc := "(J)I" } : Jvm.MethodName) prog_25_method_49_code (3 : Nat) (Option.some Jvm.ClassFile.FieldType.int)) ∈ lw_all := lw_g (lw_at lw_m5 52 rfl) rfl
theorem q1097 : (Jvm.Cond.methodLink "java/lang/Long" (311 : Nat) ({ cls := "java/lang/Integer", name := "numberOfTrailingZeros", desc := "(I)I" } : Jvm.MethodName)) ∈ lw_all := lw_g (lw_at lw_m5 53 rfl) rfl
theorem q1324 : (Jvm.Cond.static ({ cls := "java/lang/Long", name := "valueOf", desc := "(J)Ljava/lang/Long;" } : Jvm.MethodName)) ∈ lw_all := lw_g (lw_at lw_m6 40 rfl) rfl
theorem q1325 : (Jvm.Cond.code ({ cls := "java/lang/Long", name := "valueOf", desc := "(J)Ljava/lang/Long;" } : Jvm.MethodName) prog_25_method_24_code (3 : Nat) (Option.some (Jvm.ClassFile.FieldType.object "java/lang/Long"))) ∈ lw_all := lw_g (lw_at lw_m6 41 rfl) rfl
theorem q1326 : (Jvm.Cond.constantLong "java/lang/Long" (230 : Nat) (-128 : Int64)) ∈ lw_all := lw_g (lw_at lw_m6 42 rfl) rfl
theorem q1327 : (Jvm.Cond.constantLong "java/lang/Long" (232 : Nat) (127 : Int64)) ∈ lw_all := lw_g (lw_at lw_m6 43 rfl) rfl
theorem q1328 : (Jvm.Cond.fieldLink "java/lang/Long" (234 : Nat) "java/lang/Long$LongCache" "cache" "[Ljava/lang/Long;") ∈ lw_all := lw_g (lw_at lw_m6 44 rfl) rfl
theorem q1330 : (Jvm.Cond.instantiable "java/lang/Long" (1 : Nat)) ∈ lw_all := lw_g (lw_at lw_m6 46 rfl) rfl
theorem q1331 : (Jvm.Cond.methodLink "java/lang/Long" (240 : Nat) ({ cls := "java/lang/Long", name := "<init>", desc := "(J)V" } : Jvm.MethodName)) ∈ lw_all := lw_g (lw_at lw_m6 47 rfl) rfl
theorem q1332 : (Jvm.Cond.instanceMethod ({ cls := "java/lang/Long", name := "<init>", desc := "(J)V" } : Jvm.MethodName)) ∈ lw_all := lw_g (lw_at lw_m6 48 rfl) rfl
theorem q1333 : (Jvm.Cond.code ({ cls := "java/lang/Long", name := "<init>", desc := "(J)V" } : Jvm.MethodName) prog_25_method_26_code (3 : Nat) (Option.none : Option Jvm.ClassFile.FieldType)) ∈ lw_all := lw_g (lw_at lw_m6 49 rfl) rfl
theorem q1334 : (Jvm.Cond.methodLink "java/lang/Long" (270 : Nat) ({ cls := "java/lang/Number", name := "<init>", desc := "()V" } : Jvm.MethodName)) ∈ lw_all := lw_g (lw_at lw_m6 50 rfl) rfl
theorem q1335 : (Jvm.Cond.fieldLink "java/lang/Long" (273 : Nat) "java/lang/Long" "value" "J") ∈ lw_all := lw_g (lw_at lw_m6 51 rfl) rfl
theorem q1336 : (Jvm.Cond.laysFinal "java/lang/Long" "java/lang/Long" "value" "J") ∈ lw_all := lw_g (lw_at lw_m6 52 rfl) rfl
theorem q1337 : (Jvm.Cond.soleField "java/lang/Long" "value") ∈ lw_all := lw_g (lw_at lw_m6 53 rfl) rfl
theorem q1338 : (Jvm.Cond.superclass "java/lang/Long" "java/lang/Number") ∈ lw_all := lw_g (lw_at lw_m6 54 rfl) rfl
theorem q1559 : (Jvm.Cond.instanceMethod ({ cls := "java/lang/Long", name := "longValue", desc := "()J" } : Jvm.MethodName)) ∈ lw_all := lw_g (lw_at lw_m7 35 rfl) rfl
theorem q1560 : (Jvm.Cond.selects "java/lang/Long" ({ cls := "java/lang/Long", name := "longValue", desc := "()J" } : Jvm.MethodName) ({ cls := "java/lang/Long", name := "longValue", desc := "()J" } : Jvm.MethodName)) ∈ lw_all := lw_g (lw_at lw_m7 36 rfl) rfl
theorem q1561 : (Jvm.Cond.code ({ cls := "java/lang/Long", name := "longValue", desc := "()J" } : Jvm.MethodName) prog_25_method_31_code (1 : Nat) (Option.some Jvm.ClassFile.FieldType.long)) ∈ lw_all := lw_g (lw_at lw_m7 37 rfl) rfl
theorem q2293 : (Jvm.Cond.castable "java/lang/Long" "java/lang/Object") ∈ lw_tbl := lw_at lw_m10 49 rfl
theorem in_J21 : ∀ w ∈ wsJ210, w ∈ lw_all := lw_in wsJ210 [1336] (by decide +kernel) (by decide +kernel)
/-! java/util/TreeMap$Entry -/
set_option maxRecDepth 100000
def RJ23 : String := "java/util/TreeMap$Entry"
def TJ23 : u_T := fun k => match k with
  | 0 => ("java/util/TreeMap$Entry", "key", "Ljava/lang/Object;", false)
  | 1 => ("java/util/TreeMap$Entry", "value", "Ljava/lang/Object;", false)
  | 2 => ("java/util/TreeMap$Entry", "left", "Ljava/util/TreeMap$Entry;", false)
  | 3 => ("java/util/TreeMap$Entry", "right", "Ljava/util/TreeMap$Entry;", false)
  | 4 => ("java/util/TreeMap$Entry", "parent", "Ljava/util/TreeMap$Entry;", false)
  | _ => ("java/util/TreeMap$Entry", "color", "Z", false)
def tyJ23 : Nat → FieldType := fun k => match k with
  | 0 => .object "java/lang/Object"
  | 1 => .object "java/lang/Object"
  | 2 => .object "java/util/TreeMap$Entry"
  | 3 => .object "java/util/TreeMap$Entry"
  | 4 => .object "java/util/TreeMap$Entry"
  | _ => .boolean
abbrev wsJ230 : List Cond := u_ws RJ23 TJ23 6
theorem nmJ23 : ∀ a, a < 6 → ∀ b, b < 6 → a ≠ b → (TJ23 a).2.1 ≠ (TJ23 b).2.1 := by decide +kernel
theorem tyJ23_ok : ∀ k, k < 6 → parseFieldDescriptor (TJ23 k).2.2.1 = some (tyJ23 k) := by decide +kernel
abbrev cJ23_init : ByteArray := prog_62_method_1_code
def yJ23_init : MethodName := ⟨RJ23, "<init>", "(Ljava/lang/Object;Ljava/lang/Object;Ljava/util/TreeMap$Entry;)V"⟩
def dkwJ23_init_1 : List UInt8 := [177]
abbrev dktJ23_init_1 : List UInt8 := dkwJ23_init_1 ++ []
def dkwJ23_init_0 : List UInt8 := [42, 183, 0, 3, 42, 4, 181, 0, 9, 42, 43, 181, 0, 15, 42, 44, 181, 0, 19, 42, 45, 181, 0, 22]
abbrev dktJ23_init_0 : List UInt8 := dkwJ23_init_0 ++ dktJ23_init_1
theorem dksJ23_init_0 : cJ23_init.data.toList.drop 0 = dktJ23_init_0 := by decide +kernel
theorem dksJ23_init_1 : cJ23_init.data.toList.drop 24 = dktJ23_init_1 := dk_seg dksJ23_init_0 24 rfl rfl
theorem dJ23_init_0 : decode cJ23_init 0 = .ok (.aload_n 0, 1) := dk_42 (dk_at dksJ23_init_0 0 rfl rfl)
theorem dJ23_init_1 : decode cJ23_init 1 = .ok (.invokespecial 3, 3) := dk_183 0 3 (dk_at dksJ23_init_0 1 rfl rfl)
theorem dJ23_init_4 : decode cJ23_init 4 = .ok (.aload_n 0, 1) := dk_42 (dk_at dksJ23_init_0 4 rfl rfl)
theorem dJ23_init_5 : decode cJ23_init 5 = .ok (.iconst 1, 1) := dk_4 (dk_at dksJ23_init_0 5 rfl rfl)
theorem dJ23_init_6 : decode cJ23_init 6 = .ok (.putfield 9, 3) := dk_181 0 9 (dk_at dksJ23_init_0 6 rfl rfl)
theorem dJ23_init_9 : decode cJ23_init 9 = .ok (.aload_n 0, 1) := dk_42 (dk_at dksJ23_init_0 9 rfl rfl)
theorem dJ23_init_10 : decode cJ23_init 10 = .ok (.aload_n 1, 1) := dk_43 (dk_at dksJ23_init_0 10 rfl rfl)
theorem dJ23_init_11 : decode cJ23_init 11 = .ok (.putfield 15, 3) := dk_181 0 15 (dk_at dksJ23_init_0 11 rfl rfl)
theorem dJ23_init_14 : decode cJ23_init 14 = .ok (.aload_n 0, 1) := dk_42 (dk_at dksJ23_init_0 14 rfl rfl)
theorem dJ23_init_15 : decode cJ23_init 15 = .ok (.aload_n 2, 1) := dk_44 (dk_at dksJ23_init_0 15 rfl rfl)
theorem dJ23_init_16 : decode cJ23_init 16 = .ok (.putfield 19, 3) := dk_181 0 19 (dk_at dksJ23_init_0 16 rfl rfl)
theorem dJ23_init_19 : decode cJ23_init 19 = .ok (.aload_n 0, 1) := dk_42 (dk_at dksJ23_init_0 19 rfl rfl)
theorem dJ23_init_20 : decode cJ23_init 20 = .ok (.aload_n 3, 1) := dk_45 (dk_at dksJ23_init_0 20 rfl rfl)
theorem dJ23_init_21 : decode cJ23_init 21 = .ok (.putfield 22, 3) := dk_181 0 22 (dk_at dksJ23_init_0 21 rfl rfl)
theorem dJ23_init_24 : decode cJ23_init 24 = .ok (.return_, 1) := dk_177 (dk_at dksJ23_init_1 0 rfl rfl)
abbrev cJ23_getKey : ByteArray := prog_62_method_2_code
def yJ23_getKey : MethodName := ⟨RJ23, "getKey", "()Ljava/lang/Object;"⟩
theorem dJ23_getKey_0 : decode cJ23_getKey 0 = .ok (.aload_n 0, 1) := by decide +kernel
theorem dJ23_getKey_1 : decode cJ23_getKey 1 = .ok (.getfield 15, 3) := by decide +kernel
theorem dJ23_getKey_4 : decode cJ23_getKey 4 = .ok (.areturn, 1) := by decide +kernel
abbrev cJ23_getValue : ByteArray := prog_62_method_3_code
def yJ23_getValue : MethodName := ⟨RJ23, "getValue", "()Ljava/lang/Object;"⟩
theorem dJ23_getValue_0 : decode cJ23_getValue 0 = .ok (.aload_n 0, 1) := by decide +kernel
theorem dJ23_getValue_1 : decode cJ23_getValue 1 = .ok (.getfield 19, 3) := by decide +kernel
theorem dJ23_getValue_4 : decode cJ23_getValue 4 = .ok (.areturn, 1) := by decide +kernel
theorem q117 : (Jvm.Cond.initialized "java/util/TreeMap$Entry") ∈ lw_all := lw_g (lw_at lw_m1 33 rfl) rfl
theorem q916 : (Jvm.Cond.selects "java/util/TreeMap$Entry" ({ cls := "java/lang/Object", name := "getClass", desc := "()Ljava/lang/Class;" } : Jvm.MethodName) ({ cls := "java/lang/Object", name := "getClass", desc := "()Ljava/lang/Class;" } : Jvm.MethodName)) ∈ lw_all := lw_g (lw_at lw_m4 112 rfl) rfl
theorem q1361 : (Jvm.Cond.instantiable "java/util/TreeMap$Entry" (6 : Nat)) ∈ lw_all := lw_g (lw_at lw_m6 77 rfl) rfl
theorem q1363 : (Jvm.Cond.instanceMethod ({ cls := "java/util/TreeMap$Entry", name := "<init>", desc := "(Ljava/lang/Object;Ljava/lang/Object;Ljava/util/TreeMap$Entry;)V" } : Jvm.MethodName)) ∈ lw_all := lw_g (lw_at lw_m6 79 rfl) rfl
theorem q1364 : (Jvm.Cond.code ({ cls := "java/util/TreeMap$Entry", name := "<init>", desc := "(Ljava/lang/Object;Ljava/lang/Object;Ljava/util/TreeMap$Entry;)V" } : Jvm.MethodName) prog_62_method_1_code (4 : Nat) (Option.none : Option Jvm.ClassFile.FieldType)) ∈ lw_all := lw_g (lw_at lw_m6 80 rfl) rfl
theorem q1365 : (Jvm.Cond.methodLink "java/util/TreeMap$Entry" (3 : Nat) ({ cls := "java/lang/Object", name := "<init>", desc := "()V" } : Jvm.MethodName)) ∈ lw_all := lw_g (lw_at lw_m6 81 rfl) rfl
theorem q1366 : (Jvm.Cond.fieldLink "java/util/TreeMap$Entry" (15 : Nat) "java/util/TreeMap$Entry" "key" "Ljava/lang/Object;") ∈ lw_all := lw_g (lw_at lw_m6 82 rfl) rfl
theorem q1368 : (Jvm.Cond.fieldLink "java/util/TreeMap$Entry" (19 : Nat) "java/util/TreeMap$Entry" "value" "Ljava/lang/Object;") ∈ lw_all := lw_g (lw_at lw_m6 84 rfl) rfl
theorem q1372 : (Jvm.Cond.fieldLink "java/util/TreeMap$Entry" (22 : Nat) "java/util/TreeMap$Entry" "parent" "Ljava/util/TreeMap$Entry;") ∈ lw_all := lw_g (lw_at lw_m6 88 rfl) rfl
theorem q1374 : (Jvm.Cond.fieldLink "java/util/TreeMap$Entry" (9 : Nat) "java/util/TreeMap$Entry" "color" "Z") ∈ lw_all := lw_g (lw_at lw_m6 90 rfl) rfl
theorem q1376 : (Jvm.Cond.lays "java/util/TreeMap$Entry" "java/util/TreeMap$Entry" "key" "Ljava/lang/Object;") ∈ lw_all := lw_g (lw_at lw_m6 92 rfl) rfl
theorem q1377 : (Jvm.Cond.soleField "java/util/TreeMap$Entry" "key") ∈ lw_all := lw_g (lw_at lw_m6 93 rfl) rfl
theorem q1378 : (Jvm.Cond.lays "java/util/TreeMap$Entry" "java/util/TreeMap$Entry" "value" "Ljava/lang/Object;") ∈ lw_all := lw_g (lw_at lw_m6 94 rfl) rfl
theorem q1379 : (Jvm.Cond.soleField "java/util/TreeMap$Entry" "value") ∈ lw_all := lw_g (lw_at lw_m6 95 rfl) rfl
theorem q1380 : (Jvm.Cond.lays "java/util/TreeMap$Entry" "java/util/TreeMap$Entry" "left" "Ljava/util/TreeMap$Entry;") ∈ lw_all := lw_g (lw_at lw_m6 96 rfl) rfl
theorem q1381 : (Jvm.Cond.soleField "java/util/TreeMap$Entry" "left") ∈ lw_all := lw_g (lw_at lw_m6 97 rfl) rfl
theorem q1382 : (Jvm.Cond.lays "java/util/TreeMap$Entry" "java/util/TreeMap$Entry" "right" "Ljava/util/TreeMap$Entry;") ∈ lw_all := lw_g (lw_at lw_m6 98 rfl) rfl
theorem q1383 : (Jvm.Cond.soleField "java/util/TreeMap$Entry" "right") ∈ lw_all := lw_g (lw_at lw_m6 99 rfl) rfl
theorem q1384 : (Jvm.Cond.lays "java/util/TreeMap$Entry" "java/util/TreeMap$Entry" "parent" "Ljava/util/TreeMap$Entry;") ∈ lw_all := lw_g (lw_at lw_m6 100 rfl) rfl
theorem q1385 : (Jvm.Cond.soleField "java/util/TreeMap$Entry" "parent") ∈ lw_all := lw_g (lw_at lw_m6 101 rfl) rfl
theorem q1386 : (Jvm.Cond.lays "java/util/TreeMap$Entry" "java/util/TreeMap$Entry" "color" "Z") ∈ lw_all := lw_g (lw_at lw_m6 102 rfl) rfl
theorem q1387 : (Jvm.Cond.soleField "java/util/TreeMap$Entry" "color") ∈ lw_all := lw_g (lw_at lw_m6 103 rfl) rfl
theorem q1388 : (Jvm.Cond.superclass "java/util/TreeMap$Entry" "java/lang/Object") ∈ lw_all := lw_g (lw_at lw_m6 104 rfl) rfl
theorem q1530 : (Jvm.Cond.castable "java/util/TreeMap$Entry" "java/util/Map$Entry") ∈ lw_tbl := lw_at lw_m7 6 rfl
theorem q1531 : (Jvm.Cond.selects "java/util/TreeMap$Entry" ({ cls := "java/util/Map$Entry", name := "getKey", desc := "()Ljava/lang/Object;" } : Jvm.MethodName) ({ cls := "java/util/TreeMap$Entry", name := "getKey", desc := "()Ljava/lang/Object;" } : Jvm.MethodName)) ∈ lw_all := lw_g (lw_at lw_m7 7 rfl) rfl
theorem q1532 : (Jvm.Cond.unhidden "java/util/TreeMap$Entry" "getKey" "()Ljava/lang/Object;") ∈ lw_tbl := lw_at lw_m7 8 rfl
theorem q1533 : (Jvm.Cond.instanceMethod ({ cls := "java/util/TreeMap$Entry", name := "getKey", desc := "()Ljava/lang/Object;" } : Jvm.MethodName)) ∈ lw_all := lw_g (lw_at lw_m7 9 rfl) rfl
theorem q1534 : (Jvm.Cond.publicMethod ({ cls := "java/util/TreeMap$Entry", name := "getKey", desc := "()Ljava/lang/Object;" } : Jvm.MethodName)) ∈ lw_tbl := lw_at lw_m7 10 rfl
theorem q1535 : (Jvm.Cond.code ({ cls := "java/util/TreeMap$Entry", name := "getKey", desc := "()Ljava/lang/Object;" } : Jvm.MethodName) prog_62_method_2_code (1 : Nat) (Option.some (Jvm.ClassFile.FieldType.object "java/lang/Object"))) ∈ lw_all := lw_g (lw_at lw_m7 11 rfl) rfl
theorem q1552 : (Jvm.Cond.selects "java/util/TreeMap$Entry" ({ cls := "java/util/Map$Entry", name := "getValue", desc := "()Ljava/lang/Object;" } : Jvm.MethodName) ({ cls := "java/util/TreeMap$Entry", name := "getValue", desc := "()Ljava/lang/Object;" } : Jvm.MethodName)) ∈ lw_all := lw_g (lw_at lw_m7 28 rfl) rfl
theorem q1553 : (Jvm.Cond.unhidden "java/util/TreeMap$Entry" "getValue" "()Ljava/lang/Object;") ∈ lw_tbl := lw_at lw_m7 29 rfl
theorem q1554 : (Jvm.Cond.instanceMethod ({ cls := "java/util/TreeMap$Entry", name := "getValue", desc := "()Ljava/lang/Object;" } : Jvm.MethodName)) ∈ lw_all := lw_g (lw_at lw_m7 30 rfl) rfl
theorem q1555 : (Jvm.Cond.publicMethod ({ cls := "java/util/TreeMap$Entry", name := "getValue", desc := "()Ljava/lang/Object;" } : Jvm.MethodName)) ∈ lw_tbl := lw_at lw_m7 31 rfl
theorem q1556 : (Jvm.Cond.code ({ cls := "java/util/TreeMap$Entry", name := "getValue", desc := "()Ljava/lang/Object;" } : Jvm.MethodName) prog_62_method_3_code (1 : Nat) (Option.some (Jvm.ClassFile.FieldType.object "java/lang/Object"))) ∈ lw_all := lw_g (lw_at lw_m7 32 rfl) rfl
theorem q2295 : (Jvm.Cond.castable "java/util/TreeMap$Entry" "java/lang/Object") ∈ lw_tbl := lw_at lw_m10 51 rfl
theorem in_J23 : ∀ w ∈ wsJ230, w ∈ lw_all := lw_in wsJ230 [1376, 1378, 1380, 1382, 1384, 1386] (by decide +kernel) (by decide +kernel)
/-! java/util/Objects -/
set_option maxRecDepth 100000
def RJ24 : String := "java/util/Objects"
abbrev cJ24_requireNonNull : ByteArray := prog_53_method_10_code
def yJ24_requireNonNull : MethodName := ⟨RJ24, "requireNonNull", "(Ljava/lang/Object;)Ljava/lang/Object;"⟩
def dkwJ24_requireNonNull_0 : List UInt8 := [42, 199, 0, 11, 187, 0, 84, 89, 183, 0, 86, 191, 42, 176]
abbrev dktJ24_requireNonNull_0 : List UInt8 := dkwJ24_requireNonNull_0 ++ []
theorem dksJ24_requireNonNull_0 : cJ24_requireNonNull.data.toList.drop 0 = dktJ24_requireNonNull_0 := by decide +kernel
theorem dJ24_requireNonNull_0 : decode cJ24_requireNonNull 0 = .ok (.aload_n 0, 1) := dk_42 (dk_at dksJ24_requireNonNull_0 0 rfl rfl)
theorem dJ24_requireNonNull_1 : decode cJ24_requireNonNull 1 = .ok (.ifnonnull 11, 3) := dk_199 0 11 (dk_at dksJ24_requireNonNull_0 1 rfl rfl)
theorem dJ24_requireNonNull_4 : decode cJ24_requireNonNull 4 = .ok (.new 84, 3) := dk_187 0 84 (dk_at dksJ24_requireNonNull_0 4 rfl rfl)
theorem dJ24_requireNonNull_7 : decode cJ24_requireNonNull 7 = .ok (.dup, 1) := dk_89 (dk_at dksJ24_requireNonNull_0 7 rfl rfl)
theorem dJ24_requireNonNull_8 : decode cJ24_requireNonNull 8 = .ok (.invokespecial 86, 3) := dk_183 0 86 (dk_at dksJ24_requireNonNull_0 8 rfl rfl)
theorem dJ24_requireNonNull_11 : decode cJ24_requireNonNull 11 = .ok (.athrow, 1) := dk_191 (dk_at dksJ24_requireNonNull_0 11 rfl rfl)
theorem dJ24_requireNonNull_12 : decode cJ24_requireNonNull 12 = .ok (.aload_n 0, 1) := dk_42 (dk_at dksJ24_requireNonNull_0 12 rfl rfl)
theorem dJ24_requireNonNull_13 : decode cJ24_requireNonNull 13 = .ok (.areturn, 1) := dk_176 (dk_at dksJ24_requireNonNull_0 13 rfl rfl)
theorem q118 : (Jvm.Cond.initialized "java/util/Objects") ∈ lw_all := lw_g (lw_at lw_m1 34 rfl) rfl
theorem q1390 : (Jvm.Cond.static ({ cls := "java/util/Objects", name := "requireNonNull", desc := "(Ljava/lang/Object;)Ljava/lang/Object;" } : Jvm.MethodName)) ∈ lw_all := lw_g (lw_at lw_m6 106 rfl) rfl
theorem q1391 : (Jvm.Cond.code ({ cls := "java/util/Objects", name := "requireNonNull", desc := "(Ljava/lang/Object;)Ljava/lang/Object;" } : Jvm.MethodName) prog_53_method_10_code (1 : Nat) (Option.some (Jvm.ClassFile.FieldType.object "java/lang/Object"))) ∈ lw_all := lw_g (lw_at lw_m6 107 rfl) rfl
/-! java/util/AbstractCollection -/
set_option maxRecDepth 100000
def RJ25 : String := "java/util/AbstractCollection"
abbrev cJ25_init : ByteArray := prog_39_method_1_code
def yJ25_init : MethodName := ⟨RJ25, "<init>", "()V"⟩
theorem dJ25_init_0 : decode cJ25_init 0 = .ok (.aload_n 0, 1) := by decide +kernel
theorem dJ25_init_1 : decode cJ25_init 1 = .ok (.invokespecial 1, 3) := by decide +kernel
theorem dJ25_init_4 : decode cJ25_init 4 = .ok (.return_, 1) := by decide +kernel
theorem q119 : (Jvm.Cond.initialized "java/util/AbstractCollection") ∈ lw_all := lw_g (lw_at lw_m1 35 rfl) rfl
theorem q823 : (Jvm.Cond.instanceMethod ({ cls := "java/util/AbstractCollection", name := "<init>", desc := "()V" } : Jvm.MethodName)) ∈ lw_all := lw_g (lw_at lw_m4 19 rfl) rfl
theorem q824 : (Jvm.Cond.code ({ cls := "java/util/AbstractCollection", name := "<init>", desc := "()V" } : Jvm.MethodName) prog_39_method_1_code (1 : Nat) (Option.none : Option Jvm.ClassFile.FieldType)) ∈ lw_all := lw_g (lw_at lw_m4 20 rfl) rfl
theorem q825 : (Jvm.Cond.methodLink "java/util/AbstractCollection" (1 : Nat) ({ cls := "java/lang/Object", name := "<init>", desc := "()V" } : Jvm.MethodName)) ∈ lw_all := lw_g (lw_at lw_m4 21 rfl) rfl
/-! java/util/AbstractSet -/
set_option maxRecDepth 100000
def RJ26 : String := "java/util/AbstractSet"
abbrev cJ26_init : ByteArray := prog_43_method_1_code
def yJ26_init : MethodName := ⟨RJ26, "<init>", "()V"⟩
theorem dJ26_init_0 : decode cJ26_init 0 = .ok (.aload_n 0, 1) := by decide +kernel
theorem dJ26_init_1 : decode cJ26_init 1 = .ok (.invokespecial 1, 3) := by decide +kernel
theorem dJ26_init_4 : decode cJ26_init 4 = .ok (.return_, 1) := by decide +kernel
theorem q120 : (Jvm.Cond.initialized "java/util/AbstractSet") ∈ lw_all := lw_g (lw_at lw_m1 36 rfl) rfl
theorem q1450 : (Jvm.Cond.instanceMethod ({ cls := "java/util/AbstractSet", name := "<init>", desc := "()V" } : Jvm.MethodName)) ∈ lw_all := lw_g (lw_at lw_m6 166 rfl) rfl
theorem q1451 : (Jvm.Cond.code ({ cls := "java/util/AbstractSet", name := "<init>", desc := "()V" } : Jvm.MethodName) prog_43_method_1_code (1 : Nat) (Option.none : Option Jvm.ClassFile.FieldType)) ∈ lw_all := lw_g (lw_at lw_m6 167 rfl) rfl
theorem q1452 : (Jvm.Cond.methodLink "java/util/AbstractSet" (1 : Nat) ({ cls := "java/util/AbstractCollection", name := "<init>", desc := "()V" } : Jvm.MethodName)) ∈ lw_all := lw_g (lw_at lw_m6 168 rfl) rfl
/-! java/util/TreeMap$EntrySet -/
set_option maxRecDepth 100000
def RJ27 : String := "java/util/TreeMap$EntrySet"
def TJ27 : u_T := fun k => match k with
  | _ => ("java/util/TreeMap$EntrySet", "this$0", "Ljava/util/TreeMap;", true)
def tyJ27 : Nat → FieldType := fun k => match k with
  | _ => .object "java/util/TreeMap"
abbrev wsJ270 : List Cond := u_ws RJ27 TJ27 1
theorem nmJ27 : ∀ a, a < 1 → ∀ b, b < 1 → a ≠ b → (TJ27 a).2.1 ≠ (TJ27 b).2.1 := by decide +kernel
theorem tyJ27_ok : ∀ k, k < 1 → parseFieldDescriptor (TJ27 k).2.2.1 = some (tyJ27 k) := by decide +kernel
abbrev cJ27_init : ByteArray := prog_64_method_1_code
def yJ27_init : MethodName := ⟨RJ27, "<init>", "(Ljava/util/TreeMap;)V"⟩
def dkwJ27_init_0 : List UInt8 := [42, 43, 181, 0, 1, 42, 183, 0, 7, 177]
abbrev dktJ27_init_0 : List UInt8 := dkwJ27_init_0 ++ []
theorem dksJ27_init_0 : cJ27_init.data.toList.drop 0 = dktJ27_init_0 := by decide +kernel
theorem dJ27_init_0 : decode cJ27_init 0 = .ok (.aload_n 0, 1) := dk_42 (dk_at dksJ27_init_0 0 rfl rfl)
theorem dJ27_init_1 : decode cJ27_init 1 = .ok (.aload_n 1, 1) := dk_43 (dk_at dksJ27_init_0 1 rfl rfl)
theorem dJ27_init_2 : decode cJ27_init 2 = .ok (.putfield 1, 3) := dk_181 0 1 (dk_at dksJ27_init_0 2 rfl rfl)
theorem dJ27_init_5 : decode cJ27_init 5 = .ok (.aload_n 0, 1) := dk_42 (dk_at dksJ27_init_0 5 rfl rfl)
theorem dJ27_init_6 : decode cJ27_init 6 = .ok (.invokespecial 7, 3) := dk_183 0 7 (dk_at dksJ27_init_0 6 rfl rfl)
theorem dJ27_init_9 : decode cJ27_init 9 = .ok (.return_, 1) := dk_177 (dk_at dksJ27_init_0 9 rfl rfl)
abbrev cJ27_iterator : ByteArray := prog_64_method_2_code
def yJ27_iterator : MethodName := ⟨RJ27, "iterator", "()Ljava/util/Iterator;"⟩
def dkwJ27_iterator_0 : List UInt8 := [187, 0, 13, 89, 42, 180, 0, 1, 42, 180, 0, 1, 182, 0, 15, 183, 0, 21, 176]
abbrev dktJ27_iterator_0 : List UInt8 := dkwJ27_iterator_0 ++ []
theorem dksJ27_iterator_0 : cJ27_iterator.data.toList.drop 0 = dktJ27_iterator_0 := by decide +kernel
theorem dJ27_iterator_0 : decode cJ27_iterator 0 = .ok (.new 13, 3) := dk_187 0 13 (dk_at dksJ27_iterator_0 0 rfl rfl)
theorem dJ27_iterator_3 : decode cJ27_iterator 3 = .ok (.dup, 1) := dk_89 (dk_at dksJ27_iterator_0 3 rfl rfl)
theorem dJ27_iterator_4 : decode cJ27_iterator 4 = .ok (.aload_n 0, 1) := dk_42 (dk_at dksJ27_iterator_0 4 rfl rfl)
theorem dJ27_iterator_5 : decode cJ27_iterator 5 = .ok (.getfield 1, 3) := dk_180 0 1 (dk_at dksJ27_iterator_0 5 rfl rfl)
theorem dJ27_iterator_8 : decode cJ27_iterator 8 = .ok (.aload_n 0, 1) := dk_42 (dk_at dksJ27_iterator_0 8 rfl rfl)
theorem dJ27_iterator_9 : decode cJ27_iterator 9 = .ok (.getfield 1, 3) := dk_180 0 1 (dk_at dksJ27_iterator_0 9 rfl rfl)
theorem dJ27_iterator_12 : decode cJ27_iterator 12 = .ok (.invokevirtual 15, 3) := dk_182 0 15 (dk_at dksJ27_iterator_0 12 rfl rfl)
theorem dJ27_iterator_15 : decode cJ27_iterator 15 = .ok (.invokespecial 21, 3) := dk_183 0 21 (dk_at dksJ27_iterator_0 15 rfl rfl)
theorem dJ27_iterator_18 : decode cJ27_iterator 18 = .ok (.areturn, 1) := dk_176 (dk_at dksJ27_iterator_0 18 rfl rfl)
theorem q121 : (Jvm.Cond.initialized "java/util/TreeMap$EntrySet") ∈ lw_all := lw_g (lw_at lw_m1 37 rfl) rfl
theorem q918 : (Jvm.Cond.selects "java/util/TreeMap$EntrySet" ({ cls := "java/lang/Object", name := "getClass", desc := "()Ljava/lang/Class;" } : Jvm.MethodName) ({ cls := "java/lang/Object", name := "getClass", desc := "()Ljava/lang/Class;" } : Jvm.MethodName)) ∈ lw_all := lw_g (lw_at lw_m4 114 rfl) rfl
theorem q1445 : (Jvm.Cond.instantiable "java/util/TreeMap$EntrySet" (1 : Nat)) ∈ lw_all := lw_g (lw_at lw_m6 161 rfl) rfl
theorem q1447 : (Jvm.Cond.instanceMethod ({ cls := "java/util/TreeMap$EntrySet", name := "<init>", desc := "(Ljava/util/TreeMap;)V" } : Jvm.MethodName)) ∈ lw_all := lw_g (lw_at lw_m6 163 rfl) rfl
theorem q1448 : (Jvm.Cond.code ({ cls := "java/util/TreeMap$EntrySet", name := "<init>", desc := "(Ljava/util/TreeMap;)V" } : Jvm.MethodName) prog_64_method_1_code (2 : Nat) (Option.none : Option Jvm.ClassFile.FieldType)) ∈ lw_all := lw_g (lw_at lw_m6 164 rfl) rfl
theorem q1449 : (Jvm.Cond.methodLink "java/util/TreeMap$EntrySet" (7 : Nat) ({ cls := "java/util/AbstractSet", name := "<init>", desc := "()V" } : Jvm.MethodName)) ∈ lw_all := lw_g (lw_at lw_m6 165 rfl) rfl
theorem q1453 : (Jvm.Cond.fieldLink "java/util/TreeMap$EntrySet" (1 : Nat) "java/util/TreeMap$EntrySet" "this$0" "Ljava/util/TreeMap;") ∈ lw_all := lw_g (lw_at lw_m6 169 rfl) rfl
theorem q1454 : (Jvm.Cond.laysFinal "java/util/TreeMap$EntrySet" "java/util/TreeMap$EntrySet" "this$0" "Ljava/util/TreeMap;") ∈ lw_all := lw_g (lw_at lw_m6 170 rfl) rfl
theorem q1455 : (Jvm.Cond.soleField "java/util/TreeMap$EntrySet" "this$0") ∈ lw_all := lw_g (lw_at lw_m6 171 rfl) rfl
theorem q1456 : (Jvm.Cond.superclass "java/util/TreeMap$EntrySet" "java/util/AbstractSet") ∈ lw_all := lw_g (lw_at lw_m6 172 rfl) rfl
theorem q1461 : (Jvm.Cond.castable "java/util/TreeMap$EntrySet" "java/util/Set") ∈ lw_tbl := lw_at lw_m6 177 rfl
theorem q1462 : (Jvm.Cond.selects "java/util/TreeMap$EntrySet" ({ cls := "java/util/Set", name := "iterator", desc := "()Ljava/util/Iterator;" } : Jvm.MethodName) ({ cls := "java/util/TreeMap$EntrySet", name := "iterator", desc := "()Ljava/util/Iterator;" } : Jvm.MethodName)) ∈ lw_all := lw_g (lw_at lw_m6 178 rfl) rfl
theorem q1463 : (Jvm.Cond.unhidden "java/util/TreeMap$EntrySet" "iterator" "()Ljava/util/Iterator;") ∈ lw_tbl := lw_at lw_m6 179 rfl
theorem q1464 : (Jvm.Cond.instanceMethod ({ cls := "java/util/TreeMap$EntrySet", name := "iterator", desc := "()Ljava/util/Iterator;" } : Jvm.MethodName)) ∈ lw_all := lw_g (lw_at lw_m6 180 rfl) rfl
theorem q1465 : (Jvm.Cond.publicMethod ({ cls := "java/util/TreeMap$EntrySet", name := "iterator", desc := "()Ljava/util/Iterator;" } : Jvm.MethodName)) ∈ lw_tbl := lw_at lw_m6 181 rfl
theorem q1466 : (Jvm.Cond.code ({ cls := "java/util/TreeMap$EntrySet", name := "iterator", desc := "()Ljava/util/Iterator;" } : Jvm.MethodName) prog_64_method_2_code (1 : Nat) (Option.some (Jvm.ClassFile.FieldType.object "java/util/Iterator"))) ∈ lw_all := lw_g (lw_at lw_m6 182 rfl) rfl
theorem q1467 : (Jvm.Cond.classLink "java/util/TreeMap$EntrySet" (13 : Nat) "java/util/TreeMap$EntryIterator") ∈ lw_all := lw_g (lw_at lw_m6 183 rfl) rfl
theorem q1469 : (Jvm.Cond.methodLink "java/util/TreeMap$EntrySet" (15 : Nat) ({ cls := "java/util/TreeMap", name := "getFirstEntry", desc := "()Ljava/util/TreeMap$Entry;" } : Jvm.MethodName)) ∈ lw_all := lw_g (lw_at lw_m6 185 rfl) rfl
theorem q1473 : (Jvm.Cond.methodLink "java/util/TreeMap$EntrySet" (21 : Nat) ({ cls := "java/util/TreeMap$EntryIterator", name := "<init>", desc := "(Ljava/util/TreeMap;Ljava/util/TreeMap$Entry;)V" } : Jvm.MethodName)) ∈ lw_all := lw_g (lw_at lw_m6 189 rfl) rfl
theorem q2296 : (Jvm.Cond.castable "java/util/TreeMap$EntrySet" "java/lang/Object") ∈ lw_tbl := lw_at lw_m10 52 rfl
theorem in_J27 : ∀ w ∈ wsJ270, w ∈ lw_all := lw_in wsJ270 [1454] (by decide +kernel) (by decide +kernel)
/-! java/util/TreeMap$PrivateEntryIterator -/
set_option maxRecDepth 100000
def RJ28 : String := "java/util/TreeMap$PrivateEntryIterator"
abbrev cJ28_init : ByteArray := prog_65_method_1_code
def yJ28_init : MethodName := ⟨RJ28, "<init>", "(Ljava/util/TreeMap;Ljava/util/TreeMap$Entry;)V"⟩
def dkwJ28_init_1 : List UInt8 := [181, 0, 26, 177]
abbrev dktJ28_init_1 : List UInt8 := dkwJ28_init_1 ++ []
def dkwJ28_init_0 : List UInt8 := [42, 43, 181, 0, 1, 42, 183, 0, 7, 42, 43, 180, 0, 13, 181, 0, 19, 42, 1, 181, 0, 22, 42, 44]
abbrev dktJ28_init_0 : List UInt8 := dkwJ28_init_0 ++ dktJ28_init_1
theorem dksJ28_init_0 : cJ28_init.data.toList.drop 0 = dktJ28_init_0 := by decide +kernel
theorem dksJ28_init_1 : cJ28_init.data.toList.drop 24 = dktJ28_init_1 := dk_seg dksJ28_init_0 24 rfl rfl
theorem dJ28_init_0 : decode cJ28_init 0 = .ok (.aload_n 0, 1) := dk_42 (dk_at dksJ28_init_0 0 rfl rfl)
theorem dJ28_init_1 : decode cJ28_init 1 = .ok (.aload_n 1, 1) := dk_43 (dk_at dksJ28_init_0 1 rfl rfl)
theorem dJ28_init_2 : decode cJ28_init 2 = .ok (.putfield 1, 3) := dk_181 0 1 (dk_at dksJ28_init_0 2 rfl rfl)
theorem dJ28_init_5 : decode cJ28_init 5 = .ok (.aload_n 0, 1) := dk_42 (dk_at dksJ28_init_0 5 rfl rfl)
theorem dJ28_init_6 : decode cJ28_init 6 = .ok (.invokespecial 7, 3) := dk_183 0 7 (dk_at dksJ28_init_0 6 rfl rfl)
theorem dJ28_init_9 : decode cJ28_init 9 = .ok (.aload_n 0, 1) := dk_42 (dk_at dksJ28_init_0 9 rfl rfl)
theorem dJ28_init_10 : decode cJ28_init 10 = .ok (.aload_n 1, 1) := dk_43 (dk_at dksJ28_init_0 10 rfl rfl)
theorem dJ28_init_11 : decode cJ28_init 11 = .ok (.getfield 13, 3) := dk_180 0 13 (dk_at dksJ28_init_0 11 rfl rfl)
theorem dJ28_init_14 : decode cJ28_init 14 = .ok (.putfield 19, 3) := dk_181 0 19 (dk_at dksJ28_init_0 14 rfl rfl)
theorem dJ28_init_17 : decode cJ28_init 17 = .ok (.aload_n 0, 1) := dk_42 (dk_at dksJ28_init_0 17 rfl rfl)
theorem dJ28_init_18 : decode cJ28_init 18 = .ok (.aconst_null, 1) := dk_1 (dk_at dksJ28_init_0 18 rfl rfl)
theorem dJ28_init_19 : decode cJ28_init 19 = .ok (.putfield 22, 3) := dk_181 0 22 (dk_at dksJ28_init_0 19 rfl rfl)
theorem dJ28_init_22 : decode cJ28_init 22 = .ok (.aload_n 0, 1) := dk_42 (dk_at dksJ28_init_0 22 rfl rfl)
theorem dJ28_init_23 : decode cJ28_init 23 = .ok (.aload_n 2, 1) := dk_44 (dk_at dksJ28_init_0 23 rfl rfl)
theorem dJ28_init_24 : decode cJ28_init 24 = .ok (.putfield 26, 3) := dk_181 0 26 (dk_at dksJ28_init_1 0 rfl rfl)
theorem dJ28_init_27 : decode cJ28_init 27 = .ok (.return_, 1) := dk_177 (dk_at dksJ28_init_1 3 rfl rfl)
abbrev cJ28_hasNext : ByteArray := prog_65_method_2_code
def yJ28_hasNext : MethodName := ⟨RJ28, "hasNext", "()Z"⟩
def dkwJ28_hasNext_0 : List UInt8 := [42, 180, 0, 26, 198, 0, 7, 4, 167, 0, 4, 3, 172]
abbrev dktJ28_hasNext_0 : List UInt8 := dkwJ28_hasNext_0 ++ []
theorem dksJ28_hasNext_0 : cJ28_hasNext.data.toList.drop 0 = dktJ28_hasNext_0 := by decide +kernel
theorem dJ28_hasNext_0 : decode cJ28_hasNext 0 = .ok (.aload_n 0, 1) := dk_42 (dk_at dksJ28_hasNext_0 0 rfl rfl)
theorem dJ28_hasNext_1 : decode cJ28_hasNext 1 = .ok (.getfield 26, 3) := dk_180 0 26 (dk_at dksJ28_hasNext_0 1 rfl rfl)
theorem dJ28_hasNext_4 : decode cJ28_hasNext 4 = .ok (.ifnull 7, 3) := dk_198 0 7 (dk_at dksJ28_hasNext_0 4 rfl rfl)
theorem dJ28_hasNext_7 : decode cJ28_hasNext 7 = .ok (.iconst 1, 1) := dk_4 (dk_at dksJ28_hasNext_0 7 rfl rfl)
theorem dJ28_hasNext_8 : decode cJ28_hasNext 8 = .ok (.goto 4, 3) := dk_167 0 4 (dk_at dksJ28_hasNext_0 8 rfl rfl)
theorem dJ28_hasNext_11 : decode cJ28_hasNext 11 = .ok (.iconst 0, 1) := dk_3 (dk_at dksJ28_hasNext_0 11 rfl rfl)
theorem dJ28_hasNext_12 : decode cJ28_hasNext 12 = .ok (.ireturn, 1) := dk_172 (dk_at dksJ28_hasNext_0 12 rfl rfl)
abbrev cJ28_nextEntry : ByteArray := prog_65_method_3_code
def yJ28_nextEntry : MethodName := ⟨RJ28, "nextEntry", "()Ljava/util/TreeMap$Entry;"⟩
def dkwJ28_nextEntry_2 : List UInt8 := [43, 181, 0, 22, 43, 176]
abbrev dktJ28_nextEntry_2 : List UInt8 := dkwJ28_nextEntry_2 ++ []
def dkwJ28_nextEntry_1 : List UInt8 := [42, 180, 0, 19, 159, 0, 11, 187, 0, 32, 89, 183, 0, 34, 191, 42, 43, 184, 0, 35, 181, 0, 26, 42]
abbrev dktJ28_nextEntry_1 : List UInt8 := dkwJ28_nextEntry_1 ++ dktJ28_nextEntry_2
def dkwJ28_nextEntry_0 : List UInt8 := [42, 180, 0, 26, 76, 43, 199, 0, 11, 187, 0, 29, 89, 183, 0, 31, 191, 42, 180, 0, 1, 180, 0, 13]
abbrev dktJ28_nextEntry_0 : List UInt8 := dkwJ28_nextEntry_0 ++ dktJ28_nextEntry_1
theorem dksJ28_nextEntry_0 : cJ28_nextEntry.data.toList.drop 0 = dktJ28_nextEntry_0 := by decide +kernel
theorem dksJ28_nextEntry_1 : cJ28_nextEntry.data.toList.drop 24 = dktJ28_nextEntry_1 := dk_seg dksJ28_nextEntry_0 24 rfl rfl
theorem dksJ28_nextEntry_2 : cJ28_nextEntry.data.toList.drop 48 = dktJ28_nextEntry_2 := dk_seg dksJ28_nextEntry_1 24 rfl rfl
theorem dJ28_nextEntry_0 : decode cJ28_nextEntry 0 = .ok (.aload_n 0, 1) := dk_42 (dk_at dksJ28_nextEntry_0 0 rfl rfl)
theorem dJ28_nextEntry_1 : decode cJ28_nextEntry 1 = .ok (.getfield 26, 3) := dk_180 0 26 (dk_at dksJ28_nextEntry_0 1 rfl rfl)
theorem dJ28_nextEntry_4 : decode cJ28_nextEntry 4 = .ok (.astore_n 1, 1) := dk_76 (dk_at dksJ28_nextEntry_0 4 rfl rfl)
theorem dJ28_nextEntry_5 : decode cJ28_nextEntry 5 = .ok (.aload_n 1, 1) := dk_43 (dk_at dksJ28_nextEntry_0 5 rfl rfl)
theorem dJ28_nextEntry_6 : decode cJ28_nextEntry 6 = .ok (.ifnonnull 11, 3) := dk_199 0 11 (dk_at dksJ28_nextEntry_0 6 rfl rfl)
theorem dJ28_nextEntry_9 : decode cJ28_nextEntry 9 = .ok (.new 29, 3) := dk_187 0 29 (dk_at dksJ28_nextEntry_0 9 rfl rfl)
theorem dJ28_nextEntry_12 : decode cJ28_nextEntry 12 = .ok (.dup, 1) := dk_89 (dk_at dksJ28_nextEntry_0 12 rfl rfl)
theorem dJ28_nextEntry_13 : decode cJ28_nextEntry 13 = .ok (.invokespecial 31, 3) := dk_183 0 31 (dk_at dksJ28_nextEntry_0 13 rfl rfl)
theorem dJ28_nextEntry_16 : decode cJ28_nextEntry 16 = .ok (.athrow, 1) := dk_191 (dk_at dksJ28_nextEntry_0 16 rfl rfl)
theorem dJ28_nextEntry_17 : decode cJ28_nextEntry 17 = .ok (.aload_n 0, 1) := dk_42 (dk_at dksJ28_nextEntry_0 17 rfl rfl)
theorem dJ28_nextEntry_18 : decode cJ28_nextEntry 18 = .ok (.getfield 1, 3) := dk_180 0 1 (dk_at dksJ28_nextEntry_0 18 rfl rfl)
theorem dJ28_nextEntry_21 : decode cJ28_nextEntry 21 = .ok (.getfield 13, 3) := dk_180 0 13 (dk_at dksJ28_nextEntry_0 21 rfl rfl)
theorem dJ28_nextEntry_24 : decode cJ28_nextEntry 24 = .ok (.aload_n 0, 1) := dk_42 (dk_at dksJ28_nextEntry_1 0 rfl rfl)
theorem dJ28_nextEntry_25 : decode cJ28_nextEntry 25 = .ok (.getfield 19, 3) := dk_180 0 19 (dk_at dksJ28_nextEntry_1 1 rfl rfl)
theorem dJ28_nextEntry_28 : decode cJ28_nextEntry 28 = .ok (.if_icmp .eq 11, 3) := dk_159 0 11 (dk_at dksJ28_nextEntry_1 4 rfl rfl)
theorem dJ28_nextEntry_31 : decode cJ28_nextEntry 31 = .ok (.new 32, 3) := dk_187 0 32 (dk_at dksJ28_nextEntry_1 7 rfl rfl)
theorem dJ28_nextEntry_34 : decode cJ28_nextEntry 34 = .ok (.dup, 1) := dk_89 (dk_at dksJ28_nextEntry_1 10 rfl rfl)
theorem dJ28_nextEntry_35 : decode cJ28_nextEntry 35 = .ok (.invokespecial 34, 3) := dk_183 0 34 (dk_at dksJ28_nextEntry_1 11 rfl rfl)
theorem dJ28_nextEntry_38 : decode cJ28_nextEntry 38 = .ok (.athrow, 1) := dk_191 (dk_at dksJ28_nextEntry_1 14 rfl rfl)
theorem dJ28_nextEntry_39 : decode cJ28_nextEntry 39 = .ok (.aload_n 0, 1) := dk_42 (dk_at dksJ28_nextEntry_1 15 rfl rfl)
theorem dJ28_nextEntry_40 : decode cJ28_nextEntry 40 = .ok (.aload_n 1, 1) := dk_43 (dk_at dksJ28_nextEntry_1 16 rfl rfl)
theorem dJ28_nextEntry_41 : decode cJ28_nextEntry 41 = .ok (.invokestatic 35, 3) := dk_184 0 35 (dk_at dksJ28_nextEntry_1 17 rfl rfl)
theorem dJ28_nextEntry_44 : decode cJ28_nextEntry 44 = .ok (.putfield 26, 3) := dk_181 0 26 (dk_at dksJ28_nextEntry_1 20 rfl rfl)
theorem dJ28_nextEntry_47 : decode cJ28_nextEntry 47 = .ok (.aload_n 0, 1) := dk_42 (dk_at dksJ28_nextEntry_1 23 rfl rfl)
theorem dJ28_nextEntry_48 : decode cJ28_nextEntry 48 = .ok (.aload_n 1, 1) := dk_43 (dk_at dksJ28_nextEntry_2 0 rfl rfl)
theorem dJ28_nextEntry_49 : decode cJ28_nextEntry 49 = .ok (.putfield 22, 3) := dk_181 0 22 (dk_at dksJ28_nextEntry_2 1 rfl rfl)
theorem dJ28_nextEntry_52 : decode cJ28_nextEntry 52 = .ok (.aload_n 1, 1) := dk_43 (dk_at dksJ28_nextEntry_2 4 rfl rfl)
theorem dJ28_nextEntry_53 : decode cJ28_nextEntry 53 = .ok (.areturn, 1) := dk_176 (dk_at dksJ28_nextEntry_2 5 rfl rfl)
theorem q122 : (Jvm.Cond.initialized "java/util/TreeMap$PrivateEntryIterator") ∈ lw_all := lw_g (lw_at lw_m1 38 rfl) rfl
theorem q1283 : (Jvm.Cond.fieldLinkNest "java/util/TreeMap$PrivateEntryIterator" (13 : Nat) "java/util/TreeMap" "modCount" "I" "java/util/TreeMap") ∈ lw_tbl := lw_at lw_m5 239 rfl
theorem q1477 : (Jvm.Cond.instanceMethod ({ cls := "java/util/TreeMap$PrivateEntryIterator", name := "<init>", desc := "(Ljava/util/TreeMap;Ljava/util/TreeMap$Entry;)V" } : Jvm.MethodName)) ∈ lw_all := lw_g (lw_at lw_m6 193 rfl) rfl
theorem q1478 : (Jvm.Cond.code ({ cls := "java/util/TreeMap$PrivateEntryIterator", name := "<init>", desc := "(Ljava/util/TreeMap;Ljava/util/TreeMap$Entry;)V" } : Jvm.MethodName) prog_65_method_1_code (3 : Nat) (Option.none : Option Jvm.ClassFile.FieldType)) ∈ lw_all := lw_g (lw_at lw_m6 194 rfl) rfl
theorem q1479 : (Jvm.Cond.methodLink "java/util/TreeMap$PrivateEntryIterator" (7 : Nat) ({ cls := "java/lang/Object", name := "<init>", desc := "()V" } : Jvm.MethodName)) ∈ lw_all := lw_g (lw_at lw_m6 195 rfl) rfl
theorem q1480 : (Jvm.Cond.fieldLink "java/util/TreeMap$PrivateEntryIterator" (26 : Nat) "java/util/TreeMap$PrivateEntryIterator" "next" "Ljava/util/TreeMap$Entry;") ∈ lw_all := lw_g (lw_at lw_m6 196 rfl) rfl
theorem q1481 : (Jvm.Cond.fieldLink "java/util/TreeMap$PrivateEntryIterator" (22 : Nat) "java/util/TreeMap$PrivateEntryIterator" "lastReturned" "Ljava/util/TreeMap$Entry;") ∈ lw_all := lw_g (lw_at lw_m6 197 rfl) rfl
theorem q1482 : (Jvm.Cond.fieldLink "java/util/TreeMap$PrivateEntryIterator" (19 : Nat) "java/util/TreeMap$PrivateEntryIterator" "expectedModCount" "I") ∈ lw_all := lw_g (lw_at lw_m6 198 rfl) rfl
theorem q1483 : (Jvm.Cond.fieldLink "java/util/TreeMap$PrivateEntryIterator" (1 : Nat) "java/util/TreeMap$PrivateEntryIterator" "this$0" "Ljava/util/TreeMap;") ∈ lw_all := lw_g (lw_at lw_m6 199 rfl) rfl
theorem q1485 : (Jvm.Cond.soleField "java/util/TreeMap$PrivateEntryIterator" "next") ∈ lw_all := lw_g (lw_at lw_m6 201 rfl) rfl
theorem q1487 : (Jvm.Cond.soleField "java/util/TreeMap$PrivateEntryIterator" "lastReturned") ∈ lw_all := lw_g (lw_at lw_m6 203 rfl) rfl
theorem q1489 : (Jvm.Cond.soleField "java/util/TreeMap$PrivateEntryIterator" "expectedModCount") ∈ lw_all := lw_g (lw_at lw_m6 205 rfl) rfl
theorem q1491 : (Jvm.Cond.soleField "java/util/TreeMap$PrivateEntryIterator" "this$0") ∈ lw_all := lw_g (lw_at lw_m6 207 rfl) rfl
theorem q1500 : (Jvm.Cond.instanceMethod ({ cls := "java/util/TreeMap$PrivateEntryIterator", name := "hasNext", desc := "()Z" } : Jvm.MethodName)) ∈ lw_all := lw_g (lw_at lw_m6 216 rfl) rfl
theorem q1501 : (Jvm.Cond.publicMethod ({ cls := "java/util/TreeMap$PrivateEntryIterator", name := "hasNext", desc := "()Z" } : Jvm.MethodName)) ∈ lw_tbl := lw_at lw_m6 217 rfl
theorem q1502 : (Jvm.Cond.code ({ cls := "java/util/TreeMap$PrivateEntryIterator", name := "hasNext", desc := "()Z" } : Jvm.MethodName) prog_65_method_2_code (1 : Nat) (Option.some Jvm.ClassFile.FieldType.boolean)) ∈ lw_all := lw_g (lw_at lw_m6 218 rfl) rfl
theorem q1518 : (Jvm.Cond.declares ({ cls := "java/util/TreeMap$PrivateEntryIterator", name := "nextEntry", desc := "()Ljava/util/TreeMap$Entry;" } : Jvm.MethodName)) ∈ lw_tbl := lw_at lw_m6 234 rfl
theorem q1520 : (Jvm.Cond.instanceMethod ({ cls := "java/util/TreeMap$PrivateEntryIterator", name := "nextEntry", desc := "()Ljava/util/TreeMap$Entry;" } : Jvm.MethodName)) ∈ lw_all := lw_g (lw_at lw_m6 236 rfl) rfl
theorem q1521 : (Jvm.Cond.code ({ cls := "java/util/TreeMap$PrivateEntryIterator", name := "nextEntry", desc := "()Ljava/util/TreeMap$Entry;" } : Jvm.MethodName) prog_65_method_3_code (2 : Nat) (Option.some (Jvm.ClassFile.FieldType.object "java/util/TreeMap$Entry"))) ∈ lw_all := lw_g (lw_at lw_m6 237 rfl) rfl
theorem q1522 : (Jvm.Cond.methodLink "java/util/TreeMap$PrivateEntryIterator" (35 : Nat) ({ cls := "java/util/TreeMap", name := "successor", desc := "(Ljava/util/TreeMap$Entry;)Ljava/util/TreeMap$Entry;" } : Jvm.MethodName)) ∈ lw_all := lw_g (lw_at lw_m6 238 rfl) rfl
/-! java/util/TreeMap$EntryIterator -/
set_option maxRecDepth 100000
def RJ29 : String := "java/util/TreeMap$EntryIterator"
def TJ29 : u_T := fun k => match k with
  | 0 => ("java/util/TreeMap$PrivateEntryIterator", "next", "Ljava/util/TreeMap$Entry;", false)
  | 1 => ("java/util/TreeMap$PrivateEntryIterator", "lastReturned", "Ljava/util/TreeMap$Entry;", false)
  | 2 => ("java/util/TreeMap$PrivateEntryIterator", "expectedModCount", "I", false)
  | _ => ("java/util/TreeMap$PrivateEntryIterator", "this$0", "Ljava/util/TreeMap;", true)
def tyJ29 : Nat → FieldType := fun k => match k with
  | 0 => .object "java/util/TreeMap$Entry"
  | 1 => .object "java/util/TreeMap$Entry"
  | 2 => .int
  | _ => .object "java/util/TreeMap"
abbrev wsJ290 : List Cond := u_ws RJ29 TJ29 4
theorem nmJ29 : ∀ a, a < 4 → ∀ b, b < 4 → a ≠ b → (TJ29 a).2.1 ≠ (TJ29 b).2.1 := by decide +kernel
theorem tyJ29_ok : ∀ k, k < 4 → parseFieldDescriptor (TJ29 k).2.2.1 = some (tyJ29 k) := by decide +kernel
abbrev cJ29_init : ByteArray := prog_63_method_1_code
def yJ29_init : MethodName := ⟨RJ29, "<init>", "(Ljava/util/TreeMap;Ljava/util/TreeMap$Entry;)V"⟩
def dkwJ29_init_0 : List UInt8 := [42, 43, 44, 183, 0, 1, 177]
abbrev dktJ29_init_0 : List UInt8 := dkwJ29_init_0 ++ []
theorem dksJ29_init_0 : cJ29_init.data.toList.drop 0 = dktJ29_init_0 := by decide +kernel
theorem dJ29_init_0 : decode cJ29_init 0 = .ok (.aload_n 0, 1) := dk_42 (dk_at dksJ29_init_0 0 rfl rfl)
theorem dJ29_init_1 : decode cJ29_init 1 = .ok (.aload_n 1, 1) := dk_43 (dk_at dksJ29_init_0 1 rfl rfl)
theorem dJ29_init_2 : decode cJ29_init 2 = .ok (.aload_n 2, 1) := dk_44 (dk_at dksJ29_init_0 2 rfl rfl)
theorem dJ29_init_3 : decode cJ29_init 3 = .ok (.invokespecial 1, 3) := dk_183 0 1 (dk_at dksJ29_init_0 3 rfl rfl)
theorem dJ29_init_6 : decode cJ29_init 6 = .ok (.return_, 1) := dk_177 (dk_at dksJ29_init_0 6 rfl rfl)
abbrev cJ29_next : ByteArray := prog_63_method_3_code
def yJ29_next : MethodName := ⟨RJ29, "next", "()Ljava/lang/Object;"⟩
theorem dJ29_next_0 : decode cJ29_next 0 = .ok (.aload_n 0, 1) := by decide +kernel
theorem dJ29_next_1 : decode cJ29_next 1 = .ok (.invokevirtual 13, 3) := by decide +kernel
theorem dJ29_next_4 : decode cJ29_next 4 = .ok (.areturn, 1) := by decide +kernel
abbrev cJ29_next_2 : ByteArray := prog_63_method_2_code
def yJ29_next_2 : MethodName := ⟨RJ29, "next", "()Ljava/util/Map$Entry;"⟩
theorem dJ29_next_2_0 : decode cJ29_next_2 0 = .ok (.aload_n 0, 1) := by decide +kernel
theorem dJ29_next_2_1 : decode cJ29_next_2 1 = .ok (.invokevirtual 7, 3) := by decide +kernel
theorem dJ29_next_2_4 : decode cJ29_next_2 4 = .ok (.areturn, 1) := by decide +kernel
theorem q123 : (Jvm.Cond.initialized "java/util/TreeMap$EntryIterator") ∈ lw_all := lw_g (lw_at lw_m1 39 rfl) rfl
theorem q917 : (Jvm.Cond.selects "java/util/TreeMap$EntryIterator" ({ cls := "java/lang/Object", name := "getClass", desc := "()Ljava/lang/Class;" } : Jvm.MethodName) ({ cls := "java/lang/Object", name := "getClass", desc := "()Ljava/lang/Class;" } : Jvm.MethodName)) ∈ lw_all := lw_g (lw_at lw_m4 113 rfl) rfl
theorem q1468 : (Jvm.Cond.instantiable "java/util/TreeMap$EntryIterator" (4 : Nat)) ∈ lw_all := lw_g (lw_at lw_m6 184 rfl) rfl
theorem q1474 : (Jvm.Cond.instanceMethod ({ cls := "java/util/TreeMap$EntryIterator", name := "<init>", desc := "(Ljava/util/TreeMap;Ljava/util/TreeMap$Entry;)V" } : Jvm.MethodName)) ∈ lw_all := lw_g (lw_at lw_m6 190 rfl) rfl
theorem q1475 : (Jvm.Cond.code ({ cls := "java/util/TreeMap$EntryIterator", name := "<init>", desc := "(Ljava/util/TreeMap;Ljava/util/TreeMap$Entry;)V" } : Jvm.MethodName) prog_63_method_1_code (3 : Nat) (Option.none : Option Jvm.ClassFile.FieldType)) ∈ lw_all := lw_g (lw_at lw_m6 191 rfl) rfl
theorem q1476 : (Jvm.Cond.methodLink "java/util/TreeMap$EntryIterator" (1 : Nat) ({ cls := "java/util/TreeMap$PrivateEntryIterator", name := "<init>", desc := "(Ljava/util/TreeMap;Ljava/util/TreeMap$Entry;)V" } : Jvm.MethodName)) ∈ lw_all := lw_g (lw_at lw_m6 192 rfl) rfl
theorem q1484 : (Jvm.Cond.lays "java/util/TreeMap$EntryIterator" "java/util/TreeMap$PrivateEntryIterator" "next" "Ljava/util/TreeMap$Entry;") ∈ lw_all := lw_g (lw_at lw_m6 200 rfl) rfl
theorem q1486 : (Jvm.Cond.lays "java/util/TreeMap$EntryIterator" "java/util/TreeMap$PrivateEntryIterator" "lastReturned" "Ljava/util/TreeMap$Entry;") ∈ lw_all := lw_g (lw_at lw_m6 202 rfl) rfl
theorem q1488 : (Jvm.Cond.lays "java/util/TreeMap$EntryIterator" "java/util/TreeMap$PrivateEntryIterator" "expectedModCount" "I") ∈ lw_all := lw_g (lw_at lw_m6 204 rfl) rfl
theorem q1490 : (Jvm.Cond.laysFinal "java/util/TreeMap$EntryIterator" "java/util/TreeMap$PrivateEntryIterator" "this$0" "Ljava/util/TreeMap;") ∈ lw_all := lw_g (lw_at lw_m6 206 rfl) rfl
theorem q1492 : (Jvm.Cond.superclass "java/util/TreeMap$EntryIterator" "java/util/TreeMap$PrivateEntryIterator") ∈ lw_all := lw_g (lw_at lw_m6 208 rfl) rfl
theorem q1497 : (Jvm.Cond.castable "java/util/TreeMap$EntryIterator" "java/util/Iterator") ∈ lw_tbl := lw_at lw_m6 213 rfl
theorem q1498 : (Jvm.Cond.selects "java/util/TreeMap$EntryIterator" ({ cls := "java/util/Iterator", name := "hasNext", desc := "()Z" } : Jvm.MethodName) ({ cls := "java/util/TreeMap$PrivateEntryIterator", name := "hasNext", desc := "()Z" } : Jvm.MethodName)) ∈ lw_all := lw_g (lw_at lw_m6 214 rfl) rfl
theorem q1499 : (Jvm.Cond.unhidden "java/util/TreeMap$EntryIterator" "hasNext" "()Z") ∈ lw_tbl := lw_at lw_m6 215 rfl
theorem q1507 : (Jvm.Cond.selects "java/util/TreeMap$EntryIterator" ({ cls := "java/util/Iterator", name := "next", desc := "()Ljava/lang/Object;" } : Jvm.MethodName) ({ cls := "java/util/TreeMap$EntryIterator", name := "next", desc := "()Ljava/lang/Object;" } : Jvm.MethodName)) ∈ lw_all := lw_g (lw_at lw_m6 223 rfl) rfl
theorem q1508 : (Jvm.Cond.unhidden "java/util/TreeMap$EntryIterator" "next" "()Ljava/lang/Object;") ∈ lw_tbl := lw_at lw_m6 224 rfl
theorem q1509 : (Jvm.Cond.instanceMethod ({ cls := "java/util/TreeMap$EntryIterator", name := "next", desc := "()Ljava/lang/Object;" } : Jvm.MethodName)) ∈ lw_all := lw_g (lw_at lw_m6 225 rfl) rfl
theorem q1510 : (Jvm.Cond.publicMethod ({ cls := "java/util/TreeMap$EntryIterator", name := "next", desc := "()Ljava/lang/Object;" } : Jvm.MethodName)) ∈ lw_tbl := lw_at lw_m6 226 rfl
theorem q1511 : (Jvm.Cond.code ({ cls := "java/util/TreeMap$EntryIterator", name := "next", desc := "()Ljava/lang/Object;" } : Jvm.MethodName) prog_63_method_3_code (1 : Nat) (Option.some (Jvm.ClassFile.FieldType.object "java/lang/Object"))) ∈ lw_all := lw_g (lw_at lw_m6 227 rfl) rfl
theorem q1512 : (Jvm.Cond.methodLink "java/util/TreeMap$EntryIterator" (13 : Nat) ({ cls := "java/util/TreeMap$EntryIterator", name := "next", desc := "()Ljava/util/Map$Entry;" } : Jvm.MethodName)) ∈ lw_all := lw_g (lw_at lw_m6 228 rfl) rfl
theorem q1513 : (Jvm.Cond.instanceMethod ({ cls := "java/util/TreeMap$EntryIterator", name := "next", desc := "()Ljava/util/Map$Entry;" } : Jvm.MethodName)) ∈ lw_all := lw_g (lw_at lw_m6 229 rfl) rfl
theorem q1514 : (Jvm.Cond.selects "java/util/TreeMap$EntryIterator" ({ cls := "java/util/TreeMap$EntryIterator", name := "next", desc := "()Ljava/util/Map$Entry;" } : Jvm.MethodName) ({ cls := "java/util/TreeMap$EntryIterator", name := "next", desc := "()Ljava/util/Map$Entry;" } : Jvm.MethodName)) ∈ lw_all := lw_g (lw_at lw_m6 230 rfl) rfl
theorem q1515 : (Jvm.Cond.code ({ cls := "java/util/TreeMap$EntryIterator", name := "next", desc := "()Ljava/util/Map$Entry;" } : Jvm.MethodName) prog_63_method_2_code (1 : Nat) (Option.some (Jvm.ClassFile.FieldType.object "java/util/Map$Entry"))) ∈ lw_all := lw_g (lw_at lw_m6 231 rfl) rfl
theorem q1516 : (Jvm.Cond.methodLink "java/util/TreeMap$EntryIterator" (7 : Nat) ({ cls := "java/util/TreeMap$EntryIterator", name := "nextEntry", desc := "()Ljava/util/TreeMap$Entry;" } : Jvm.MethodName)) ∈ lw_all := lw_g (lw_at lw_m6 232 rfl) rfl
theorem q1517 : (Jvm.Cond.sameMethod "java/util/TreeMap$EntryIterator" "java/util/TreeMap$PrivateEntryIterator" "nextEntry" "()Ljava/util/TreeMap$Entry;") ∈ lw_all := lw_g (lw_at lw_m6 233 rfl) rfl
theorem q1519 : (Jvm.Cond.selects "java/util/TreeMap$EntryIterator" ({ cls := "java/util/TreeMap$EntryIterator", name := "nextEntry", desc := "()Ljava/util/TreeMap$Entry;" } : Jvm.MethodName) ({ cls := "java/util/TreeMap$PrivateEntryIterator", name := "nextEntry", desc := "()Ljava/util/TreeMap$Entry;" } : Jvm.MethodName)) ∈ lw_all := lw_g (lw_at lw_m6 235 rfl) rfl
theorem q2297 : (Jvm.Cond.castable "java/util/TreeMap$EntryIterator" "java/lang/Object") ∈ lw_tbl := lw_at lw_m10 53 rfl
theorem in_J29 : ∀ w ∈ wsJ290, w ∈ lw_all := lw_in wsJ290 [1484, 1486, 1488, 1490] (by decide +kernel) (by decide +kernel)
/-! java/util/AbstractQueue -/
set_option maxRecDepth 100000
def RJ30 : String := "java/util/AbstractQueue"
abbrev cJ30_init : ByteArray := prog_42_method_1_code
def yJ30_init : MethodName := ⟨RJ30, "<init>", "()V"⟩
theorem dJ30_init_0 : decode cJ30_init 0 = .ok (.aload_n 0, 1) := by decide +kernel
theorem dJ30_init_1 : decode cJ30_init 1 = .ok (.invokespecial 1, 3) := by decide +kernel
theorem dJ30_init_4 : decode cJ30_init 4 = .ok (.return_, 1) := by decide +kernel
theorem q126 : (Jvm.Cond.initialized "java/util/AbstractQueue") ∈ lw_all := lw_g (lw_at lw_m1 42 rfl) rfl
theorem q820 : (Jvm.Cond.instanceMethod ({ cls := "java/util/AbstractQueue", name := "<init>", desc := "()V" } : Jvm.MethodName)) ∈ lw_all := lw_g (lw_at lw_m4 16 rfl) rfl
theorem q821 : (Jvm.Cond.code ({ cls := "java/util/AbstractQueue", name := "<init>", desc := "()V" } : Jvm.MethodName) prog_42_method_1_code (1 : Nat) (Option.none : Option Jvm.ClassFile.FieldType)) ∈ lw_all := lw_g (lw_at lw_m4 17 rfl) rfl
theorem q822 : (Jvm.Cond.methodLink "java/util/AbstractQueue" (1 : Nat) ({ cls := "java/util/AbstractCollection", name := "<init>", desc := "()V" } : Jvm.MethodName)) ∈ lw_all := lw_g (lw_at lw_m4 18 rfl) rfl
/-! java/util/PriorityQueue -/
set_option maxRecDepth 100000
def RJ31 : String := "java/util/PriorityQueue"
def TJ31 : u_T := fun k => match k with
  | 0 => ("java/util/PriorityQueue", "queue", "[Ljava/lang/Object;", false)
  | 1 => ("java/util/PriorityQueue", "size", "I", false)
  | 2 => ("java/util/PriorityQueue", "comparator", "Ljava/util/Comparator;", true)
  | _ => ("java/util/PriorityQueue", "modCount", "I", false)
def tyJ31 : Nat → FieldType := fun k => match k with
  | 0 => .array (.object "java/lang/Object")
  | 1 => .int
  | 2 => .object "java/util/Comparator"
  | _ => .int
abbrev wsJ310 : List Cond := u_ws RJ31 TJ31 4
theorem nmJ31 : ∀ a, a < 4 → ∀ b, b < 4 → a ≠ b → (TJ31 a).2.1 ≠ (TJ31 b).2.1 := by decide +kernel
theorem tyJ31_ok : ∀ k, k < 4 → parseFieldDescriptor (TJ31 k).2.2.1 = some (tyJ31 k) := by decide +kernel
abbrev cJ31_init : ByteArray := prog_54_method_3_code
def yJ31_init : MethodName := ⟨RJ31, "<init>", "(Ljava/util/Comparator;)V"⟩
def dkwJ31_init_0 : List UInt8 := [42, 16, 11, 43, 183, 0, 3, 177]
abbrev dktJ31_init_0 : List UInt8 := dkwJ31_init_0 ++ []
theorem dksJ31_init_0 : cJ31_init.data.toList.drop 0 = dktJ31_init_0 := by decide +kernel
theorem dJ31_init_0 : decode cJ31_init 0 = .ok (.aload_n 0, 1) := dk_42 (dk_at dksJ31_init_0 0 rfl rfl)
theorem dJ31_init_1 : decode cJ31_init 1 = .ok (.bipush 11, 2) := dk_16 11 (dk_at dksJ31_init_0 1 rfl rfl)
theorem dJ31_init_3 : decode cJ31_init 3 = .ok (.aload_n 1, 1) := dk_43 (dk_at dksJ31_init_0 3 rfl rfl)
theorem dJ31_init_4 : decode cJ31_init 4 = .ok (.invokespecial 3, 3) := dk_183 0 3 (dk_at dksJ31_init_0 4 rfl rfl)
theorem dJ31_init_7 : decode cJ31_init 7 = .ok (.return_, 1) := dk_177 (dk_at dksJ31_init_0 7 rfl rfl)
abbrev cJ31_init_2 : ByteArray := prog_54_method_4_code
def yJ31_init_2 : MethodName := ⟨RJ31, "<init>", "(ILjava/util/Comparator;)V"⟩
def dkwJ31_init_2_1 : List UInt8 := [181, 0, 17, 42, 44, 181, 0, 21, 177]
abbrev dktJ31_init_2_1 : List UInt8 := dkwJ31_init_2_1 ++ []
def dkwJ31_init_2_0 : List UInt8 := [42, 183, 0, 7, 27, 4, 162, 0, 11, 187, 0, 12, 89, 183, 0, 14, 191, 42, 27, 189, 0, 15]
abbrev dktJ31_init_2_0 : List UInt8 := dkwJ31_init_2_0 ++ dktJ31_init_2_1
theorem dksJ31_init_2_0 : cJ31_init_2.data.toList.drop 0 = dktJ31_init_2_0 := by decide +kernel
theorem dksJ31_init_2_1 : cJ31_init_2.data.toList.drop 22 = dktJ31_init_2_1 := dk_seg dksJ31_init_2_0 22 rfl rfl
theorem dJ31_init_2_0 : decode cJ31_init_2 0 = .ok (.aload_n 0, 1) := dk_42 (dk_at dksJ31_init_2_0 0 rfl rfl)
theorem dJ31_init_2_1 : decode cJ31_init_2 1 = .ok (.invokespecial 7, 3) := dk_183 0 7 (dk_at dksJ31_init_2_0 1 rfl rfl)
theorem dJ31_init_2_4 : decode cJ31_init_2 4 = .ok (.iload_n 1, 1) := dk_27 (dk_at dksJ31_init_2_0 4 rfl rfl)
theorem dJ31_init_2_5 : decode cJ31_init_2 5 = .ok (.iconst 1, 1) := dk_4 (dk_at dksJ31_init_2_0 5 rfl rfl)
theorem dJ31_init_2_6 : decode cJ31_init_2 6 = .ok (.if_icmp .ge 11, 3) := dk_162 0 11 (dk_at dksJ31_init_2_0 6 rfl rfl)
theorem dJ31_init_2_9 : decode cJ31_init_2 9 = .ok (.new 12, 3) := dk_187 0 12 (dk_at dksJ31_init_2_0 9 rfl rfl)
theorem dJ31_init_2_12 : decode cJ31_init_2 12 = .ok (.dup, 1) := dk_89 (dk_at dksJ31_init_2_0 12 rfl rfl)
theorem dJ31_init_2_13 : decode cJ31_init_2 13 = .ok (.invokespecial 14, 3) := dk_183 0 14 (dk_at dksJ31_init_2_0 13 rfl rfl)
theorem dJ31_init_2_16 : decode cJ31_init_2 16 = .ok (.athrow, 1) := dk_191 (dk_at dksJ31_init_2_0 16 rfl rfl)
theorem dJ31_init_2_17 : decode cJ31_init_2 17 = .ok (.aload_n 0, 1) := dk_42 (dk_at dksJ31_init_2_0 17 rfl rfl)
theorem dJ31_init_2_18 : decode cJ31_init_2 18 = .ok (.iload_n 1, 1) := dk_27 (dk_at dksJ31_init_2_0 18 rfl rfl)
theorem dJ31_init_2_19 : decode cJ31_init_2 19 = .ok (.anewarray 15, 3) := dk_189 0 15 (dk_at dksJ31_init_2_0 19 rfl rfl)
theorem dJ31_init_2_22 : decode cJ31_init_2 22 = .ok (.putfield 17, 3) := dk_181 0 17 (dk_at dksJ31_init_2_1 0 rfl rfl)
theorem dJ31_init_2_25 : decode cJ31_init_2 25 = .ok (.aload_n 0, 1) := dk_42 (dk_at dksJ31_init_2_1 3 rfl rfl)
theorem dJ31_init_2_26 : decode cJ31_init_2 26 = .ok (.aload_n 2, 1) := dk_44 (dk_at dksJ31_init_2_1 4 rfl rfl)
theorem dJ31_init_2_27 : decode cJ31_init_2 27 = .ok (.putfield 21, 3) := dk_181 0 21 (dk_at dksJ31_init_2_1 5 rfl rfl)
theorem dJ31_init_2_30 : decode cJ31_init_2 30 = .ok (.return_, 1) := dk_177 (dk_at dksJ31_init_2_1 8 rfl rfl)
abbrev cJ31_add : ByteArray := prog_54_method_13_code
def yJ31_add : MethodName := ⟨RJ31, "add", "(Ljava/lang/Object;)Z"⟩
def dkwJ31_add_0 : List UInt8 := [42, 43, 182, 0, 89, 172]
abbrev dktJ31_add_0 : List UInt8 := dkwJ31_add_0 ++ []
theorem dksJ31_add_0 : cJ31_add.data.toList.drop 0 = dktJ31_add_0 := by decide +kernel
theorem dJ31_add_0 : decode cJ31_add 0 = .ok (.aload_n 0, 1) := dk_42 (dk_at dksJ31_add_0 0 rfl rfl)
theorem dJ31_add_1 : decode cJ31_add 1 = .ok (.aload_n 1, 1) := dk_43 (dk_at dksJ31_add_0 1 rfl rfl)
theorem dJ31_add_2 : decode cJ31_add 2 = .ok (.invokevirtual 89, 3) := dk_182 0 89 (dk_at dksJ31_add_0 2 rfl rfl)
theorem dJ31_add_5 : decode cJ31_add 5 = .ok (.ireturn, 1) := dk_172 (dk_at dksJ31_add_0 5 rfl rfl)
abbrev cJ31_offer : ByteArray := prog_54_method_14_code
def yJ31_offer : MethodName := ⟨RJ31, "offer", "(Ljava/lang/Object;)Z"⟩
def dkwJ31_offer_2 : List UInt8 := [182, 0, 100, 42, 28, 4, 96, 181, 0, 58, 4, 172]
abbrev dktJ31_offer_2 : List UInt8 := dkwJ31_offer_2 ++ []
def dkwJ31_offer_1 : List UInt8 := [180, 0, 58, 61, 28, 42, 180, 0, 17, 190, 161, 0, 10, 42, 28, 4, 96, 182, 0, 96, 42, 28, 43]
abbrev dktJ31_offer_1 : List UInt8 := dkwJ31_offer_1 ++ dktJ31_offer_2
def dkwJ31_offer_0 : List UInt8 := [43, 199, 0, 11, 187, 0, 74, 89, 183, 0, 76, 191, 42, 89, 180, 0, 93, 4, 96, 181, 0, 93, 42]
abbrev dktJ31_offer_0 : List UInt8 := dkwJ31_offer_0 ++ dktJ31_offer_1
theorem dksJ31_offer_0 : cJ31_offer.data.toList.drop 0 = dktJ31_offer_0 := by decide +kernel
theorem dksJ31_offer_1 : cJ31_offer.data.toList.drop 23 = dktJ31_offer_1 := dk_seg dksJ31_offer_0 23 rfl rfl
theorem dksJ31_offer_2 : cJ31_offer.data.toList.drop 46 = dktJ31_offer_2 := dk_seg dksJ31_offer_1 23 rfl rfl
theorem dJ31_offer_0 : decode cJ31_offer 0 = .ok (.aload_n 1, 1) := dk_43 (dk_at dksJ31_offer_0 0 rfl rfl)
theorem dJ31_offer_1 : decode cJ31_offer 1 = .ok (.ifnonnull 11, 3) := dk_199 0 11 (dk_at dksJ31_offer_0 1 rfl rfl)
theorem dJ31_offer_4 : decode cJ31_offer 4 = .ok (.new 74, 3) := dk_187 0 74 (dk_at dksJ31_offer_0 4 rfl rfl)
theorem dJ31_offer_7 : decode cJ31_offer 7 = .ok (.dup, 1) := dk_89 (dk_at dksJ31_offer_0 7 rfl rfl)
theorem dJ31_offer_8 : decode cJ31_offer 8 = .ok (.invokespecial 76, 3) := dk_183 0 76 (dk_at dksJ31_offer_0 8 rfl rfl)
theorem dJ31_offer_11 : decode cJ31_offer 11 = .ok (.athrow, 1) := dk_191 (dk_at dksJ31_offer_0 11 rfl rfl)
theorem dJ31_offer_12 : decode cJ31_offer 12 = .ok (.aload_n 0, 1) := dk_42 (dk_at dksJ31_offer_0 12 rfl rfl)
theorem dJ31_offer_13 : decode cJ31_offer 13 = .ok (.dup, 1) := dk_89 (dk_at dksJ31_offer_0 13 rfl rfl)
theorem dJ31_offer_14 : decode cJ31_offer 14 = .ok (.getfield 93, 3) := dk_180 0 93 (dk_at dksJ31_offer_0 14 rfl rfl)
theorem dJ31_offer_17 : decode cJ31_offer 17 = .ok (.iconst 1, 1) := dk_4 (dk_at dksJ31_offer_0 17 rfl rfl)
theorem dJ31_offer_18 : decode cJ31_offer 18 = .ok (.iadd, 1) := dk_96 (dk_at dksJ31_offer_0 18 rfl rfl)
theorem dJ31_offer_19 : decode cJ31_offer 19 = .ok (.putfield 93, 3) := dk_181 0 93 (dk_at dksJ31_offer_0 19 rfl rfl)
theorem dJ31_offer_22 : decode cJ31_offer 22 = .ok (.aload_n 0, 1) := dk_42 (dk_at dksJ31_offer_0 22 rfl rfl)
theorem dJ31_offer_23 : decode cJ31_offer 23 = .ok (.getfield 58, 3) := dk_180 0 58 (dk_at dksJ31_offer_1 0 rfl rfl)
theorem dJ31_offer_26 : decode cJ31_offer 26 = .ok (.istore_n 2, 1) := dk_61 (dk_at dksJ31_offer_1 3 rfl rfl)
theorem dJ31_offer_27 : decode cJ31_offer 27 = .ok (.iload_n 2, 1) := dk_28 (dk_at dksJ31_offer_1 4 rfl rfl)
theorem dJ31_offer_28 : decode cJ31_offer 28 = .ok (.aload_n 0, 1) := dk_42 (dk_at dksJ31_offer_1 5 rfl rfl)
theorem dJ31_offer_29 : decode cJ31_offer 29 = .ok (.getfield 17, 3) := dk_180 0 17 (dk_at dksJ31_offer_1 6 rfl rfl)
theorem dJ31_offer_32 : decode cJ31_offer 32 = .ok (.arraylength, 1) := dk_190 (dk_at dksJ31_offer_1 9 rfl rfl)
theorem dJ31_offer_33 : decode cJ31_offer 33 = .ok (.if_icmp .lt 10, 3) := dk_161 0 10 (dk_at dksJ31_offer_1 10 rfl rfl)
theorem dJ31_offer_36 : decode cJ31_offer 36 = .ok (.aload_n 0, 1) := dk_42 (dk_at dksJ31_offer_1 13 rfl rfl)
theorem dJ31_offer_37 : decode cJ31_offer 37 = .ok (.iload_n 2, 1) := dk_28 (dk_at dksJ31_offer_1 14 rfl rfl)
theorem dJ31_offer_38 : decode cJ31_offer 38 = .ok (.iconst 1, 1) := dk_4 (dk_at dksJ31_offer_1 15 rfl rfl)
theorem dJ31_offer_39 : decode cJ31_offer 39 = .ok (.iadd, 1) := dk_96 (dk_at dksJ31_offer_1 16 rfl rfl)
theorem dJ31_offer_40 : decode cJ31_offer 40 = .ok (.invokevirtual 96, 3) := dk_182 0 96 (dk_at dksJ31_offer_1 17 rfl rfl)
theorem dJ31_offer_43 : decode cJ31_offer 43 = .ok (.aload_n 0, 1) := dk_42 (dk_at dksJ31_offer_1 20 rfl rfl)
theorem dJ31_offer_44 : decode cJ31_offer 44 = .ok (.iload_n 2, 1) := dk_28 (dk_at dksJ31_offer_1 21 rfl rfl)
theorem dJ31_offer_45 : decode cJ31_offer 45 = .ok (.aload_n 1, 1) := dk_43 (dk_at dksJ31_offer_1 22 rfl rfl)
theorem dJ31_offer_46 : decode cJ31_offer 46 = .ok (.invokevirtual 100, 3) := dk_182 0 100 (dk_at dksJ31_offer_2 0 rfl rfl)
theorem dJ31_offer_49 : decode cJ31_offer 49 = .ok (.aload_n 0, 1) := dk_42 (dk_at dksJ31_offer_2 3 rfl rfl)
theorem dJ31_offer_50 : decode cJ31_offer 50 = .ok (.iload_n 2, 1) := dk_28 (dk_at dksJ31_offer_2 4 rfl rfl)
theorem dJ31_offer_51 : decode cJ31_offer 51 = .ok (.iconst 1, 1) := dk_4 (dk_at dksJ31_offer_2 5 rfl rfl)
theorem dJ31_offer_52 : decode cJ31_offer 52 = .ok (.iadd, 1) := dk_96 (dk_at dksJ31_offer_2 6 rfl rfl)
theorem dJ31_offer_53 : decode cJ31_offer 53 = .ok (.putfield 58, 3) := dk_181 0 58 (dk_at dksJ31_offer_2 7 rfl rfl)
theorem dJ31_offer_56 : decode cJ31_offer 56 = .ok (.iconst 1, 1) := dk_4 (dk_at dksJ31_offer_2 10 rfl rfl)
theorem dJ31_offer_57 : decode cJ31_offer 57 = .ok (.ireturn, 1) := dk_172 (dk_at dksJ31_offer_2 11 rfl rfl)
abbrev cJ31_grow : ByteArray := prog_54_method_12_code
def yJ31_grow : MethodName := ⟨RJ31, "grow", "(I)V"⟩
def dkwJ31_grow_1 : List UInt8 := [122, 184, 0, 80, 62, 42, 42, 180, 0, 17, 29, 184, 0, 86, 181, 0, 17, 177]
abbrev dktJ31_grow_1 : List UInt8 := dkwJ31_grow_1 ++ []
def dkwJ31_grow_0 : List UInt8 := [42, 180, 0, 17, 190, 61, 28, 27, 28, 100, 28, 16, 64, 162, 0, 9, 28, 5, 96, 167, 0, 6, 28, 4]
abbrev dktJ31_grow_0 : List UInt8 := dkwJ31_grow_0 ++ dktJ31_grow_1
theorem dksJ31_grow_0 : cJ31_grow.data.toList.drop 0 = dktJ31_grow_0 := by decide +kernel
theorem dksJ31_grow_1 : cJ31_grow.data.toList.drop 24 = dktJ31_grow_1 := dk_seg dksJ31_grow_0 24 rfl rfl
theorem dJ31_grow_0 : decode cJ31_grow 0 = .ok (.aload_n 0, 1) := dk_42 (dk_at dksJ31_grow_0 0 rfl rfl)
theorem dJ31_grow_1 : decode cJ31_grow 1 = .ok (.getfield 17, 3) := dk_180 0 17 (dk_at dksJ31_grow_0 1 rfl rfl)
theorem dJ31_grow_4 : decode cJ31_grow 4 = .ok (.arraylength, 1) := dk_190 (dk_at dksJ31_grow_0 4 rfl rfl)
theorem dJ31_grow_5 : decode cJ31_grow 5 = .ok (.istore_n 2, 1) := dk_61 (dk_at dksJ31_grow_0 5 rfl rfl)
theorem dJ31_grow_6 : decode cJ31_grow 6 = .ok (.iload_n 2, 1) := dk_28 (dk_at dksJ31_grow_0 6 rfl rfl)
theorem dJ31_grow_7 : decode cJ31_grow 7 = .ok (.iload_n 1, 1) := dk_27 (dk_at dksJ31_grow_0 7 rfl rfl)
theorem dJ31_grow_8 : decode cJ31_grow 8 = .ok (.iload_n 2, 1) := dk_28 (dk_at dksJ31_grow_0 8 rfl rfl)
theorem dJ31_grow_9 : decode cJ31_grow 9 = .ok (.isub, 1) := dk_100 (dk_at dksJ31_grow_0 9 rfl rfl)
theorem dJ31_grow_10 : decode cJ31_grow 10 = .ok (.iload_n 2, 1) := dk_28 (dk_at dksJ31_grow_0 10 rfl rfl)
theorem dJ31_grow_11 : decode cJ31_grow 11 = .ok (.bipush 64, 2) := dk_16 64 (dk_at dksJ31_grow_0 11 rfl rfl)
theorem dJ31_grow_13 : decode cJ31_grow 13 = .ok (.if_icmp .ge 9, 3) := dk_162 0 9 (dk_at dksJ31_grow_0 13 rfl rfl)
theorem dJ31_grow_16 : decode cJ31_grow 16 = .ok (.iload_n 2, 1) := dk_28 (dk_at dksJ31_grow_0 16 rfl rfl)
theorem dJ31_grow_17 : decode cJ31_grow 17 = .ok (.iconst 2, 1) := dk_5 (dk_at dksJ31_grow_0 17 rfl rfl)
theorem dJ31_grow_18 : decode cJ31_grow 18 = .ok (.iadd, 1) := dk_96 (dk_at dksJ31_grow_0 18 rfl rfl)
theorem dJ31_grow_19 : decode cJ31_grow 19 = .ok (.goto 6, 3) := dk_167 0 6 (dk_at dksJ31_grow_0 19 rfl rfl)
theorem dJ31_grow_22 : decode cJ31_grow 22 = .ok (.iload_n 2, 1) := dk_28 (dk_at dksJ31_grow_0 22 rfl rfl)
theorem dJ31_grow_23 : decode cJ31_grow 23 = .ok (.iconst 1, 1) := dk_4 (dk_at dksJ31_grow_0 23 rfl rfl)
theorem dJ31_grow_24 : decode cJ31_grow 24 = .ok (.ishr, 1) := dk_122 (dk_at dksJ31_grow_1 0 rfl rfl)
theorem dJ31_grow_25 : decode cJ31_grow 25 = .ok (.invokestatic 80, 3) := dk_184 0 80 (dk_at dksJ31_grow_1 1 rfl rfl)
theorem dJ31_grow_28 : decode cJ31_grow 28 = .ok (.istore_n 3, 1) := dk_62 (dk_at dksJ31_grow_1 4 rfl rfl)
theorem dJ31_grow_29 : decode cJ31_grow 29 = .ok (.aload_n 0, 1) := dk_42 (dk_at dksJ31_grow_1 5 rfl rfl)
theorem dJ31_grow_30 : decode cJ31_grow 30 = .ok (.aload_n 0, 1) := dk_42 (dk_at dksJ31_grow_1 6 rfl rfl)
theorem dJ31_grow_31 : decode cJ31_grow 31 = .ok (.getfield 17, 3) := dk_180 0 17 (dk_at dksJ31_grow_1 7 rfl rfl)
theorem dJ31_grow_34 : decode cJ31_grow 34 = .ok (.iload_n 3, 1) := dk_29 (dk_at dksJ31_grow_1 10 rfl rfl)
theorem dJ31_grow_35 : decode cJ31_grow 35 = .ok (.invokestatic 86, 3) := dk_184 0 86 (dk_at dksJ31_grow_1 11 rfl rfl)
theorem dJ31_grow_38 : decode cJ31_grow 38 = .ok (.putfield 17, 3) := dk_181 0 17 (dk_at dksJ31_grow_1 14 rfl rfl)
theorem dJ31_grow_41 : decode cJ31_grow 41 = .ok (.return_, 1) := dk_177 (dk_at dksJ31_grow_1 17 rfl rfl)
abbrev cJ31_siftUp : ByteArray := prog_54_method_27_code
def yJ31_siftUp : MethodName := ⟨RJ31, "siftUp", "(ILjava/lang/Object;)V"⟩
def dkwJ31_siftUp_1 : List UInt8 := [44, 42, 180, 0, 17, 184, 0, 140, 177]
abbrev dktJ31_siftUp_1 : List UInt8 := dkwJ31_siftUp_1 ++ []
def dkwJ31_siftUp_0 : List UInt8 := [42, 180, 0, 21, 198, 0, 19, 27, 44, 42, 180, 0, 17, 42, 180, 0, 21, 184, 0, 136, 167, 0, 12, 27]
abbrev dktJ31_siftUp_0 : List UInt8 := dkwJ31_siftUp_0 ++ dktJ31_siftUp_1
theorem dksJ31_siftUp_0 : cJ31_siftUp.data.toList.drop 0 = dktJ31_siftUp_0 := by decide +kernel
theorem dksJ31_siftUp_1 : cJ31_siftUp.data.toList.drop 24 = dktJ31_siftUp_1 := dk_seg dksJ31_siftUp_0 24 rfl rfl
theorem dJ31_siftUp_0 : decode cJ31_siftUp 0 = .ok (.aload_n 0, 1) := dk_42 (dk_at dksJ31_siftUp_0 0 rfl rfl)
theorem dJ31_siftUp_1 : decode cJ31_siftUp 1 = .ok (.getfield 21, 3) := dk_180 0 21 (dk_at dksJ31_siftUp_0 1 rfl rfl)
theorem dJ31_siftUp_4 : decode cJ31_siftUp 4 = .ok (.ifnull 19, 3) := dk_198 0 19 (dk_at dksJ31_siftUp_0 4 rfl rfl)
theorem dJ31_siftUp_7 : decode cJ31_siftUp 7 = .ok (.iload_n 1, 1) := dk_27 (dk_at dksJ31_siftUp_0 7 rfl rfl)
theorem dJ31_siftUp_8 : decode cJ31_siftUp 8 = .ok (.aload_n 2, 1) := dk_44 (dk_at dksJ31_siftUp_0 8 rfl rfl)
theorem dJ31_siftUp_9 : decode cJ31_siftUp 9 = .ok (.aload_n 0, 1) := dk_42 (dk_at dksJ31_siftUp_0 9 rfl rfl)
theorem dJ31_siftUp_10 : decode cJ31_siftUp 10 = .ok (.getfield 17, 3) := dk_180 0 17 (dk_at dksJ31_siftUp_0 10 rfl rfl)
theorem dJ31_siftUp_13 : decode cJ31_siftUp 13 = .ok (.aload_n 0, 1) := dk_42 (dk_at dksJ31_siftUp_0 13 rfl rfl)
theorem dJ31_siftUp_14 : decode cJ31_siftUp 14 = .ok (.getfield 21, 3) := dk_180 0 21 (dk_at dksJ31_siftUp_0 14 rfl rfl)
theorem dJ31_siftUp_17 : decode cJ31_siftUp 17 = .ok (.invokestatic 136, 3) := dk_184 0 136 (dk_at dksJ31_siftUp_0 17 rfl rfl)
theorem dJ31_siftUp_20 : decode cJ31_siftUp 20 = .ok (.goto 12, 3) := dk_167 0 12 (dk_at dksJ31_siftUp_0 20 rfl rfl)
theorem dJ31_siftUp_23 : decode cJ31_siftUp 23 = .ok (.iload_n 1, 1) := dk_27 (dk_at dksJ31_siftUp_0 23 rfl rfl)
theorem dJ31_siftUp_24 : decode cJ31_siftUp 24 = .ok (.aload_n 2, 1) := dk_44 (dk_at dksJ31_siftUp_1 0 rfl rfl)
theorem dJ31_siftUp_25 : decode cJ31_siftUp 25 = .ok (.aload_n 0, 1) := dk_42 (dk_at dksJ31_siftUp_1 1 rfl rfl)
theorem dJ31_siftUp_26 : decode cJ31_siftUp 26 = .ok (.getfield 17, 3) := dk_180 0 17 (dk_at dksJ31_siftUp_1 2 rfl rfl)
theorem dJ31_siftUp_29 : decode cJ31_siftUp 29 = .ok (.invokestatic 140, 3) := dk_184 0 140 (dk_at dksJ31_siftUp_1 5 rfl rfl)
theorem dJ31_siftUp_32 : decode cJ31_siftUp 32 = .ok (.return_, 1) := dk_177 (dk_at dksJ31_siftUp_1 8 rfl rfl)
abbrev cJ31_siftUpUsingComparator : ByteArray := prog_54_method_29_code
def yJ31_siftUpUsingComparator : MethodName := ⟨RJ31, "siftUpUsingComparator", "(ILjava/lang/Object;[Ljava/lang/Object;Ljava/util/Comparator;)V"⟩
def dkwJ31_siftUpUsingComparator_2 : List UInt8 := [43, 83, 177]
abbrev dktJ31_siftUpUsingComparator_2 : List UInt8 := dkwJ31_siftUpUsingComparator_2 ++ []
def dkwJ31_siftUpUsingComparator_1 : List UInt8 := [185, 0, 149, 3, 0, 155, 0, 6, 167, 0, 14, 44, 26, 25, 5, 83, 21, 4, 59, 167, 255, 216, 44, 26]
abbrev dktJ31_siftUpUsingComparator_1 : List UInt8 := dkwJ31_siftUpUsingComparator_1 ++ dktJ31_siftUpUsingComparator_2
def dkwJ31_siftUpUsingComparator_0 : List UInt8 := [26, 158, 0, 42, 26, 4, 100, 4, 124, 54, 4, 44, 21, 4, 50, 58, 5, 45, 43, 25, 5]
abbrev dktJ31_siftUpUsingComparator_0 : List UInt8 := dkwJ31_siftUpUsingComparator_0 ++ dktJ31_siftUpUsingComparator_1
theorem dksJ31_siftUpUsingComparator_0 : cJ31_siftUpUsingComparator.data.toList.drop 0 = dktJ31_siftUpUsingComparator_0 := by decide +kernel
theorem dksJ31_siftUpUsingComparator_1 : cJ31_siftUpUsingComparator.data.toList.drop 21 = dktJ31_siftUpUsingComparator_1 := dk_seg dksJ31_siftUpUsingComparator_0 21 rfl rfl
theorem dksJ31_siftUpUsingComparator_2 : cJ31_siftUpUsingComparator.data.toList.drop 45 = dktJ31_siftUpUsingComparator_2 := dk_seg dksJ31_siftUpUsingComparator_1 24 rfl rfl
theorem dJ31_siftUpUsingComparator_0 : decode cJ31_siftUpUsingComparator 0 = .ok (.iload_n 0, 1) := dk_26 (dk_at dksJ31_siftUpUsingComparator_0 0 rfl rfl)
theorem dJ31_siftUpUsingComparator_1 : decode cJ31_siftUpUsingComparator 1 = .ok (.ifCond .le 42, 3) := dk_158 0 42 (dk_at dksJ31_siftUpUsingComparator_0 1 rfl rfl)
theorem dJ31_siftUpUsingComparator_4 : decode cJ31_siftUpUsingComparator 4 = .ok (.iload_n 0, 1) := dk_26 (dk_at dksJ31_siftUpUsingComparator_0 4 rfl rfl)
theorem dJ31_siftUpUsingComparator_5 : decode cJ31_siftUpUsingComparator 5 = .ok (.iconst 1, 1) := dk_4 (dk_at dksJ31_siftUpUsingComparator_0 5 rfl rfl)
theorem dJ31_siftUpUsingComparator_6 : decode cJ31_siftUpUsingComparator 6 = .ok (.isub, 1) := dk_100 (dk_at dksJ31_siftUpUsingComparator_0 6 rfl rfl)
theorem dJ31_siftUpUsingComparator_7 : decode cJ31_siftUpUsingComparator 7 = .ok (.iconst 1, 1) := dk_4 (dk_at dksJ31_siftUpUsingComparator_0 7 rfl rfl)
theorem dJ31_siftUpUsingComparator_8 : decode cJ31_siftUpUsingComparator 8 = .ok (.iushr, 1) := dk_124 (dk_at dksJ31_siftUpUsingComparator_0 8 rfl rfl)
theorem dJ31_siftUpUsingComparator_9 : decode cJ31_siftUpUsingComparator 9 = .ok (.istore 4, 2) := dk_54 4 (dk_at dksJ31_siftUpUsingComparator_0 9 rfl rfl)
theorem dJ31_siftUpUsingComparator_11 : decode cJ31_siftUpUsingComparator 11 = .ok (.aload_n 2, 1) := dk_44 (dk_at dksJ31_siftUpUsingComparator_0 11 rfl rfl)
theorem dJ31_siftUpUsingComparator_12 : decode cJ31_siftUpUsingComparator 12 = .ok (.iload 4, 2) := dk_21 4 (dk_at dksJ31_siftUpUsingComparator_0 12 rfl rfl)
theorem dJ31_siftUpUsingComparator_14 : decode cJ31_siftUpUsingComparator 14 = .ok (.aaload, 1) := dk_50 (dk_at dksJ31_siftUpUsingComparator_0 14 rfl rfl)
theorem dJ31_siftUpUsingComparator_15 : decode cJ31_siftUpUsingComparator 15 = .ok (.astore 5, 2) := dk_58 5 (dk_at dksJ31_siftUpUsingComparator_0 15 rfl rfl)
theorem dJ31_siftUpUsingComparator_17 : decode cJ31_siftUpUsingComparator 17 = .ok (.aload_n 3, 1) := dk_45 (dk_at dksJ31_siftUpUsingComparator_0 17 rfl rfl)
theorem dJ31_siftUpUsingComparator_18 : decode cJ31_siftUpUsingComparator 18 = .ok (.aload_n 1, 1) := dk_43 (dk_at dksJ31_siftUpUsingComparator_0 18 rfl rfl)
theorem dJ31_siftUpUsingComparator_19 : decode cJ31_siftUpUsingComparator 19 = .ok (.aload 5, 2) := dk_25 5 (dk_at dksJ31_siftUpUsingComparator_0 19 rfl rfl)
theorem dJ31_siftUpUsingComparator_21 : decode cJ31_siftUpUsingComparator 21 = .ok (.invokeinterface 149 3, 5) := by decide +kernel
theorem dJ31_siftUpUsingComparator_26 : decode cJ31_siftUpUsingComparator 26 = .ok (.ifCond .lt 6, 3) := dk_155 0 6 (dk_at dksJ31_siftUpUsingComparator_1 5 rfl rfl)
theorem dJ31_siftUpUsingComparator_29 : decode cJ31_siftUpUsingComparator 29 = .ok (.goto 14, 3) := dk_167 0 14 (dk_at dksJ31_siftUpUsingComparator_1 8 rfl rfl)
theorem dJ31_siftUpUsingComparator_32 : decode cJ31_siftUpUsingComparator 32 = .ok (.aload_n 2, 1) := dk_44 (dk_at dksJ31_siftUpUsingComparator_1 11 rfl rfl)
theorem dJ31_siftUpUsingComparator_33 : decode cJ31_siftUpUsingComparator 33 = .ok (.iload_n 0, 1) := dk_26 (dk_at dksJ31_siftUpUsingComparator_1 12 rfl rfl)
theorem dJ31_siftUpUsingComparator_34 : decode cJ31_siftUpUsingComparator 34 = .ok (.aload 5, 2) := dk_25 5 (dk_at dksJ31_siftUpUsingComparator_1 13 rfl rfl)
theorem dJ31_siftUpUsingComparator_36 : decode cJ31_siftUpUsingComparator 36 = .ok (.aastore, 1) := dk_83 (dk_at dksJ31_siftUpUsingComparator_1 15 rfl rfl)
theorem dJ31_siftUpUsingComparator_37 : decode cJ31_siftUpUsingComparator 37 = .ok (.iload 4, 2) := dk_21 4 (dk_at dksJ31_siftUpUsingComparator_1 16 rfl rfl)
theorem dJ31_siftUpUsingComparator_39 : decode cJ31_siftUpUsingComparator 39 = .ok (.istore_n 0, 1) := dk_59 (dk_at dksJ31_siftUpUsingComparator_1 18 rfl rfl)
theorem dJ31_siftUpUsingComparator_40 : decode cJ31_siftUpUsingComparator 40 = .ok (.goto (-40), 3) := dk_167 255 216 (dk_at dksJ31_siftUpUsingComparator_1 19 rfl rfl)
theorem dJ31_siftUpUsingComparator_43 : decode cJ31_siftUpUsingComparator 43 = .ok (.aload_n 2, 1) := dk_44 (dk_at dksJ31_siftUpUsingComparator_1 22 rfl rfl)
theorem dJ31_siftUpUsingComparator_44 : decode cJ31_siftUpUsingComparator 44 = .ok (.iload_n 0, 1) := dk_26 (dk_at dksJ31_siftUpUsingComparator_1 23 rfl rfl)
theorem dJ31_siftUpUsingComparator_45 : decode cJ31_siftUpUsingComparator 45 = .ok (.aload_n 1, 1) := dk_43 (dk_at dksJ31_siftUpUsingComparator_2 0 rfl rfl)
theorem dJ31_siftUpUsingComparator_46 : decode cJ31_siftUpUsingComparator 46 = .ok (.aastore, 1) := dk_83 (dk_at dksJ31_siftUpUsingComparator_2 1 rfl rfl)
theorem dJ31_siftUpUsingComparator_47 : decode cJ31_siftUpUsingComparator 47 = .ok (.return_, 1) := dk_177 (dk_at dksJ31_siftUpUsingComparator_2 2 rfl rfl)
abbrev cJ31_siftUpComparable : ByteArray := prog_54_method_28_code
def yJ31_siftUpComparable : MethodName := ⟨RJ31, "siftUpComparable", "(ILjava/lang/Object;[Ljava/lang/Object;)V"⟩
def dkwJ31_siftUpComparable_2 : List UInt8 := [44, 26, 45, 83, 177]
abbrev dktJ31_siftUpComparable_2 : List UInt8 := dkwJ31_siftUpComparable_2 ++ []
def dkwJ31_siftUpComparable_1 : List UInt8 := [25, 5, 185, 0, 146, 2, 0, 155, 0, 6, 167, 0, 14, 44, 26, 25, 5, 83, 21, 4, 59, 167, 255, 217]
abbrev dktJ31_siftUpComparable_1 : List UInt8 := dkwJ31_siftUpComparable_1 ++ dktJ31_siftUpComparable_2
def dkwJ31_siftUpComparable_0 : List UInt8 := [43, 192, 0, 144, 78, 26, 158, 0, 41, 26, 4, 100, 4, 124, 54, 4, 44, 21, 4, 50, 58, 5, 45]
abbrev dktJ31_siftUpComparable_0 : List UInt8 := dkwJ31_siftUpComparable_0 ++ dktJ31_siftUpComparable_1
theorem dksJ31_siftUpComparable_0 : cJ31_siftUpComparable.data.toList.drop 0 = dktJ31_siftUpComparable_0 := by decide +kernel
theorem dksJ31_siftUpComparable_1 : cJ31_siftUpComparable.data.toList.drop 23 = dktJ31_siftUpComparable_1 := dk_seg dksJ31_siftUpComparable_0 23 rfl rfl
theorem dksJ31_siftUpComparable_2 : cJ31_siftUpComparable.data.toList.drop 47 = dktJ31_siftUpComparable_2 := dk_seg dksJ31_siftUpComparable_1 24 rfl rfl
theorem dJ31_siftUpComparable_0 : decode cJ31_siftUpComparable 0 = .ok (.aload_n 1, 1) := dk_43 (dk_at dksJ31_siftUpComparable_0 0 rfl rfl)
theorem dJ31_siftUpComparable_1 : decode cJ31_siftUpComparable 1 = .ok (.checkcast 144, 3) := dk_192 0 144 (dk_at dksJ31_siftUpComparable_0 1 rfl rfl)
theorem dJ31_siftUpComparable_4 : decode cJ31_siftUpComparable 4 = .ok (.astore_n 3, 1) := dk_78 (dk_at dksJ31_siftUpComparable_0 4 rfl rfl)
theorem dJ31_siftUpComparable_5 : decode cJ31_siftUpComparable 5 = .ok (.iload_n 0, 1) := dk_26 (dk_at dksJ31_siftUpComparable_0 5 rfl rfl)
theorem dJ31_siftUpComparable_6 : decode cJ31_siftUpComparable 6 = .ok (.ifCond .le 41, 3) := dk_158 0 41 (dk_at dksJ31_siftUpComparable_0 6 rfl rfl)
theorem dJ31_siftUpComparable_9 : decode cJ31_siftUpComparable 9 = .ok (.iload_n 0, 1) := dk_26 (dk_at dksJ31_siftUpComparable_0 9 rfl rfl)
theorem dJ31_siftUpComparable_10 : decode cJ31_siftUpComparable 10 = .ok (.iconst 1, 1) := dk_4 (dk_at dksJ31_siftUpComparable_0 10 rfl rfl)
theorem dJ31_siftUpComparable_11 : decode cJ31_siftUpComparable 11 = .ok (.isub, 1) := dk_100 (dk_at dksJ31_siftUpComparable_0 11 rfl rfl)
theorem dJ31_siftUpComparable_12 : decode cJ31_siftUpComparable 12 = .ok (.iconst 1, 1) := dk_4 (dk_at dksJ31_siftUpComparable_0 12 rfl rfl)
theorem dJ31_siftUpComparable_13 : decode cJ31_siftUpComparable 13 = .ok (.iushr, 1) := dk_124 (dk_at dksJ31_siftUpComparable_0 13 rfl rfl)
theorem dJ31_siftUpComparable_14 : decode cJ31_siftUpComparable 14 = .ok (.istore 4, 2) := dk_54 4 (dk_at dksJ31_siftUpComparable_0 14 rfl rfl)
theorem dJ31_siftUpComparable_16 : decode cJ31_siftUpComparable 16 = .ok (.aload_n 2, 1) := dk_44 (dk_at dksJ31_siftUpComparable_0 16 rfl rfl)
theorem dJ31_siftUpComparable_17 : decode cJ31_siftUpComparable 17 = .ok (.iload 4, 2) := dk_21 4 (dk_at dksJ31_siftUpComparable_0 17 rfl rfl)
theorem dJ31_siftUpComparable_19 : decode cJ31_siftUpComparable 19 = .ok (.aaload, 1) := dk_50 (dk_at dksJ31_siftUpComparable_0 19 rfl rfl)
theorem dJ31_siftUpComparable_20 : decode cJ31_siftUpComparable 20 = .ok (.astore 5, 2) := dk_58 5 (dk_at dksJ31_siftUpComparable_0 20 rfl rfl)
theorem dJ31_siftUpComparable_22 : decode cJ31_siftUpComparable 22 = .ok (.aload_n 3, 1) := dk_45 (dk_at dksJ31_siftUpComparable_0 22 rfl rfl)
theorem dJ31_siftUpComparable_23 : decode cJ31_siftUpComparable 23 = .ok (.aload 5, 2) := dk_25 5 (dk_at dksJ31_siftUpComparable_1 0 rfl rfl)
theorem dJ31_siftUpComparable_25 : decode cJ31_siftUpComparable 25 = .ok (.invokeinterface 146 2, 5) := by decide +kernel
theorem dJ31_siftUpComparable_30 : decode cJ31_siftUpComparable 30 = .ok (.ifCond .lt 6, 3) := dk_155 0 6 (dk_at dksJ31_siftUpComparable_1 7 rfl rfl)
theorem dJ31_siftUpComparable_33 : decode cJ31_siftUpComparable 33 = .ok (.goto 14, 3) := dk_167 0 14 (dk_at dksJ31_siftUpComparable_1 10 rfl rfl)
theorem dJ31_siftUpComparable_36 : decode cJ31_siftUpComparable 36 = .ok (.aload_n 2, 1) := dk_44 (dk_at dksJ31_siftUpComparable_1 13 rfl rfl)
theorem dJ31_siftUpComparable_37 : decode cJ31_siftUpComparable 37 = .ok (.iload_n 0, 1) := dk_26 (dk_at dksJ31_siftUpComparable_1 14 rfl rfl)
theorem dJ31_siftUpComparable_38 : decode cJ31_siftUpComparable 38 = .ok (.aload 5, 2) := dk_25 5 (dk_at dksJ31_siftUpComparable_1 15 rfl rfl)
theorem dJ31_siftUpComparable_40 : decode cJ31_siftUpComparable 40 = .ok (.aastore, 1) := dk_83 (dk_at dksJ31_siftUpComparable_1 17 rfl rfl)
theorem dJ31_siftUpComparable_41 : decode cJ31_siftUpComparable 41 = .ok (.iload 4, 2) := dk_21 4 (dk_at dksJ31_siftUpComparable_1 18 rfl rfl)
theorem dJ31_siftUpComparable_43 : decode cJ31_siftUpComparable 43 = .ok (.istore_n 0, 1) := dk_59 (dk_at dksJ31_siftUpComparable_1 20 rfl rfl)
theorem dJ31_siftUpComparable_44 : decode cJ31_siftUpComparable 44 = .ok (.goto (-39), 3) := dk_167 255 217 (dk_at dksJ31_siftUpComparable_1 21 rfl rfl)
theorem dJ31_siftUpComparable_47 : decode cJ31_siftUpComparable 47 = .ok (.aload_n 2, 1) := dk_44 (dk_at dksJ31_siftUpComparable_2 0 rfl rfl)
theorem dJ31_siftUpComparable_48 : decode cJ31_siftUpComparable 48 = .ok (.iload_n 0, 1) := dk_26 (dk_at dksJ31_siftUpComparable_2 1 rfl rfl)
theorem dJ31_siftUpComparable_49 : decode cJ31_siftUpComparable 49 = .ok (.aload_n 3, 1) := dk_45 (dk_at dksJ31_siftUpComparable_2 2 rfl rfl)
theorem dJ31_siftUpComparable_50 : decode cJ31_siftUpComparable 50 = .ok (.aastore, 1) := dk_83 (dk_at dksJ31_siftUpComparable_2 3 rfl rfl)
theorem dJ31_siftUpComparable_51 : decode cJ31_siftUpComparable 51 = .ok (.return_, 1) := dk_177 (dk_at dksJ31_siftUpComparable_2 4 rfl rfl)
abbrev cJ31_peek : ByteArray := prog_54_method_15_code
def yJ31_peek : MethodName := ⟨RJ31, "peek", "()Ljava/lang/Object;"⟩
def dkwJ31_peek_0 : List UInt8 := [42, 180, 0, 17, 3, 50, 176]
abbrev dktJ31_peek_0 : List UInt8 := dkwJ31_peek_0 ++ []
theorem dksJ31_peek_0 : cJ31_peek.data.toList.drop 0 = dktJ31_peek_0 := by decide +kernel
theorem dJ31_peek_0 : decode cJ31_peek 0 = .ok (.aload_n 0, 1) := dk_42 (dk_at dksJ31_peek_0 0 rfl rfl)
theorem dJ31_peek_1 : decode cJ31_peek 1 = .ok (.getfield 17, 3) := dk_180 0 17 (dk_at dksJ31_peek_0 1 rfl rfl)
theorem dJ31_peek_4 : decode cJ31_peek 4 = .ok (.iconst 0, 1) := dk_3 (dk_at dksJ31_peek_0 4 rfl rfl)
theorem dJ31_peek_5 : decode cJ31_peek 5 = .ok (.aaload, 1) := dk_50 (dk_at dksJ31_peek_0 5 rfl rfl)
theorem dJ31_peek_6 : decode cJ31_peek 6 = .ok (.areturn, 1) := dk_176 (dk_at dksJ31_peek_0 6 rfl rfl)
theorem q127 : (Jvm.Cond.initialized "java/util/PriorityQueue") ∈ lw_all := lw_g (lw_at lw_m1 43 rfl) rfl
theorem q805 : (Jvm.Cond.instantiable "java/util/PriorityQueue" (4 : Nat)) ∈ lw_all := lw_g (lw_at lw_m4 1 rfl) rfl
theorem q814 : (Jvm.Cond.instanceMethod ({ cls := "java/util/PriorityQueue", name := "<init>", desc := "(Ljava/util/Comparator;)V" } : Jvm.MethodName)) ∈ lw_all := lw_g (lw_at lw_m4 10 rfl) rfl
theorem q815 : (Jvm.Cond.code ({ cls := "java/util/PriorityQueue", name := "<init>", desc := "(Ljava/util/Comparator;)V" } : Jvm.MethodName) prog_54_method_3_code (2 : Nat) (Option.none : Option Jvm.ClassFile.FieldType)) ∈ lw_all := lw_g (lw_at lw_m4 11 rfl) rfl
theorem q816 : (Jvm.Cond.methodLink "java/util/PriorityQueue" (3 : Nat) ({ cls := "java/util/PriorityQueue", name := "<init>", desc := "(ILjava/util/Comparator;)V" } : Jvm.MethodName)) ∈ lw_all := lw_g (lw_at lw_m4 12 rfl) rfl
theorem q817 : (Jvm.Cond.instanceMethod ({ cls := "java/util/PriorityQueue", name := "<init>", desc := "(ILjava/util/Comparator;)V" } : Jvm.MethodName)) ∈ lw_all := lw_g (lw_at lw_m4 13 rfl) rfl
theorem q818 : (Jvm.Cond.code ({ cls := "java/util/PriorityQueue", name := "<init>", desc := "(ILjava/util/Comparator;)V" } : Jvm.MethodName) prog_54_method_4_code (3 : Nat) (Option.none : Option Jvm.ClassFile.FieldType)) ∈ lw_all := lw_g (lw_at lw_m4 14 rfl) rfl
theorem q819 : (Jvm.Cond.methodLink "java/util/PriorityQueue" (7 : Nat) ({ cls := "java/util/AbstractQueue", name := "<init>", desc := "()V" } : Jvm.MethodName)) ∈ lw_all := lw_g (lw_at lw_m4 15 rfl) rfl
theorem q826 : (Jvm.Cond.classLink "java/util/PriorityQueue" (12 : Nat) "java/lang/IllegalArgumentException") ∈ lw_all := lw_g (lw_at lw_m4 22 rfl) rfl
theorem q827 : (Jvm.Cond.methodLink "java/util/PriorityQueue" (14 : Nat) ({ cls := "java/lang/IllegalArgumentException", name := "<init>", desc := "()V" } : Jvm.MethodName)) ∈ lw_all := lw_g (lw_at lw_m4 23 rfl) rfl
theorem q837 : (Jvm.Cond.classLink "java/util/PriorityQueue" (15 : Nat) "java/lang/Object") ∈ lw_all := lw_g (lw_at lw_m4 33 rfl) rfl
theorem q839 : (Jvm.Cond.fieldLink "java/util/PriorityQueue" (17 : Nat) "java/util/PriorityQueue" "queue" "[Ljava/lang/Object;") ∈ lw_all := lw_g (lw_at lw_m4 35 rfl) rfl
theorem q840 : (Jvm.Cond.fieldLink "java/util/PriorityQueue" (58 : Nat) "java/util/PriorityQueue" "size" "I") ∈ lw_all := lw_g (lw_at lw_m4 36 rfl) rfl
theorem q841 : (Jvm.Cond.fieldLink "java/util/PriorityQueue" (21 : Nat) "java/util/PriorityQueue" "comparator" "Ljava/util/Comparator;") ∈ lw_all := lw_g (lw_at lw_m4 37 rfl) rfl
theorem q842 : (Jvm.Cond.fieldLink "java/util/PriorityQueue" (93 : Nat) "java/util/PriorityQueue" "modCount" "I") ∈ lw_all := lw_g (lw_at lw_m4 38 rfl) rfl
theorem q843 : (Jvm.Cond.lays "java/util/PriorityQueue" "java/util/PriorityQueue" "queue" "[Ljava/lang/Object;") ∈ lw_all := lw_g (lw_at lw_m4 39 rfl) rfl
theorem q844 : (Jvm.Cond.soleField "java/util/PriorityQueue" "queue") ∈ lw_all := lw_g (lw_at lw_m4 40 rfl) rfl
theorem q845 : (Jvm.Cond.lays "java/util/PriorityQueue" "java/util/PriorityQueue" "size" "I") ∈ lw_all := lw_g (lw_at lw_m4 41 rfl) rfl
theorem q846 : (Jvm.Cond.soleField "java/util/PriorityQueue" "size") ∈ lw_all := lw_g (lw_at lw_m4 42 rfl) rfl
theorem q847 : (Jvm.Cond.laysFinal "java/util/PriorityQueue" "java/util/PriorityQueue" "comparator" "Ljava/util/Comparator;") ∈ lw_all := lw_g (lw_at lw_m4 43 rfl) rfl
theorem q848 : (Jvm.Cond.soleField "java/util/PriorityQueue" "comparator") ∈ lw_all := lw_g (lw_at lw_m4 44 rfl) rfl
theorem q849 : (Jvm.Cond.lays "java/util/PriorityQueue" "java/util/PriorityQueue" "modCount" "I") ∈ lw_all := lw_g (lw_at lw_m4 45 rfl) rfl
theorem q850 : (Jvm.Cond.soleField "java/util/PriorityQueue" "modCount") ∈ lw_all := lw_g (lw_at lw_m4 46 rfl) rfl
theorem q851 : (Jvm.Cond.superclass "java/util/PriorityQueue" "java/util/AbstractQueue") ∈ lw_all := lw_g (lw_at lw_m4 47 rfl) rfl
theorem q878 : (Jvm.Cond.instanceMethod ({ cls := "java/util/PriorityQueue", name := "add", desc := "(Ljava/lang/Object;)Z" } : Jvm.MethodName)) ∈ lw_all := lw_g (lw_at lw_m4 74 rfl) rfl
theorem q879 : (Jvm.Cond.selects "java/util/PriorityQueue" ({ cls := "java/util/PriorityQueue", name := "add", desc := "(Ljava/lang/Object;)Z" } : Jvm.MethodName) ({ cls := "java/util/PriorityQueue", name := "add", desc := "(Ljava/lang/Object;)Z" } : Jvm.MethodName)) ∈ lw_all := lw_g (lw_at lw_m4 75 rfl) rfl
theorem q880 : (Jvm.Cond.code ({ cls := "java/util/PriorityQueue", name := "add", desc := "(Ljava/lang/Object;)Z" } : Jvm.MethodName) prog_54_method_13_code (2 : Nat) (Option.some Jvm.ClassFile.FieldType.boolean)) ∈ lw_all := lw_g (lw_at lw_m4 76 rfl) rfl
theorem q881 : (Jvm.Cond.methodLink "java/util/PriorityQueue" (89 : Nat) ({ cls := "java/util/PriorityQueue", name := "offer", desc := "(Ljava/lang/Object;)Z" } : Jvm.MethodName)) ∈ lw_all := lw_g (lw_at lw_m4 77 rfl) rfl
theorem q882 : (Jvm.Cond.instanceMethod ({ cls := "java/util/PriorityQueue", name := "offer", desc := "(Ljava/lang/Object;)Z" } : Jvm.MethodName)) ∈ lw_all := lw_g (lw_at lw_m4 78 rfl) rfl
theorem q883 : (Jvm.Cond.selects "java/util/PriorityQueue" ({ cls := "java/util/PriorityQueue", name := "offer", desc := "(Ljava/lang/Object;)Z" } : Jvm.MethodName) ({ cls := "java/util/PriorityQueue", name := "offer", desc := "(Ljava/lang/Object;)Z" } : Jvm.MethodName)) ∈ lw_all := lw_g (lw_at lw_m4 79 rfl) rfl
theorem q884 : (Jvm.Cond.code ({ cls := "java/util/PriorityQueue", name := "offer", desc := "(Ljava/lang/Object;)Z" } : Jvm.MethodName) prog_54_method_14_code (3 : Nat) (Option.some Jvm.ClassFile.FieldType.boolean)) ∈ lw_all := lw_g (lw_at lw_m4 80 rfl) rfl
theorem q885 : (Jvm.Cond.methodLink "java/util/PriorityQueue" (96 : Nat) ({ cls := "java/util/PriorityQueue", name := "grow", desc := "(I)V" } : Jvm.MethodName)) ∈ lw_all := lw_g (lw_at lw_m4 81 rfl) rfl
theorem q886 : (Jvm.Cond.privateMethod ({ cls := "java/util/PriorityQueue", name := "grow", desc := "(I)V" } : Jvm.MethodName)) ∈ lw_tbl := lw_at lw_m4 82 rfl
theorem q887 : (Jvm.Cond.instanceMethod ({ cls := "java/util/PriorityQueue", name := "grow", desc := "(I)V" } : Jvm.MethodName)) ∈ lw_all := lw_g (lw_at lw_m4 83 rfl) rfl
theorem q888 : (Jvm.Cond.code ({ cls := "java/util/PriorityQueue", name := "grow", desc := "(I)V" } : Jvm.MethodName) prog_54_method_12_code (4 : Nat) (Option.none : Option Jvm.ClassFile.FieldType)) ∈ lw_all := lw_g (lw_at lw_m4 84 rfl) rfl
theorem q889 : (Jvm.Cond.methodLink "java/util/PriorityQueue" (80 : Nat) ({ cls := "jdk/internal/util/ArraysSupport", name := "newLength", desc := "(III)I" } : Jvm.MethodName)) ∈ lw_all := lw_g (lw_at lw_m4 85 rfl) rfl
theorem q890 : (Jvm.Cond.methodLink "java/util/PriorityQueue" (86 : Nat) ({ cls := "java/util/Arrays", name := "copyOf", desc := "([Ljava/lang/Object;I)[Ljava/lang/Object;" } : Jvm.MethodName)) ∈ lw_all := lw_g (lw_at lw_m4 86 rfl) rfl
theorem q914 : (Jvm.Cond.selects "java/util/PriorityQueue" ({ cls := "java/lang/Object", name := "getClass", desc := "()Ljava/lang/Class;" } : Jvm.MethodName) ({ cls := "java/lang/Object", name := "getClass", desc := "()Ljava/lang/Class;" } : Jvm.MethodName)) ∈ lw_all := lw_g (lw_at lw_m4 110 rfl) rfl
theorem q926 : (Jvm.Cond.methodLink "java/util/PriorityQueue" (100 : Nat) ({ cls := "java/util/PriorityQueue", name := "siftUp", desc := "(ILjava/lang/Object;)V" } : Jvm.MethodName)) ∈ lw_all := lw_g (lw_at lw_m4 122 rfl) rfl
theorem q927 : (Jvm.Cond.privateMethod ({ cls := "java/util/PriorityQueue", name := "siftUp", desc := "(ILjava/lang/Object;)V" } : Jvm.MethodName)) ∈ lw_tbl := lw_at lw_m4 123 rfl
theorem q928 : (Jvm.Cond.instanceMethod ({ cls := "java/util/PriorityQueue", name := "siftUp", desc := "(ILjava/lang/Object;)V" } : Jvm.MethodName)) ∈ lw_all := lw_g (lw_at lw_m4 124 rfl) rfl
theorem q929 : (Jvm.Cond.code ({ cls := "java/util/PriorityQueue", name := "siftUp", desc := "(ILjava/lang/Object;)V" } : Jvm.MethodName) prog_54_method_27_code (3 : Nat) (Option.none : Option Jvm.ClassFile.FieldType)) ∈ lw_all := lw_g (lw_at lw_m4 125 rfl) rfl
theorem q930 : (Jvm.Cond.methodLink "java/util/PriorityQueue" (136 : Nat) ({ cls := "java/util/PriorityQueue", name := "siftUpUsingComparator", desc := "(ILjava/lang/Object;[Ljava/lang/Object;Ljava/util/Comparator;)V" } : Jvm.MethodName)) ∈ lw_all := lw_g (lw_at lw_m4 126 rfl) rfl
theorem q931 : (Jvm.Cond.static ({ cls := "java/util/PriorityQueue", name := "siftUpUsingComparator", desc := "(ILjava/lang/Object;[Ljava/lang/Object;Ljava/util/Comparator;)V" } : Jvm.MethodName)) ∈ lw_all := lw_g (lw_at lw_m4 127 rfl) rfl
theorem q932 : (Jvm.Cond.code ({ cls := "java/util/PriorityQueue", name := "siftUpUsingComparator", desc := "(ILjava/lang/Object;[Ljava/lang/Object;Ljava/util/Comparator;)V" } : Jvm.MethodName) prog_54_method_29_code (6 : Nat) (Option.none : Option Jvm.ClassFile.FieldType)) ∈ lw_all := lw_g (lw_at lw_m4 128 rfl) rfl
theorem q933 : (Jvm.Cond.interfaceEntry "java/util/PriorityQueue" (149 : Nat)) ∈ lw_tbl := lw_at lw_m4 129 rfl
theorem q934 : (Jvm.Cond.methodLink "java/util/PriorityQueue" (149 : Nat) ({ cls := "java/util/Comparator", name := "compare", desc := "(Ljava/lang/Object;Ljava/lang/Object;)I" } : Jvm.MethodName)) ∈ lw_all := lw_g (lw_at lw_m4 130 rfl) rfl
theorem q958 : (Jvm.Cond.methodLink "java/util/PriorityQueue" (140 : Nat) ({ cls := "java/util/PriorityQueue", name := "siftUpComparable", desc := "(ILjava/lang/Object;[Ljava/lang/Object;)V" } : Jvm.MethodName)) ∈ lw_all := lw_g (lw_at lw_m4 154 rfl) rfl
theorem q959 : (Jvm.Cond.static ({ cls := "java/util/PriorityQueue", name := "siftUpComparable", desc := "(ILjava/lang/Object;[Ljava/lang/Object;)V" } : Jvm.MethodName)) ∈ lw_all := lw_g (lw_at lw_m4 155 rfl) rfl
theorem q960 : (Jvm.Cond.code ({ cls := "java/util/PriorityQueue", name := "siftUpComparable", desc := "(ILjava/lang/Object;[Ljava/lang/Object;)V" } : Jvm.MethodName) prog_54_method_28_code (6 : Nat) (Option.none : Option Jvm.ClassFile.FieldType)) ∈ lw_all := lw_g (lw_at lw_m4 156 rfl) rfl
theorem q961 : (Jvm.Cond.classLink "java/util/PriorityQueue" (144 : Nat) "java/lang/Comparable") ∈ lw_all := lw_g (lw_at lw_m4 157 rfl) rfl
theorem q962 : (Jvm.Cond.interfaceEntry "java/util/PriorityQueue" (146 : Nat)) ∈ lw_tbl := lw_at lw_m4 158 rfl
theorem q963 : (Jvm.Cond.methodLink "java/util/PriorityQueue" (146 : Nat) ({ cls := "java/lang/Comparable", name := "compareTo", desc := "(Ljava/lang/Object;)I" } : Jvm.MethodName)) ∈ lw_all := lw_g (lw_at lw_m4 159 rfl) rfl
theorem q1177 : (Jvm.Cond.instanceMethod ({ cls := "java/util/PriorityQueue", name := "peek", desc := "()Ljava/lang/Object;" } : Jvm.MethodName)) ∈ lw_all := lw_g (lw_at lw_m5 133 rfl) rfl
theorem q1178 : (Jvm.Cond.selects "java/util/PriorityQueue" ({ cls := "java/util/PriorityQueue", name := "peek", desc := "()Ljava/lang/Object;" } : Jvm.MethodName) ({ cls := "java/util/PriorityQueue", name := "peek", desc := "()Ljava/lang/Object;" } : Jvm.MethodName)) ∈ lw_all := lw_g (lw_at lw_m5 134 rfl) rfl
theorem q1179 : (Jvm.Cond.code ({ cls := "java/util/PriorityQueue", name := "peek", desc := "()Ljava/lang/Object;" } : Jvm.MethodName) prog_54_method_15_code (1 : Nat) (Option.some (Jvm.ClassFile.FieldType.object "java/lang/Object"))) ∈ lw_all := lw_g (lw_at lw_m5 135 rfl) rfl
theorem q2300 : (Jvm.Cond.castable "java/util/PriorityQueue" "java/lang/Object") ∈ lw_tbl := lw_at lw_m10 56 rfl
theorem in_J31 : ∀ w ∈ wsJ310, w ∈ lw_all := lw_in wsJ310 [843, 845, 847, 849] (by decide +kernel) (by decide +kernel)
/-! java/lang/Object -/
set_option maxRecDepth 100000
def RJ32 : String := "java/lang/Object"
abbrev cJ32_init : ByteArray := object_method_1_code
def yJ32_init : MethodName := ⟨RJ32, "<init>", "()V"⟩
theorem dJ32_init_0 : decode cJ32_init 0 = .ok (.return_, 1) := by decide +kernel
theorem q136 : (Jvm.Cond.instanceMethod ({ cls := "java/lang/Object", name := "<init>", desc := "()V" } : Jvm.MethodName)) ∈ lw_all := lw_g (lw_at lw_m1 52 rfl) rfl
theorem q137 : (Jvm.Cond.code ({ cls := "java/lang/Object", name := "<init>", desc := "()V" } : Jvm.MethodName) object_method_1_code (1 : Nat) (Option.none : Option Jvm.ClassFile.FieldType)) ∈ lw_all := lw_g (lw_at lw_m1 53 rfl) rfl
theorem q285 : (Jvm.Cond.native ({ cls := "java/lang/Object", name := "clone", desc := "()Ljava/lang/Object;" } : Jvm.MethodName)) ∈ lw_all := lw_g (lw_at lw_m1 201 rfl) rfl
theorem q286 : (Jvm.Cond.instanceMethod ({ cls := "java/lang/Object", name := "clone", desc := "()Ljava/lang/Object;" } : Jvm.MethodName)) ∈ lw_all := lw_g (lw_at lw_m1 202 rfl) rfl
theorem q894 : (Jvm.Cond.instanceMethod ({ cls := "java/lang/Object", name := "getClass", desc := "()Ljava/lang/Class;" } : Jvm.MethodName)) ∈ lw_all := lw_g (lw_at lw_m4 90 rfl) rfl
theorem q895 : (Jvm.Cond.sameMethod "java/lang/Object" "java/lang/Object" "getClass" "()Ljava/lang/Class;") ∈ lw_all := lw_g (lw_at lw_m4 91 rfl) rfl
theorem q920 : (Jvm.Cond.native ({ cls := "java/lang/Object", name := "getClass", desc := "()Ljava/lang/Class;" } : Jvm.MethodName)) ∈ lw_all := lw_g (lw_at lw_m4 116 rfl) rfl
theorem q2276 : (Jvm.Cond.initialized "java/lang/Object") ∈ lw_all := lw_g (lw_at lw_m10 32 rfl) rfl
theorem q2306 : (Jvm.Cond.declares ({ cls := "java/lang/Object", name := "getClass", desc := "()Ljava/lang/Class;" } : Jvm.MethodName)) ∈ lw_tbl := lw_at lw_m10 62 rfl
/-! java/lang/Throwable -/
set_option maxRecDepth 100000
def RJ4 : String := "java/lang/Throwable"
def TJ4 : u_T := fun k => match k with
  | 0 => ("java/lang/Throwable", "cause", "Ljava/lang/Throwable;", false)
  | 1 => ("java/lang/Throwable", "stackTrace", "[Ljava/lang/StackTraceElement;", false)
  | 2 => ("java/lang/Throwable", "suppressedExceptions", "Ljava/util/List;", false)
  | 3 => ("java/lang/Throwable", "detailMessage", "Ljava/lang/String;", false)
  | _ => ("java/lang/Throwable", "backtrace", "Ljava/lang/Object;", false)
def tyJ4 : Nat → FieldType := fun k => match k with
  | 0 => .object "java/lang/Throwable"
  | 1 => .array (.object "java/lang/StackTraceElement")
  | 2 => .object "java/util/List"
  | 3 => .object "java/lang/String"
  | _ => .object "java/lang/Object"
abbrev wsJ40 : List Cond := u_ws RJ4 TJ4 5
theorem nmJ4 : ∀ a, a < 5 → ∀ b, b < 5 → a ≠ b → (TJ4 a).2.1 ≠ (TJ4 b).2.1 := by decide +kernel
theorem tyJ4_ok : ∀ k, k < 5 → parseFieldDescriptor (TJ4 k).2.2.1 = some (tyJ4 k) := by decide +kernel
abbrev cJ4_init : ByteArray := prog_36_method_1_code
def yJ4_init : MethodName := ⟨RJ4, "<init>", "()V"⟩
def dkwJ4_init_1 : List UInt8 := [182, 0, 27, 87, 177]
abbrev dktJ4_init_1 : List UInt8 := dkwJ4_init_1 ++ []
def dkwJ4_init_0 : List UInt8 := [42, 183, 0, 1, 42, 42, 181, 0, 7, 42, 178, 0, 13, 181, 0, 17, 42, 178, 0, 20, 181, 0, 24, 42]
abbrev dktJ4_init_0 : List UInt8 := dkwJ4_init_0 ++ dktJ4_init_1
theorem dksJ4_init_0 : cJ4_init.data.toList.drop 0 = dktJ4_init_0 := by decide +kernel
theorem dksJ4_init_1 : cJ4_init.data.toList.drop 24 = dktJ4_init_1 := dk_seg dksJ4_init_0 24 rfl rfl
theorem dJ4_init_0 : decode cJ4_init 0 = .ok (.aload_n 0, 1) := dk_42 (dk_at dksJ4_init_0 0 rfl rfl)
theorem dJ4_init_1 : decode cJ4_init 1 = .ok (.invokespecial 1, 3) := dk_183 0 1 (dk_at dksJ4_init_0 1 rfl rfl)
theorem dJ4_init_4 : decode cJ4_init 4 = .ok (.aload_n 0, 1) := dk_42 (dk_at dksJ4_init_0 4 rfl rfl)
theorem dJ4_init_5 : decode cJ4_init 5 = .ok (.aload_n 0, 1) := dk_42 (dk_at dksJ4_init_0 5 rfl rfl)
theorem dJ4_init_6 : decode cJ4_init 6 = .ok (.putfield 7, 3) := dk_181 0 7 (dk_at dksJ4_init_0 6 rfl rfl)
theorem dJ4_init_9 : decode cJ4_init 9 = .ok (.aload_n 0, 1) := dk_42 (dk_at dksJ4_init_0 9 rfl rfl)
theorem dJ4_init_10 : decode cJ4_init 10 = .ok (.getstatic 13, 3) := dk_178 0 13 (dk_at dksJ4_init_0 10 rfl rfl)
theorem dJ4_init_13 : decode cJ4_init 13 = .ok (.putfield 17, 3) := dk_181 0 17 (dk_at dksJ4_init_0 13 rfl rfl)
theorem dJ4_init_16 : decode cJ4_init 16 = .ok (.aload_n 0, 1) := dk_42 (dk_at dksJ4_init_0 16 rfl rfl)
theorem dJ4_init_17 : decode cJ4_init 17 = .ok (.getstatic 20, 3) := dk_178 0 20 (dk_at dksJ4_init_0 17 rfl rfl)
theorem dJ4_init_20 : decode cJ4_init 20 = .ok (.putfield 24, 3) := dk_181 0 24 (dk_at dksJ4_init_0 20 rfl rfl)
theorem dJ4_init_23 : decode cJ4_init 23 = .ok (.aload_n 0, 1) := dk_42 (dk_at dksJ4_init_0 23 rfl rfl)
theorem dJ4_init_24 : decode cJ4_init 24 = .ok (.invokevirtual 27, 3) := dk_182 0 27 (dk_at dksJ4_init_1 0 rfl rfl)
theorem dJ4_init_27 : decode cJ4_init 27 = .ok (.pop, 1) := dk_87 (dk_at dksJ4_init_1 3 rfl rfl)
theorem dJ4_init_28 : decode cJ4_init 28 = .ok (.return_, 1) := dk_177 (dk_at dksJ4_init_1 4 rfl rfl)
abbrev cJ4_init_2 : ByteArray := prog_36_method_2_code
def yJ4_init_2 : MethodName := ⟨RJ4, "<init>", "(Ljava/lang/String;)V"⟩
def dkwJ4_init_2_1 : List UInt8 := [182, 0, 27, 87, 42, 43, 181, 0, 31, 177]
abbrev dktJ4_init_2_1 : List UInt8 := dkwJ4_init_2_1 ++ []
def dkwJ4_init_2_0 : List UInt8 := [42, 183, 0, 1, 42, 42, 181, 0, 7, 42, 178, 0, 13, 181, 0, 17, 42, 178, 0, 20, 181, 0, 24, 42]
abbrev dktJ4_init_2_0 : List UInt8 := dkwJ4_init_2_0 ++ dktJ4_init_2_1
theorem dksJ4_init_2_0 : cJ4_init_2.data.toList.drop 0 = dktJ4_init_2_0 := by decide +kernel
theorem dksJ4_init_2_1 : cJ4_init_2.data.toList.drop 24 = dktJ4_init_2_1 := dk_seg dksJ4_init_2_0 24 rfl rfl
theorem dJ4_init_2_0 : decode cJ4_init_2 0 = .ok (.aload_n 0, 1) := dk_42 (dk_at dksJ4_init_2_0 0 rfl rfl)
theorem dJ4_init_2_1 : decode cJ4_init_2 1 = .ok (.invokespecial 1, 3) := dk_183 0 1 (dk_at dksJ4_init_2_0 1 rfl rfl)
theorem dJ4_init_2_4 : decode cJ4_init_2 4 = .ok (.aload_n 0, 1) := dk_42 (dk_at dksJ4_init_2_0 4 rfl rfl)
theorem dJ4_init_2_5 : decode cJ4_init_2 5 = .ok (.aload_n 0, 1) := dk_42 (dk_at dksJ4_init_2_0 5 rfl rfl)
theorem dJ4_init_2_6 : decode cJ4_init_2 6 = .ok (.putfield 7, 3) := dk_181 0 7 (dk_at dksJ4_init_2_0 6 rfl rfl)
theorem dJ4_init_2_9 : decode cJ4_init_2 9 = .ok (.aload_n 0, 1) := dk_42 (dk_at dksJ4_init_2_0 9 rfl rfl)
theorem dJ4_init_2_10 : decode cJ4_init_2 10 = .ok (.getstatic 13, 3) := dk_178 0 13 (dk_at dksJ4_init_2_0 10 rfl rfl)
theorem dJ4_init_2_13 : decode cJ4_init_2 13 = .ok (.putfield 17, 3) := dk_181 0 17 (dk_at dksJ4_init_2_0 13 rfl rfl)
theorem dJ4_init_2_16 : decode cJ4_init_2 16 = .ok (.aload_n 0, 1) := dk_42 (dk_at dksJ4_init_2_0 16 rfl rfl)
theorem dJ4_init_2_17 : decode cJ4_init_2 17 = .ok (.getstatic 20, 3) := dk_178 0 20 (dk_at dksJ4_init_2_0 17 rfl rfl)
theorem dJ4_init_2_20 : decode cJ4_init_2 20 = .ok (.putfield 24, 3) := dk_181 0 24 (dk_at dksJ4_init_2_0 20 rfl rfl)
theorem dJ4_init_2_23 : decode cJ4_init_2 23 = .ok (.aload_n 0, 1) := dk_42 (dk_at dksJ4_init_2_0 23 rfl rfl)
theorem dJ4_init_2_24 : decode cJ4_init_2 24 = .ok (.invokevirtual 27, 3) := dk_182 0 27 (dk_at dksJ4_init_2_1 0 rfl rfl)
theorem dJ4_init_2_27 : decode cJ4_init_2 27 = .ok (.pop, 1) := dk_87 (dk_at dksJ4_init_2_1 3 rfl rfl)
theorem dJ4_init_2_28 : decode cJ4_init_2 28 = .ok (.aload_n 0, 1) := dk_42 (dk_at dksJ4_init_2_1 4 rfl rfl)
theorem dJ4_init_2_29 : decode cJ4_init_2 29 = .ok (.aload_n 1, 1) := dk_43 (dk_at dksJ4_init_2_1 5 rfl rfl)
theorem dJ4_init_2_30 : decode cJ4_init_2 30 = .ok (.putfield 31, 3) := dk_181 0 31 (dk_at dksJ4_init_2_1 6 rfl rfl)
theorem dJ4_init_2_33 : decode cJ4_init_2 33 = .ok (.return_, 1) := dk_177 (dk_at dksJ4_init_2_1 9 rfl rfl)
theorem q91 : (Jvm.Cond.initialized "java/lang/Throwable") ∈ lw_all := lw_g (lw_at lw_m1 7 rfl) rfl
theorem q431 : (Jvm.Cond.declares ({ cls := "java/lang/Throwable", name := "<init>", desc := "()V" } : Jvm.MethodName)) ∈ lw_tbl := lw_at lw_m2 107 rfl
theorem q432 : (Jvm.Cond.declares ({ cls := "java/lang/Throwable", name := "<init>", desc := "(Ljava/lang/String;)V" } : Jvm.MethodName)) ∈ lw_tbl := lw_at lw_m2 108 rfl
theorem q436 : (Jvm.Cond.lays "java/lang/Throwable" "java/lang/Throwable" "cause" "Ljava/lang/Throwable;") ∈ lw_all := lw_g (lw_at lw_m2 112 rfl) rfl
theorem q438 : (Jvm.Cond.lays "java/lang/Throwable" "java/lang/Throwable" "stackTrace" "[Ljava/lang/StackTraceElement;") ∈ lw_all := lw_g (lw_at lw_m2 114 rfl) rfl
theorem q440 : (Jvm.Cond.lays "java/lang/Throwable" "java/lang/Throwable" "suppressedExceptions" "Ljava/util/List;") ∈ lw_all := lw_g (lw_at lw_m2 116 rfl) rfl
theorem q442 : (Jvm.Cond.lays "java/lang/Throwable" "java/lang/Throwable" "detailMessage" "Ljava/lang/String;") ∈ lw_all := lw_g (lw_at lw_m2 118 rfl) rfl
theorem q444 : (Jvm.Cond.lays "java/lang/Throwable" "java/lang/Throwable" "backtrace" "Ljava/lang/Object;") ∈ lw_all := lw_g (lw_at lw_m2 120 rfl) rfl
theorem q445 : (Jvm.Cond.fieldLink "java/lang/Throwable" (198 : Nat) "java/lang/Throwable" "backtrace" "Ljava/lang/Object;") ∈ lw_all := lw_g (lw_at lw_m2 121 rfl) rfl
theorem q446 : (Jvm.Cond.superclass "java/lang/Throwable" "java/lang/Object") ∈ lw_all := lw_g (lw_at lw_m2 122 rfl) rfl
theorem q447 : (Jvm.Cond.instanceMethod ({ cls := "java/lang/Throwable", name := "<init>", desc := "()V" } : Jvm.MethodName)) ∈ lw_all := lw_g (lw_at lw_m2 123 rfl) rfl
theorem q448 : (Jvm.Cond.code ({ cls := "java/lang/Throwable", name := "<init>", desc := "()V" } : Jvm.MethodName) prog_36_method_1_code (1 : Nat) (Option.none : Option Jvm.ClassFile.FieldType)) ∈ lw_all := lw_g (lw_at lw_m2 124 rfl) rfl
theorem q449 : (Jvm.Cond.methodLink "java/lang/Throwable" (1 : Nat) ({ cls := "java/lang/Object", name := "<init>", desc := "()V" } : Jvm.MethodName)) ∈ lw_all := lw_g (lw_at lw_m2 125 rfl) rfl
theorem q450 : (Jvm.Cond.fieldLink "java/lang/Throwable" (13 : Nat) "java/lang/Throwable" "UNASSIGNED_STACK" "[Ljava/lang/StackTraceElement;") ∈ lw_all := lw_g (lw_at lw_m2 126 rfl) rfl
theorem q451 : (Jvm.Cond.laysStatic "java/lang/Throwable" "UNASSIGNED_STACK" "[Ljava/lang/StackTraceElement;") ∈ lw_tbl := lw_at lw_m2 127 rfl
theorem q452 : (Jvm.Cond.fieldLink "java/lang/Throwable" (20 : Nat) "java/lang/Throwable" "SUPPRESSED_SENTINEL" "Ljava/util/List;") ∈ lw_all := lw_g (lw_at lw_m2 128 rfl) rfl
theorem q453 : (Jvm.Cond.laysStatic "java/lang/Throwable" "SUPPRESSED_SENTINEL" "Ljava/util/List;") ∈ lw_tbl := lw_at lw_m2 129 rfl
theorem q454 : (Jvm.Cond.methodLink "java/lang/Throwable" (27 : Nat) ({ cls := "java/lang/Throwable", name := "fillInStackTrace", desc := "()Ljava/lang/Throwable;" } : Jvm.MethodName)) ∈ lw_all := lw_g (lw_at lw_m2 130 rfl) rfl
theorem q455 : (Jvm.Cond.instanceMethod ({ cls := "java/lang/Throwable", name := "fillInStackTrace", desc := "()Ljava/lang/Throwable;" } : Jvm.MethodName)) ∈ lw_all := lw_g (lw_at lw_m2 131 rfl) rfl
theorem q456 : (Jvm.Cond.sameMethod "java/lang/Throwable" "java/lang/Throwable" "fillInStackTrace" "()Ljava/lang/Throwable;") ∈ lw_all := lw_g (lw_at lw_m2 132 rfl) rfl
theorem q461 : (Jvm.Cond.codeSync ({ cls := "java/lang/Throwable", name := "fillInStackTrace", desc := "()Ljava/lang/Throwable;" } : Jvm.MethodName) prog_36_method_18_code (1 : Nat) (Option.some (Jvm.ClassFile.FieldType.object "java/lang/Throwable"))) ∈ lw_all := lw_g (lw_at lw_m2 137 rfl) rfl
theorem q462 : (Jvm.Cond.methodLink "java/lang/Throwable" (202 : Nat) ({ cls := "java/lang/Throwable", name := "fillInStackTrace", desc := "(I)Ljava/lang/Throwable;" } : Jvm.MethodName)) ∈ lw_all := lw_g (lw_at lw_m2 138 rfl) rfl
theorem q463 : (Jvm.Cond.privateMethod ({ cls := "java/lang/Throwable", name := "fillInStackTrace", desc := "(I)Ljava/lang/Throwable;" } : Jvm.MethodName)) ∈ lw_tbl := lw_at lw_m2 139 rfl
theorem q464 : (Jvm.Cond.instanceMethod ({ cls := "java/lang/Throwable", name := "fillInStackTrace", desc := "(I)Ljava/lang/Throwable;" } : Jvm.MethodName)) ∈ lw_all := lw_g (lw_at lw_m2 140 rfl) rfl
theorem q465 : (Jvm.Cond.instantiable "java/lang/Throwable" (6 : Nat)) ∈ lw_all := lw_g (lw_at lw_m2 141 rfl) rfl
theorem q466 : (Jvm.Cond.native ({ cls := "java/lang/Throwable", name := "fillInStackTrace", desc := "(I)Ljava/lang/Throwable;" } : Jvm.MethodName)) ∈ lw_all := lw_g (lw_at lw_m2 142 rfl) rfl
theorem q483 : (Jvm.Cond.instanceMethod ({ cls := "java/lang/Throwable", name := "<init>", desc := "(Ljava/lang/String;)V" } : Jvm.MethodName)) ∈ lw_all := lw_g (lw_at lw_m2 159 rfl) rfl
theorem q484 : (Jvm.Cond.code ({ cls := "java/lang/Throwable", name := "<init>", desc := "(Ljava/lang/String;)V" } : Jvm.MethodName) prog_36_method_2_code (2 : Nat) (Option.none : Option Jvm.ClassFile.FieldType)) ∈ lw_all := lw_g (lw_at lw_m2 160 rfl) rfl
theorem q485 : (Jvm.Cond.fieldLink "java/lang/Throwable" (198 : Nat) "java/lang/Throwable" "backtrace" "Ljava/lang/Object;") ∈ lw_all := lw_g (lw_at lw_m2 161 rfl) rfl
theorem q486 : (Jvm.Cond.fieldLink "java/lang/Throwable" (31 : Nat) "java/lang/Throwable" "detailMessage" "Ljava/lang/String;") ∈ lw_all := lw_g (lw_at lw_m2 162 rfl) rfl
theorem q487 : (Jvm.Cond.fieldLink "java/lang/Throwable" (7 : Nat) "java/lang/Throwable" "cause" "Ljava/lang/Throwable;") ∈ lw_all := lw_g (lw_at lw_m2 163 rfl) rfl
theorem q488 : (Jvm.Cond.fieldLink "java/lang/Throwable" (17 : Nat) "java/lang/Throwable" "stackTrace" "[Ljava/lang/StackTraceElement;") ∈ lw_all := lw_g (lw_at lw_m2 164 rfl) rfl
theorem q489 : (Jvm.Cond.fieldLink "java/lang/Throwable" (24 : Nat) "java/lang/Throwable" "suppressedExceptions" "Ljava/util/List;") ∈ lw_all := lw_g (lw_at lw_m2 165 rfl) rfl
theorem q490 : (Jvm.Cond.soleField "java/lang/Throwable" "backtrace") ∈ lw_all := lw_g (lw_at lw_m2 166 rfl) rfl
theorem q491 : (Jvm.Cond.soleField "java/lang/Throwable" "detailMessage") ∈ lw_all := lw_g (lw_at lw_m2 167 rfl) rfl
theorem q492 : (Jvm.Cond.soleField "java/lang/Throwable" "cause") ∈ lw_all := lw_g (lw_at lw_m2 168 rfl) rfl
theorem q493 : (Jvm.Cond.soleField "java/lang/Throwable" "stackTrace") ∈ lw_all := lw_g (lw_at lw_m2 169 rfl) rfl
theorem q495 : (Jvm.Cond.soleField "java/lang/Throwable" "depth") ∈ lw_all := lw_g (lw_at lw_m2 171 rfl) rfl
theorem q496 : (Jvm.Cond.soleField "java/lang/Throwable" "suppressedExceptions") ∈ lw_all := lw_g (lw_at lw_m2 172 rfl) rfl
theorem q2272 : (Jvm.Cond.sameMethod "java/lang/Throwable" "java/lang/Throwable" "fillInStackTrace" "(I)Ljava/lang/Throwable;") ∈ lw_all := lw_g (lw_at lw_m10 28 rfl) rfl
theorem q2303 : (Jvm.Cond.castable "java/lang/Throwable" "java/lang/Object") ∈ lw_tbl := lw_at lw_m10 59 rfl
theorem in_J4 : ∀ w ∈ wsJ40, w ∈ lw_all := lw_in wsJ40 [436, 438, 440, 442, 444] (by decide +kernel) (by decide +kernel)
/-! java/lang/Exception -/
set_option maxRecDepth 100000
def RJ5 : String := "java/lang/Exception"
abbrev cJ5_init : ByteArray := prog_18_method_2_code
def yJ5_init : MethodName := ⟨RJ5, "<init>", "(Ljava/lang/String;)V"⟩
def dkwJ5_init_0 : List UInt8 := [42, 43, 183, 0, 7, 177]
abbrev dktJ5_init_0 : List UInt8 := dkwJ5_init_0 ++ []
theorem dksJ5_init_0 : cJ5_init.data.toList.drop 0 = dktJ5_init_0 := by decide +kernel
theorem dJ5_init_0 : decode cJ5_init 0 = .ok (.aload_n 0, 1) := dk_42 (dk_at dksJ5_init_0 0 rfl rfl)
theorem dJ5_init_1 : decode cJ5_init 1 = .ok (.aload_n 1, 1) := dk_43 (dk_at dksJ5_init_0 1 rfl rfl)
theorem dJ5_init_2 : decode cJ5_init 2 = .ok (.invokespecial 7, 3) := dk_183 0 7 (dk_at dksJ5_init_0 2 rfl rfl)
theorem dJ5_init_5 : decode cJ5_init 5 = .ok (.return_, 1) := dk_177 (dk_at dksJ5_init_0 5 rfl rfl)
abbrev cJ5_init_2 : ByteArray := prog_18_method_1_code
def yJ5_init_2 : MethodName := ⟨RJ5, "<init>", "()V"⟩
theorem dJ5_init_2_0 : decode cJ5_init_2 0 = .ok (.aload_n 0, 1) := by decide +kernel
theorem dJ5_init_2_1 : decode cJ5_init_2 1 = .ok (.invokespecial 1, 3) := by decide +kernel
theorem dJ5_init_2_4 : decode cJ5_init_2 4 = .ok (.return_, 1) := by decide +kernel
theorem q92 : (Jvm.Cond.initialized "java/lang/Exception") ∈ lw_all := lw_g (lw_at lw_m1 8 rfl) rfl
theorem q429 : (Jvm.Cond.declares ({ cls := "java/lang/Exception", name := "<init>", desc := "()V" } : Jvm.MethodName)) ∈ lw_tbl := lw_at lw_m2 105 rfl
theorem q430 : (Jvm.Cond.declares ({ cls := "java/lang/Exception", name := "<init>", desc := "(Ljava/lang/String;)V" } : Jvm.MethodName)) ∈ lw_tbl := lw_at lw_m2 106 rfl
theorem q480 : (Jvm.Cond.instanceMethod ({ cls := "java/lang/Exception", name := "<init>", desc := "(Ljava/lang/String;)V" } : Jvm.MethodName)) ∈ lw_all := lw_g (lw_at lw_m2 156 rfl) rfl
theorem q481 : (Jvm.Cond.code ({ cls := "java/lang/Exception", name := "<init>", desc := "(Ljava/lang/String;)V" } : Jvm.MethodName) prog_18_method_2_code (2 : Nat) (Option.none : Option Jvm.ClassFile.FieldType)) ∈ lw_all := lw_g (lw_at lw_m2 157 rfl) rfl
theorem q482 : (Jvm.Cond.methodLink "java/lang/Exception" (7 : Nat) ({ cls := "java/lang/Throwable", name := "<init>", desc := "(Ljava/lang/String;)V" } : Jvm.MethodName)) ∈ lw_all := lw_g (lw_at lw_m2 158 rfl) rfl
theorem q834 : (Jvm.Cond.instanceMethod ({ cls := "java/lang/Exception", name := "<init>", desc := "()V" } : Jvm.MethodName)) ∈ lw_all := lw_g (lw_at lw_m4 30 rfl) rfl
theorem q835 : (Jvm.Cond.code ({ cls := "java/lang/Exception", name := "<init>", desc := "()V" } : Jvm.MethodName) prog_18_method_1_code (1 : Nat) (Option.none : Option Jvm.ClassFile.FieldType)) ∈ lw_all := lw_g (lw_at lw_m4 31 rfl) rfl
theorem q836 : (Jvm.Cond.methodLink "java/lang/Exception" (1 : Nat) ({ cls := "java/lang/Throwable", name := "<init>", desc := "()V" } : Jvm.MethodName)) ∈ lw_all := lw_g (lw_at lw_m4 32 rfl) rfl
/-! java/lang/RuntimeException -/
set_option maxRecDepth 100000
def RJ6 : String := "java/lang/RuntimeException"
abbrev cJ6_init : ByteArray := prog_29_method_2_code
def yJ6_init : MethodName := ⟨RJ6, "<init>", "(Ljava/lang/String;)V"⟩
def dkwJ6_init_0 : List UInt8 := [42, 43, 183, 0, 7, 177]
abbrev dktJ6_init_0 : List UInt8 := dkwJ6_init_0 ++ []
theorem dksJ6_init_0 : cJ6_init.data.toList.drop 0 = dktJ6_init_0 := by decide +kernel
theorem dJ6_init_0 : decode cJ6_init 0 = .ok (.aload_n 0, 1) := dk_42 (dk_at dksJ6_init_0 0 rfl rfl)
theorem dJ6_init_1 : decode cJ6_init 1 = .ok (.aload_n 1, 1) := dk_43 (dk_at dksJ6_init_0 1 rfl rfl)
theorem dJ6_init_2 : decode cJ6_init 2 = .ok (.invokespecial 7, 3) := dk_183 0 7 (dk_at dksJ6_init_0 2 rfl rfl)
theorem dJ6_init_5 : decode cJ6_init 5 = .ok (.return_, 1) := dk_177 (dk_at dksJ6_init_0 5 rfl rfl)
abbrev cJ6_init_2 : ByteArray := prog_29_method_1_code
def yJ6_init_2 : MethodName := ⟨RJ6, "<init>", "()V"⟩
theorem dJ6_init_2_0 : decode cJ6_init_2 0 = .ok (.aload_n 0, 1) := by decide +kernel
theorem dJ6_init_2_1 : decode cJ6_init_2 1 = .ok (.invokespecial 1, 3) := by decide +kernel
theorem dJ6_init_2_4 : decode cJ6_init_2 4 = .ok (.return_, 1) := by decide +kernel
theorem q93 : (Jvm.Cond.initialized "java/lang/RuntimeException") ∈ lw_all := lw_g (lw_at lw_m1 9 rfl) rfl
theorem q427 : (Jvm.Cond.declares ({ cls := "java/lang/RuntimeException", name := "<init>", desc := "()V" } : Jvm.MethodName)) ∈ lw_tbl := lw_at lw_m2 103 rfl
theorem q428 : (Jvm.Cond.declares ({ cls := "java/lang/RuntimeException", name := "<init>", desc := "(Ljava/lang/String;)V" } : Jvm.MethodName)) ∈ lw_tbl := lw_at lw_m2 104 rfl
theorem q477 : (Jvm.Cond.instanceMethod ({ cls := "java/lang/RuntimeException", name := "<init>", desc := "(Ljava/lang/String;)V" } : Jvm.MethodName)) ∈ lw_all := lw_g (lw_at lw_m2 153 rfl) rfl
theorem q478 : (Jvm.Cond.code ({ cls := "java/lang/RuntimeException", name := "<init>", desc := "(Ljava/lang/String;)V" } : Jvm.MethodName) prog_29_method_2_code (2 : Nat) (Option.none : Option Jvm.ClassFile.FieldType)) ∈ lw_all := lw_g (lw_at lw_m2 154 rfl) rfl
theorem q479 : (Jvm.Cond.methodLink "java/lang/RuntimeException" (7 : Nat) ({ cls := "java/lang/Exception", name := "<init>", desc := "(Ljava/lang/String;)V" } : Jvm.MethodName)) ∈ lw_all := lw_g (lw_at lw_m2 155 rfl) rfl
theorem q831 : (Jvm.Cond.instanceMethod ({ cls := "java/lang/RuntimeException", name := "<init>", desc := "()V" } : Jvm.MethodName)) ∈ lw_all := lw_g (lw_at lw_m4 27 rfl) rfl
theorem q832 : (Jvm.Cond.code ({ cls := "java/lang/RuntimeException", name := "<init>", desc := "()V" } : Jvm.MethodName) prog_29_method_1_code (1 : Nat) (Option.none : Option Jvm.ClassFile.FieldType)) ∈ lw_all := lw_g (lw_at lw_m4 28 rfl) rfl
theorem q833 : (Jvm.Cond.methodLink "java/lang/RuntimeException" (1 : Nat) ({ cls := "java/lang/Exception", name := "<init>", desc := "()V" } : Jvm.MethodName)) ∈ lw_all := lw_g (lw_at lw_m4 29 rfl) rfl
/-! java/lang/IllegalArgumentException -/
set_option maxRecDepth 100000
def RJ7 : String := "java/lang/IllegalArgumentException"
def TJ7 : u_T := fun k => match k with
  | 0 => ("java/lang/Throwable", "cause", "Ljava/lang/Throwable;", false)
  | 1 => ("java/lang/Throwable", "stackTrace", "[Ljava/lang/StackTraceElement;", false)
  | 2 => ("java/lang/Throwable", "suppressedExceptions", "Ljava/util/List;", false)
  | 3 => ("java/lang/Throwable", "detailMessage", "Ljava/lang/String;", false)
  | 4 => ("java/lang/Throwable", "backtrace", "Ljava/lang/Object;", false)
  | _ => ("java/lang/Throwable", "depth", "I", false)
def tyJ7 : Nat → FieldType := fun k => match k with
  | 0 => .object "java/lang/Throwable"
  | 1 => .array (.object "java/lang/StackTraceElement")
  | 2 => .object "java/util/List"
  | 3 => .object "java/lang/String"
  | 4 => .object "java/lang/Object"
  | _ => .int
abbrev wsJ70 : List Cond := u_ws RJ7 TJ7 6
theorem nmJ7 : ∀ a, a < 6 → ∀ b, b < 6 → a ≠ b → (TJ7 a).2.1 ≠ (TJ7 b).2.1 := by decide +kernel
theorem tyJ7_ok : ∀ k, k < 6 → parseFieldDescriptor (TJ7 k).2.2.1 = some (tyJ7 k) := by decide +kernel
abbrev cJ7_init : ByteArray := prog_19_method_2_code
def yJ7_init : MethodName := ⟨RJ7, "<init>", "(Ljava/lang/String;)V"⟩
def dkwJ7_init_0 : List UInt8 := [42, 43, 183, 0, 7, 177]
abbrev dktJ7_init_0 : List UInt8 := dkwJ7_init_0 ++ []
theorem dksJ7_init_0 : cJ7_init.data.toList.drop 0 = dktJ7_init_0 := by decide +kernel
theorem dJ7_init_0 : decode cJ7_init 0 = .ok (.aload_n 0, 1) := dk_42 (dk_at dksJ7_init_0 0 rfl rfl)
theorem dJ7_init_1 : decode cJ7_init 1 = .ok (.aload_n 1, 1) := dk_43 (dk_at dksJ7_init_0 1 rfl rfl)
theorem dJ7_init_2 : decode cJ7_init 2 = .ok (.invokespecial 7, 3) := dk_183 0 7 (dk_at dksJ7_init_0 2 rfl rfl)
theorem dJ7_init_5 : decode cJ7_init 5 = .ok (.return_, 1) := dk_177 (dk_at dksJ7_init_0 5 rfl rfl)
abbrev cJ7_init_2 : ByteArray := prog_19_method_1_code
def yJ7_init_2 : MethodName := ⟨RJ7, "<init>", "()V"⟩
theorem dJ7_init_2_0 : decode cJ7_init_2 0 = .ok (.aload_n 0, 1) := by decide +kernel
theorem dJ7_init_2_1 : decode cJ7_init_2 1 = .ok (.invokespecial 1, 3) := by decide +kernel
theorem dJ7_init_2_4 : decode cJ7_init_2 4 = .ok (.return_, 1) := by decide +kernel
theorem q94 : (Jvm.Cond.initialized "java/lang/IllegalArgumentException") ∈ lw_all := lw_g (lw_at lw_m1 10 rfl) rfl
theorem q425 : (Jvm.Cond.instantiable "java/lang/IllegalArgumentException" (6 : Nat)) ∈ lw_all := lw_g (lw_at lw_m2 101 rfl) rfl
theorem q426 : (Jvm.Cond.castable "java/lang/IllegalArgumentException" "java/lang/IllegalArgumentException") ∈ lw_tbl := lw_at lw_m2 102 rfl
theorem q433 : (Jvm.Cond.selects "java/lang/IllegalArgumentException" ({ cls := "java/lang/Throwable", name := "fillInStackTrace", desc := "(I)Ljava/lang/Throwable;" } : Jvm.MethodName) ({ cls := "java/lang/Throwable", name := "fillInStackTrace", desc := "(I)Ljava/lang/Throwable;" } : Jvm.MethodName)) ∈ lw_all := lw_g (lw_at lw_m2 109 rfl) rfl
theorem q434 : (Jvm.Cond.selects "java/lang/IllegalArgumentException" ({ cls := "java/lang/Throwable", name := "fillInStackTrace", desc := "()Ljava/lang/Throwable;" } : Jvm.MethodName) ({ cls := "java/lang/Throwable", name := "fillInStackTrace", desc := "()Ljava/lang/Throwable;" } : Jvm.MethodName)) ∈ lw_all := lw_g (lw_at lw_m2 110 rfl) rfl
theorem q435 : (Jvm.Cond.lays "java/lang/IllegalArgumentException" "java/lang/Throwable" "cause" "Ljava/lang/Throwable;") ∈ lw_all := lw_g (lw_at lw_m2 111 rfl) rfl
theorem q437 : (Jvm.Cond.lays "java/lang/IllegalArgumentException" "java/lang/Throwable" "stackTrace" "[Ljava/lang/StackTraceElement;") ∈ lw_all := lw_g (lw_at lw_m2 113 rfl) rfl
theorem q439 : (Jvm.Cond.lays "java/lang/IllegalArgumentException" "java/lang/Throwable" "suppressedExceptions" "Ljava/util/List;") ∈ lw_all := lw_g (lw_at lw_m2 115 rfl) rfl
theorem q441 : (Jvm.Cond.lays "java/lang/IllegalArgumentException" "java/lang/Throwable" "detailMessage" "Ljava/lang/String;") ∈ lw_all := lw_g (lw_at lw_m2 117 rfl) rfl
theorem q443 : (Jvm.Cond.lays "java/lang/IllegalArgumentException" "java/lang/Throwable" "backtrace" "Ljava/lang/Object;") ∈ lw_all := lw_g (lw_at lw_m2 119 rfl) rfl
theorem q474 : (Jvm.Cond.instanceMethod ({ cls := "java/lang/IllegalArgumentException", name := "<init>", desc := "(Ljava/lang/String;)V" } : Jvm.MethodName)) ∈ lw_all := lw_g (lw_at lw_m2 150 rfl) rfl
theorem q475 : (Jvm.Cond.code ({ cls := "java/lang/IllegalArgumentException", name := "<init>", desc := "(Ljava/lang/String;)V" } : Jvm.MethodName) prog_19_method_2_code (2 : Nat) (Option.none : Option Jvm.ClassFile.FieldType)) ∈ lw_all := lw_g (lw_at lw_m2 151 rfl) rfl
theorem q476 : (Jvm.Cond.methodLink "java/lang/IllegalArgumentException" (7 : Nat) ({ cls := "java/lang/RuntimeException", name := "<init>", desc := "(Ljava/lang/String;)V" } : Jvm.MethodName)) ∈ lw_all := lw_g (lw_at lw_m2 152 rfl) rfl
theorem q494 : (Jvm.Cond.lays "java/lang/IllegalArgumentException" "java/lang/Throwable" "depth" "I") ∈ lw_all := lw_g (lw_at lw_m2 170 rfl) rfl
theorem q497 : (Jvm.Cond.superclass "java/lang/IllegalArgumentException" "java/lang/RuntimeException") ∈ lw_all := lw_g (lw_at lw_m2 173 rfl) rfl
theorem q828 : (Jvm.Cond.instanceMethod ({ cls := "java/lang/IllegalArgumentException", name := "<init>", desc := "()V" } : Jvm.MethodName)) ∈ lw_all := lw_g (lw_at lw_m4 24 rfl) rfl
theorem q829 : (Jvm.Cond.code ({ cls := "java/lang/IllegalArgumentException", name := "<init>", desc := "()V" } : Jvm.MethodName) prog_19_method_1_code (1 : Nat) (Option.none : Option Jvm.ClassFile.FieldType)) ∈ lw_all := lw_g (lw_at lw_m4 25 rfl) rfl
theorem q830 : (Jvm.Cond.methodLink "java/lang/IllegalArgumentException" (1 : Nat) ({ cls := "java/lang/RuntimeException", name := "<init>", desc := "()V" } : Jvm.MethodName)) ∈ lw_all := lw_g (lw_at lw_m4 26 rfl) rfl
theorem q906 : (Jvm.Cond.selects "java/lang/IllegalArgumentException" ({ cls := "java/lang/Object", name := "getClass", desc := "()Ljava/lang/Class;" } : Jvm.MethodName) ({ cls := "java/lang/Object", name := "getClass", desc := "()Ljava/lang/Class;" } : Jvm.MethodName)) ∈ lw_all := lw_g (lw_at lw_m4 102 rfl) rfl
theorem q2282 : (Jvm.Cond.castable "java/lang/IllegalArgumentException" "java/lang/Object") ∈ lw_tbl := lw_at lw_m10 38 rfl
theorem in_J7 : ∀ w ∈ wsJ70, w ∈ lw_all := lw_in wsJ70 [435, 437, 439, 441, 443, 494] (by decide +kernel) (by decide +kernel)
/-! java/lang/IndexOutOfBoundsException -/
set_option maxRecDepth 100000
def RJ8 : String := "java/lang/IndexOutOfBoundsException"
def TJ8 : u_T := fun k => match k with
  | 0 => ("java/lang/Throwable", "cause", "Ljava/lang/Throwable;", false)
  | 1 => ("java/lang/Throwable", "stackTrace", "[Ljava/lang/StackTraceElement;", false)
  | 2 => ("java/lang/Throwable", "suppressedExceptions", "Ljava/util/List;", false)
  | 3 => ("java/lang/Throwable", "detailMessage", "Ljava/lang/String;", false)
  | 4 => ("java/lang/Throwable", "backtrace", "Ljava/lang/Object;", false)
  | _ => ("java/lang/Throwable", "depth", "I", false)
def tyJ8 : Nat → FieldType := fun k => match k with
  | 0 => .object "java/lang/Throwable"
  | 1 => .array (.object "java/lang/StackTraceElement")
  | 2 => .object "java/util/List"
  | 3 => .object "java/lang/String"
  | 4 => .object "java/lang/Object"
  | _ => .int
abbrev wsJ80 : List Cond := u_ws RJ8 TJ8 6
theorem nmJ8 : ∀ a, a < 6 → ∀ b, b < 6 → a ≠ b → (TJ8 a).2.1 ≠ (TJ8 b).2.1 := by decide +kernel
theorem tyJ8_ok : ∀ k, k < 6 → parseFieldDescriptor (TJ8 k).2.2.1 = some (tyJ8 k) := by decide +kernel
abbrev cJ8_init : ByteArray := prog_21_method_2_code
def yJ8_init : MethodName := ⟨RJ8, "<init>", "(Ljava/lang/String;)V"⟩
def dkwJ8_init_0 : List UInt8 := [42, 43, 183, 0, 7, 177]
abbrev dktJ8_init_0 : List UInt8 := dkwJ8_init_0 ++ []
theorem dksJ8_init_0 : cJ8_init.data.toList.drop 0 = dktJ8_init_0 := by decide +kernel
theorem dJ8_init_0 : decode cJ8_init 0 = .ok (.aload_n 0, 1) := dk_42 (dk_at dksJ8_init_0 0 rfl rfl)
theorem dJ8_init_1 : decode cJ8_init 1 = .ok (.aload_n 1, 1) := dk_43 (dk_at dksJ8_init_0 1 rfl rfl)
theorem dJ8_init_2 : decode cJ8_init 2 = .ok (.invokespecial 7, 3) := dk_183 0 7 (dk_at dksJ8_init_0 2 rfl rfl)
theorem dJ8_init_5 : decode cJ8_init 5 = .ok (.return_, 1) := dk_177 (dk_at dksJ8_init_0 5 rfl rfl)
abbrev cJ8_init_2 : ByteArray := prog_21_method_1_code
def yJ8_init_2 : MethodName := ⟨RJ8, "<init>", "()V"⟩
theorem dJ8_init_2_0 : decode cJ8_init_2 0 = .ok (.aload_n 0, 1) := by decide +kernel
theorem dJ8_init_2_1 : decode cJ8_init_2 1 = .ok (.invokespecial 1, 3) := by decide +kernel
theorem dJ8_init_2_4 : decode cJ8_init_2 4 = .ok (.return_, 1) := by decide +kernel
theorem q95 : (Jvm.Cond.initialized "java/lang/IndexOutOfBoundsException") ∈ lw_all := lw_g (lw_at lw_m1 11 rfl) rfl
theorem q459 : (Jvm.Cond.selects "java/lang/IndexOutOfBoundsException" ({ cls := "java/lang/Throwable", name := "fillInStackTrace", desc := "()Ljava/lang/Throwable;" } : Jvm.MethodName) ({ cls := "java/lang/Throwable", name := "fillInStackTrace", desc := "()Ljava/lang/Throwable;" } : Jvm.MethodName)) ∈ lw_all := lw_g (lw_at lw_m2 135 rfl) rfl
theorem q523 : (Jvm.Cond.instanceMethod ({ cls := "java/lang/IndexOutOfBoundsException", name := "<init>", desc := "(Ljava/lang/String;)V" } : Jvm.MethodName)) ∈ lw_all := lw_g (lw_at lw_m2 199 rfl) rfl
theorem q524 : (Jvm.Cond.code ({ cls := "java/lang/IndexOutOfBoundsException", name := "<init>", desc := "(Ljava/lang/String;)V" } : Jvm.MethodName) prog_21_method_2_code (2 : Nat) (Option.none : Option Jvm.ClassFile.FieldType)) ∈ lw_all := lw_g (lw_at lw_m2 200 rfl) rfl
theorem q525 : (Jvm.Cond.methodLink "java/lang/IndexOutOfBoundsException" (7 : Nat) ({ cls := "java/lang/RuntimeException", name := "<init>", desc := "(Ljava/lang/String;)V" } : Jvm.MethodName)) ∈ lw_all := lw_g (lw_at lw_m2 201 rfl) rfl
theorem q548 : (Jvm.Cond.declares ({ cls := "java/lang/IndexOutOfBoundsException", name := "<init>", desc := "()V" } : Jvm.MethodName)) ∈ lw_tbl := lw_at lw_m2 224 rfl
theorem q549 : (Jvm.Cond.declares ({ cls := "java/lang/IndexOutOfBoundsException", name := "<init>", desc := "(Ljava/lang/String;)V" } : Jvm.MethodName)) ∈ lw_tbl := lw_at lw_m2 225 rfl
theorem q908 : (Jvm.Cond.selects "java/lang/IndexOutOfBoundsException" ({ cls := "java/lang/Object", name := "getClass", desc := "()Ljava/lang/Class;" } : Jvm.MethodName) ({ cls := "java/lang/Object", name := "getClass", desc := "()Ljava/lang/Class;" } : Jvm.MethodName)) ∈ lw_all := lw_g (lw_at lw_m4 104 rfl) rfl
theorem q1638 : (Jvm.Cond.instantiable "java/lang/IndexOutOfBoundsException" (6 : Nat)) ∈ lw_all := lw_g (lw_at lw_m7 114 rfl) rfl
theorem q1639 : (Jvm.Cond.castable "java/lang/IndexOutOfBoundsException" "java/lang/IndexOutOfBoundsException") ∈ lw_tbl := lw_at lw_m7 115 rfl
theorem q1640 : (Jvm.Cond.selects "java/lang/IndexOutOfBoundsException" ({ cls := "java/lang/Throwable", name := "fillInStackTrace", desc := "(I)Ljava/lang/Throwable;" } : Jvm.MethodName) ({ cls := "java/lang/Throwable", name := "fillInStackTrace", desc := "(I)Ljava/lang/Throwable;" } : Jvm.MethodName)) ∈ lw_all := lw_g (lw_at lw_m7 116 rfl) rfl
theorem q1641 : (Jvm.Cond.lays "java/lang/IndexOutOfBoundsException" "java/lang/Throwable" "cause" "Ljava/lang/Throwable;") ∈ lw_all := lw_g (lw_at lw_m7 117 rfl) rfl
theorem q1642 : (Jvm.Cond.lays "java/lang/IndexOutOfBoundsException" "java/lang/Throwable" "stackTrace" "[Ljava/lang/StackTraceElement;") ∈ lw_all := lw_g (lw_at lw_m7 118 rfl) rfl
theorem q1643 : (Jvm.Cond.lays "java/lang/IndexOutOfBoundsException" "java/lang/Throwable" "suppressedExceptions" "Ljava/util/List;") ∈ lw_all := lw_g (lw_at lw_m7 119 rfl) rfl
theorem q1644 : (Jvm.Cond.lays "java/lang/IndexOutOfBoundsException" "java/lang/Throwable" "detailMessage" "Ljava/lang/String;") ∈ lw_all := lw_g (lw_at lw_m7 120 rfl) rfl
theorem q1645 : (Jvm.Cond.lays "java/lang/IndexOutOfBoundsException" "java/lang/Throwable" "backtrace" "Ljava/lang/Object;") ∈ lw_all := lw_g (lw_at lw_m7 121 rfl) rfl
theorem q1647 : (Jvm.Cond.instanceMethod ({ cls := "java/lang/IndexOutOfBoundsException", name := "<init>", desc := "()V" } : Jvm.MethodName)) ∈ lw_all := lw_g (lw_at lw_m7 123 rfl) rfl
theorem q1648 : (Jvm.Cond.code ({ cls := "java/lang/IndexOutOfBoundsException", name := "<init>", desc := "()V" } : Jvm.MethodName) prog_21_method_1_code (1 : Nat) (Option.none : Option Jvm.ClassFile.FieldType)) ∈ lw_all := lw_g (lw_at lw_m7 124 rfl) rfl
theorem q1649 : (Jvm.Cond.methodLink "java/lang/IndexOutOfBoundsException" (1 : Nat) ({ cls := "java/lang/RuntimeException", name := "<init>", desc := "()V" } : Jvm.MethodName)) ∈ lw_all := lw_g (lw_at lw_m7 125 rfl) rfl
theorem q1650 : (Jvm.Cond.lays "java/lang/IndexOutOfBoundsException" "java/lang/Throwable" "depth" "I") ∈ lw_all := lw_g (lw_at lw_m7 126 rfl) rfl
theorem q1651 : (Jvm.Cond.superclass "java/lang/IndexOutOfBoundsException" "java/lang/RuntimeException") ∈ lw_all := lw_g (lw_at lw_m7 127 rfl) rfl
theorem q2284 : (Jvm.Cond.castable "java/lang/IndexOutOfBoundsException" "java/lang/Object") ∈ lw_tbl := lw_at lw_m10 40 rfl
theorem in_J8 : ∀ w ∈ wsJ80, w ∈ lw_all := lw_in wsJ80 [1641, 1642, 1643, 1644, 1645, 1650] (by decide +kernel) (by decide +kernel)
/-! java/lang/ArrayIndexOutOfBoundsException -/
set_option maxRecDepth 100000
def RJ9 : String := "java/lang/ArrayIndexOutOfBoundsException"
def TJ9 : u_T := fun k => match k with
  | 0 => ("java/lang/Throwable", "cause", "Ljava/lang/Throwable;", false)
  | 1 => ("java/lang/Throwable", "stackTrace", "[Ljava/lang/StackTraceElement;", false)
  | 2 => ("java/lang/Throwable", "suppressedExceptions", "Ljava/util/List;", false)
  | 3 => ("java/lang/Throwable", "detailMessage", "Ljava/lang/String;", false)
  | 4 => ("java/lang/Throwable", "backtrace", "Ljava/lang/Object;", false)
  | _ => ("java/lang/Throwable", "depth", "I", false)
def tyJ9 : Nat → FieldType := fun k => match k with
  | 0 => .object "java/lang/Throwable"
  | 1 => .array (.object "java/lang/StackTraceElement")
  | 2 => .object "java/util/List"
  | 3 => .object "java/lang/String"
  | 4 => .object "java/lang/Object"
  | _ => .int
abbrev wsJ90 : List Cond := u_ws RJ9 TJ9 6
theorem nmJ9 : ∀ a, a < 6 → ∀ b, b < 6 → a ≠ b → (TJ9 a).2.1 ≠ (TJ9 b).2.1 := by decide +kernel
theorem tyJ9_ok : ∀ k, k < 6 → parseFieldDescriptor (TJ9 k).2.2.1 = some (tyJ9 k) := by decide +kernel
abbrev cJ9_init : ByteArray := prog_14_method_3_code
def yJ9_init : MethodName := ⟨RJ9, "<init>", "(I)V"⟩
def dkwJ9_init_0 : List UInt8 := [42, 187, 0, 10, 89, 183, 0, 12, 18, 13, 182, 0, 15, 27, 182, 0, 19, 182, 0, 22, 183, 0, 7, 177]
abbrev dktJ9_init_0 : List UInt8 := dkwJ9_init_0 ++ []
theorem dksJ9_init_0 : cJ9_init.data.toList.drop 0 = dktJ9_init_0 := by decide +kernel
theorem dJ9_init_0 : decode cJ9_init 0 = .ok (.aload_n 0, 1) := dk_42 (dk_at dksJ9_init_0 0 rfl rfl)
theorem dJ9_init_1 : decode cJ9_init 1 = .ok (.new 10, 3) := dk_187 0 10 (dk_at dksJ9_init_0 1 rfl rfl)
theorem dJ9_init_4 : decode cJ9_init 4 = .ok (.dup, 1) := dk_89 (dk_at dksJ9_init_0 4 rfl rfl)
theorem dJ9_init_5 : decode cJ9_init 5 = .ok (.invokespecial 12, 3) := dk_183 0 12 (dk_at dksJ9_init_0 5 rfl rfl)
theorem dJ9_init_8 : decode cJ9_init 8 = .ok (.ldc 13, 2) := dk_18 13 (dk_at dksJ9_init_0 8 rfl rfl)
theorem dJ9_init_10 : decode cJ9_init 10 = .ok (.invokevirtual 15, 3) := dk_182 0 15 (dk_at dksJ9_init_0 10 rfl rfl)
theorem dJ9_init_13 : decode cJ9_init 13 = .ok (.iload_n 1, 1) := dk_27 (dk_at dksJ9_init_0 13 rfl rfl)
theorem dJ9_init_14 : decode cJ9_init 14 = .ok (.invokevirtual 19, 3) := dk_182 0 19 (dk_at dksJ9_init_0 14 rfl rfl)
theorem dJ9_init_17 : decode cJ9_init 17 = .ok (.invokevirtual 22, 3) := dk_182 0 22 (dk_at dksJ9_init_0 17 rfl rfl)
theorem dJ9_init_20 : decode cJ9_init 20 = .ok (.invokespecial 7, 3) := dk_183 0 7 (dk_at dksJ9_init_0 20 rfl rfl)
theorem dJ9_init_23 : decode cJ9_init 23 = .ok (.return_, 1) := dk_177 (dk_at dksJ9_init_0 23 rfl rfl)
abbrev cJ9_init_2 : ByteArray := prog_14_method_2_code
def yJ9_init_2 : MethodName := ⟨RJ9, "<init>", "(Ljava/lang/String;)V"⟩
def dkwJ9_init_2_0 : List UInt8 := [42, 43, 183, 0, 7, 177]
abbrev dktJ9_init_2_0 : List UInt8 := dkwJ9_init_2_0 ++ []
theorem dksJ9_init_2_0 : cJ9_init_2.data.toList.drop 0 = dktJ9_init_2_0 := by decide +kernel
theorem dJ9_init_2_0 : decode cJ9_init_2 0 = .ok (.aload_n 0, 1) := dk_42 (dk_at dksJ9_init_2_0 0 rfl rfl)
theorem dJ9_init_2_1 : decode cJ9_init_2 1 = .ok (.aload_n 1, 1) := dk_43 (dk_at dksJ9_init_2_0 1 rfl rfl)
theorem dJ9_init_2_2 : decode cJ9_init_2 2 = .ok (.invokespecial 7, 3) := dk_183 0 7 (dk_at dksJ9_init_2_0 2 rfl rfl)
theorem dJ9_init_2_5 : decode cJ9_init_2 5 = .ok (.return_, 1) := dk_177 (dk_at dksJ9_init_2_0 5 rfl rfl)
theorem q96 : (Jvm.Cond.initialized "java/lang/ArrayIndexOutOfBoundsException") ∈ lw_all := lw_g (lw_at lw_m1 12 rfl) rfl
theorem q457 : (Jvm.Cond.selects "java/lang/ArrayIndexOutOfBoundsException" ({ cls := "java/lang/Throwable", name := "fillInStackTrace", desc := "()Ljava/lang/Throwable;" } : Jvm.MethodName) ({ cls := "java/lang/Throwable", name := "fillInStackTrace", desc := "()Ljava/lang/Throwable;" } : Jvm.MethodName)) ∈ lw_all := lw_g (lw_at lw_m2 133 rfl) rfl
theorem q546 : (Jvm.Cond.instantiable "java/lang/ArrayIndexOutOfBoundsException" (6 : Nat)) ∈ lw_all := lw_g (lw_at lw_m2 222 rfl) rfl
theorem q547 : (Jvm.Cond.castable "java/lang/ArrayIndexOutOfBoundsException" "java/lang/ArrayIndexOutOfBoundsException") ∈ lw_tbl := lw_at lw_m2 223 rfl
theorem q550 : (Jvm.Cond.selects "java/lang/ArrayIndexOutOfBoundsException" ({ cls := "java/lang/Throwable", name := "fillInStackTrace", desc := "(I)Ljava/lang/Throwable;" } : Jvm.MethodName) ({ cls := "java/lang/Throwable", name := "fillInStackTrace", desc := "(I)Ljava/lang/Throwable;" } : Jvm.MethodName)) ∈ lw_all := lw_g (lw_at lw_m2 226 rfl) rfl
theorem q551 : (Jvm.Cond.lays "java/lang/ArrayIndexOutOfBoundsException" "java/lang/Throwable" "cause" "Ljava/lang/Throwable;") ∈ lw_all := lw_g (lw_at lw_m2 227 rfl) rfl
theorem q552 : (Jvm.Cond.lays "java/lang/ArrayIndexOutOfBoundsException" "java/lang/Throwable" "stackTrace" "[Ljava/lang/StackTraceElement;") ∈ lw_all := lw_g (lw_at lw_m2 228 rfl) rfl
theorem q553 : (Jvm.Cond.lays "java/lang/ArrayIndexOutOfBoundsException" "java/lang/Throwable" "suppressedExceptions" "Ljava/util/List;") ∈ lw_all := lw_g (lw_at lw_m2 229 rfl) rfl
theorem q554 : (Jvm.Cond.lays "java/lang/ArrayIndexOutOfBoundsException" "java/lang/Throwable" "detailMessage" "Ljava/lang/String;") ∈ lw_all := lw_g (lw_at lw_m2 230 rfl) rfl
theorem q555 : (Jvm.Cond.lays "java/lang/ArrayIndexOutOfBoundsException" "java/lang/Throwable" "backtrace" "Ljava/lang/Object;") ∈ lw_all := lw_g (lw_at lw_m2 231 rfl) rfl
theorem q557 : (Jvm.Cond.instanceMethod ({ cls := "java/lang/ArrayIndexOutOfBoundsException", name := "<init>", desc := "(I)V" } : Jvm.MethodName)) ∈ lw_all := lw_g (lw_at lw_m2 233 rfl) rfl
theorem q558 : (Jvm.Cond.code ({ cls := "java/lang/ArrayIndexOutOfBoundsException", name := "<init>", desc := "(I)V" } : Jvm.MethodName) prog_14_method_3_code (2 : Nat) (Option.none : Option Jvm.ClassFile.FieldType)) ∈ lw_all := lw_g (lw_at lw_m2 234 rfl) rfl
theorem q559 : (Jvm.Cond.classLink "java/lang/ArrayIndexOutOfBoundsException" (10 : Nat) "java/lang/StringBuilder") ∈ lw_all := lw_g (lw_at lw_m2 235 rfl) rfl
theorem q560 : (Jvm.Cond.methodLink "java/lang/ArrayIndexOutOfBoundsException" (12 : Nat) ({ cls := "java/lang/StringBuilder", name := "<init>", desc := "()V" } : Jvm.MethodName)) ∈ lw_all := lw_g (lw_at lw_m2 236 rfl) rfl
theorem q561 : (Jvm.Cond.stringRef "java/lang/ArrayIndexOutOfBoundsException" (13 : Nat) "Array index out of range: ") ∈ lw_tbl := lw_at lw_m2 237 rfl
theorem q562 : (Jvm.Cond.methodLink "java/lang/ArrayIndexOutOfBoundsException" (15 : Nat) ({ cls := "java/lang/StringBuilder", name := "append", desc := "(Ljava/lang/String;)Ljava/lang/StringBuilder;" } : Jvm.MethodName)) ∈ lw_all := lw_g (lw_at lw_m2 238 rfl) rfl
theorem q563 : (Jvm.Cond.methodLink "java/lang/ArrayIndexOutOfBoundsException" (19 : Nat) ({ cls := "java/lang/StringBuilder", name := "append", desc := "(I)Ljava/lang/StringBuilder;" } : Jvm.MethodName)) ∈ lw_all := lw_g (lw_at lw_m2 239 rfl) rfl
theorem q564 : (Jvm.Cond.methodLink "java/lang/ArrayIndexOutOfBoundsException" (22 : Nat) ({ cls := "java/lang/StringBuilder", name := "toString", desc := "()Ljava/lang/String;" } : Jvm.MethodName)) ∈ lw_all := lw_g (lw_at lw_m3 0 rfl) rfl
theorem q565 : (Jvm.Cond.methodLink "java/lang/ArrayIndexOutOfBoundsException" (7 : Nat) ({ cls := "java/lang/IndexOutOfBoundsException", name := "<init>", desc := "(Ljava/lang/String;)V" } : Jvm.MethodName)) ∈ lw_all := lw_g (lw_at lw_m3 1 rfl) rfl
theorem q566 : (Jvm.Cond.lays "java/lang/ArrayIndexOutOfBoundsException" "java/lang/Throwable" "depth" "I") ∈ lw_all := lw_g (lw_at lw_m3 2 rfl) rfl
theorem q567 : (Jvm.Cond.superclass "java/lang/ArrayIndexOutOfBoundsException" "java/lang/IndexOutOfBoundsException") ∈ lw_all := lw_g (lw_at lw_m3 3 rfl) rfl
theorem q905 : (Jvm.Cond.selects "java/lang/ArrayIndexOutOfBoundsException" ({ cls := "java/lang/Object", name := "getClass", desc := "()Ljava/lang/Class;" } : Jvm.MethodName) ({ cls := "java/lang/Object", name := "getClass", desc := "()Ljava/lang/Class;" } : Jvm.MethodName)) ∈ lw_all := lw_g (lw_at lw_m4 101 rfl) rfl
theorem q1623 : (Jvm.Cond.instanceMethod ({ cls := "java/lang/ArrayIndexOutOfBoundsException", name := "<init>", desc := "(Ljava/lang/String;)V" } : Jvm.MethodName)) ∈ lw_all := lw_g (lw_at lw_m7 99 rfl) rfl
theorem q1624 : (Jvm.Cond.code ({ cls := "java/lang/ArrayIndexOutOfBoundsException", name := "<init>", desc := "(Ljava/lang/String;)V" } : Jvm.MethodName) prog_14_method_2_code (2 : Nat) (Option.none : Option Jvm.ClassFile.FieldType)) ∈ lw_all := lw_g (lw_at lw_m7 100 rfl) rfl
theorem q2277 : (Jvm.Cond.castable "java/lang/ArrayIndexOutOfBoundsException" "java/lang/IndexOutOfBoundsException") ∈ lw_tbl := lw_at lw_m10 33 rfl
theorem q2283 : (Jvm.Cond.castable "java/lang/ArrayIndexOutOfBoundsException" "java/lang/Object") ∈ lw_tbl := lw_at lw_m10 39 rfl
theorem in_J9 : ∀ w ∈ wsJ90, w ∈ lw_all := lw_in wsJ90 [551, 552, 553, 554, 555, 566] (by decide +kernel) (by decide +kernel)
