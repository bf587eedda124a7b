/-! FlashRatchetModel -/
set_option maxRecDepth 100000
def RX2 : String := "FlashRatchetModel"
def TX2 : u_T := fun k => match k with
  | 0 => ("FlashRatchetModel", "thrown", "I", false)
  | 1 => ("FlashRatchetModel", "positions", "I", false)
  | 2 => ("FlashRatchetModel", "geared", "I", false)
  | 3 => ("FlashRatchetModel", "pawls", "I", false)
  | 4 => ("FlashRatchetModel", "table", "[I", true)
  | 5 => ("FlashRatchetModel", "position", "I", false)
  | 6 => ("FlashRatchetModel", "program", "I", false)
  | 7 => ("FlashRatchetModel", "index", "I", false)
  | 8 => ("FlashRatchetModel", "seed", "I", false)
  | 9 => ("FlashRatchetModel", "gain", "I", false)
  | 10 => ("FlashRatchetModel", "ticks", "I", false)
  | 11 => ("FlashRatchetModel", "length", "I", false)
  | 12 => ("FlashRatchetModel", "text", "[I", true)
  | 13 => ("FlashRatchetModel", "step", "I", false)
  | 14 => ("FlashRatchetModel", "lever", "I", false)
  | 15 => ("FlashRatchetModel", "at", "I", false)
  | 16 => ("FlashRatchetModel", "first", "I", false)
  | 17 => ("FlashRatchetModel", "letters", "I", false)
  | 18 => ("FlashRatchetModel", "items", "I", false)
  | 19 => ("FlashRatchetModel", "read", "[I", true)
  | 20 => ("FlashRatchetModel", "met", "[I", true)
  | 21 => ("FlashRatchetModel", "gained", "[I", true)
  | 22 => ("FlashRatchetModel", "now", "[J", true)
  | 23 => ("FlashRatchetModel", "next", "[J", true)
  | 24 => ("FlashRatchetModel", "lost", "J", false)
  | 25 => ("FlashRatchetModel", "won", "J", false)
  | 26 => ("FlashRatchetModel", "round", "[J", true)
  | 27 => ("FlashRatchetModel", "gains", "[J", true)
  | 28 => ("FlashRatchetModel", "here", "[J", true)
  | 29 => ("FlashRatchetModel", "then", "[J", true)
  | 30 => ("FlashRatchetModel", "scale", "J", false)
  | 31 => ("FlashRatchetModel", "classes", "I", false)
  | 32 => ("FlashRatchetModel", "weights", "[J", true)
  | 33 => ("FlashRatchetModel", "all", "J", false)
  | 34 => ("FlashRatchetModel", "numerator", "J", false)
  | 35 => ("FlashRatchetModel", "denominator", "J", false)
  | 36 => ("FlashRatchetModel", "bestProgram", "I", false)
  | 37 => ("FlashRatchetModel", "bestAbove", "J", false)
  | 38 => ("FlashRatchetModel", "bestBelow", "J", false)
  | _ => ("FlashRatchetModel", "h", "J", false)
def tyX2 : Nat → FieldType := fun k => match k with
  | 0 => .int
  | 1 => .int
  | 2 => .int
  | 3 => .int
  | 4 => .array .int
  | 5 => .int
  | 6 => .int
  | 7 => .int
  | 8 => .int
  | 9 => .int
  | 10 => .int
  | 11 => .int
  | 12 => .array .int
  | 13 => .int
  | 14 => .int
  | 15 => .int
  | 16 => .int
  | 17 => .int
  | 18 => .int
  | 19 => .array .int
  | 20 => .array .int
  | 21 => .array .int
  | 22 => .array .long
  | 23 => .array .long
  | 24 => .long
  | 25 => .long
  | 26 => .array .long
  | 27 => .array .long
  | 28 => .array .long
  | 29 => .array .long
  | 30 => .long
  | 31 => .int
  | 32 => .array .long
  | 33 => .long
  | 34 => .long
  | 35 => .long
  | 36 => .int
  | 37 => .long
  | 38 => .long
  | _ => .long
abbrev wsX20 : List Cond := u_ws RX2 TX2 40
set_option maxRecDepth 100000 in
theorem nmX2 : ∀ a, a < 40 → ∀ b, b < 40 → a ≠ b → (TX2 a).2.1 ≠ (TX2 b).2.1 := by decide +kernel
set_option maxRecDepth 100000 in
theorem tyX2_ok : ∀ k, k < 40 → parseFieldDescriptor (TX2 k).2.2.1 = some (tyX2 k) := by decide +kernel
abbrev cX2_init : ByteArray := prog_10_method_1_code
def yX2_init : MethodName := ⟨RX2, "<init>", "()V"⟩
def dkwX2_init_4 : List UInt8 := [181, 0, 44, 42, 6, 182, 0, 47, 177]
abbrev dktX2_init_4 : List UInt8 := dkwX2_init_4 ++ []
def dkwX2_init_3 : List UInt8 := [7, 188, 11, 181, 0, 35, 42, 7, 188, 11, 181, 0, 38, 42, 7, 188, 11, 181, 0, 41, 42, 7, 188, 11]
abbrev dktX2_init_3 : List UInt8 := dkwX2_init_3 ++ dktX2_init_4
def dkwX2_init_2 : List UInt8 := [16, 124, 188, 11, 181, 0, 25, 42, 16, 124, 188, 11, 181, 0, 29, 42, 16, 16, 188, 11, 181, 0, 32, 42]
abbrev dktX2_init_2 : List UInt8 := dkwX2_init_2 ++ dktX2_init_3
def dkwX2_init_1 : List UInt8 := [188, 10, 181, 0, 16, 42, 17, 62, 128, 188, 10, 181, 0, 19, 42, 17, 62, 128, 188, 10, 181, 0, 22, 42]
abbrev dktX2_init_1 : List UInt8 := dkwX2_init_1 ++ dktX2_init_2
def dkwX2_init_0 : List UInt8 := [42, 183, 0, 1, 42, 16, 24, 188, 10, 181, 0, 7, 42, 16, 60, 188, 10, 181, 0, 13, 42, 17, 1, 44]
abbrev dktX2_init_0 : List UInt8 := dkwX2_init_0 ++ dktX2_init_1
theorem dksX2_init_0 : cX2_init.data.toList.drop 0 = dktX2_init_0 := by decide +kernel
theorem dksX2_init_1 : cX2_init.data.toList.drop 24 = dktX2_init_1 := dk_seg dksX2_init_0 24 rfl rfl
theorem dksX2_init_2 : cX2_init.data.toList.drop 48 = dktX2_init_2 := dk_seg dksX2_init_1 24 rfl rfl
theorem dksX2_init_3 : cX2_init.data.toList.drop 72 = dktX2_init_3 := dk_seg dksX2_init_2 24 rfl rfl
theorem dksX2_init_4 : cX2_init.data.toList.drop 96 = dktX2_init_4 := dk_seg dksX2_init_3 24 rfl rfl
theorem dX2_init_0 : decode cX2_init 0 = .ok (.aload_n 0, 1) := dk_42 (dk_at dksX2_init_0 0 rfl rfl)
theorem dX2_init_1 : decode cX2_init 1 = .ok (.invokespecial 1, 3) := dk_183 0 1 (dk_at dksX2_init_0 1 rfl rfl)
theorem dX2_init_4 : decode cX2_init 4 = .ok (.aload_n 0, 1) := dk_42 (dk_at dksX2_init_0 4 rfl rfl)
theorem dX2_init_5 : decode cX2_init 5 = .ok (.bipush 24, 2) := dk_16 24 (dk_at dksX2_init_0 5 rfl rfl)
theorem dX2_init_7 : decode cX2_init 7 = .ok (.newarray .int, 2) := dk_188_10 (dk_at dksX2_init_0 7 rfl rfl)
theorem dX2_init_9 : decode cX2_init 9 = .ok (.putfield 7, 3) := dk_181 0 7 (dk_at dksX2_init_0 9 rfl rfl)
theorem dX2_init_12 : decode cX2_init 12 = .ok (.aload_n 0, 1) := dk_42 (dk_at dksX2_init_0 12 rfl rfl)
theorem dX2_init_13 : decode cX2_init 13 = .ok (.bipush 60, 2) := dk_16 60 (dk_at dksX2_init_0 13 rfl rfl)
theorem dX2_init_15 : decode cX2_init 15 = .ok (.newarray .int, 2) := dk_188_10 (dk_at dksX2_init_0 15 rfl rfl)
theorem dX2_init_17 : decode cX2_init 17 = .ok (.putfield 13, 3) := dk_181 0 13 (dk_at dksX2_init_0 17 rfl rfl)
theorem dX2_init_20 : decode cX2_init 20 = .ok (.aload_n 0, 1) := dk_42 (dk_at dksX2_init_0 20 rfl rfl)
theorem dX2_init_21 : decode cX2_init 21 = .ok (.sipush 300, 3) := dk_17 1 44 (dk_at dksX2_init_0 21 rfl rfl)
theorem dX2_init_24 : decode cX2_init 24 = .ok (.newarray .int, 2) := dk_188_10 (dk_at dksX2_init_1 0 rfl rfl)
theorem dX2_init_26 : decode cX2_init 26 = .ok (.putfield 16, 3) := dk_181 0 16 (dk_at dksX2_init_1 2 rfl rfl)
theorem dX2_init_29 : decode cX2_init 29 = .ok (.aload_n 0, 1) := dk_42 (dk_at dksX2_init_1 5 rfl rfl)
theorem dX2_init_30 : decode cX2_init 30 = .ok (.sipush 16000, 3) := dk_17 62 128 (dk_at dksX2_init_1 6 rfl rfl)
theorem dX2_init_33 : decode cX2_init 33 = .ok (.newarray .int, 2) := dk_188_10 (dk_at dksX2_init_1 9 rfl rfl)
theorem dX2_init_35 : decode cX2_init 35 = .ok (.putfield 19, 3) := dk_181 0 19 (dk_at dksX2_init_1 11 rfl rfl)
theorem dX2_init_38 : decode cX2_init 38 = .ok (.aload_n 0, 1) := dk_42 (dk_at dksX2_init_1 14 rfl rfl)
theorem dX2_init_39 : decode cX2_init 39 = .ok (.sipush 16000, 3) := dk_17 62 128 (dk_at dksX2_init_1 15 rfl rfl)
theorem dX2_init_42 : decode cX2_init 42 = .ok (.newarray .int, 2) := dk_188_10 (dk_at dksX2_init_1 18 rfl rfl)
theorem dX2_init_44 : decode cX2_init 44 = .ok (.putfield 22, 3) := dk_181 0 22 (dk_at dksX2_init_1 20 rfl rfl)
theorem dX2_init_47 : decode cX2_init 47 = .ok (.aload_n 0, 1) := dk_42 (dk_at dksX2_init_1 23 rfl rfl)
theorem dX2_init_48 : decode cX2_init 48 = .ok (.bipush 124, 2) := dk_16 124 (dk_at dksX2_init_2 0 rfl rfl)
theorem dX2_init_50 : decode cX2_init 50 = .ok (.newarray .long, 2) := dk_188_11 (dk_at dksX2_init_2 2 rfl rfl)
theorem dX2_init_52 : decode cX2_init 52 = .ok (.putfield 25, 3) := dk_181 0 25 (dk_at dksX2_init_2 4 rfl rfl)
theorem dX2_init_55 : decode cX2_init 55 = .ok (.aload_n 0, 1) := dk_42 (dk_at dksX2_init_2 7 rfl rfl)
theorem dX2_init_56 : decode cX2_init 56 = .ok (.bipush 124, 2) := dk_16 124 (dk_at dksX2_init_2 8 rfl rfl)
theorem dX2_init_58 : decode cX2_init 58 = .ok (.newarray .long, 2) := dk_188_11 (dk_at dksX2_init_2 10 rfl rfl)
theorem dX2_init_60 : decode cX2_init 60 = .ok (.putfield 29, 3) := dk_181 0 29 (dk_at dksX2_init_2 12 rfl rfl)
theorem dX2_init_63 : decode cX2_init 63 = .ok (.aload_n 0, 1) := dk_42 (dk_at dksX2_init_2 15 rfl rfl)
theorem dX2_init_64 : decode cX2_init 64 = .ok (.bipush 16, 2) := dk_16 16 (dk_at dksX2_init_2 16 rfl rfl)
theorem dX2_init_66 : decode cX2_init 66 = .ok (.newarray .long, 2) := dk_188_11 (dk_at dksX2_init_2 18 rfl rfl)
theorem dX2_init_68 : decode cX2_init 68 = .ok (.putfield 32, 3) := dk_181 0 32 (dk_at dksX2_init_2 20 rfl rfl)
theorem dX2_init_71 : decode cX2_init 71 = .ok (.aload_n 0, 1) := dk_42 (dk_at dksX2_init_2 23 rfl rfl)
theorem dX2_init_72 : decode cX2_init 72 = .ok (.iconst 4, 1) := dk_7 (dk_at dksX2_init_3 0 rfl rfl)
theorem dX2_init_73 : decode cX2_init 73 = .ok (.newarray .long, 2) := dk_188_11 (dk_at dksX2_init_3 1 rfl rfl)
theorem dX2_init_75 : decode cX2_init 75 = .ok (.putfield 35, 3) := dk_181 0 35 (dk_at dksX2_init_3 3 rfl rfl)
theorem dX2_init_78 : decode cX2_init 78 = .ok (.aload_n 0, 1) := dk_42 (dk_at dksX2_init_3 6 rfl rfl)
theorem dX2_init_79 : decode cX2_init 79 = .ok (.iconst 4, 1) := dk_7 (dk_at dksX2_init_3 7 rfl rfl)
theorem dX2_init_80 : decode cX2_init 80 = .ok (.newarray .long, 2) := dk_188_11 (dk_at dksX2_init_3 8 rfl rfl)
theorem dX2_init_82 : decode cX2_init 82 = .ok (.putfield 38, 3) := dk_181 0 38 (dk_at dksX2_init_3 10 rfl rfl)
theorem dX2_init_85 : decode cX2_init 85 = .ok (.aload_n 0, 1) := dk_42 (dk_at dksX2_init_3 13 rfl rfl)
theorem dX2_init_86 : decode cX2_init 86 = .ok (.iconst 4, 1) := dk_7 (dk_at dksX2_init_3 14 rfl rfl)
theorem dX2_init_87 : decode cX2_init 87 = .ok (.newarray .long, 2) := dk_188_11 (dk_at dksX2_init_3 15 rfl rfl)
theorem dX2_init_89 : decode cX2_init 89 = .ok (.putfield 41, 3) := dk_181 0 41 (dk_at dksX2_init_3 17 rfl rfl)
theorem dX2_init_92 : decode cX2_init 92 = .ok (.aload_n 0, 1) := dk_42 (dk_at dksX2_init_3 20 rfl rfl)
theorem dX2_init_93 : decode cX2_init 93 = .ok (.iconst 4, 1) := dk_7 (dk_at dksX2_init_3 21 rfl rfl)
theorem dX2_init_94 : decode cX2_init 94 = .ok (.newarray .long, 2) := dk_188_11 (dk_at dksX2_init_3 22 rfl rfl)
theorem dX2_init_96 : decode cX2_init 96 = .ok (.putfield 44, 3) := dk_181 0 44 (dk_at dksX2_init_4 0 rfl rfl)
theorem dX2_init_99 : decode cX2_init 99 = .ok (.aload_n 0, 1) := dk_42 (dk_at dksX2_init_4 3 rfl rfl)
theorem dX2_init_100 : decode cX2_init 100 = .ok (.iconst 3, 1) := dk_6 (dk_at dksX2_init_4 4 rfl rfl)
theorem dX2_init_101 : decode cX2_init 101 = .ok (.invokevirtual 47, 3) := dk_182 0 47 (dk_at dksX2_init_4 5 rfl rfl)
theorem dX2_init_104 : decode cX2_init 104 = .ok (.return_, 1) := dk_177 (dk_at dksX2_init_4 8 rfl rfl)
abbrev cX2_fresh : ByteArray := prog_10_method_9_code
def yX2_fresh : MethodName := ⟨RX2, "fresh", "(I)V"⟩
def dkwX2_fresh_2 : List UInt8 := [3, 181, 0, 78, 42, 3, 181, 0, 81, 42, 3, 181, 0, 84, 42, 3, 181, 0, 87, 177]
abbrev dktX2_fresh_2 : List UInt8 := dkwX2_fresh_2 ++ []
def dkwX2_fresh_1 : List UInt8 := [42, 180, 0, 7, 28, 3, 79, 132, 2, 1, 167, 255, 240, 42, 3, 181, 0, 72, 42, 4, 181, 0, 75, 42]
abbrev dktX2_fresh_1 : List UInt8 := dkwX2_fresh_1 ++ dktX2_fresh_2
def dkwX2_fresh_0 : List UInt8 := [42, 27, 181, 0, 55, 42, 16, 7, 181, 0, 66, 42, 3, 181, 0, 69, 3, 61, 28, 16, 24, 162, 0, 16]
abbrev dktX2_fresh_0 : List UInt8 := dkwX2_fresh_0 ++ dktX2_fresh_1
theorem dksX2_fresh_0 : cX2_fresh.data.toList.drop 0 = dktX2_fresh_0 := by decide +kernel
theorem dksX2_fresh_1 : cX2_fresh.data.toList.drop 24 = dktX2_fresh_1 := dk_seg dksX2_fresh_0 24 rfl rfl
theorem dksX2_fresh_2 : cX2_fresh.data.toList.drop 48 = dktX2_fresh_2 := dk_seg dksX2_fresh_1 24 rfl rfl
theorem dX2_fresh_0 : decode cX2_fresh 0 = .ok (.aload_n 0, 1) := dk_42 (dk_at dksX2_fresh_0 0 rfl rfl)
theorem dX2_fresh_1 : decode cX2_fresh 1 = .ok (.iload_n 1, 1) := dk_27 (dk_at dksX2_fresh_0 1 rfl rfl)
theorem dX2_fresh_2 : decode cX2_fresh 2 = .ok (.putfield 55, 3) := dk_181 0 55 (dk_at dksX2_fresh_0 2 rfl rfl)
theorem dX2_fresh_5 : decode cX2_fresh 5 = .ok (.aload_n 0, 1) := dk_42 (dk_at dksX2_fresh_0 5 rfl rfl)
theorem dX2_fresh_6 : decode cX2_fresh 6 = .ok (.bipush 7, 2) := dk_16 7 (dk_at dksX2_fresh_0 6 rfl rfl)
theorem dX2_fresh_8 : decode cX2_fresh 8 = .ok (.putfield 66, 3) := dk_181 0 66 (dk_at dksX2_fresh_0 8 rfl rfl)
theorem dX2_fresh_11 : decode cX2_fresh 11 = .ok (.aload_n 0, 1) := dk_42 (dk_at dksX2_fresh_0 11 rfl rfl)
theorem dX2_fresh_12 : decode cX2_fresh 12 = .ok (.iconst 0, 1) := dk_3 (dk_at dksX2_fresh_0 12 rfl rfl)
theorem dX2_fresh_13 : decode cX2_fresh 13 = .ok (.putfield 69, 3) := dk_181 0 69 (dk_at dksX2_fresh_0 13 rfl rfl)
theorem dX2_fresh_16 : decode cX2_fresh 16 = .ok (.iconst 0, 1) := dk_3 (dk_at dksX2_fresh_0 16 rfl rfl)
theorem dX2_fresh_17 : decode cX2_fresh 17 = .ok (.istore_n 2, 1) := dk_61 (dk_at dksX2_fresh_0 17 rfl rfl)
theorem dX2_fresh_18 : decode cX2_fresh 18 = .ok (.iload_n 2, 1) := dk_28 (dk_at dksX2_fresh_0 18 rfl rfl)
theorem dX2_fresh_19 : decode cX2_fresh 19 = .ok (.bipush 24, 2) := dk_16 24 (dk_at dksX2_fresh_0 19 rfl rfl)
theorem dX2_fresh_21 : decode cX2_fresh 21 = .ok (.if_icmp .ge 16, 3) := dk_162 0 16 (dk_at dksX2_fresh_0 21 rfl rfl)
theorem dX2_fresh_24 : decode cX2_fresh 24 = .ok (.aload_n 0, 1) := dk_42 (dk_at dksX2_fresh_1 0 rfl rfl)
theorem dX2_fresh_25 : decode cX2_fresh 25 = .ok (.getfield 7, 3) := dk_180 0 7 (dk_at dksX2_fresh_1 1 rfl rfl)
theorem dX2_fresh_28 : decode cX2_fresh 28 = .ok (.iload_n 2, 1) := dk_28 (dk_at dksX2_fresh_1 4 rfl rfl)
theorem dX2_fresh_29 : decode cX2_fresh 29 = .ok (.iconst 0, 1) := dk_3 (dk_at dksX2_fresh_1 5 rfl rfl)
theorem dX2_fresh_30 : decode cX2_fresh 30 = .ok (.iastore, 1) := dk_79 (dk_at dksX2_fresh_1 6 rfl rfl)
theorem dX2_fresh_31 : decode cX2_fresh 31 = .ok (.iinc 2 1, 3) := dk_132 2 1 (dk_at dksX2_fresh_1 7 rfl rfl)
theorem dX2_fresh_34 : decode cX2_fresh 34 = .ok (.goto (-16), 3) := dk_167 255 240 (dk_at dksX2_fresh_1 10 rfl rfl)
theorem dX2_fresh_37 : decode cX2_fresh 37 = .ok (.aload_n 0, 1) := dk_42 (dk_at dksX2_fresh_1 13 rfl rfl)
theorem dX2_fresh_38 : decode cX2_fresh 38 = .ok (.iconst 0, 1) := dk_3 (dk_at dksX2_fresh_1 14 rfl rfl)
theorem dX2_fresh_39 : decode cX2_fresh 39 = .ok (.putfield 72, 3) := dk_181 0 72 (dk_at dksX2_fresh_1 15 rfl rfl)
theorem dX2_fresh_42 : decode cX2_fresh 42 = .ok (.aload_n 0, 1) := dk_42 (dk_at dksX2_fresh_1 18 rfl rfl)
theorem dX2_fresh_43 : decode cX2_fresh 43 = .ok (.iconst 1, 1) := dk_4 (dk_at dksX2_fresh_1 19 rfl rfl)
theorem dX2_fresh_44 : decode cX2_fresh 44 = .ok (.putfield 75, 3) := dk_181 0 75 (dk_at dksX2_fresh_1 20 rfl rfl)
theorem dX2_fresh_47 : decode cX2_fresh 47 = .ok (.aload_n 0, 1) := dk_42 (dk_at dksX2_fresh_1 23 rfl rfl)
theorem dX2_fresh_48 : decode cX2_fresh 48 = .ok (.iconst 0, 1) := dk_3 (dk_at dksX2_fresh_2 0 rfl rfl)
theorem dX2_fresh_49 : decode cX2_fresh 49 = .ok (.putfield 78, 3) := dk_181 0 78 (dk_at dksX2_fresh_2 1 rfl rfl)
theorem dX2_fresh_52 : decode cX2_fresh 52 = .ok (.aload_n 0, 1) := dk_42 (dk_at dksX2_fresh_2 4 rfl rfl)
theorem dX2_fresh_53 : decode cX2_fresh 53 = .ok (.iconst 0, 1) := dk_3 (dk_at dksX2_fresh_2 5 rfl rfl)
theorem dX2_fresh_54 : decode cX2_fresh 54 = .ok (.putfield 81, 3) := dk_181 0 81 (dk_at dksX2_fresh_2 6 rfl rfl)
theorem dX2_fresh_57 : decode cX2_fresh 57 = .ok (.aload_n 0, 1) := dk_42 (dk_at dksX2_fresh_2 9 rfl rfl)
theorem dX2_fresh_58 : decode cX2_fresh 58 = .ok (.iconst 0, 1) := dk_3 (dk_at dksX2_fresh_2 10 rfl rfl)
theorem dX2_fresh_59 : decode cX2_fresh 59 = .ok (.putfield 84, 3) := dk_181 0 84 (dk_at dksX2_fresh_2 11 rfl rfl)
theorem dX2_fresh_62 : decode cX2_fresh 62 = .ok (.aload_n 0, 1) := dk_42 (dk_at dksX2_fresh_2 14 rfl rfl)
theorem dX2_fresh_63 : decode cX2_fresh 63 = .ok (.iconst 0, 1) := dk_3 (dk_at dksX2_fresh_2 15 rfl rfl)
theorem dX2_fresh_64 : decode cX2_fresh 64 = .ok (.putfield 87, 3) := dk_181 0 87 (dk_at dksX2_fresh_2 16 rfl rfl)
theorem dX2_fresh_67 : decode cX2_fresh 67 = .ok (.return_, 1) := dk_177 (dk_at dksX2_fresh_2 19 rfl rfl)
abbrev cX2_thrown : ByteArray := prog_10_method_2_code
def yX2_thrown : MethodName := ⟨RX2, "thrown", "()I"⟩
theorem dX2_thrown_0 : decode cX2_thrown 0 = .ok (.aload_n 0, 1) := by decide +kernel
theorem dX2_thrown_1 : decode cX2_thrown 1 = .ok (.getfield 51, 3) := by decide +kernel
theorem dX2_thrown_4 : decode cX2_thrown 4 = .ok (.ireturn, 1) := by decide +kernel
abbrev cX2_begin : ByteArray := prog_10_method_14_code
def yX2_begin : MethodName := ⟨RX2, "begin", "(I)I"⟩
def dkwX2_begin_1 : List UInt8 := [158, 0, 5, 3, 172, 42, 180, 0, 55, 61, 42, 27, 182, 0, 47, 28, 172]
abbrev dktX2_begin_1 : List UInt8 := dkwX2_begin_1 ++ []
def dkwX2_begin_0 : List UInt8 := [42, 27, 5, 7, 184, 0, 58, 153, 0, 7, 3, 167, 0, 4, 4, 181, 0, 51, 42, 180, 0, 51]
abbrev dktX2_begin_0 : List UInt8 := dkwX2_begin_0 ++ dktX2_begin_1
theorem dksX2_begin_0 : cX2_begin.data.toList.drop 0 = dktX2_begin_0 := by decide +kernel
theorem dksX2_begin_1 : cX2_begin.data.toList.drop 22 = dktX2_begin_1 := dk_seg dksX2_begin_0 22 rfl rfl
theorem dX2_begin_0 : decode cX2_begin 0 = .ok (.aload_n 0, 1) := dk_42 (dk_at dksX2_begin_0 0 rfl rfl)
theorem dX2_begin_1 : decode cX2_begin 1 = .ok (.iload_n 1, 1) := dk_27 (dk_at dksX2_begin_0 1 rfl rfl)
theorem dX2_begin_2 : decode cX2_begin 2 = .ok (.iconst 2, 1) := dk_5 (dk_at dksX2_begin_0 2 rfl rfl)
theorem dX2_begin_3 : decode cX2_begin 3 = .ok (.iconst 4, 1) := dk_7 (dk_at dksX2_begin_0 3 rfl rfl)
theorem dX2_begin_4 : decode cX2_begin 4 = .ok (.invokestatic 58, 3) := dk_184 0 58 (dk_at dksX2_begin_0 4 rfl rfl)
theorem dX2_begin_7 : decode cX2_begin 7 = .ok (.ifCond .eq 7, 3) := dk_153 0 7 (dk_at dksX2_begin_0 7 rfl rfl)
theorem dX2_begin_10 : decode cX2_begin 10 = .ok (.iconst 0, 1) := dk_3 (dk_at dksX2_begin_0 10 rfl rfl)
theorem dX2_begin_11 : decode cX2_begin 11 = .ok (.goto 4, 3) := dk_167 0 4 (dk_at dksX2_begin_0 11 rfl rfl)
theorem dX2_begin_14 : decode cX2_begin 14 = .ok (.iconst 1, 1) := dk_4 (dk_at dksX2_begin_0 14 rfl rfl)
theorem dX2_begin_15 : decode cX2_begin 15 = .ok (.putfield 51, 3) := dk_181 0 51 (dk_at dksX2_begin_0 15 rfl rfl)
theorem dX2_begin_18 : decode cX2_begin 18 = .ok (.aload_n 0, 1) := dk_42 (dk_at dksX2_begin_0 18 rfl rfl)
theorem dX2_begin_19 : decode cX2_begin 19 = .ok (.getfield 51, 3) := dk_180 0 51 (dk_at dksX2_begin_0 19 rfl rfl)
theorem dX2_begin_22 : decode cX2_begin 22 = .ok (.ifCond .le 5, 3) := dk_158 0 5 (dk_at dksX2_begin_1 0 rfl rfl)
theorem dX2_begin_25 : decode cX2_begin 25 = .ok (.iconst 0, 1) := dk_3 (dk_at dksX2_begin_1 3 rfl rfl)
theorem dX2_begin_26 : decode cX2_begin 26 = .ok (.ireturn, 1) := dk_172 (dk_at dksX2_begin_1 4 rfl rfl)
theorem dX2_begin_27 : decode cX2_begin 27 = .ok (.aload_n 0, 1) := dk_42 (dk_at dksX2_begin_1 5 rfl rfl)
theorem dX2_begin_28 : decode cX2_begin 28 = .ok (.getfield 55, 3) := dk_180 0 55 (dk_at dksX2_begin_1 6 rfl rfl)
theorem dX2_begin_31 : decode cX2_begin 31 = .ok (.istore_n 2, 1) := dk_61 (dk_at dksX2_begin_1 9 rfl rfl)
theorem dX2_begin_32 : decode cX2_begin 32 = .ok (.aload_n 0, 1) := dk_42 (dk_at dksX2_begin_1 10 rfl rfl)
theorem dX2_begin_33 : decode cX2_begin 33 = .ok (.iload_n 1, 1) := dk_27 (dk_at dksX2_begin_1 11 rfl rfl)
theorem dX2_begin_34 : decode cX2_begin 34 = .ok (.invokevirtual 47, 3) := dk_182 0 47 (dk_at dksX2_begin_1 12 rfl rfl)
theorem dX2_begin_37 : decode cX2_begin 37 = .ok (.iload_n 2, 1) := dk_28 (dk_at dksX2_begin_1 15 rfl rfl)
theorem dX2_begin_38 : decode cX2_begin 38 = .ok (.ireturn, 1) := dk_172 (dk_at dksX2_begin_1 16 rfl rfl)
abbrev cX2_within : ByteArray := prog_10_method_3_code
def yX2_within : MethodName := ⟨RX2, "within", "(III)Z"⟩
def dkwX2_within_0 : List UInt8 := [26, 27, 161, 0, 12, 26, 28, 163, 0, 7, 4, 167, 0, 4, 3, 172]
abbrev dktX2_within_0 : List UInt8 := dkwX2_within_0 ++ []
theorem dksX2_within_0 : cX2_within.data.toList.drop 0 = dktX2_within_0 := by decide +kernel
theorem dX2_within_0 : decode cX2_within 0 = .ok (.iload_n 0, 1) := dk_26 (dk_at dksX2_within_0 0 rfl rfl)
theorem dX2_within_1 : decode cX2_within 1 = .ok (.iload_n 1, 1) := dk_27 (dk_at dksX2_within_0 1 rfl rfl)
theorem dX2_within_2 : decode cX2_within 2 = .ok (.if_icmp .lt 12, 3) := dk_161 0 12 (dk_at dksX2_within_0 2 rfl rfl)
theorem dX2_within_5 : decode cX2_within 5 = .ok (.iload_n 0, 1) := dk_26 (dk_at dksX2_within_0 5 rfl rfl)
theorem dX2_within_6 : decode cX2_within 6 = .ok (.iload_n 2, 1) := dk_28 (dk_at dksX2_within_0 6 rfl rfl)
theorem dX2_within_7 : decode cX2_within 7 = .ok (.if_icmp .gt 7, 3) := dk_163 0 7 (dk_at dksX2_within_0 7 rfl rfl)
theorem dX2_within_10 : decode cX2_within 10 = .ok (.iconst 1, 1) := dk_4 (dk_at dksX2_within_0 10 rfl rfl)
theorem dX2_within_11 : decode cX2_within 11 = .ok (.goto 4, 3) := dk_167 0 4 (dk_at dksX2_within_0 11 rfl rfl)
theorem dX2_within_14 : decode cX2_within 14 = .ok (.iconst 0, 1) := dk_3 (dk_at dksX2_within_0 14 rfl rfl)
theorem dX2_within_15 : decode cX2_within 15 = .ok (.ireturn, 1) := dk_172 (dk_at dksX2_within_0 15 rfl rfl)
abbrev cX2_setTable : ByteArray := prog_10_method_17_code
def yX2_setTable : MethodName := ⟨RX2, "setTable", "(IIII)I"⟩
def dkwX2_setTable_4 : List UInt8 := [182, 0, 104, 21, 6, 172]
abbrev dktX2_setTable_4 : List UInt8 := dkwX2_setTable_4 ++ []
def dkwX2_setTable_3 : List UInt8 := [180, 0, 51, 158, 0, 5, 3, 172, 42, 27, 28, 182, 0, 100, 54, 6, 42, 27, 28, 29, 21, 4]
abbrev dktX2_setTable_3 : List UInt8 := dkwX2_setTable_3 ++ dktX2_setTable_4
def dkwX2_setTable_2 : List UInt8 := [182, 0, 97, 154, 0, 7, 4, 167, 0, 13, 21, 5, 153, 0, 7, 3, 167, 0, 4, 5, 181, 0, 51, 42]
abbrev dktX2_setTable_2 : List UInt8 := dkwX2_setTable_2 ++ dktX2_setTable_3
def dkwX2_setTable_1 : List UInt8 := [96, 16, 10, 163, 0, 7, 4, 167, 0, 4, 3, 54, 5, 42, 27, 184, 0, 94, 153, 0, 11, 42, 28]
abbrev dktX2_setTable_1 : List UInt8 := dkwX2_setTable_1 ++ dktX2_setTable_2
def dkwX2_setTable_0 : List UInt8 := [29, 3, 16, 10, 184, 0, 58, 153, 0, 27, 21, 4, 3, 16, 10, 184, 0, 58, 153, 0, 16, 29, 21, 4]
abbrev dktX2_setTable_0 : List UInt8 := dkwX2_setTable_0 ++ dktX2_setTable_1
theorem dksX2_setTable_0 : cX2_setTable.data.toList.drop 0 = dktX2_setTable_0 := by decide +kernel
theorem dksX2_setTable_1 : cX2_setTable.data.toList.drop 24 = dktX2_setTable_1 := dk_seg dksX2_setTable_0 24 rfl rfl
theorem dksX2_setTable_2 : cX2_setTable.data.toList.drop 47 = dktX2_setTable_2 := dk_seg dksX2_setTable_1 23 rfl rfl
theorem dksX2_setTable_3 : cX2_setTable.data.toList.drop 71 = dktX2_setTable_3 := dk_seg dksX2_setTable_2 24 rfl rfl
theorem dksX2_setTable_4 : cX2_setTable.data.toList.drop 93 = dktX2_setTable_4 := dk_seg dksX2_setTable_3 22 rfl rfl
theorem dX2_setTable_0 : decode cX2_setTable 0 = .ok (.iload_n 3, 1) := dk_29 (dk_at dksX2_setTable_0 0 rfl rfl)
theorem dX2_setTable_1 : decode cX2_setTable 1 = .ok (.iconst 0, 1) := dk_3 (dk_at dksX2_setTable_0 1 rfl rfl)
theorem dX2_setTable_2 : decode cX2_setTable 2 = .ok (.bipush 10, 2) := dk_16 10 (dk_at dksX2_setTable_0 2 rfl rfl)
theorem dX2_setTable_4 : decode cX2_setTable 4 = .ok (.invokestatic 58, 3) := dk_184 0 58 (dk_at dksX2_setTable_0 4 rfl rfl)
theorem dX2_setTable_7 : decode cX2_setTable 7 = .ok (.ifCond .eq 27, 3) := dk_153 0 27 (dk_at dksX2_setTable_0 7 rfl rfl)
theorem dX2_setTable_10 : decode cX2_setTable 10 = .ok (.iload 4, 2) := dk_21 4 (dk_at dksX2_setTable_0 10 rfl rfl)
theorem dX2_setTable_12 : decode cX2_setTable 12 = .ok (.iconst 0, 1) := dk_3 (dk_at dksX2_setTable_0 12 rfl rfl)
theorem dX2_setTable_13 : decode cX2_setTable 13 = .ok (.bipush 10, 2) := dk_16 10 (dk_at dksX2_setTable_0 13 rfl rfl)
theorem dX2_setTable_15 : decode cX2_setTable 15 = .ok (.invokestatic 58, 3) := dk_184 0 58 (dk_at dksX2_setTable_0 15 rfl rfl)
theorem dX2_setTable_18 : decode cX2_setTable 18 = .ok (.ifCond .eq 16, 3) := dk_153 0 16 (dk_at dksX2_setTable_0 18 rfl rfl)
theorem dX2_setTable_21 : decode cX2_setTable 21 = .ok (.iload_n 3, 1) := dk_29 (dk_at dksX2_setTable_0 21 rfl rfl)
theorem dX2_setTable_22 : decode cX2_setTable 22 = .ok (.iload 4, 2) := dk_21 4 (dk_at dksX2_setTable_0 22 rfl rfl)
theorem dX2_setTable_24 : decode cX2_setTable 24 = .ok (.iadd, 1) := dk_96 (dk_at dksX2_setTable_1 0 rfl rfl)
theorem dX2_setTable_25 : decode cX2_setTable 25 = .ok (.bipush 10, 2) := dk_16 10 (dk_at dksX2_setTable_1 1 rfl rfl)
theorem dX2_setTable_27 : decode cX2_setTable 27 = .ok (.if_icmp .gt 7, 3) := dk_163 0 7 (dk_at dksX2_setTable_1 3 rfl rfl)
theorem dX2_setTable_30 : decode cX2_setTable 30 = .ok (.iconst 1, 1) := dk_4 (dk_at dksX2_setTable_1 6 rfl rfl)
theorem dX2_setTable_31 : decode cX2_setTable 31 = .ok (.goto 4, 3) := dk_167 0 4 (dk_at dksX2_setTable_1 7 rfl rfl)
theorem dX2_setTable_34 : decode cX2_setTable 34 = .ok (.iconst 0, 1) := dk_3 (dk_at dksX2_setTable_1 10 rfl rfl)
theorem dX2_setTable_35 : decode cX2_setTable 35 = .ok (.istore 5, 2) := dk_54 5 (dk_at dksX2_setTable_1 11 rfl rfl)
theorem dX2_setTable_37 : decode cX2_setTable 37 = .ok (.aload_n 0, 1) := dk_42 (dk_at dksX2_setTable_1 13 rfl rfl)
theorem dX2_setTable_38 : decode cX2_setTable 38 = .ok (.iload_n 1, 1) := dk_27 (dk_at dksX2_setTable_1 14 rfl rfl)
theorem dX2_setTable_39 : decode cX2_setTable 39 = .ok (.invokestatic 94, 3) := dk_184 0 94 (dk_at dksX2_setTable_1 15 rfl rfl)
theorem dX2_setTable_42 : decode cX2_setTable 42 = .ok (.ifCond .eq 11, 3) := dk_153 0 11 (dk_at dksX2_setTable_1 18 rfl rfl)
theorem dX2_setTable_45 : decode cX2_setTable 45 = .ok (.aload_n 0, 1) := dk_42 (dk_at dksX2_setTable_1 21 rfl rfl)
theorem dX2_setTable_46 : decode cX2_setTable 46 = .ok (.iload_n 2, 1) := dk_28 (dk_at dksX2_setTable_1 22 rfl rfl)
theorem dX2_setTable_47 : decode cX2_setTable 47 = .ok (.invokevirtual 97, 3) := dk_182 0 97 (dk_at dksX2_setTable_2 0 rfl rfl)
theorem dX2_setTable_50 : decode cX2_setTable 50 = .ok (.ifCond .ne 7, 3) := dk_154 0 7 (dk_at dksX2_setTable_2 3 rfl rfl)
theorem dX2_setTable_53 : decode cX2_setTable 53 = .ok (.iconst 1, 1) := dk_4 (dk_at dksX2_setTable_2 6 rfl rfl)
theorem dX2_setTable_54 : decode cX2_setTable 54 = .ok (.goto 13, 3) := dk_167 0 13 (dk_at dksX2_setTable_2 7 rfl rfl)
theorem dX2_setTable_57 : decode cX2_setTable 57 = .ok (.iload 5, 2) := dk_21 5 (dk_at dksX2_setTable_2 10 rfl rfl)
theorem dX2_setTable_59 : decode cX2_setTable 59 = .ok (.ifCond .eq 7, 3) := dk_153 0 7 (dk_at dksX2_setTable_2 12 rfl rfl)
theorem dX2_setTable_62 : decode cX2_setTable 62 = .ok (.iconst 0, 1) := dk_3 (dk_at dksX2_setTable_2 15 rfl rfl)
theorem dX2_setTable_63 : decode cX2_setTable 63 = .ok (.goto 4, 3) := dk_167 0 4 (dk_at dksX2_setTable_2 16 rfl rfl)
theorem dX2_setTable_66 : decode cX2_setTable 66 = .ok (.iconst 2, 1) := dk_5 (dk_at dksX2_setTable_2 19 rfl rfl)
theorem dX2_setTable_67 : decode cX2_setTable 67 = .ok (.putfield 51, 3) := dk_181 0 51 (dk_at dksX2_setTable_2 20 rfl rfl)
theorem dX2_setTable_70 : decode cX2_setTable 70 = .ok (.aload_n 0, 1) := dk_42 (dk_at dksX2_setTable_2 23 rfl rfl)
theorem dX2_setTable_71 : decode cX2_setTable 71 = .ok (.getfield 51, 3) := dk_180 0 51 (dk_at dksX2_setTable_3 0 rfl rfl)
theorem dX2_setTable_74 : decode cX2_setTable 74 = .ok (.ifCond .le 5, 3) := dk_158 0 5 (dk_at dksX2_setTable_3 3 rfl rfl)
theorem dX2_setTable_77 : decode cX2_setTable 77 = .ok (.iconst 0, 1) := dk_3 (dk_at dksX2_setTable_3 6 rfl rfl)
theorem dX2_setTable_78 : decode cX2_setTable 78 = .ok (.ireturn, 1) := dk_172 (dk_at dksX2_setTable_3 7 rfl rfl)
theorem dX2_setTable_79 : decode cX2_setTable 79 = .ok (.aload_n 0, 1) := dk_42 (dk_at dksX2_setTable_3 8 rfl rfl)
theorem dX2_setTable_80 : decode cX2_setTable 80 = .ok (.iload_n 1, 1) := dk_27 (dk_at dksX2_setTable_3 9 rfl rfl)
theorem dX2_setTable_81 : decode cX2_setTable 81 = .ok (.iload_n 2, 1) := dk_28 (dk_at dksX2_setTable_3 10 rfl rfl)
theorem dX2_setTable_82 : decode cX2_setTable 82 = .ok (.invokevirtual 100, 3) := dk_182 0 100 (dk_at dksX2_setTable_3 11 rfl rfl)
theorem dX2_setTable_85 : decode cX2_setTable 85 = .ok (.istore 6, 2) := dk_54 6 (dk_at dksX2_setTable_3 14 rfl rfl)
theorem dX2_setTable_87 : decode cX2_setTable 87 = .ok (.aload_n 0, 1) := dk_42 (dk_at dksX2_setTable_3 16 rfl rfl)
theorem dX2_setTable_88 : decode cX2_setTable 88 = .ok (.iload_n 1, 1) := dk_27 (dk_at dksX2_setTable_3 17 rfl rfl)
theorem dX2_setTable_89 : decode cX2_setTable 89 = .ok (.iload_n 2, 1) := dk_28 (dk_at dksX2_setTable_3 18 rfl rfl)
theorem dX2_setTable_90 : decode cX2_setTable 90 = .ok (.iload_n 3, 1) := dk_29 (dk_at dksX2_setTable_3 19 rfl rfl)
theorem dX2_setTable_91 : decode cX2_setTable 91 = .ok (.iload 4, 2) := dk_21 4 (dk_at dksX2_setTable_3 20 rfl rfl)
theorem dX2_setTable_93 : decode cX2_setTable 93 = .ok (.invokevirtual 104, 3) := dk_182 0 104 (dk_at dksX2_setTable_4 0 rfl rfl)
theorem dX2_setTable_96 : decode cX2_setTable 96 = .ok (.iload 6, 2) := dk_21 6 (dk_at dksX2_setTable_4 3 rfl rfl)
theorem dX2_setTable_98 : decode cX2_setTable 98 = .ok (.ireturn, 1) := dk_172 (dk_at dksX2_setTable_4 5 rfl rfl)
abbrev cX2_isLever : ByteArray := prog_10_method_5_code
def yX2_isLever : MethodName := ⟨RX2, "isLever", "(I)Z"⟩
def dkwX2_isLever_0 : List UInt8 := [26, 3, 5, 184, 0, 58, 172]
abbrev dktX2_isLever_0 : List UInt8 := dkwX2_isLever_0 ++ []
theorem dksX2_isLever_0 : cX2_isLever.data.toList.drop 0 = dktX2_isLever_0 := by decide +kernel
theorem dX2_isLever_0 : decode cX2_isLever 0 = .ok (.iload_n 0, 1) := dk_26 (dk_at dksX2_isLever_0 0 rfl rfl)
theorem dX2_isLever_1 : decode cX2_isLever 1 = .ok (.iconst 0, 1) := dk_3 (dk_at dksX2_isLever_0 1 rfl rfl)
theorem dX2_isLever_2 : decode cX2_isLever 2 = .ok (.iconst 2, 1) := dk_5 (dk_at dksX2_isLever_0 2 rfl rfl)
theorem dX2_isLever_3 : decode cX2_isLever 3 = .ok (.invokestatic 58, 3) := dk_184 0 58 (dk_at dksX2_isLever_0 3 rfl rfl)
theorem dX2_isLever_6 : decode cX2_isLever 6 = .ok (.ireturn, 1) := dk_172 (dk_at dksX2_isLever_0 6 rfl rfl)
abbrev cX2_isPosition : ByteArray := prog_10_method_4_code
def yX2_isPosition : MethodName := ⟨RX2, "isPosition", "(I)Z"⟩
def dkwX2_isPosition_0 : List UInt8 := [27, 3, 42, 180, 0, 55, 4, 100, 184, 0, 58, 172]
abbrev dktX2_isPosition_0 : List UInt8 := dkwX2_isPosition_0 ++ []
theorem dksX2_isPosition_0 : cX2_isPosition.data.toList.drop 0 = dktX2_isPosition_0 := by decide +kernel
theorem dX2_isPosition_0 : decode cX2_isPosition 0 = .ok (.iload_n 1, 1) := dk_27 (dk_at dksX2_isPosition_0 0 rfl rfl)
theorem dX2_isPosition_1 : decode cX2_isPosition 1 = .ok (.iconst 0, 1) := dk_3 (dk_at dksX2_isPosition_0 1 rfl rfl)
theorem dX2_isPosition_2 : decode cX2_isPosition 2 = .ok (.aload_n 0, 1) := dk_42 (dk_at dksX2_isPosition_0 2 rfl rfl)
theorem dX2_isPosition_3 : decode cX2_isPosition 3 = .ok (.getfield 55, 3) := dk_180 0 55 (dk_at dksX2_isPosition_0 3 rfl rfl)
theorem dX2_isPosition_6 : decode cX2_isPosition 6 = .ok (.iconst 1, 1) := dk_4 (dk_at dksX2_isPosition_0 6 rfl rfl)
theorem dX2_isPosition_7 : decode cX2_isPosition 7 = .ok (.isub, 1) := dk_100 (dk_at dksX2_isPosition_0 7 rfl rfl)
theorem dX2_isPosition_8 : decode cX2_isPosition 8 = .ok (.invokestatic 58, 3) := dk_184 0 58 (dk_at dksX2_isPosition_0 8 rfl rfl)
theorem dX2_isPosition_11 : decode cX2_isPosition 11 = .ok (.ireturn, 1) := dk_172 (dk_at dksX2_isPosition_0 11 rfl rfl)
abbrev cX2_told : ByteArray := prog_10_method_15_code
def yX2_told : MethodName := ⟨RX2, "told", "(II)I"⟩
def dkwX2_told_1 : List UInt8 := [5, 28, 104, 96, 4, 96, 46, 96, 172]
abbrev dktX2_told_1 : List UInt8 := dkwX2_told_1 ++ []
def dkwX2_told_0 : List UInt8 := [16, 100, 42, 180, 0, 7, 16, 8, 27, 104, 5, 28, 104, 96, 46, 104, 42, 180, 0, 7, 16, 8, 27, 104]
abbrev dktX2_told_0 : List UInt8 := dkwX2_told_0 ++ dktX2_told_1
theorem dksX2_told_0 : cX2_told.data.toList.drop 0 = dktX2_told_0 := by decide +kernel
theorem dksX2_told_1 : cX2_told.data.toList.drop 24 = dktX2_told_1 := dk_seg dksX2_told_0 24 rfl rfl
theorem dX2_told_0 : decode cX2_told 0 = .ok (.bipush 100, 2) := dk_16 100 (dk_at dksX2_told_0 0 rfl rfl)
theorem dX2_told_2 : decode cX2_told 2 = .ok (.aload_n 0, 1) := dk_42 (dk_at dksX2_told_0 2 rfl rfl)
theorem dX2_told_3 : decode cX2_told 3 = .ok (.getfield 7, 3) := dk_180 0 7 (dk_at dksX2_told_0 3 rfl rfl)
theorem dX2_told_6 : decode cX2_told 6 = .ok (.bipush 8, 2) := dk_16 8 (dk_at dksX2_told_0 6 rfl rfl)
theorem dX2_told_8 : decode cX2_told 8 = .ok (.iload_n 1, 1) := dk_27 (dk_at dksX2_told_0 8 rfl rfl)
theorem dX2_told_9 : decode cX2_told 9 = .ok (.imul, 1) := dk_104 (dk_at dksX2_told_0 9 rfl rfl)
theorem dX2_told_10 : decode cX2_told 10 = .ok (.iconst 2, 1) := dk_5 (dk_at dksX2_told_0 10 rfl rfl)
theorem dX2_told_11 : decode cX2_told 11 = .ok (.iload_n 2, 1) := dk_28 (dk_at dksX2_told_0 11 rfl rfl)
theorem dX2_told_12 : decode cX2_told 12 = .ok (.imul, 1) := dk_104 (dk_at dksX2_told_0 12 rfl rfl)
theorem dX2_told_13 : decode cX2_told 13 = .ok (.iadd, 1) := dk_96 (dk_at dksX2_told_0 13 rfl rfl)
theorem dX2_told_14 : decode cX2_told 14 = .ok (.iaload, 1) := dk_46 (dk_at dksX2_told_0 14 rfl rfl)
theorem dX2_told_15 : decode cX2_told 15 = .ok (.imul, 1) := dk_104 (dk_at dksX2_told_0 15 rfl rfl)
theorem dX2_told_16 : decode cX2_told 16 = .ok (.aload_n 0, 1) := dk_42 (dk_at dksX2_told_0 16 rfl rfl)
theorem dX2_told_17 : decode cX2_told 17 = .ok (.getfield 7, 3) := dk_180 0 7 (dk_at dksX2_told_0 17 rfl rfl)
theorem dX2_told_20 : decode cX2_told 20 = .ok (.bipush 8, 2) := dk_16 8 (dk_at dksX2_told_0 20 rfl rfl)
theorem dX2_told_22 : decode cX2_told 22 = .ok (.iload_n 1, 1) := dk_27 (dk_at dksX2_told_0 22 rfl rfl)
theorem dX2_told_23 : decode cX2_told 23 = .ok (.imul, 1) := dk_104 (dk_at dksX2_told_0 23 rfl rfl)
theorem dX2_told_24 : decode cX2_told 24 = .ok (.iconst 2, 1) := dk_5 (dk_at dksX2_told_1 0 rfl rfl)
theorem dX2_told_25 : decode cX2_told 25 = .ok (.iload_n 2, 1) := dk_28 (dk_at dksX2_told_1 1 rfl rfl)
theorem dX2_told_26 : decode cX2_told 26 = .ok (.imul, 1) := dk_104 (dk_at dksX2_told_1 2 rfl rfl)
theorem dX2_told_27 : decode cX2_told 27 = .ok (.iadd, 1) := dk_96 (dk_at dksX2_told_1 3 rfl rfl)
theorem dX2_told_28 : decode cX2_told 28 = .ok (.iconst 1, 1) := dk_4 (dk_at dksX2_told_1 4 rfl rfl)
theorem dX2_told_29 : decode cX2_told 29 = .ok (.iadd, 1) := dk_96 (dk_at dksX2_told_1 5 rfl rfl)
theorem dX2_told_30 : decode cX2_told 30 = .ok (.iaload, 1) := dk_46 (dk_at dksX2_told_1 6 rfl rfl)
theorem dX2_told_31 : decode cX2_told 31 = .ok (.iadd, 1) := dk_96 (dk_at dksX2_told_1 7 rfl rfl)
theorem dX2_told_32 : decode cX2_told 32 = .ok (.ireturn, 1) := dk_172 (dk_at dksX2_told_1 8 rfl rfl)
abbrev cX2_put : ByteArray := prog_10_method_16_code
def yX2_put : MethodName := ⟨RX2, "put", "(IIII)V"⟩
def dkwX2_put_1 : List UInt8 := [104, 96, 4, 96, 21, 4, 79, 177]
abbrev dktX2_put_1 : List UInt8 := dkwX2_put_1 ++ []
def dkwX2_put_0 : List UInt8 := [42, 180, 0, 7, 16, 8, 27, 104, 5, 28, 104, 96, 29, 79, 42, 180, 0, 7, 16, 8, 27, 104, 5, 28]
abbrev dktX2_put_0 : List UInt8 := dkwX2_put_0 ++ dktX2_put_1
theorem dksX2_put_0 : cX2_put.data.toList.drop 0 = dktX2_put_0 := by decide +kernel
theorem dksX2_put_1 : cX2_put.data.toList.drop 24 = dktX2_put_1 := dk_seg dksX2_put_0 24 rfl rfl
theorem dX2_put_0 : decode cX2_put 0 = .ok (.aload_n 0, 1) := dk_42 (dk_at dksX2_put_0 0 rfl rfl)
theorem dX2_put_1 : decode cX2_put 1 = .ok (.getfield 7, 3) := dk_180 0 7 (dk_at dksX2_put_0 1 rfl rfl)
theorem dX2_put_4 : decode cX2_put 4 = .ok (.bipush 8, 2) := dk_16 8 (dk_at dksX2_put_0 4 rfl rfl)
theorem dX2_put_6 : decode cX2_put 6 = .ok (.iload_n 1, 1) := dk_27 (dk_at dksX2_put_0 6 rfl rfl)
theorem dX2_put_7 : decode cX2_put 7 = .ok (.imul, 1) := dk_104 (dk_at dksX2_put_0 7 rfl rfl)
theorem dX2_put_8 : decode cX2_put 8 = .ok (.iconst 2, 1) := dk_5 (dk_at dksX2_put_0 8 rfl rfl)
theorem dX2_put_9 : decode cX2_put 9 = .ok (.iload_n 2, 1) := dk_28 (dk_at dksX2_put_0 9 rfl rfl)
theorem dX2_put_10 : decode cX2_put 10 = .ok (.imul, 1) := dk_104 (dk_at dksX2_put_0 10 rfl rfl)
theorem dX2_put_11 : decode cX2_put 11 = .ok (.iadd, 1) := dk_96 (dk_at dksX2_put_0 11 rfl rfl)
theorem dX2_put_12 : decode cX2_put 12 = .ok (.iload_n 3, 1) := dk_29 (dk_at dksX2_put_0 12 rfl rfl)
theorem dX2_put_13 : decode cX2_put 13 = .ok (.iastore, 1) := dk_79 (dk_at dksX2_put_0 13 rfl rfl)
theorem dX2_put_14 : decode cX2_put 14 = .ok (.aload_n 0, 1) := dk_42 (dk_at dksX2_put_0 14 rfl rfl)
theorem dX2_put_15 : decode cX2_put 15 = .ok (.getfield 7, 3) := dk_180 0 7 (dk_at dksX2_put_0 15 rfl rfl)
theorem dX2_put_18 : decode cX2_put 18 = .ok (.bipush 8, 2) := dk_16 8 (dk_at dksX2_put_0 18 rfl rfl)
theorem dX2_put_20 : decode cX2_put 20 = .ok (.iload_n 1, 1) := dk_27 (dk_at dksX2_put_0 20 rfl rfl)
theorem dX2_put_21 : decode cX2_put 21 = .ok (.imul, 1) := dk_104 (dk_at dksX2_put_0 21 rfl rfl)
theorem dX2_put_22 : decode cX2_put 22 = .ok (.iconst 2, 1) := dk_5 (dk_at dksX2_put_0 22 rfl rfl)
theorem dX2_put_23 : decode cX2_put 23 = .ok (.iload_n 2, 1) := dk_28 (dk_at dksX2_put_0 23 rfl rfl)
theorem dX2_put_24 : decode cX2_put 24 = .ok (.imul, 1) := dk_104 (dk_at dksX2_put_1 0 rfl rfl)
theorem dX2_put_25 : decode cX2_put 25 = .ok (.iadd, 1) := dk_96 (dk_at dksX2_put_1 1 rfl rfl)
theorem dX2_put_26 : decode cX2_put 26 = .ok (.iconst 1, 1) := dk_4 (dk_at dksX2_put_1 2 rfl rfl)
theorem dX2_put_27 : decode cX2_put 27 = .ok (.iadd, 1) := dk_96 (dk_at dksX2_put_1 3 rfl rfl)
theorem dX2_put_28 : decode cX2_put 28 = .ok (.iload 4, 2) := dk_21 4 (dk_at dksX2_put_1 4 rfl rfl)
theorem dX2_put_30 : decode cX2_put 30 = .ok (.iastore, 1) := dk_79 (dk_at dksX2_put_1 6 rfl rfl)
theorem dX2_put_31 : decode cX2_put 31 = .ok (.return_, 1) := dk_177 (dk_at dksX2_put_1 7 rfl rfl)
abbrev cX2_gear : ByteArray := prog_10_method_19_code
def yX2_gear : MethodName := ⟨RX2, "gear", "(IZ)I"⟩
def dkwX2_gear_2 : List UInt8 := [2, 130, 126, 181, 0, 66, 42, 180, 0, 66, 184, 0, 108, 172]
abbrev dktX2_gear_2 : List UInt8 := dkwX2_gear_2 ++ []
def dkwX2_gear_1 : List UInt8 := [172, 42, 28, 153, 0, 14, 42, 180, 0, 66, 4, 27, 120, 128, 167, 0, 13, 42, 180, 0, 66, 4, 27, 120]
abbrev dktX2_gear_1 : List UInt8 := dkwX2_gear_1 ++ dktX2_gear_2
def dkwX2_gear_0 : List UInt8 := [42, 27, 184, 0, 94, 153, 0, 7, 3, 167, 0, 4, 4, 181, 0, 51, 42, 180, 0, 51, 158, 0, 5, 3]
abbrev dktX2_gear_0 : List UInt8 := dkwX2_gear_0 ++ dktX2_gear_1
theorem dksX2_gear_0 : cX2_gear.data.toList.drop 0 = dktX2_gear_0 := by decide +kernel
theorem dksX2_gear_1 : cX2_gear.data.toList.drop 24 = dktX2_gear_1 := dk_seg dksX2_gear_0 24 rfl rfl
theorem dksX2_gear_2 : cX2_gear.data.toList.drop 48 = dktX2_gear_2 := dk_seg dksX2_gear_1 24 rfl rfl
theorem dX2_gear_0 : decode cX2_gear 0 = .ok (.aload_n 0, 1) := dk_42 (dk_at dksX2_gear_0 0 rfl rfl)
theorem dX2_gear_1 : decode cX2_gear 1 = .ok (.iload_n 1, 1) := dk_27 (dk_at dksX2_gear_0 1 rfl rfl)
theorem dX2_gear_2 : decode cX2_gear 2 = .ok (.invokestatic 94, 3) := dk_184 0 94 (dk_at dksX2_gear_0 2 rfl rfl)
theorem dX2_gear_5 : decode cX2_gear 5 = .ok (.ifCond .eq 7, 3) := dk_153 0 7 (dk_at dksX2_gear_0 5 rfl rfl)
theorem dX2_gear_8 : decode cX2_gear 8 = .ok (.iconst 0, 1) := dk_3 (dk_at dksX2_gear_0 8 rfl rfl)
theorem dX2_gear_9 : decode cX2_gear 9 = .ok (.goto 4, 3) := dk_167 0 4 (dk_at dksX2_gear_0 9 rfl rfl)
theorem dX2_gear_12 : decode cX2_gear 12 = .ok (.iconst 1, 1) := dk_4 (dk_at dksX2_gear_0 12 rfl rfl)
theorem dX2_gear_13 : decode cX2_gear 13 = .ok (.putfield 51, 3) := dk_181 0 51 (dk_at dksX2_gear_0 13 rfl rfl)
theorem dX2_gear_16 : decode cX2_gear 16 = .ok (.aload_n 0, 1) := dk_42 (dk_at dksX2_gear_0 16 rfl rfl)
theorem dX2_gear_17 : decode cX2_gear 17 = .ok (.getfield 51, 3) := dk_180 0 51 (dk_at dksX2_gear_0 17 rfl rfl)
theorem dX2_gear_20 : decode cX2_gear 20 = .ok (.ifCond .le 5, 3) := dk_158 0 5 (dk_at dksX2_gear_0 20 rfl rfl)
theorem dX2_gear_23 : decode cX2_gear 23 = .ok (.iconst 0, 1) := dk_3 (dk_at dksX2_gear_0 23 rfl rfl)
theorem dX2_gear_24 : decode cX2_gear 24 = .ok (.ireturn, 1) := dk_172 (dk_at dksX2_gear_1 0 rfl rfl)
theorem dX2_gear_25 : decode cX2_gear 25 = .ok (.aload_n 0, 1) := dk_42 (dk_at dksX2_gear_1 1 rfl rfl)
theorem dX2_gear_26 : decode cX2_gear 26 = .ok (.iload_n 2, 1) := dk_28 (dk_at dksX2_gear_1 2 rfl rfl)
theorem dX2_gear_27 : decode cX2_gear 27 = .ok (.ifCond .eq 14, 3) := dk_153 0 14 (dk_at dksX2_gear_1 3 rfl rfl)
theorem dX2_gear_30 : decode cX2_gear 30 = .ok (.aload_n 0, 1) := dk_42 (dk_at dksX2_gear_1 6 rfl rfl)
theorem dX2_gear_31 : decode cX2_gear 31 = .ok (.getfield 66, 3) := dk_180 0 66 (dk_at dksX2_gear_1 7 rfl rfl)
theorem dX2_gear_34 : decode cX2_gear 34 = .ok (.iconst 1, 1) := dk_4 (dk_at dksX2_gear_1 10 rfl rfl)
theorem dX2_gear_35 : decode cX2_gear 35 = .ok (.iload_n 1, 1) := dk_27 (dk_at dksX2_gear_1 11 rfl rfl)
theorem dX2_gear_36 : decode cX2_gear 36 = .ok (.ishl, 1) := dk_120 (dk_at dksX2_gear_1 12 rfl rfl)
theorem dX2_gear_37 : decode cX2_gear 37 = .ok (.ior, 1) := dk_128 (dk_at dksX2_gear_1 13 rfl rfl)
theorem dX2_gear_38 : decode cX2_gear 38 = .ok (.goto 13, 3) := dk_167 0 13 (dk_at dksX2_gear_1 14 rfl rfl)
theorem dX2_gear_41 : decode cX2_gear 41 = .ok (.aload_n 0, 1) := dk_42 (dk_at dksX2_gear_1 17 rfl rfl)
theorem dX2_gear_42 : decode cX2_gear 42 = .ok (.getfield 66, 3) := dk_180 0 66 (dk_at dksX2_gear_1 18 rfl rfl)
theorem dX2_gear_45 : decode cX2_gear 45 = .ok (.iconst 1, 1) := dk_4 (dk_at dksX2_gear_1 21 rfl rfl)
theorem dX2_gear_46 : decode cX2_gear 46 = .ok (.iload_n 1, 1) := dk_27 (dk_at dksX2_gear_1 22 rfl rfl)
theorem dX2_gear_47 : decode cX2_gear 47 = .ok (.ishl, 1) := dk_120 (dk_at dksX2_gear_1 23 rfl rfl)
theorem dX2_gear_48 : decode cX2_gear 48 = .ok (.iconst (-1), 1) := dk_2 (dk_at dksX2_gear_2 0 rfl rfl)
theorem dX2_gear_49 : decode cX2_gear 49 = .ok (.ixor, 1) := dk_130 (dk_at dksX2_gear_2 1 rfl rfl)
theorem dX2_gear_50 : decode cX2_gear 50 = .ok (.iand, 1) := dk_126 (dk_at dksX2_gear_2 2 rfl rfl)
theorem dX2_gear_51 : decode cX2_gear 51 = .ok (.putfield 66, 3) := dk_181 0 66 (dk_at dksX2_gear_2 3 rfl rfl)
theorem dX2_gear_54 : decode cX2_gear 54 = .ok (.aload_n 0, 1) := dk_42 (dk_at dksX2_gear_2 6 rfl rfl)
theorem dX2_gear_55 : decode cX2_gear 55 = .ok (.getfield 66, 3) := dk_180 0 66 (dk_at dksX2_gear_2 7 rfl rfl)
theorem dX2_gear_58 : decode cX2_gear 58 = .ok (.invokestatic 108, 3) := dk_184 0 108 (dk_at dksX2_gear_2 10 rfl rfl)
theorem dX2_gear_61 : decode cX2_gear 61 = .ok (.ireturn, 1) := dk_172 (dk_at dksX2_gear_2 13 rfl rfl)
abbrev cX2_bits : ByteArray := prog_10_method_18_code
def yX2_bits : MethodName := ⟨RX2, "bits", "(I)I"⟩
def dkwX2_bits_1 : List UInt8 := [27, 172]
abbrev dktX2_bits_1 : List UInt8 := dkwX2_bits_1 ++ []
def dkwX2_bits_0 : List UInt8 := [3, 60, 3, 61, 28, 16, 8, 162, 0, 17, 27, 26, 28, 122, 4, 126, 96, 60, 132, 2, 1, 167, 255, 239]
abbrev dktX2_bits_0 : List UInt8 := dkwX2_bits_0 ++ dktX2_bits_1
theorem dksX2_bits_0 : cX2_bits.data.toList.drop 0 = dktX2_bits_0 := by decide +kernel
theorem dksX2_bits_1 : cX2_bits.data.toList.drop 24 = dktX2_bits_1 := dk_seg dksX2_bits_0 24 rfl rfl
theorem dX2_bits_0 : decode cX2_bits 0 = .ok (.iconst 0, 1) := dk_3 (dk_at dksX2_bits_0 0 rfl rfl)
theorem dX2_bits_1 : decode cX2_bits 1 = .ok (.istore_n 1, 1) := dk_60 (dk_at dksX2_bits_0 1 rfl rfl)
theorem dX2_bits_2 : decode cX2_bits 2 = .ok (.iconst 0, 1) := dk_3 (dk_at dksX2_bits_0 2 rfl rfl)
theorem dX2_bits_3 : decode cX2_bits 3 = .ok (.istore_n 2, 1) := dk_61 (dk_at dksX2_bits_0 3 rfl rfl)
theorem dX2_bits_4 : decode cX2_bits 4 = .ok (.iload_n 2, 1) := dk_28 (dk_at dksX2_bits_0 4 rfl rfl)
theorem dX2_bits_5 : decode cX2_bits 5 = .ok (.bipush 8, 2) := dk_16 8 (dk_at dksX2_bits_0 5 rfl rfl)
theorem dX2_bits_7 : decode cX2_bits 7 = .ok (.if_icmp .ge 17, 3) := dk_162 0 17 (dk_at dksX2_bits_0 7 rfl rfl)
theorem dX2_bits_10 : decode cX2_bits 10 = .ok (.iload_n 1, 1) := dk_27 (dk_at dksX2_bits_0 10 rfl rfl)
theorem dX2_bits_11 : decode cX2_bits 11 = .ok (.iload_n 0, 1) := dk_26 (dk_at dksX2_bits_0 11 rfl rfl)
theorem dX2_bits_12 : decode cX2_bits 12 = .ok (.iload_n 2, 1) := dk_28 (dk_at dksX2_bits_0 12 rfl rfl)
theorem dX2_bits_13 : decode cX2_bits 13 = .ok (.ishr, 1) := dk_122 (dk_at dksX2_bits_0 13 rfl rfl)
theorem dX2_bits_14 : decode cX2_bits 14 = .ok (.iconst 1, 1) := dk_4 (dk_at dksX2_bits_0 14 rfl rfl)
theorem dX2_bits_15 : decode cX2_bits 15 = .ok (.iand, 1) := dk_126 (dk_at dksX2_bits_0 15 rfl rfl)
theorem dX2_bits_16 : decode cX2_bits 16 = .ok (.iadd, 1) := dk_96 (dk_at dksX2_bits_0 16 rfl rfl)
theorem dX2_bits_17 : decode cX2_bits 17 = .ok (.istore_n 1, 1) := dk_60 (dk_at dksX2_bits_0 17 rfl rfl)
theorem dX2_bits_18 : decode cX2_bits 18 = .ok (.iinc 2 1, 3) := dk_132 2 1 (dk_at dksX2_bits_0 18 rfl rfl)
theorem dX2_bits_21 : decode cX2_bits 21 = .ok (.goto (-17), 3) := dk_167 255 239 (dk_at dksX2_bits_0 21 rfl rfl)
theorem dX2_bits_24 : decode cX2_bits 24 = .ok (.iload_n 1, 1) := dk_27 (dk_at dksX2_bits_1 0 rfl rfl)
theorem dX2_bits_25 : decode cX2_bits 25 = .ok (.ireturn, 1) := dk_172 (dk_at dksX2_bits_1 1 rfl rfl)
abbrev cX2_pawl : ByteArray := prog_10_method_20_code
def yX2_pawl : MethodName := ⟨RX2, "pawl", "(IZ)I"⟩
def dkwX2_pawl_2 : List UInt8 := [120, 2, 130, 126, 181, 0, 69, 42, 180, 0, 69, 184, 0, 108, 172]
abbrev dktX2_pawl_2 : List UInt8 := dkwX2_pawl_2 ++ []
def dkwX2_pawl_1 : List UInt8 := [3, 172, 42, 28, 153, 0, 14, 42, 180, 0, 69, 4, 27, 120, 128, 167, 0, 13, 42, 180, 0, 69, 4, 27]
abbrev dktX2_pawl_1 : List UInt8 := dkwX2_pawl_1 ++ dktX2_pawl_2
def dkwX2_pawl_0 : List UInt8 := [42, 42, 27, 182, 0, 97, 153, 0, 7, 3, 167, 0, 4, 4, 181, 0, 51, 42, 180, 0, 51, 158, 0, 5]
abbrev dktX2_pawl_0 : List UInt8 := dkwX2_pawl_0 ++ dktX2_pawl_1
theorem dksX2_pawl_0 : cX2_pawl.data.toList.drop 0 = dktX2_pawl_0 := by decide +kernel
theorem dksX2_pawl_1 : cX2_pawl.data.toList.drop 24 = dktX2_pawl_1 := dk_seg dksX2_pawl_0 24 rfl rfl
theorem dksX2_pawl_2 : cX2_pawl.data.toList.drop 48 = dktX2_pawl_2 := dk_seg dksX2_pawl_1 24 rfl rfl
theorem dX2_pawl_0 : decode cX2_pawl 0 = .ok (.aload_n 0, 1) := dk_42 (dk_at dksX2_pawl_0 0 rfl rfl)
theorem dX2_pawl_1 : decode cX2_pawl 1 = .ok (.aload_n 0, 1) := dk_42 (dk_at dksX2_pawl_0 1 rfl rfl)
theorem dX2_pawl_2 : decode cX2_pawl 2 = .ok (.iload_n 1, 1) := dk_27 (dk_at dksX2_pawl_0 2 rfl rfl)
theorem dX2_pawl_3 : decode cX2_pawl 3 = .ok (.invokevirtual 97, 3) := dk_182 0 97 (dk_at dksX2_pawl_0 3 rfl rfl)
theorem dX2_pawl_6 : decode cX2_pawl 6 = .ok (.ifCond .eq 7, 3) := dk_153 0 7 (dk_at dksX2_pawl_0 6 rfl rfl)
theorem dX2_pawl_9 : decode cX2_pawl 9 = .ok (.iconst 0, 1) := dk_3 (dk_at dksX2_pawl_0 9 rfl rfl)
theorem dX2_pawl_10 : decode cX2_pawl 10 = .ok (.goto 4, 3) := dk_167 0 4 (dk_at dksX2_pawl_0 10 rfl rfl)
theorem dX2_pawl_13 : decode cX2_pawl 13 = .ok (.iconst 1, 1) := dk_4 (dk_at dksX2_pawl_0 13 rfl rfl)
theorem dX2_pawl_14 : decode cX2_pawl 14 = .ok (.putfield 51, 3) := dk_181 0 51 (dk_at dksX2_pawl_0 14 rfl rfl)
theorem dX2_pawl_17 : decode cX2_pawl 17 = .ok (.aload_n 0, 1) := dk_42 (dk_at dksX2_pawl_0 17 rfl rfl)
theorem dX2_pawl_18 : decode cX2_pawl 18 = .ok (.getfield 51, 3) := dk_180 0 51 (dk_at dksX2_pawl_0 18 rfl rfl)
theorem dX2_pawl_21 : decode cX2_pawl 21 = .ok (.ifCond .le 5, 3) := dk_158 0 5 (dk_at dksX2_pawl_0 21 rfl rfl)
theorem dX2_pawl_24 : decode cX2_pawl 24 = .ok (.iconst 0, 1) := dk_3 (dk_at dksX2_pawl_1 0 rfl rfl)
theorem dX2_pawl_25 : decode cX2_pawl 25 = .ok (.ireturn, 1) := dk_172 (dk_at dksX2_pawl_1 1 rfl rfl)
theorem dX2_pawl_26 : decode cX2_pawl 26 = .ok (.aload_n 0, 1) := dk_42 (dk_at dksX2_pawl_1 2 rfl rfl)
theorem dX2_pawl_27 : decode cX2_pawl 27 = .ok (.iload_n 2, 1) := dk_28 (dk_at dksX2_pawl_1 3 rfl rfl)
theorem dX2_pawl_28 : decode cX2_pawl 28 = .ok (.ifCond .eq 14, 3) := dk_153 0 14 (dk_at dksX2_pawl_1 4 rfl rfl)
theorem dX2_pawl_31 : decode cX2_pawl 31 = .ok (.aload_n 0, 1) := dk_42 (dk_at dksX2_pawl_1 7 rfl rfl)
theorem dX2_pawl_32 : decode cX2_pawl 32 = .ok (.getfield 69, 3) := dk_180 0 69 (dk_at dksX2_pawl_1 8 rfl rfl)
theorem dX2_pawl_35 : decode cX2_pawl 35 = .ok (.iconst 1, 1) := dk_4 (dk_at dksX2_pawl_1 11 rfl rfl)
theorem dX2_pawl_36 : decode cX2_pawl 36 = .ok (.iload_n 1, 1) := dk_27 (dk_at dksX2_pawl_1 12 rfl rfl)
theorem dX2_pawl_37 : decode cX2_pawl 37 = .ok (.ishl, 1) := dk_120 (dk_at dksX2_pawl_1 13 rfl rfl)
theorem dX2_pawl_38 : decode cX2_pawl 38 = .ok (.ior, 1) := dk_128 (dk_at dksX2_pawl_1 14 rfl rfl)
theorem dX2_pawl_39 : decode cX2_pawl 39 = .ok (.goto 13, 3) := dk_167 0 13 (dk_at dksX2_pawl_1 15 rfl rfl)
theorem dX2_pawl_42 : decode cX2_pawl 42 = .ok (.aload_n 0, 1) := dk_42 (dk_at dksX2_pawl_1 18 rfl rfl)
theorem dX2_pawl_43 : decode cX2_pawl 43 = .ok (.getfield 69, 3) := dk_180 0 69 (dk_at dksX2_pawl_1 19 rfl rfl)
theorem dX2_pawl_46 : decode cX2_pawl 46 = .ok (.iconst 1, 1) := dk_4 (dk_at dksX2_pawl_1 22 rfl rfl)
theorem dX2_pawl_47 : decode cX2_pawl 47 = .ok (.iload_n 1, 1) := dk_27 (dk_at dksX2_pawl_1 23 rfl rfl)
theorem dX2_pawl_48 : decode cX2_pawl 48 = .ok (.ishl, 1) := dk_120 (dk_at dksX2_pawl_2 0 rfl rfl)
theorem dX2_pawl_49 : decode cX2_pawl 49 = .ok (.iconst (-1), 1) := dk_2 (dk_at dksX2_pawl_2 1 rfl rfl)
theorem dX2_pawl_50 : decode cX2_pawl 50 = .ok (.ixor, 1) := dk_130 (dk_at dksX2_pawl_2 2 rfl rfl)
theorem dX2_pawl_51 : decode cX2_pawl 51 = .ok (.iand, 1) := dk_126 (dk_at dksX2_pawl_2 3 rfl rfl)
theorem dX2_pawl_52 : decode cX2_pawl 52 = .ok (.putfield 69, 3) := dk_181 0 69 (dk_at dksX2_pawl_2 4 rfl rfl)
theorem dX2_pawl_55 : decode cX2_pawl 55 = .ok (.aload_n 0, 1) := dk_42 (dk_at dksX2_pawl_2 7 rfl rfl)
theorem dX2_pawl_56 : decode cX2_pawl 56 = .ok (.getfield 69, 3) := dk_180 0 69 (dk_at dksX2_pawl_2 8 rfl rfl)
theorem dX2_pawl_59 : decode cX2_pawl 59 = .ok (.invokestatic 108, 3) := dk_184 0 108 (dk_at dksX2_pawl_2 11 rfl rfl)
theorem dX2_pawl_62 : decode cX2_pawl 62 = .ok (.ireturn, 1) := dk_172 (dk_at dksX2_pawl_2 14 rfl rfl)
abbrev cX2_setProgram : ByteArray := prog_10_method_21_code
def yX2_setProgram : MethodName := ⟨RX2, "setProgram", "(I)I"⟩
def dkwX2_setProgram_1 : List UInt8 := [172, 42, 180, 0, 75, 61, 42, 27, 181, 0, 75, 42, 3, 181, 0, 78, 28, 172]
abbrev dktX2_setProgram_1 : List UInt8 := dkwX2_setProgram_1 ++ []
def dkwX2_setProgram_0 : List UInt8 := [42, 27, 184, 0, 111, 153, 0, 7, 3, 167, 0, 4, 4, 181, 0, 51, 42, 180, 0, 51, 158, 0, 5, 3]
abbrev dktX2_setProgram_0 : List UInt8 := dkwX2_setProgram_0 ++ dktX2_setProgram_1
theorem dksX2_setProgram_0 : cX2_setProgram.data.toList.drop 0 = dktX2_setProgram_0 := by decide +kernel
theorem dksX2_setProgram_1 : cX2_setProgram.data.toList.drop 24 = dktX2_setProgram_1 := dk_seg dksX2_setProgram_0 24 rfl rfl
theorem dX2_setProgram_0 : decode cX2_setProgram 0 = .ok (.aload_n 0, 1) := dk_42 (dk_at dksX2_setProgram_0 0 rfl rfl)
theorem dX2_setProgram_1 : decode cX2_setProgram 1 = .ok (.iload_n 1, 1) := dk_27 (dk_at dksX2_setProgram_0 1 rfl rfl)
theorem dX2_setProgram_2 : decode cX2_setProgram 2 = .ok (.invokestatic 111, 3) := dk_184 0 111 (dk_at dksX2_setProgram_0 2 rfl rfl)
theorem dX2_setProgram_5 : decode cX2_setProgram 5 = .ok (.ifCond .eq 7, 3) := dk_153 0 7 (dk_at dksX2_setProgram_0 5 rfl rfl)
theorem dX2_setProgram_8 : decode cX2_setProgram 8 = .ok (.iconst 0, 1) := dk_3 (dk_at dksX2_setProgram_0 8 rfl rfl)
theorem dX2_setProgram_9 : decode cX2_setProgram 9 = .ok (.goto 4, 3) := dk_167 0 4 (dk_at dksX2_setProgram_0 9 rfl rfl)
theorem dX2_setProgram_12 : decode cX2_setProgram 12 = .ok (.iconst 1, 1) := dk_4 (dk_at dksX2_setProgram_0 12 rfl rfl)
theorem dX2_setProgram_13 : decode cX2_setProgram 13 = .ok (.putfield 51, 3) := dk_181 0 51 (dk_at dksX2_setProgram_0 13 rfl rfl)
theorem dX2_setProgram_16 : decode cX2_setProgram 16 = .ok (.aload_n 0, 1) := dk_42 (dk_at dksX2_setProgram_0 16 rfl rfl)
theorem dX2_setProgram_17 : decode cX2_setProgram 17 = .ok (.getfield 51, 3) := dk_180 0 51 (dk_at dksX2_setProgram_0 17 rfl rfl)
theorem dX2_setProgram_20 : decode cX2_setProgram 20 = .ok (.ifCond .le 5, 3) := dk_158 0 5 (dk_at dksX2_setProgram_0 20 rfl rfl)
theorem dX2_setProgram_23 : decode cX2_setProgram 23 = .ok (.iconst 0, 1) := dk_3 (dk_at dksX2_setProgram_0 23 rfl rfl)
theorem dX2_setProgram_24 : decode cX2_setProgram 24 = .ok (.ireturn, 1) := dk_172 (dk_at dksX2_setProgram_1 0 rfl rfl)
theorem dX2_setProgram_25 : decode cX2_setProgram 25 = .ok (.aload_n 0, 1) := dk_42 (dk_at dksX2_setProgram_1 1 rfl rfl)
theorem dX2_setProgram_26 : decode cX2_setProgram 26 = .ok (.getfield 75, 3) := dk_180 0 75 (dk_at dksX2_setProgram_1 2 rfl rfl)
theorem dX2_setProgram_29 : decode cX2_setProgram 29 = .ok (.istore_n 2, 1) := dk_61 (dk_at dksX2_setProgram_1 5 rfl rfl)
theorem dX2_setProgram_30 : decode cX2_setProgram 30 = .ok (.aload_n 0, 1) := dk_42 (dk_at dksX2_setProgram_1 6 rfl rfl)
theorem dX2_setProgram_31 : decode cX2_setProgram 31 = .ok (.iload_n 1, 1) := dk_27 (dk_at dksX2_setProgram_1 7 rfl rfl)
theorem dX2_setProgram_32 : decode cX2_setProgram 32 = .ok (.putfield 75, 3) := dk_181 0 75 (dk_at dksX2_setProgram_1 8 rfl rfl)
theorem dX2_setProgram_35 : decode cX2_setProgram 35 = .ok (.aload_n 0, 1) := dk_42 (dk_at dksX2_setProgram_1 11 rfl rfl)
theorem dX2_setProgram_36 : decode cX2_setProgram 36 = .ok (.iconst 0, 1) := dk_3 (dk_at dksX2_setProgram_1 12 rfl rfl)
theorem dX2_setProgram_37 : decode cX2_setProgram 37 = .ok (.putfield 78, 3) := dk_181 0 78 (dk_at dksX2_setProgram_1 13 rfl rfl)
theorem dX2_setProgram_40 : decode cX2_setProgram 40 = .ok (.iload_n 2, 1) := dk_28 (dk_at dksX2_setProgram_1 16 rfl rfl)
theorem dX2_setProgram_41 : decode cX2_setProgram 41 = .ok (.ireturn, 1) := dk_172 (dk_at dksX2_setProgram_1 17 rfl rfl)
abbrev cX2_isProgram : ByteArray := prog_10_method_6_code
def yX2_isProgram : MethodName := ⟨RX2, "isProgram", "(I)Z"⟩
def dkwX2_isProgram_1 : List UInt8 := [153, 0, 13, 28, 7, 112, 158, 0, 7, 4, 167, 0, 4, 3, 60, 28, 7, 108, 61, 167, 255, 232, 27, 172]
abbrev dktX2_isProgram_1 : List UInt8 := dkwX2_isProgram_1 ++ []
def dkwX2_isProgram_0 : List UInt8 := [26, 4, 17, 0, 255, 184, 0, 58, 154, 0, 5, 3, 172, 4, 60, 26, 61, 28, 158, 0, 26, 27]
abbrev dktX2_isProgram_0 : List UInt8 := dkwX2_isProgram_0 ++ dktX2_isProgram_1
theorem dksX2_isProgram_0 : cX2_isProgram.data.toList.drop 0 = dktX2_isProgram_0 := by decide +kernel
theorem dksX2_isProgram_1 : cX2_isProgram.data.toList.drop 22 = dktX2_isProgram_1 := dk_seg dksX2_isProgram_0 22 rfl rfl
theorem dX2_isProgram_0 : decode cX2_isProgram 0 = .ok (.iload_n 0, 1) := dk_26 (dk_at dksX2_isProgram_0 0 rfl rfl)
theorem dX2_isProgram_1 : decode cX2_isProgram 1 = .ok (.iconst 1, 1) := dk_4 (dk_at dksX2_isProgram_0 1 rfl rfl)
theorem dX2_isProgram_2 : decode cX2_isProgram 2 = .ok (.sipush 255, 3) := dk_17 0 255 (dk_at dksX2_isProgram_0 2 rfl rfl)
theorem dX2_isProgram_5 : decode cX2_isProgram 5 = .ok (.invokestatic 58, 3) := dk_184 0 58 (dk_at dksX2_isProgram_0 5 rfl rfl)
theorem dX2_isProgram_8 : decode cX2_isProgram 8 = .ok (.ifCond .ne 5, 3) := dk_154 0 5 (dk_at dksX2_isProgram_0 8 rfl rfl)
theorem dX2_isProgram_11 : decode cX2_isProgram 11 = .ok (.iconst 0, 1) := dk_3 (dk_at dksX2_isProgram_0 11 rfl rfl)
theorem dX2_isProgram_12 : decode cX2_isProgram 12 = .ok (.ireturn, 1) := dk_172 (dk_at dksX2_isProgram_0 12 rfl rfl)
theorem dX2_isProgram_13 : decode cX2_isProgram 13 = .ok (.iconst 1, 1) := dk_4 (dk_at dksX2_isProgram_0 13 rfl rfl)
theorem dX2_isProgram_14 : decode cX2_isProgram 14 = .ok (.istore_n 1, 1) := dk_60 (dk_at dksX2_isProgram_0 14 rfl rfl)
theorem dX2_isProgram_15 : decode cX2_isProgram 15 = .ok (.iload_n 0, 1) := dk_26 (dk_at dksX2_isProgram_0 15 rfl rfl)
theorem dX2_isProgram_16 : decode cX2_isProgram 16 = .ok (.istore_n 2, 1) := dk_61 (dk_at dksX2_isProgram_0 16 rfl rfl)
theorem dX2_isProgram_17 : decode cX2_isProgram 17 = .ok (.iload_n 2, 1) := dk_28 (dk_at dksX2_isProgram_0 17 rfl rfl)
theorem dX2_isProgram_18 : decode cX2_isProgram 18 = .ok (.ifCond .le 26, 3) := dk_158 0 26 (dk_at dksX2_isProgram_0 18 rfl rfl)
theorem dX2_isProgram_21 : decode cX2_isProgram 21 = .ok (.iload_n 1, 1) := dk_27 (dk_at dksX2_isProgram_0 21 rfl rfl)
theorem dX2_isProgram_22 : decode cX2_isProgram 22 = .ok (.ifCond .eq 13, 3) := dk_153 0 13 (dk_at dksX2_isProgram_1 0 rfl rfl)
theorem dX2_isProgram_25 : decode cX2_isProgram 25 = .ok (.iload_n 2, 1) := dk_28 (dk_at dksX2_isProgram_1 3 rfl rfl)
theorem dX2_isProgram_26 : decode cX2_isProgram 26 = .ok (.iconst 4, 1) := dk_7 (dk_at dksX2_isProgram_1 4 rfl rfl)
theorem dX2_isProgram_27 : decode cX2_isProgram 27 = .ok (.irem, 1) := dk_112 (dk_at dksX2_isProgram_1 5 rfl rfl)
theorem dX2_isProgram_28 : decode cX2_isProgram 28 = .ok (.ifCond .le 7, 3) := dk_158 0 7 (dk_at dksX2_isProgram_1 6 rfl rfl)
theorem dX2_isProgram_31 : decode cX2_isProgram 31 = .ok (.iconst 1, 1) := dk_4 (dk_at dksX2_isProgram_1 9 rfl rfl)
theorem dX2_isProgram_32 : decode cX2_isProgram 32 = .ok (.goto 4, 3) := dk_167 0 4 (dk_at dksX2_isProgram_1 10 rfl rfl)
theorem dX2_isProgram_35 : decode cX2_isProgram 35 = .ok (.iconst 0, 1) := dk_3 (dk_at dksX2_isProgram_1 13 rfl rfl)
theorem dX2_isProgram_36 : decode cX2_isProgram 36 = .ok (.istore_n 1, 1) := dk_60 (dk_at dksX2_isProgram_1 14 rfl rfl)
theorem dX2_isProgram_37 : decode cX2_isProgram 37 = .ok (.iload_n 2, 1) := dk_28 (dk_at dksX2_isProgram_1 15 rfl rfl)
theorem dX2_isProgram_38 : decode cX2_isProgram 38 = .ok (.iconst 4, 1) := dk_7 (dk_at dksX2_isProgram_1 16 rfl rfl)
theorem dX2_isProgram_39 : decode cX2_isProgram 39 = .ok (.idiv, 1) := dk_108 (dk_at dksX2_isProgram_1 17 rfl rfl)
theorem dX2_isProgram_40 : decode cX2_isProgram 40 = .ok (.istore_n 2, 1) := dk_61 (dk_at dksX2_isProgram_1 18 rfl rfl)
theorem dX2_isProgram_41 : decode cX2_isProgram 41 = .ok (.goto (-24), 3) := dk_167 255 232 (dk_at dksX2_isProgram_1 19 rfl rfl)
theorem dX2_isProgram_44 : decode cX2_isProgram 44 = .ok (.iload_n 1, 1) := dk_27 (dk_at dksX2_isProgram_1 22 rfl rfl)
theorem dX2_isProgram_45 : decode cX2_isProgram 45 = .ok (.ireturn, 1) := dk_172 (dk_at dksX2_isProgram_1 23 rfl rfl)
abbrev cX2_restart : ByteArray := prog_10_method_22_code
def yX2_restart : MethodName := ⟨RX2, "restart", "(II)I"⟩
def dkwX2_restart_3 : List UInt8 := [172]
abbrev dktX2_restart_3 : List UInt8 := dkwX2_restart_3 ++ []
def dkwX2_restart_2 : List UInt8 := [181, 0, 72, 42, 28, 181, 0, 81, 42, 3, 181, 0, 78, 42, 3, 181, 0, 84, 42, 3, 181, 0, 87, 29]
abbrev dktX2_restart_2 : List UInt8 := dkwX2_restart_2 ++ dktX2_restart_3
def dkwX2_restart_1 : List UInt8 := [3, 167, 0, 4, 5, 181, 0, 51, 42, 180, 0, 51, 158, 0, 5, 3, 172, 42, 180, 0, 84, 62, 42, 27]
abbrev dktX2_restart_1 : List UInt8 := dkwX2_restart_1 ++ dktX2_restart_2
def dkwX2_restart_0 : List UInt8 := [42, 42, 27, 182, 0, 97, 154, 0, 7, 4, 167, 0, 19, 28, 3, 17, 3, 231, 184, 0, 58, 153, 0, 7]
abbrev dktX2_restart_0 : List UInt8 := dkwX2_restart_0 ++ dktX2_restart_1
theorem dksX2_restart_0 : cX2_restart.data.toList.drop 0 = dktX2_restart_0 := by decide +kernel
theorem dksX2_restart_1 : cX2_restart.data.toList.drop 24 = dktX2_restart_1 := dk_seg dksX2_restart_0 24 rfl rfl
theorem dksX2_restart_2 : cX2_restart.data.toList.drop 48 = dktX2_restart_2 := dk_seg dksX2_restart_1 24 rfl rfl
theorem dksX2_restart_3 : cX2_restart.data.toList.drop 72 = dktX2_restart_3 := dk_seg dksX2_restart_2 24 rfl rfl
theorem dX2_restart_0 : decode cX2_restart 0 = .ok (.aload_n 0, 1) := dk_42 (dk_at dksX2_restart_0 0 rfl rfl)
theorem dX2_restart_1 : decode cX2_restart 1 = .ok (.aload_n 0, 1) := dk_42 (dk_at dksX2_restart_0 1 rfl rfl)
theorem dX2_restart_2 : decode cX2_restart 2 = .ok (.iload_n 1, 1) := dk_27 (dk_at dksX2_restart_0 2 rfl rfl)
theorem dX2_restart_3 : decode cX2_restart 3 = .ok (.invokevirtual 97, 3) := dk_182 0 97 (dk_at dksX2_restart_0 3 rfl rfl)
theorem dX2_restart_6 : decode cX2_restart 6 = .ok (.ifCond .ne 7, 3) := dk_154 0 7 (dk_at dksX2_restart_0 6 rfl rfl)
theorem dX2_restart_9 : decode cX2_restart 9 = .ok (.iconst 1, 1) := dk_4 (dk_at dksX2_restart_0 9 rfl rfl)
theorem dX2_restart_10 : decode cX2_restart 10 = .ok (.goto 19, 3) := dk_167 0 19 (dk_at dksX2_restart_0 10 rfl rfl)
theorem dX2_restart_13 : decode cX2_restart 13 = .ok (.iload_n 2, 1) := dk_28 (dk_at dksX2_restart_0 13 rfl rfl)
theorem dX2_restart_14 : decode cX2_restart 14 = .ok (.iconst 0, 1) := dk_3 (dk_at dksX2_restart_0 14 rfl rfl)
theorem dX2_restart_15 : decode cX2_restart 15 = .ok (.sipush 999, 3) := dk_17 3 231 (dk_at dksX2_restart_0 15 rfl rfl)
theorem dX2_restart_18 : decode cX2_restart 18 = .ok (.invokestatic 58, 3) := dk_184 0 58 (dk_at dksX2_restart_0 18 rfl rfl)
theorem dX2_restart_21 : decode cX2_restart 21 = .ok (.ifCond .eq 7, 3) := dk_153 0 7 (dk_at dksX2_restart_0 21 rfl rfl)
theorem dX2_restart_24 : decode cX2_restart 24 = .ok (.iconst 0, 1) := dk_3 (dk_at dksX2_restart_1 0 rfl rfl)
theorem dX2_restart_25 : decode cX2_restart 25 = .ok (.goto 4, 3) := dk_167 0 4 (dk_at dksX2_restart_1 1 rfl rfl)
theorem dX2_restart_28 : decode cX2_restart 28 = .ok (.iconst 2, 1) := dk_5 (dk_at dksX2_restart_1 4 rfl rfl)
theorem dX2_restart_29 : decode cX2_restart 29 = .ok (.putfield 51, 3) := dk_181 0 51 (dk_at dksX2_restart_1 5 rfl rfl)
theorem dX2_restart_32 : decode cX2_restart 32 = .ok (.aload_n 0, 1) := dk_42 (dk_at dksX2_restart_1 8 rfl rfl)
theorem dX2_restart_33 : decode cX2_restart 33 = .ok (.getfield 51, 3) := dk_180 0 51 (dk_at dksX2_restart_1 9 rfl rfl)
theorem dX2_restart_36 : decode cX2_restart 36 = .ok (.ifCond .le 5, 3) := dk_158 0 5 (dk_at dksX2_restart_1 12 rfl rfl)
theorem dX2_restart_39 : decode cX2_restart 39 = .ok (.iconst 0, 1) := dk_3 (dk_at dksX2_restart_1 15 rfl rfl)
theorem dX2_restart_40 : decode cX2_restart 40 = .ok (.ireturn, 1) := dk_172 (dk_at dksX2_restart_1 16 rfl rfl)
theorem dX2_restart_41 : decode cX2_restart 41 = .ok (.aload_n 0, 1) := dk_42 (dk_at dksX2_restart_1 17 rfl rfl)
theorem dX2_restart_42 : decode cX2_restart 42 = .ok (.getfield 84, 3) := dk_180 0 84 (dk_at dksX2_restart_1 18 rfl rfl)
theorem dX2_restart_45 : decode cX2_restart 45 = .ok (.istore_n 3, 1) := dk_62 (dk_at dksX2_restart_1 21 rfl rfl)
theorem dX2_restart_46 : decode cX2_restart 46 = .ok (.aload_n 0, 1) := dk_42 (dk_at dksX2_restart_1 22 rfl rfl)
theorem dX2_restart_47 : decode cX2_restart 47 = .ok (.iload_n 1, 1) := dk_27 (dk_at dksX2_restart_1 23 rfl rfl)
theorem dX2_restart_48 : decode cX2_restart 48 = .ok (.putfield 72, 3) := dk_181 0 72 (dk_at dksX2_restart_2 0 rfl rfl)
theorem dX2_restart_51 : decode cX2_restart 51 = .ok (.aload_n 0, 1) := dk_42 (dk_at dksX2_restart_2 3 rfl rfl)
theorem dX2_restart_52 : decode cX2_restart 52 = .ok (.iload_n 2, 1) := dk_28 (dk_at dksX2_restart_2 4 rfl rfl)
theorem dX2_restart_53 : decode cX2_restart 53 = .ok (.putfield 81, 3) := dk_181 0 81 (dk_at dksX2_restart_2 5 rfl rfl)
theorem dX2_restart_56 : decode cX2_restart 56 = .ok (.aload_n 0, 1) := dk_42 (dk_at dksX2_restart_2 8 rfl rfl)
theorem dX2_restart_57 : decode cX2_restart 57 = .ok (.iconst 0, 1) := dk_3 (dk_at dksX2_restart_2 9 rfl rfl)
theorem dX2_restart_58 : decode cX2_restart 58 = .ok (.putfield 78, 3) := dk_181 0 78 (dk_at dksX2_restart_2 10 rfl rfl)
theorem dX2_restart_61 : decode cX2_restart 61 = .ok (.aload_n 0, 1) := dk_42 (dk_at dksX2_restart_2 13 rfl rfl)
theorem dX2_restart_62 : decode cX2_restart 62 = .ok (.iconst 0, 1) := dk_3 (dk_at dksX2_restart_2 14 rfl rfl)
theorem dX2_restart_63 : decode cX2_restart 63 = .ok (.putfield 84, 3) := dk_181 0 84 (dk_at dksX2_restart_2 15 rfl rfl)
theorem dX2_restart_66 : decode cX2_restart 66 = .ok (.aload_n 0, 1) := dk_42 (dk_at dksX2_restart_2 18 rfl rfl)
theorem dX2_restart_67 : decode cX2_restart 67 = .ok (.iconst 0, 1) := dk_3 (dk_at dksX2_restart_2 19 rfl rfl)
theorem dX2_restart_68 : decode cX2_restart 68 = .ok (.putfield 87, 3) := dk_181 0 87 (dk_at dksX2_restart_2 20 rfl rfl)
theorem dX2_restart_71 : decode cX2_restart 71 = .ok (.iload_n 3, 1) := dk_29 (dk_at dksX2_restart_2 23 rfl rfl)
theorem dX2_restart_72 : decode cX2_restart 72 = .ok (.ireturn, 1) := dk_172 (dk_at dksX2_restart_3 0 rfl rfl)
abbrev cX2_run : ByteArray := prog_10_method_24_code
def yX2_run : MethodName := ⟨RX2, "run", "(I)I"⟩
def dkwX2_run_3 : List UInt8 := [180, 0, 87, 27, 96, 181, 0, 87, 42, 180, 0, 84, 172]
abbrev dktX2_run_3 : List UInt8 := dkwX2_run_3 ++ []
def dkwX2_run_2 : List UInt8 := [162, 0, 22, 42, 89, 180, 0, 84, 42, 182, 0, 121, 96, 181, 0, 84, 132, 2, 1, 167, 255, 235, 42, 89]
abbrev dktX2_run_2 : List UInt8 := dkwX2_run_2 ++ dktX2_run_3
def dkwX2_run_1 : List UInt8 := [164, 0, 7, 5, 167, 0, 4, 3, 181, 0, 51, 42, 180, 0, 51, 158, 0, 5, 3, 172, 3, 61, 28, 27]
abbrev dktX2_run_1 : List UInt8 := dkwX2_run_1 ++ dktX2_run_2
def dkwX2_run_0 : List UInt8 := [42, 27, 4, 17, 1, 244, 184, 0, 58, 154, 0, 7, 4, 167, 0, 19, 42, 180, 0, 87, 27, 96, 18, 120]
abbrev dktX2_run_0 : List UInt8 := dkwX2_run_0 ++ dktX2_run_1
theorem dksX2_run_0 : cX2_run.data.toList.drop 0 = dktX2_run_0 := by decide +kernel
theorem dksX2_run_1 : cX2_run.data.toList.drop 24 = dktX2_run_1 := dk_seg dksX2_run_0 24 rfl rfl
theorem dksX2_run_2 : cX2_run.data.toList.drop 48 = dktX2_run_2 := dk_seg dksX2_run_1 24 rfl rfl
theorem dksX2_run_3 : cX2_run.data.toList.drop 72 = dktX2_run_3 := dk_seg dksX2_run_2 24 rfl rfl
theorem dX2_run_0 : decode cX2_run 0 = .ok (.aload_n 0, 1) := dk_42 (dk_at dksX2_run_0 0 rfl rfl)
theorem dX2_run_1 : decode cX2_run 1 = .ok (.iload_n 1, 1) := dk_27 (dk_at dksX2_run_0 1 rfl rfl)
theorem dX2_run_2 : decode cX2_run 2 = .ok (.iconst 1, 1) := dk_4 (dk_at dksX2_run_0 2 rfl rfl)
theorem dX2_run_3 : decode cX2_run 3 = .ok (.sipush 500, 3) := dk_17 1 244 (dk_at dksX2_run_0 3 rfl rfl)
theorem dX2_run_6 : decode cX2_run 6 = .ok (.invokestatic 58, 3) := dk_184 0 58 (dk_at dksX2_run_0 6 rfl rfl)
theorem dX2_run_9 : decode cX2_run 9 = .ok (.ifCond .ne 7, 3) := dk_154 0 7 (dk_at dksX2_run_0 9 rfl rfl)
theorem dX2_run_12 : decode cX2_run 12 = .ok (.iconst 1, 1) := dk_4 (dk_at dksX2_run_0 12 rfl rfl)
theorem dX2_run_13 : decode cX2_run 13 = .ok (.goto 19, 3) := dk_167 0 19 (dk_at dksX2_run_0 13 rfl rfl)
theorem dX2_run_16 : decode cX2_run 16 = .ok (.aload_n 0, 1) := dk_42 (dk_at dksX2_run_0 16 rfl rfl)
theorem dX2_run_17 : decode cX2_run 17 = .ok (.getfield 87, 3) := dk_180 0 87 (dk_at dksX2_run_0 17 rfl rfl)
theorem dX2_run_20 : decode cX2_run 20 = .ok (.iload_n 1, 1) := dk_27 (dk_at dksX2_run_0 20 rfl rfl)
theorem dX2_run_21 : decode cX2_run 21 = .ok (.iadd, 1) := dk_96 (dk_at dksX2_run_0 21 rfl rfl)
theorem dX2_run_22 : decode cX2_run 22 = .ok (.ldc 120, 2) := dk_18 120 (dk_at dksX2_run_0 22 rfl rfl)
theorem dX2_run_24 : decode cX2_run 24 = .ok (.if_icmp .le 7, 3) := dk_164 0 7 (dk_at dksX2_run_1 0 rfl rfl)
theorem dX2_run_27 : decode cX2_run 27 = .ok (.iconst 2, 1) := dk_5 (dk_at dksX2_run_1 3 rfl rfl)
theorem dX2_run_28 : decode cX2_run 28 = .ok (.goto 4, 3) := dk_167 0 4 (dk_at dksX2_run_1 4 rfl rfl)
theorem dX2_run_31 : decode cX2_run 31 = .ok (.iconst 0, 1) := dk_3 (dk_at dksX2_run_1 7 rfl rfl)
theorem dX2_run_32 : decode cX2_run 32 = .ok (.putfield 51, 3) := dk_181 0 51 (dk_at dksX2_run_1 8 rfl rfl)
theorem dX2_run_35 : decode cX2_run 35 = .ok (.aload_n 0, 1) := dk_42 (dk_at dksX2_run_1 11 rfl rfl)
theorem dX2_run_36 : decode cX2_run 36 = .ok (.getfield 51, 3) := dk_180 0 51 (dk_at dksX2_run_1 12 rfl rfl)
theorem dX2_run_39 : decode cX2_run 39 = .ok (.ifCond .le 5, 3) := dk_158 0 5 (dk_at dksX2_run_1 15 rfl rfl)
theorem dX2_run_42 : decode cX2_run 42 = .ok (.iconst 0, 1) := dk_3 (dk_at dksX2_run_1 18 rfl rfl)
theorem dX2_run_43 : decode cX2_run 43 = .ok (.ireturn, 1) := dk_172 (dk_at dksX2_run_1 19 rfl rfl)
theorem dX2_run_44 : decode cX2_run 44 = .ok (.iconst 0, 1) := dk_3 (dk_at dksX2_run_1 20 rfl rfl)
theorem dX2_run_45 : decode cX2_run 45 = .ok (.istore_n 2, 1) := dk_61 (dk_at dksX2_run_1 21 rfl rfl)
theorem dX2_run_46 : decode cX2_run 46 = .ok (.iload_n 2, 1) := dk_28 (dk_at dksX2_run_1 22 rfl rfl)
theorem dX2_run_47 : decode cX2_run 47 = .ok (.iload_n 1, 1) := dk_27 (dk_at dksX2_run_1 23 rfl rfl)
theorem dX2_run_48 : decode cX2_run 48 = .ok (.if_icmp .ge 22, 3) := dk_162 0 22 (dk_at dksX2_run_2 0 rfl rfl)
theorem dX2_run_51 : decode cX2_run 51 = .ok (.aload_n 0, 1) := dk_42 (dk_at dksX2_run_2 3 rfl rfl)
theorem dX2_run_52 : decode cX2_run 52 = .ok (.dup, 1) := dk_89 (dk_at dksX2_run_2 4 rfl rfl)
theorem dX2_run_53 : decode cX2_run 53 = .ok (.getfield 84, 3) := dk_180 0 84 (dk_at dksX2_run_2 5 rfl rfl)
theorem dX2_run_56 : decode cX2_run 56 = .ok (.aload_n 0, 1) := dk_42 (dk_at dksX2_run_2 8 rfl rfl)
theorem dX2_run_57 : decode cX2_run 57 = .ok (.invokevirtual 121, 3) := dk_182 0 121 (dk_at dksX2_run_2 9 rfl rfl)
theorem dX2_run_60 : decode cX2_run 60 = .ok (.iadd, 1) := dk_96 (dk_at dksX2_run_2 12 rfl rfl)
theorem dX2_run_61 : decode cX2_run 61 = .ok (.putfield 84, 3) := dk_181 0 84 (dk_at dksX2_run_2 13 rfl rfl)
theorem dX2_run_64 : decode cX2_run 64 = .ok (.iinc 2 1, 3) := dk_132 2 1 (dk_at dksX2_run_2 16 rfl rfl)
theorem dX2_run_67 : decode cX2_run 67 = .ok (.goto (-21), 3) := dk_167 255 235 (dk_at dksX2_run_2 19 rfl rfl)
theorem dX2_run_70 : decode cX2_run 70 = .ok (.aload_n 0, 1) := dk_42 (dk_at dksX2_run_2 22 rfl rfl)
theorem dX2_run_71 : decode cX2_run 71 = .ok (.dup, 1) := dk_89 (dk_at dksX2_run_2 23 rfl rfl)
theorem dX2_run_72 : decode cX2_run 72 = .ok (.getfield 87, 3) := dk_180 0 87 (dk_at dksX2_run_3 0 rfl rfl)
theorem dX2_run_75 : decode cX2_run 75 = .ok (.iload_n 1, 1) := dk_27 (dk_at dksX2_run_3 3 rfl rfl)
theorem dX2_run_76 : decode cX2_run 76 = .ok (.iadd, 1) := dk_96 (dk_at dksX2_run_3 4 rfl rfl)
theorem dX2_run_77 : decode cX2_run 77 = .ok (.putfield 87, 3) := dk_181 0 87 (dk_at dksX2_run_3 5 rfl rfl)
theorem dX2_run_80 : decode cX2_run 80 = .ok (.aload_n 0, 1) := dk_42 (dk_at dksX2_run_3 8 rfl rfl)
theorem dX2_run_81 : decode cX2_run 81 = .ok (.getfield 84, 3) := dk_180 0 84 (dk_at dksX2_run_3 9 rfl rfl)
theorem dX2_run_84 : decode cX2_run 84 = .ok (.ireturn, 1) := dk_172 (dk_at dksX2_run_3 12 rfl rfl)
abbrev cX2_tick : ByteArray := prog_10_method_23_code
def yX2_tick : MethodName := ⟨RX2, "tick", "()I"⟩
def dkwX2_tick_8 : List UInt8 := [184, 0, 62, 112, 181, 0, 78, 21, 6, 172]
abbrev dktX2_tick_8 : List UInt8 := dkwX2_tick_8 ++ []
def dkwX2_tick_7 : List UInt8 := [42, 42, 180, 0, 72, 21, 6, 182, 0, 117, 181, 0, 72, 42, 42, 180, 0, 78, 4, 96, 42, 180, 0, 75]
abbrev dktX2_tick_7 : List UInt8 := dkwX2_tick_7 ++ dktX2_tick_8
def dkwX2_tick_6 : List UInt8 := [167, 0, 21, 29, 153, 0, 7, 2, 167, 0, 13, 21, 4, 153, 0, 7, 4, 167, 0, 4, 3, 54, 6, 42]
abbrev dktX2_tick_6 : List UInt8 := dkwX2_tick_6 ++ dktX2_tick_7
def dkwX2_tick_5 : List UInt8 := [180, 0, 72, 122, 4, 126, 4, 160, 0, 7, 4, 167, 0, 4, 3, 54, 5, 21, 5, 153, 0, 7, 3]
abbrev dktX2_tick_5 : List UInt8 := dkwX2_tick_5 ++ dktX2_tick_6
def dkwX2_tick_4 : List UInt8 := [4, 167, 0, 4, 3, 54, 4, 42, 28, 182, 0, 90, 153, 0, 22, 29, 153, 0, 22, 42, 180, 0, 69, 42]
abbrev dktX2_tick_4 : List UInt8 := dkwX2_tick_4 ++ dktX2_tick_5
def dkwX2_tick_3 : List UInt8 := [16, 10, 42, 180, 0, 7, 16, 8, 28, 104, 5, 42, 180, 0, 72, 104, 96, 4, 96, 46, 100, 161, 0, 7]
abbrev dktX2_tick_3 : List UInt8 := dkwX2_tick_3 ++ dktX2_tick_4
def dkwX2_tick_2 : List UInt8 := [104, 5, 42, 180, 0, 72, 104, 96, 46, 162, 0, 7, 4, 167, 0, 4, 3, 62, 29, 154, 0, 32, 27]
abbrev dktX2_tick_2 : List UInt8 := dkwX2_tick_2 ++ dktX2_tick_3
def dkwX2_tick_1 : List UInt8 := [16, 100, 108, 60, 42, 180, 0, 75, 42, 180, 0, 78, 184, 0, 114, 61, 27, 42, 180, 0, 7, 16, 8, 28]
abbrev dktX2_tick_1 : List UInt8 := dkwX2_tick_1 ++ dktX2_tick_2
def dkwX2_tick_0 : List UInt8 := [42, 17, 0, 141, 42, 180, 0, 81, 104, 17, 0, 187, 96, 17, 3, 232, 112, 181, 0, 81, 42, 180, 0, 81]
abbrev dktX2_tick_0 : List UInt8 := dkwX2_tick_0 ++ dktX2_tick_1
theorem dksX2_tick_0 : cX2_tick.data.toList.drop 0 = dktX2_tick_0 := by decide +kernel
theorem dksX2_tick_1 : cX2_tick.data.toList.drop 24 = dktX2_tick_1 := dk_seg dksX2_tick_0 24 rfl rfl
theorem dksX2_tick_2 : cX2_tick.data.toList.drop 48 = dktX2_tick_2 := dk_seg dksX2_tick_1 24 rfl rfl
theorem dksX2_tick_3 : cX2_tick.data.toList.drop 71 = dktX2_tick_3 := dk_seg dksX2_tick_2 23 rfl rfl
theorem dksX2_tick_4 : cX2_tick.data.toList.drop 95 = dktX2_tick_4 := dk_seg dksX2_tick_3 24 rfl rfl
theorem dksX2_tick_5 : cX2_tick.data.toList.drop 119 = dktX2_tick_5 := dk_seg dksX2_tick_4 24 rfl rfl
theorem dksX2_tick_6 : cX2_tick.data.toList.drop 142 = dktX2_tick_6 := dk_seg dksX2_tick_5 23 rfl rfl
theorem dksX2_tick_7 : cX2_tick.data.toList.drop 166 = dktX2_tick_7 := dk_seg dksX2_tick_6 24 rfl rfl
theorem dksX2_tick_8 : cX2_tick.data.toList.drop 190 = dktX2_tick_8 := dk_seg dksX2_tick_7 24 rfl rfl
theorem dX2_tick_0 : decode cX2_tick 0 = .ok (.aload_n 0, 1) := dk_42 (dk_at dksX2_tick_0 0 rfl rfl)
theorem dX2_tick_1 : decode cX2_tick 1 = .ok (.sipush 141, 3) := dk_17 0 141 (dk_at dksX2_tick_0 1 rfl rfl)
theorem dX2_tick_4 : decode cX2_tick 4 = .ok (.aload_n 0, 1) := dk_42 (dk_at dksX2_tick_0 4 rfl rfl)
theorem dX2_tick_5 : decode cX2_tick 5 = .ok (.getfield 81, 3) := dk_180 0 81 (dk_at dksX2_tick_0 5 rfl rfl)
theorem dX2_tick_8 : decode cX2_tick 8 = .ok (.imul, 1) := dk_104 (dk_at dksX2_tick_0 8 rfl rfl)
theorem dX2_tick_9 : decode cX2_tick 9 = .ok (.sipush 187, 3) := dk_17 0 187 (dk_at dksX2_tick_0 9 rfl rfl)
theorem dX2_tick_12 : decode cX2_tick 12 = .ok (.iadd, 1) := dk_96 (dk_at dksX2_tick_0 12 rfl rfl)
theorem dX2_tick_13 : decode cX2_tick 13 = .ok (.sipush 1000, 3) := dk_17 3 232 (dk_at dksX2_tick_0 13 rfl rfl)
theorem dX2_tick_16 : decode cX2_tick 16 = .ok (.irem, 1) := dk_112 (dk_at dksX2_tick_0 16 rfl rfl)
theorem dX2_tick_17 : decode cX2_tick 17 = .ok (.putfield 81, 3) := dk_181 0 81 (dk_at dksX2_tick_0 17 rfl rfl)
theorem dX2_tick_20 : decode cX2_tick 20 = .ok (.aload_n 0, 1) := dk_42 (dk_at dksX2_tick_0 20 rfl rfl)
theorem dX2_tick_21 : decode cX2_tick 21 = .ok (.getfield 81, 3) := dk_180 0 81 (dk_at dksX2_tick_0 21 rfl rfl)
theorem dX2_tick_24 : decode cX2_tick 24 = .ok (.bipush 100, 2) := dk_16 100 (dk_at dksX2_tick_1 0 rfl rfl)
theorem dX2_tick_26 : decode cX2_tick 26 = .ok (.idiv, 1) := dk_108 (dk_at dksX2_tick_1 2 rfl rfl)
theorem dX2_tick_27 : decode cX2_tick 27 = .ok (.istore_n 1, 1) := dk_60 (dk_at dksX2_tick_1 3 rfl rfl)
theorem dX2_tick_28 : decode cX2_tick 28 = .ok (.aload_n 0, 1) := dk_42 (dk_at dksX2_tick_1 4 rfl rfl)
theorem dX2_tick_29 : decode cX2_tick 29 = .ok (.getfield 75, 3) := dk_180 0 75 (dk_at dksX2_tick_1 5 rfl rfl)
theorem dX2_tick_32 : decode cX2_tick 32 = .ok (.aload_n 0, 1) := dk_42 (dk_at dksX2_tick_1 8 rfl rfl)
theorem dX2_tick_33 : decode cX2_tick 33 = .ok (.getfield 78, 3) := dk_180 0 78 (dk_at dksX2_tick_1 9 rfl rfl)
theorem dX2_tick_36 : decode cX2_tick 36 = .ok (.invokestatic 114, 3) := dk_184 0 114 (dk_at dksX2_tick_1 12 rfl rfl)
theorem dX2_tick_39 : decode cX2_tick 39 = .ok (.istore_n 2, 1) := dk_61 (dk_at dksX2_tick_1 15 rfl rfl)
theorem dX2_tick_40 : decode cX2_tick 40 = .ok (.iload_n 1, 1) := dk_27 (dk_at dksX2_tick_1 16 rfl rfl)
theorem dX2_tick_41 : decode cX2_tick 41 = .ok (.aload_n 0, 1) := dk_42 (dk_at dksX2_tick_1 17 rfl rfl)
theorem dX2_tick_42 : decode cX2_tick 42 = .ok (.getfield 7, 3) := dk_180 0 7 (dk_at dksX2_tick_1 18 rfl rfl)
theorem dX2_tick_45 : decode cX2_tick 45 = .ok (.bipush 8, 2) := dk_16 8 (dk_at dksX2_tick_1 21 rfl rfl)
theorem dX2_tick_47 : decode cX2_tick 47 = .ok (.iload_n 2, 1) := dk_28 (dk_at dksX2_tick_1 23 rfl rfl)
theorem dX2_tick_48 : decode cX2_tick 48 = .ok (.imul, 1) := dk_104 (dk_at dksX2_tick_2 0 rfl rfl)
theorem dX2_tick_49 : decode cX2_tick 49 = .ok (.iconst 2, 1) := dk_5 (dk_at dksX2_tick_2 1 rfl rfl)
theorem dX2_tick_50 : decode cX2_tick 50 = .ok (.aload_n 0, 1) := dk_42 (dk_at dksX2_tick_2 2 rfl rfl)
theorem dX2_tick_51 : decode cX2_tick 51 = .ok (.getfield 72, 3) := dk_180 0 72 (dk_at dksX2_tick_2 3 rfl rfl)
theorem dX2_tick_54 : decode cX2_tick 54 = .ok (.imul, 1) := dk_104 (dk_at dksX2_tick_2 6 rfl rfl)
theorem dX2_tick_55 : decode cX2_tick 55 = .ok (.iadd, 1) := dk_96 (dk_at dksX2_tick_2 7 rfl rfl)
theorem dX2_tick_56 : decode cX2_tick 56 = .ok (.iaload, 1) := dk_46 (dk_at dksX2_tick_2 8 rfl rfl)
theorem dX2_tick_57 : decode cX2_tick 57 = .ok (.if_icmp .ge 7, 3) := dk_162 0 7 (dk_at dksX2_tick_2 9 rfl rfl)
theorem dX2_tick_60 : decode cX2_tick 60 = .ok (.iconst 1, 1) := dk_4 (dk_at dksX2_tick_2 12 rfl rfl)
theorem dX2_tick_61 : decode cX2_tick 61 = .ok (.goto 4, 3) := dk_167 0 4 (dk_at dksX2_tick_2 13 rfl rfl)
theorem dX2_tick_64 : decode cX2_tick 64 = .ok (.iconst 0, 1) := dk_3 (dk_at dksX2_tick_2 16 rfl rfl)
theorem dX2_tick_65 : decode cX2_tick 65 = .ok (.istore_n 3, 1) := dk_62 (dk_at dksX2_tick_2 17 rfl rfl)
theorem dX2_tick_66 : decode cX2_tick 66 = .ok (.iload_n 3, 1) := dk_29 (dk_at dksX2_tick_2 18 rfl rfl)
theorem dX2_tick_67 : decode cX2_tick 67 = .ok (.ifCond .ne 32, 3) := dk_154 0 32 (dk_at dksX2_tick_2 19 rfl rfl)
theorem dX2_tick_70 : decode cX2_tick 70 = .ok (.iload_n 1, 1) := dk_27 (dk_at dksX2_tick_2 22 rfl rfl)
theorem dX2_tick_71 : decode cX2_tick 71 = .ok (.bipush 10, 2) := dk_16 10 (dk_at dksX2_tick_3 0 rfl rfl)
theorem dX2_tick_73 : decode cX2_tick 73 = .ok (.aload_n 0, 1) := dk_42 (dk_at dksX2_tick_3 2 rfl rfl)
theorem dX2_tick_74 : decode cX2_tick 74 = .ok (.getfield 7, 3) := dk_180 0 7 (dk_at dksX2_tick_3 3 rfl rfl)
theorem dX2_tick_77 : decode cX2_tick 77 = .ok (.bipush 8, 2) := dk_16 8 (dk_at dksX2_tick_3 6 rfl rfl)
theorem dX2_tick_79 : decode cX2_tick 79 = .ok (.iload_n 2, 1) := dk_28 (dk_at dksX2_tick_3 8 rfl rfl)
theorem dX2_tick_80 : decode cX2_tick 80 = .ok (.imul, 1) := dk_104 (dk_at dksX2_tick_3 9 rfl rfl)
theorem dX2_tick_81 : decode cX2_tick 81 = .ok (.iconst 2, 1) := dk_5 (dk_at dksX2_tick_3 10 rfl rfl)
theorem dX2_tick_82 : decode cX2_tick 82 = .ok (.aload_n 0, 1) := dk_42 (dk_at dksX2_tick_3 11 rfl rfl)
theorem dX2_tick_83 : decode cX2_tick 83 = .ok (.getfield 72, 3) := dk_180 0 72 (dk_at dksX2_tick_3 12 rfl rfl)
theorem dX2_tick_86 : decode cX2_tick 86 = .ok (.imul, 1) := dk_104 (dk_at dksX2_tick_3 15 rfl rfl)
theorem dX2_tick_87 : decode cX2_tick 87 = .ok (.iadd, 1) := dk_96 (dk_at dksX2_tick_3 16 rfl rfl)
theorem dX2_tick_88 : decode cX2_tick 88 = .ok (.iconst 1, 1) := dk_4 (dk_at dksX2_tick_3 17 rfl rfl)
theorem dX2_tick_89 : decode cX2_tick 89 = .ok (.iadd, 1) := dk_96 (dk_at dksX2_tick_3 18 rfl rfl)
theorem dX2_tick_90 : decode cX2_tick 90 = .ok (.iaload, 1) := dk_46 (dk_at dksX2_tick_3 19 rfl rfl)
theorem dX2_tick_91 : decode cX2_tick 91 = .ok (.isub, 1) := dk_100 (dk_at dksX2_tick_3 20 rfl rfl)
theorem dX2_tick_92 : decode cX2_tick 92 = .ok (.if_icmp .lt 7, 3) := dk_161 0 7 (dk_at dksX2_tick_3 21 rfl rfl)
theorem dX2_tick_95 : decode cX2_tick 95 = .ok (.iconst 1, 1) := dk_4 (dk_at dksX2_tick_4 0 rfl rfl)
theorem dX2_tick_96 : decode cX2_tick 96 = .ok (.goto 4, 3) := dk_167 0 4 (dk_at dksX2_tick_4 1 rfl rfl)
theorem dX2_tick_99 : decode cX2_tick 99 = .ok (.iconst 0, 1) := dk_3 (dk_at dksX2_tick_4 4 rfl rfl)
theorem dX2_tick_100 : decode cX2_tick 100 = .ok (.istore 4, 2) := dk_54 4 (dk_at dksX2_tick_4 5 rfl rfl)
theorem dX2_tick_102 : decode cX2_tick 102 = .ok (.aload_n 0, 1) := dk_42 (dk_at dksX2_tick_4 7 rfl rfl)
theorem dX2_tick_103 : decode cX2_tick 103 = .ok (.iload_n 2, 1) := dk_28 (dk_at dksX2_tick_4 8 rfl rfl)
theorem dX2_tick_104 : decode cX2_tick 104 = .ok (.invokevirtual 90, 3) := dk_182 0 90 (dk_at dksX2_tick_4 9 rfl rfl)
theorem dX2_tick_107 : decode cX2_tick 107 = .ok (.ifCond .eq 22, 3) := dk_153 0 22 (dk_at dksX2_tick_4 12 rfl rfl)
theorem dX2_tick_110 : decode cX2_tick 110 = .ok (.iload_n 3, 1) := dk_29 (dk_at dksX2_tick_4 15 rfl rfl)
theorem dX2_tick_111 : decode cX2_tick 111 = .ok (.ifCond .eq 22, 3) := dk_153 0 22 (dk_at dksX2_tick_4 16 rfl rfl)
theorem dX2_tick_114 : decode cX2_tick 114 = .ok (.aload_n 0, 1) := dk_42 (dk_at dksX2_tick_4 19 rfl rfl)
theorem dX2_tick_115 : decode cX2_tick 115 = .ok (.getfield 69, 3) := dk_180 0 69 (dk_at dksX2_tick_4 20 rfl rfl)
theorem dX2_tick_118 : decode cX2_tick 118 = .ok (.aload_n 0, 1) := dk_42 (dk_at dksX2_tick_4 23 rfl rfl)
theorem dX2_tick_119 : decode cX2_tick 119 = .ok (.getfield 72, 3) := dk_180 0 72 (dk_at dksX2_tick_5 0 rfl rfl)
theorem dX2_tick_122 : decode cX2_tick 122 = .ok (.ishr, 1) := dk_122 (dk_at dksX2_tick_5 3 rfl rfl)
theorem dX2_tick_123 : decode cX2_tick 123 = .ok (.iconst 1, 1) := dk_4 (dk_at dksX2_tick_5 4 rfl rfl)
theorem dX2_tick_124 : decode cX2_tick 124 = .ok (.iand, 1) := dk_126 (dk_at dksX2_tick_5 5 rfl rfl)
theorem dX2_tick_125 : decode cX2_tick 125 = .ok (.iconst 1, 1) := dk_4 (dk_at dksX2_tick_5 6 rfl rfl)
theorem dX2_tick_126 : decode cX2_tick 126 = .ok (.if_icmp .ne 7, 3) := dk_160 0 7 (dk_at dksX2_tick_5 7 rfl rfl)
theorem dX2_tick_129 : decode cX2_tick 129 = .ok (.iconst 1, 1) := dk_4 (dk_at dksX2_tick_5 10 rfl rfl)
theorem dX2_tick_130 : decode cX2_tick 130 = .ok (.goto 4, 3) := dk_167 0 4 (dk_at dksX2_tick_5 11 rfl rfl)
theorem dX2_tick_133 : decode cX2_tick 133 = .ok (.iconst 0, 1) := dk_3 (dk_at dksX2_tick_5 14 rfl rfl)
theorem dX2_tick_134 : decode cX2_tick 134 = .ok (.istore 5, 2) := dk_54 5 (dk_at dksX2_tick_5 15 rfl rfl)
theorem dX2_tick_136 : decode cX2_tick 136 = .ok (.iload 5, 2) := dk_21 5 (dk_at dksX2_tick_5 17 rfl rfl)
theorem dX2_tick_138 : decode cX2_tick 138 = .ok (.ifCond .eq 7, 3) := dk_153 0 7 (dk_at dksX2_tick_5 19 rfl rfl)
theorem dX2_tick_141 : decode cX2_tick 141 = .ok (.iconst 0, 1) := dk_3 (dk_at dksX2_tick_5 22 rfl rfl)
theorem dX2_tick_142 : decode cX2_tick 142 = .ok (.goto 21, 3) := dk_167 0 21 (dk_at dksX2_tick_6 0 rfl rfl)
theorem dX2_tick_145 : decode cX2_tick 145 = .ok (.iload_n 3, 1) := dk_29 (dk_at dksX2_tick_6 3 rfl rfl)
theorem dX2_tick_146 : decode cX2_tick 146 = .ok (.ifCond .eq 7, 3) := dk_153 0 7 (dk_at dksX2_tick_6 4 rfl rfl)
theorem dX2_tick_149 : decode cX2_tick 149 = .ok (.iconst (-1), 1) := dk_2 (dk_at dksX2_tick_6 7 rfl rfl)
theorem dX2_tick_150 : decode cX2_tick 150 = .ok (.goto 13, 3) := dk_167 0 13 (dk_at dksX2_tick_6 8 rfl rfl)
theorem dX2_tick_153 : decode cX2_tick 153 = .ok (.iload 4, 2) := dk_21 4 (dk_at dksX2_tick_6 11 rfl rfl)
theorem dX2_tick_155 : decode cX2_tick 155 = .ok (.ifCond .eq 7, 3) := dk_153 0 7 (dk_at dksX2_tick_6 13 rfl rfl)
theorem dX2_tick_158 : decode cX2_tick 158 = .ok (.iconst 1, 1) := dk_4 (dk_at dksX2_tick_6 16 rfl rfl)
theorem dX2_tick_159 : decode cX2_tick 159 = .ok (.goto 4, 3) := dk_167 0 4 (dk_at dksX2_tick_6 17 rfl rfl)
theorem dX2_tick_162 : decode cX2_tick 162 = .ok (.iconst 0, 1) := dk_3 (dk_at dksX2_tick_6 20 rfl rfl)
theorem dX2_tick_163 : decode cX2_tick 163 = .ok (.istore 6, 2) := dk_54 6 (dk_at dksX2_tick_6 21 rfl rfl)
theorem dX2_tick_165 : decode cX2_tick 165 = .ok (.aload_n 0, 1) := dk_42 (dk_at dksX2_tick_6 23 rfl rfl)
theorem dX2_tick_166 : decode cX2_tick 166 = .ok (.aload_n 0, 1) := dk_42 (dk_at dksX2_tick_7 0 rfl rfl)
theorem dX2_tick_167 : decode cX2_tick 167 = .ok (.aload_n 0, 1) := dk_42 (dk_at dksX2_tick_7 1 rfl rfl)
theorem dX2_tick_168 : decode cX2_tick 168 = .ok (.getfield 72, 3) := dk_180 0 72 (dk_at dksX2_tick_7 2 rfl rfl)
theorem dX2_tick_171 : decode cX2_tick 171 = .ok (.iload 6, 2) := dk_21 6 (dk_at dksX2_tick_7 5 rfl rfl)
theorem dX2_tick_173 : decode cX2_tick 173 = .ok (.invokevirtual 117, 3) := dk_182 0 117 (dk_at dksX2_tick_7 7 rfl rfl)
theorem dX2_tick_176 : decode cX2_tick 176 = .ok (.putfield 72, 3) := dk_181 0 72 (dk_at dksX2_tick_7 10 rfl rfl)
theorem dX2_tick_179 : decode cX2_tick 179 = .ok (.aload_n 0, 1) := dk_42 (dk_at dksX2_tick_7 13 rfl rfl)
theorem dX2_tick_180 : decode cX2_tick 180 = .ok (.aload_n 0, 1) := dk_42 (dk_at dksX2_tick_7 14 rfl rfl)
theorem dX2_tick_181 : decode cX2_tick 181 = .ok (.getfield 78, 3) := dk_180 0 78 (dk_at dksX2_tick_7 15 rfl rfl)
theorem dX2_tick_184 : decode cX2_tick 184 = .ok (.iconst 1, 1) := dk_4 (dk_at dksX2_tick_7 18 rfl rfl)
theorem dX2_tick_185 : decode cX2_tick 185 = .ok (.iadd, 1) := dk_96 (dk_at dksX2_tick_7 19 rfl rfl)
theorem dX2_tick_186 : decode cX2_tick 186 = .ok (.aload_n 0, 1) := dk_42 (dk_at dksX2_tick_7 20 rfl rfl)
theorem dX2_tick_187 : decode cX2_tick 187 = .ok (.getfield 75, 3) := dk_180 0 75 (dk_at dksX2_tick_7 21 rfl rfl)
theorem dX2_tick_190 : decode cX2_tick 190 = .ok (.invokestatic 62, 3) := dk_184 0 62 (dk_at dksX2_tick_8 0 rfl rfl)
theorem dX2_tick_193 : decode cX2_tick 193 = .ok (.irem, 1) := dk_112 (dk_at dksX2_tick_8 3 rfl rfl)
theorem dX2_tick_194 : decode cX2_tick 194 = .ok (.putfield 78, 3) := dk_181 0 78 (dk_at dksX2_tick_8 4 rfl rfl)
theorem dX2_tick_197 : decode cX2_tick 197 = .ok (.iload 6, 2) := dk_21 6 (dk_at dksX2_tick_8 7 rfl rfl)
theorem dX2_tick_199 : decode cX2_tick 199 = .ok (.ireturn, 1) := dk_172 (dk_at dksX2_tick_8 9 rfl rfl)
abbrev cX2_leverAt : ByteArray := prog_10_method_8_code
def yX2_leverAt : MethodName := ⟨RX2, "leverAt", "(II)I"⟩
def dkwX2_leverAt_1 : List UInt8 := [28, 7, 112, 4, 100, 172]
abbrev dktX2_leverAt_1 : List UInt8 := dkwX2_leverAt_1 ++ []
def dkwX2_leverAt_0 : List UInt8 := [26, 61, 26, 184, 0, 62, 4, 100, 62, 29, 27, 164, 0, 13, 28, 7, 108, 61, 132, 3, 255, 167, 255, 244]
abbrev dktX2_leverAt_0 : List UInt8 := dkwX2_leverAt_0 ++ dktX2_leverAt_1
theorem dksX2_leverAt_0 : cX2_leverAt.data.toList.drop 0 = dktX2_leverAt_0 := by decide +kernel
theorem dksX2_leverAt_1 : cX2_leverAt.data.toList.drop 24 = dktX2_leverAt_1 := dk_seg dksX2_leverAt_0 24 rfl rfl
theorem dX2_leverAt_0 : decode cX2_leverAt 0 = .ok (.iload_n 0, 1) := dk_26 (dk_at dksX2_leverAt_0 0 rfl rfl)
theorem dX2_leverAt_1 : decode cX2_leverAt 1 = .ok (.istore_n 2, 1) := dk_61 (dk_at dksX2_leverAt_0 1 rfl rfl)
theorem dX2_leverAt_2 : decode cX2_leverAt 2 = .ok (.iload_n 0, 1) := dk_26 (dk_at dksX2_leverAt_0 2 rfl rfl)
theorem dX2_leverAt_3 : decode cX2_leverAt 3 = .ok (.invokestatic 62, 3) := dk_184 0 62 (dk_at dksX2_leverAt_0 3 rfl rfl)
theorem dX2_leverAt_6 : decode cX2_leverAt 6 = .ok (.iconst 1, 1) := dk_4 (dk_at dksX2_leverAt_0 6 rfl rfl)
theorem dX2_leverAt_7 : decode cX2_leverAt 7 = .ok (.isub, 1) := dk_100 (dk_at dksX2_leverAt_0 7 rfl rfl)
theorem dX2_leverAt_8 : decode cX2_leverAt 8 = .ok (.istore_n 3, 1) := dk_62 (dk_at dksX2_leverAt_0 8 rfl rfl)
theorem dX2_leverAt_9 : decode cX2_leverAt 9 = .ok (.iload_n 3, 1) := dk_29 (dk_at dksX2_leverAt_0 9 rfl rfl)
theorem dX2_leverAt_10 : decode cX2_leverAt 10 = .ok (.iload_n 1, 1) := dk_27 (dk_at dksX2_leverAt_0 10 rfl rfl)
theorem dX2_leverAt_11 : decode cX2_leverAt 11 = .ok (.if_icmp .le 13, 3) := dk_164 0 13 (dk_at dksX2_leverAt_0 11 rfl rfl)
theorem dX2_leverAt_14 : decode cX2_leverAt 14 = .ok (.iload_n 2, 1) := dk_28 (dk_at dksX2_leverAt_0 14 rfl rfl)
theorem dX2_leverAt_15 : decode cX2_leverAt 15 = .ok (.iconst 4, 1) := dk_7 (dk_at dksX2_leverAt_0 15 rfl rfl)
theorem dX2_leverAt_16 : decode cX2_leverAt 16 = .ok (.idiv, 1) := dk_108 (dk_at dksX2_leverAt_0 16 rfl rfl)
theorem dX2_leverAt_17 : decode cX2_leverAt 17 = .ok (.istore_n 2, 1) := dk_61 (dk_at dksX2_leverAt_0 17 rfl rfl)
theorem dX2_leverAt_18 : decode cX2_leverAt 18 = .ok (.iinc 3 (-1), 3) := dk_132 3 255 (dk_at dksX2_leverAt_0 18 rfl rfl)
theorem dX2_leverAt_21 : decode cX2_leverAt 21 = .ok (.goto (-12), 3) := dk_167 255 244 (dk_at dksX2_leverAt_0 21 rfl rfl)
theorem dX2_leverAt_24 : decode cX2_leverAt 24 = .ok (.iload_n 2, 1) := dk_28 (dk_at dksX2_leverAt_1 0 rfl rfl)
theorem dX2_leverAt_25 : decode cX2_leverAt 25 = .ok (.iconst 4, 1) := dk_7 (dk_at dksX2_leverAt_1 1 rfl rfl)
theorem dX2_leverAt_26 : decode cX2_leverAt 26 = .ok (.irem, 1) := dk_112 (dk_at dksX2_leverAt_1 2 rfl rfl)
theorem dX2_leverAt_27 : decode cX2_leverAt 27 = .ok (.iconst 1, 1) := dk_4 (dk_at dksX2_leverAt_1 3 rfl rfl)
theorem dX2_leverAt_28 : decode cX2_leverAt 28 = .ok (.isub, 1) := dk_100 (dk_at dksX2_leverAt_1 4 rfl rfl)
theorem dX2_leverAt_29 : decode cX2_leverAt 29 = .ok (.ireturn, 1) := dk_172 (dk_at dksX2_leverAt_1 5 rfl rfl)
abbrev cX2_size : ByteArray := prog_10_method_7_code
def yX2_size : MethodName := ⟨RX2, "size", "(I)I"⟩
def dkwX2_size_0 : List UInt8 := [3, 60, 26, 61, 28, 158, 0, 13, 132, 1, 1, 28, 7, 108, 61, 167, 255, 245, 27, 172]
abbrev dktX2_size_0 : List UInt8 := dkwX2_size_0 ++ []
theorem dksX2_size_0 : cX2_size.data.toList.drop 0 = dktX2_size_0 := by decide +kernel
theorem dX2_size_0 : decode cX2_size 0 = .ok (.iconst 0, 1) := dk_3 (dk_at dksX2_size_0 0 rfl rfl)
theorem dX2_size_1 : decode cX2_size 1 = .ok (.istore_n 1, 1) := dk_60 (dk_at dksX2_size_0 1 rfl rfl)
theorem dX2_size_2 : decode cX2_size 2 = .ok (.iload_n 0, 1) := dk_26 (dk_at dksX2_size_0 2 rfl rfl)
theorem dX2_size_3 : decode cX2_size 3 = .ok (.istore_n 2, 1) := dk_61 (dk_at dksX2_size_0 3 rfl rfl)
theorem dX2_size_4 : decode cX2_size 4 = .ok (.iload_n 2, 1) := dk_28 (dk_at dksX2_size_0 4 rfl rfl)
theorem dX2_size_5 : decode cX2_size 5 = .ok (.ifCond .le 13, 3) := dk_158 0 13 (dk_at dksX2_size_0 5 rfl rfl)
theorem dX2_size_8 : decode cX2_size 8 = .ok (.iinc 1 1, 3) := dk_132 1 1 (dk_at dksX2_size_0 8 rfl rfl)
theorem dX2_size_11 : decode cX2_size 11 = .ok (.iload_n 2, 1) := dk_28 (dk_at dksX2_size_0 11 rfl rfl)
theorem dX2_size_12 : decode cX2_size 12 = .ok (.iconst 4, 1) := dk_7 (dk_at dksX2_size_0 12 rfl rfl)
theorem dX2_size_13 : decode cX2_size 13 = .ok (.idiv, 1) := dk_108 (dk_at dksX2_size_0 13 rfl rfl)
theorem dX2_size_14 : decode cX2_size 14 = .ok (.istore_n 2, 1) := dk_61 (dk_at dksX2_size_0 14 rfl rfl)
theorem dX2_size_15 : decode cX2_size 15 = .ok (.goto (-11), 3) := dk_167 255 245 (dk_at dksX2_size_0 15 rfl rfl)
theorem dX2_size_18 : decode cX2_size 18 = .ok (.iload_n 1, 1) := dk_27 (dk_at dksX2_size_0 18 rfl rfl)
theorem dX2_size_19 : decode cX2_size 19 = .ok (.ireturn, 1) := dk_172 (dk_at dksX2_size_0 19 rfl rfl)
abbrev cX2_isIn : ByteArray := prog_10_method_10_code
def yX2_isIn : MethodName := ⟨RX2, "isIn", "(I)Z"⟩
def dkwX2_isIn_0 : List UInt8 := [42, 180, 0, 66, 27, 122, 4, 126, 4, 160, 0, 7, 4, 167, 0, 4, 3, 172]
abbrev dktX2_isIn_0 : List UInt8 := dkwX2_isIn_0 ++ []
theorem dksX2_isIn_0 : cX2_isIn.data.toList.drop 0 = dktX2_isIn_0 := by decide +kernel
theorem dX2_isIn_0 : decode cX2_isIn 0 = .ok (.aload_n 0, 1) := dk_42 (dk_at dksX2_isIn_0 0 rfl rfl)
theorem dX2_isIn_1 : decode cX2_isIn 1 = .ok (.getfield 66, 3) := dk_180 0 66 (dk_at dksX2_isIn_0 1 rfl rfl)
theorem dX2_isIn_4 : decode cX2_isIn 4 = .ok (.iload_n 1, 1) := dk_27 (dk_at dksX2_isIn_0 4 rfl rfl)
theorem dX2_isIn_5 : decode cX2_isIn 5 = .ok (.ishr, 1) := dk_122 (dk_at dksX2_isIn_0 5 rfl rfl)
theorem dX2_isIn_6 : decode cX2_isIn 6 = .ok (.iconst 1, 1) := dk_4 (dk_at dksX2_isIn_0 6 rfl rfl)
theorem dX2_isIn_7 : decode cX2_isIn 7 = .ok (.iand, 1) := dk_126 (dk_at dksX2_isIn_0 7 rfl rfl)
theorem dX2_isIn_8 : decode cX2_isIn 8 = .ok (.iconst 1, 1) := dk_4 (dk_at dksX2_isIn_0 8 rfl rfl)
theorem dX2_isIn_9 : decode cX2_isIn 9 = .ok (.if_icmp .ne 7, 3) := dk_160 0 7 (dk_at dksX2_isIn_0 9 rfl rfl)
theorem dX2_isIn_12 : decode cX2_isIn 12 = .ok (.iconst 1, 1) := dk_4 (dk_at dksX2_isIn_0 12 rfl rfl)
theorem dX2_isIn_13 : decode cX2_isIn 13 = .ok (.goto 4, 3) := dk_167 0 4 (dk_at dksX2_isIn_0 13 rfl rfl)
theorem dX2_isIn_16 : decode cX2_isIn 16 = .ok (.iconst 0, 1) := dk_3 (dk_at dksX2_isIn_0 16 rfl rfl)
theorem dX2_isIn_17 : decode cX2_isIn 17 = .ok (.ireturn, 1) := dk_172 (dk_at dksX2_isIn_0 17 rfl rfl)
abbrev cX2_moved : ByteArray := prog_10_method_13_code
def yX2_moved : MethodName := ⟨RX2, "moved", "(II)I"⟩
def dkwX2_moved_0 : List UInt8 := [27, 28, 96, 42, 180, 0, 55, 96, 42, 180, 0, 55, 112, 172]
abbrev dktX2_moved_0 : List UInt8 := dkwX2_moved_0 ++ []
theorem dksX2_moved_0 : cX2_moved.data.toList.drop 0 = dktX2_moved_0 := by decide +kernel
theorem dX2_moved_0 : decode cX2_moved 0 = .ok (.iload_n 1, 1) := dk_27 (dk_at dksX2_moved_0 0 rfl rfl)
theorem dX2_moved_1 : decode cX2_moved 1 = .ok (.iload_n 2, 1) := dk_28 (dk_at dksX2_moved_0 1 rfl rfl)
theorem dX2_moved_2 : decode cX2_moved 2 = .ok (.iadd, 1) := dk_96 (dk_at dksX2_moved_0 2 rfl rfl)
theorem dX2_moved_3 : decode cX2_moved 3 = .ok (.aload_n 0, 1) := dk_42 (dk_at dksX2_moved_0 3 rfl rfl)
theorem dX2_moved_4 : decode cX2_moved 4 = .ok (.getfield 55, 3) := dk_180 0 55 (dk_at dksX2_moved_0 4 rfl rfl)
theorem dX2_moved_7 : decode cX2_moved 7 = .ok (.iadd, 1) := dk_96 (dk_at dksX2_moved_0 7 rfl rfl)
theorem dX2_moved_8 : decode cX2_moved 8 = .ok (.aload_n 0, 1) := dk_42 (dk_at dksX2_moved_0 8 rfl rfl)
theorem dX2_moved_9 : decode cX2_moved 9 = .ok (.getfield 55, 3) := dk_180 0 55 (dk_at dksX2_moved_0 9 rfl rfl)
theorem dX2_moved_12 : decode cX2_moved 12 = .ok (.irem, 1) := dk_112 (dk_at dksX2_moved_0 12 rfl rfl)
theorem dX2_moved_13 : decode cX2_moved 13 = .ok (.ireturn, 1) := dk_172 (dk_at dksX2_moved_0 13 rfl rfl)
abbrev cX2_append : ByteArray := prog_10_method_25_code
def yX2_append : MethodName := ⟨RX2, "append", "(I)I"⟩
def dkwX2_append_2 : List UInt8 := [42, 180, 0, 125, 27, 79, 42, 89, 180, 0, 125, 4, 96, 181, 0, 125, 42, 180, 0, 125, 172]
abbrev dktX2_append_2 : List UInt8 := dkwX2_append_2 ++ []
def dkwX2_append_1 : List UInt8 := [160, 0, 7, 5, 167, 0, 4, 3, 181, 0, 51, 42, 180, 0, 51, 158, 0, 5, 3, 172, 42, 180, 0, 13]
abbrev dktX2_append_1 : List UInt8 := dkwX2_append_1 ++ dktX2_append_2
def dkwX2_append_0 : List UInt8 := [42, 27, 16, 33, 16, 126, 184, 0, 58, 154, 0, 7, 4, 167, 0, 17, 42, 180, 0, 125, 16, 60]
abbrev dktX2_append_0 : List UInt8 := dkwX2_append_0 ++ dktX2_append_1
theorem dksX2_append_0 : cX2_append.data.toList.drop 0 = dktX2_append_0 := by decide +kernel
theorem dksX2_append_1 : cX2_append.data.toList.drop 22 = dktX2_append_1 := dk_seg dksX2_append_0 22 rfl rfl
theorem dksX2_append_2 : cX2_append.data.toList.drop 46 = dktX2_append_2 := dk_seg dksX2_append_1 24 rfl rfl
theorem dX2_append_0 : decode cX2_append 0 = .ok (.aload_n 0, 1) := dk_42 (dk_at dksX2_append_0 0 rfl rfl)
theorem dX2_append_1 : decode cX2_append 1 = .ok (.iload_n 1, 1) := dk_27 (dk_at dksX2_append_0 1 rfl rfl)
theorem dX2_append_2 : decode cX2_append 2 = .ok (.bipush 33, 2) := dk_16 33 (dk_at dksX2_append_0 2 rfl rfl)
theorem dX2_append_4 : decode cX2_append 4 = .ok (.bipush 126, 2) := dk_16 126 (dk_at dksX2_append_0 4 rfl rfl)
theorem dX2_append_6 : decode cX2_append 6 = .ok (.invokestatic 58, 3) := dk_184 0 58 (dk_at dksX2_append_0 6 rfl rfl)
theorem dX2_append_9 : decode cX2_append 9 = .ok (.ifCond .ne 7, 3) := dk_154 0 7 (dk_at dksX2_append_0 9 rfl rfl)
theorem dX2_append_12 : decode cX2_append 12 = .ok (.iconst 1, 1) := dk_4 (dk_at dksX2_append_0 12 rfl rfl)
theorem dX2_append_13 : decode cX2_append 13 = .ok (.goto 17, 3) := dk_167 0 17 (dk_at dksX2_append_0 13 rfl rfl)
theorem dX2_append_16 : decode cX2_append 16 = .ok (.aload_n 0, 1) := dk_42 (dk_at dksX2_append_0 16 rfl rfl)
theorem dX2_append_17 : decode cX2_append 17 = .ok (.getfield 125, 3) := dk_180 0 125 (dk_at dksX2_append_0 17 rfl rfl)
theorem dX2_append_20 : decode cX2_append 20 = .ok (.bipush 60, 2) := dk_16 60 (dk_at dksX2_append_0 20 rfl rfl)
theorem dX2_append_22 : decode cX2_append 22 = .ok (.if_icmp .ne 7, 3) := dk_160 0 7 (dk_at dksX2_append_1 0 rfl rfl)
theorem dX2_append_25 : decode cX2_append 25 = .ok (.iconst 2, 1) := dk_5 (dk_at dksX2_append_1 3 rfl rfl)
theorem dX2_append_26 : decode cX2_append 26 = .ok (.goto 4, 3) := dk_167 0 4 (dk_at dksX2_append_1 4 rfl rfl)
theorem dX2_append_29 : decode cX2_append 29 = .ok (.iconst 0, 1) := dk_3 (dk_at dksX2_append_1 7 rfl rfl)
theorem dX2_append_30 : decode cX2_append 30 = .ok (.putfield 51, 3) := dk_181 0 51 (dk_at dksX2_append_1 8 rfl rfl)
theorem dX2_append_33 : decode cX2_append 33 = .ok (.aload_n 0, 1) := dk_42 (dk_at dksX2_append_1 11 rfl rfl)
theorem dX2_append_34 : decode cX2_append 34 = .ok (.getfield 51, 3) := dk_180 0 51 (dk_at dksX2_append_1 12 rfl rfl)
theorem dX2_append_37 : decode cX2_append 37 = .ok (.ifCond .le 5, 3) := dk_158 0 5 (dk_at dksX2_append_1 15 rfl rfl)
theorem dX2_append_40 : decode cX2_append 40 = .ok (.iconst 0, 1) := dk_3 (dk_at dksX2_append_1 18 rfl rfl)
theorem dX2_append_41 : decode cX2_append 41 = .ok (.ireturn, 1) := dk_172 (dk_at dksX2_append_1 19 rfl rfl)
theorem dX2_append_42 : decode cX2_append 42 = .ok (.aload_n 0, 1) := dk_42 (dk_at dksX2_append_1 20 rfl rfl)
theorem dX2_append_43 : decode cX2_append 43 = .ok (.getfield 13, 3) := dk_180 0 13 (dk_at dksX2_append_1 21 rfl rfl)
theorem dX2_append_46 : decode cX2_append 46 = .ok (.aload_n 0, 1) := dk_42 (dk_at dksX2_append_2 0 rfl rfl)
theorem dX2_append_47 : decode cX2_append 47 = .ok (.getfield 125, 3) := dk_180 0 125 (dk_at dksX2_append_2 1 rfl rfl)
theorem dX2_append_50 : decode cX2_append 50 = .ok (.iload_n 1, 1) := dk_27 (dk_at dksX2_append_2 4 rfl rfl)
theorem dX2_append_51 : decode cX2_append 51 = .ok (.iastore, 1) := dk_79 (dk_at dksX2_append_2 5 rfl rfl)
theorem dX2_append_52 : decode cX2_append 52 = .ok (.aload_n 0, 1) := dk_42 (dk_at dksX2_append_2 6 rfl rfl)
theorem dX2_append_53 : decode cX2_append 53 = .ok (.dup, 1) := dk_89 (dk_at dksX2_append_2 7 rfl rfl)
theorem dX2_append_54 : decode cX2_append 54 = .ok (.getfield 125, 3) := dk_180 0 125 (dk_at dksX2_append_2 8 rfl rfl)
theorem dX2_append_57 : decode cX2_append 57 = .ok (.iconst 1, 1) := dk_4 (dk_at dksX2_append_2 11 rfl rfl)
theorem dX2_append_58 : decode cX2_append 58 = .ok (.iadd, 1) := dk_96 (dk_at dksX2_append_2 12 rfl rfl)
theorem dX2_append_59 : decode cX2_append 59 = .ok (.putfield 125, 3) := dk_181 0 125 (dk_at dksX2_append_2 13 rfl rfl)
theorem dX2_append_62 : decode cX2_append 62 = .ok (.aload_n 0, 1) := dk_42 (dk_at dksX2_append_2 16 rfl rfl)
theorem dX2_append_63 : decode cX2_append 63 = .ok (.getfield 125, 3) := dk_180 0 125 (dk_at dksX2_append_2 17 rfl rfl)
theorem dX2_append_66 : decode cX2_append 66 = .ok (.ireturn, 1) := dk_172 (dk_at dksX2_append_2 20 rfl rfl)
abbrev cX2_clearBuffer : ByteArray := prog_10_method_26_code
def yX2_clearBuffer : MethodName := ⟨RX2, "clearBuffer", "()I"⟩
def dkwX2_clearBuffer_0 : List UInt8 := [42, 3, 181, 0, 51, 42, 180, 0, 125, 60, 42, 3, 181, 0, 125, 27, 172]
abbrev dktX2_clearBuffer_0 : List UInt8 := dkwX2_clearBuffer_0 ++ []
theorem dksX2_clearBuffer_0 : cX2_clearBuffer.data.toList.drop 0 = dktX2_clearBuffer_0 := by decide +kernel
theorem dX2_clearBuffer_0 : decode cX2_clearBuffer 0 = .ok (.aload_n 0, 1) := dk_42 (dk_at dksX2_clearBuffer_0 0 rfl rfl)
theorem dX2_clearBuffer_1 : decode cX2_clearBuffer 1 = .ok (.iconst 0, 1) := dk_3 (dk_at dksX2_clearBuffer_0 1 rfl rfl)
theorem dX2_clearBuffer_2 : decode cX2_clearBuffer 2 = .ok (.putfield 51, 3) := dk_181 0 51 (dk_at dksX2_clearBuffer_0 2 rfl rfl)
theorem dX2_clearBuffer_5 : decode cX2_clearBuffer 5 = .ok (.aload_n 0, 1) := dk_42 (dk_at dksX2_clearBuffer_0 5 rfl rfl)
theorem dX2_clearBuffer_6 : decode cX2_clearBuffer 6 = .ok (.getfield 125, 3) := dk_180 0 125 (dk_at dksX2_clearBuffer_0 6 rfl rfl)
theorem dX2_clearBuffer_9 : decode cX2_clearBuffer 9 = .ok (.istore_n 1, 1) := dk_60 (dk_at dksX2_clearBuffer_0 9 rfl rfl)
theorem dX2_clearBuffer_10 : decode cX2_clearBuffer 10 = .ok (.aload_n 0, 1) := dk_42 (dk_at dksX2_clearBuffer_0 10 rfl rfl)
theorem dX2_clearBuffer_11 : decode cX2_clearBuffer 11 = .ok (.iconst 0, 1) := dk_3 (dk_at dksX2_clearBuffer_0 11 rfl rfl)
theorem dX2_clearBuffer_12 : decode cX2_clearBuffer 12 = .ok (.putfield 125, 3) := dk_181 0 125 (dk_at dksX2_clearBuffer_0 12 rfl rfl)
theorem dX2_clearBuffer_15 : decode cX2_clearBuffer 15 = .ok (.iload_n 1, 1) := dk_27 (dk_at dksX2_clearBuffer_0 15 rfl rfl)
theorem dX2_clearBuffer_16 : decode cX2_clearBuffer 16 = .ok (.ireturn, 1) := dk_172 (dk_at dksX2_clearBuffer_0 16 rfl rfl)
abbrev cX2_firstError : ByteArray := prog_10_method_35_code
def yX2_firstError : MethodName := ⟨RX2, "firstError", "()I"⟩
def dkwX2_firstError_0 : List UInt8 := [42, 3, 181, 0, 51, 42, 182, 0, 169, 172]
abbrev dktX2_firstError_0 : List UInt8 := dkwX2_firstError_0 ++ []
theorem dksX2_firstError_0 : cX2_firstError.data.toList.drop 0 = dktX2_firstError_0 := by decide +kernel
theorem dX2_firstError_0 : decode cX2_firstError 0 = .ok (.aload_n 0, 1) := dk_42 (dk_at dksX2_firstError_0 0 rfl rfl)
theorem dX2_firstError_1 : decode cX2_firstError 1 = .ok (.iconst 0, 1) := dk_3 (dk_at dksX2_firstError_0 1 rfl rfl)
theorem dX2_firstError_2 : decode cX2_firstError 2 = .ok (.putfield 51, 3) := dk_181 0 51 (dk_at dksX2_firstError_0 2 rfl rfl)
theorem dX2_firstError_5 : decode cX2_firstError 5 = .ok (.aload_n 0, 1) := dk_42 (dk_at dksX2_firstError_0 5 rfl rfl)
theorem dX2_firstError_6 : decode cX2_firstError 6 = .ok (.invokevirtual 169, 3) := dk_182 0 169 (dk_at dksX2_firstError_0 6 rfl rfl)
theorem dX2_firstError_9 : decode cX2_firstError 9 = .ok (.ireturn, 1) := dk_172 (dk_at dksX2_firstError_0 9 rfl rfl)
abbrev cX2_readText : ByteArray := prog_10_method_34_code
def yX2_readText : MethodName := ⟨RX2, "readText", "()I"⟩
def dkwX2_readText_1 : List UInt8 := [180, 0, 13, 27, 46, 182, 0, 166, 153, 0, 9, 132, 1, 1, 167, 255, 232, 27, 172]
abbrev dktX2_readText_1 : List UInt8 := dkwX2_readText_1 ++ []
def dkwX2_readText_0 : List UInt8 := [42, 3, 181, 0, 137, 42, 3, 181, 0, 143, 3, 60, 27, 42, 180, 0, 125, 162, 0, 22, 42, 42]
abbrev dktX2_readText_0 : List UInt8 := dkwX2_readText_0 ++ dktX2_readText_1
theorem dksX2_readText_0 : cX2_readText.data.toList.drop 0 = dktX2_readText_0 := by decide +kernel
theorem dksX2_readText_1 : cX2_readText.data.toList.drop 22 = dktX2_readText_1 := dk_seg dksX2_readText_0 22 rfl rfl
theorem dX2_readText_0 : decode cX2_readText 0 = .ok (.aload_n 0, 1) := dk_42 (dk_at dksX2_readText_0 0 rfl rfl)
theorem dX2_readText_1 : decode cX2_readText 1 = .ok (.iconst 0, 1) := dk_3 (dk_at dksX2_readText_0 1 rfl rfl)
theorem dX2_readText_2 : decode cX2_readText 2 = .ok (.putfield 137, 3) := dk_181 0 137 (dk_at dksX2_readText_0 2 rfl rfl)
theorem dX2_readText_5 : decode cX2_readText 5 = .ok (.aload_n 0, 1) := dk_42 (dk_at dksX2_readText_0 5 rfl rfl)
theorem dX2_readText_6 : decode cX2_readText 6 = .ok (.iconst 0, 1) := dk_3 (dk_at dksX2_readText_0 6 rfl rfl)
theorem dX2_readText_7 : decode cX2_readText 7 = .ok (.putfield 143, 3) := dk_181 0 143 (dk_at dksX2_readText_0 7 rfl rfl)
theorem dX2_readText_10 : decode cX2_readText 10 = .ok (.iconst 0, 1) := dk_3 (dk_at dksX2_readText_0 10 rfl rfl)
theorem dX2_readText_11 : decode cX2_readText 11 = .ok (.istore_n 1, 1) := dk_60 (dk_at dksX2_readText_0 11 rfl rfl)
theorem dX2_readText_12 : decode cX2_readText 12 = .ok (.iload_n 1, 1) := dk_27 (dk_at dksX2_readText_0 12 rfl rfl)
theorem dX2_readText_13 : decode cX2_readText 13 = .ok (.aload_n 0, 1) := dk_42 (dk_at dksX2_readText_0 13 rfl rfl)
theorem dX2_readText_14 : decode cX2_readText 14 = .ok (.getfield 125, 3) := dk_180 0 125 (dk_at dksX2_readText_0 14 rfl rfl)
theorem dX2_readText_17 : decode cX2_readText 17 = .ok (.if_icmp .ge 22, 3) := dk_162 0 22 (dk_at dksX2_readText_0 17 rfl rfl)
theorem dX2_readText_20 : decode cX2_readText 20 = .ok (.aload_n 0, 1) := dk_42 (dk_at dksX2_readText_0 20 rfl rfl)
theorem dX2_readText_21 : decode cX2_readText 21 = .ok (.aload_n 0, 1) := dk_42 (dk_at dksX2_readText_0 21 rfl rfl)
theorem dX2_readText_22 : decode cX2_readText 22 = .ok (.getfield 13, 3) := dk_180 0 13 (dk_at dksX2_readText_1 0 rfl rfl)
theorem dX2_readText_25 : decode cX2_readText 25 = .ok (.iload_n 1, 1) := dk_27 (dk_at dksX2_readText_1 3 rfl rfl)
theorem dX2_readText_26 : decode cX2_readText 26 = .ok (.iaload, 1) := dk_46 (dk_at dksX2_readText_1 4 rfl rfl)
theorem dX2_readText_27 : decode cX2_readText 27 = .ok (.invokevirtual 166, 3) := dk_182 0 166 (dk_at dksX2_readText_1 5 rfl rfl)
theorem dX2_readText_30 : decode cX2_readText 30 = .ok (.ifCond .eq 9, 3) := dk_153 0 9 (dk_at dksX2_readText_1 8 rfl rfl)
theorem dX2_readText_33 : decode cX2_readText 33 = .ok (.iinc 1 1, 3) := dk_132 1 1 (dk_at dksX2_readText_1 11 rfl rfl)
theorem dX2_readText_36 : decode cX2_readText 36 = .ok (.goto (-24), 3) := dk_167 255 232 (dk_at dksX2_readText_1 14 rfl rfl)
theorem dX2_readText_39 : decode cX2_readText 39 = .ok (.iload_n 1, 1) := dk_27 (dk_at dksX2_readText_1 17 rfl rfl)
theorem dX2_readText_40 : decode cX2_readText 40 = .ok (.ireturn, 1) := dk_172 (dk_at dksX2_readText_1 18 rfl rfl)
abbrev cX2_takes : ByteArray := prog_10_method_33_code
def yX2_takes : MethodName := ⟨RX2, "takes", "(I)Z"⟩
def dkwX2_takes_6 : List UInt8 := [182, 0, 156, 172, 42, 27, 182, 0, 163, 172]
abbrev dktX2_takes_6 : List UInt8 := dkwX2_takes_6 ++ []
def dkwX2_takes_5 : List UInt8 := [167, 0, 4, 3, 5, 182, 0, 156, 172, 42, 27, 16, 58, 160, 0, 7, 4, 167, 0, 4, 3, 16, 6]
abbrev dktX2_takes_5 : List UInt8 := dkwX2_takes_5 ++ dktX2_takes_6
def dkwX2_takes_4 : List UInt8 := [182, 0, 160, 172, 42, 27, 16, 44, 160, 0, 18, 42, 180, 0, 131, 42, 180, 0, 55, 162, 0, 7, 4]
abbrev dktX2_takes_4 : List UInt8 := dkwX2_takes_4 ++ dktX2_takes_5
def dkwX2_takes_3 : List UInt8 := [27, 16, 48, 100, 181, 0, 140, 42, 27, 16, 48, 16, 57, 184, 0, 58, 6, 182, 0, 156, 172, 42, 27]
abbrev dktX2_takes_3 : List UInt8 := dkwX2_takes_3 ++ dktX2_takes_4
def dkwX2_takes_2 : List UInt8 := [42, 27, 182, 0, 153, 172, 42, 27, 16, 58, 160, 0, 7, 4, 167, 0, 4, 3, 5, 182, 0, 156, 172, 42]
abbrev dktX2_takes_2 : List UInt8 := dkwX2_takes_2 ++ dktX2_takes_3
def dkwX2_takes_1 : List UInt8 := [170, 0, 0, 0, 134, 0, 0, 0, 0, 0, 0, 0, 5, 0, 0, 0, 37, 0, 0, 0, 43, 0, 0, 0, 60, 0, 0, 0, 82, 0, 0, 0, 88, 0, 0, 0, 116]
abbrev dktX2_takes_1 : List UInt8 := dkwX2_takes_1 ++ dktX2_takes_2
def dkwX2_takes_0 : List UInt8 := [27, 16, 59, 160, 0, 16, 42, 182, 0, 146, 153, 0, 9, 42, 182, 0, 150, 4, 172, 42, 180, 0, 137]
abbrev dktX2_takes_0 : List UInt8 := dkwX2_takes_0 ++ dktX2_takes_1
theorem dksX2_takes_0 : cX2_takes.data.toList.drop 0 = dktX2_takes_0 := by decide +kernel
theorem dksX2_takes_1 : cX2_takes.data.toList.drop 23 = dktX2_takes_1 := dk_seg dksX2_takes_0 23 rfl rfl
theorem dksX2_takes_2 : cX2_takes.data.toList.drop 60 = dktX2_takes_2 := dk_seg dksX2_takes_1 37 rfl rfl
theorem dksX2_takes_3 : cX2_takes.data.toList.drop 84 = dktX2_takes_3 := dk_seg dksX2_takes_2 24 rfl rfl
theorem dksX2_takes_4 : cX2_takes.data.toList.drop 107 = dktX2_takes_4 := dk_seg dksX2_takes_3 23 rfl rfl
theorem dksX2_takes_5 : cX2_takes.data.toList.drop 130 = dktX2_takes_5 := dk_seg dksX2_takes_4 23 rfl rfl
theorem dksX2_takes_6 : cX2_takes.data.toList.drop 153 = dktX2_takes_6 := dk_seg dksX2_takes_5 23 rfl rfl
theorem dX2_takes_0 : decode cX2_takes 0 = .ok (.iload_n 1, 1) := dk_27 (dk_at dksX2_takes_0 0 rfl rfl)
theorem dX2_takes_1 : decode cX2_takes 1 = .ok (.bipush 59, 2) := dk_16 59 (dk_at dksX2_takes_0 1 rfl rfl)
theorem dX2_takes_3 : decode cX2_takes 3 = .ok (.if_icmp .ne 16, 3) := dk_160 0 16 (dk_at dksX2_takes_0 3 rfl rfl)
theorem dX2_takes_6 : decode cX2_takes 6 = .ok (.aload_n 0, 1) := dk_42 (dk_at dksX2_takes_0 6 rfl rfl)
theorem dX2_takes_7 : decode cX2_takes 7 = .ok (.invokevirtual 146, 3) := dk_182 0 146 (dk_at dksX2_takes_0 7 rfl rfl)
theorem dX2_takes_10 : decode cX2_takes 10 = .ok (.ifCond .eq 9, 3) := dk_153 0 9 (dk_at dksX2_takes_0 10 rfl rfl)
theorem dX2_takes_13 : decode cX2_takes 13 = .ok (.aload_n 0, 1) := dk_42 (dk_at dksX2_takes_0 13 rfl rfl)
theorem dX2_takes_14 : decode cX2_takes 14 = .ok (.invokevirtual 150, 3) := dk_182 0 150 (dk_at dksX2_takes_0 14 rfl rfl)
theorem dX2_takes_17 : decode cX2_takes 17 = .ok (.iconst 1, 1) := dk_4 (dk_at dksX2_takes_0 17 rfl rfl)
theorem dX2_takes_18 : decode cX2_takes 18 = .ok (.ireturn, 1) := dk_172 (dk_at dksX2_takes_0 18 rfl rfl)
theorem dX2_takes_19 : decode cX2_takes 19 = .ok (.aload_n 0, 1) := dk_42 (dk_at dksX2_takes_0 19 rfl rfl)
theorem dX2_takes_20 : decode cX2_takes 20 = .ok (.getfield 137, 3) := dk_180 0 137 (dk_at dksX2_takes_0 20 rfl rfl)
theorem dX2_takes_23 : decode cX2_takes 23 = .ok (.tableswitch 134 0 5 #[37, 43, 60, 82, 88, 116], 37) := by decide +kernel
theorem dX2_takes_60 : decode cX2_takes 60 = .ok (.aload_n 0, 1) := dk_42 (dk_at dksX2_takes_2 0 rfl rfl)
theorem dX2_takes_61 : decode cX2_takes 61 = .ok (.iload_n 1, 1) := dk_27 (dk_at dksX2_takes_2 1 rfl rfl)
theorem dX2_takes_62 : decode cX2_takes 62 = .ok (.invokevirtual 153, 3) := dk_182 0 153 (dk_at dksX2_takes_2 2 rfl rfl)
theorem dX2_takes_65 : decode cX2_takes 65 = .ok (.ireturn, 1) := dk_172 (dk_at dksX2_takes_2 5 rfl rfl)
theorem dX2_takes_66 : decode cX2_takes 66 = .ok (.aload_n 0, 1) := dk_42 (dk_at dksX2_takes_2 6 rfl rfl)
theorem dX2_takes_67 : decode cX2_takes 67 = .ok (.iload_n 1, 1) := dk_27 (dk_at dksX2_takes_2 7 rfl rfl)
theorem dX2_takes_68 : decode cX2_takes 68 = .ok (.bipush 58, 2) := dk_16 58 (dk_at dksX2_takes_2 8 rfl rfl)
theorem dX2_takes_70 : decode cX2_takes 70 = .ok (.if_icmp .ne 7, 3) := dk_160 0 7 (dk_at dksX2_takes_2 10 rfl rfl)
theorem dX2_takes_73 : decode cX2_takes 73 = .ok (.iconst 1, 1) := dk_4 (dk_at dksX2_takes_2 13 rfl rfl)
theorem dX2_takes_74 : decode cX2_takes 74 = .ok (.goto 4, 3) := dk_167 0 4 (dk_at dksX2_takes_2 14 rfl rfl)
theorem dX2_takes_77 : decode cX2_takes 77 = .ok (.iconst 0, 1) := dk_3 (dk_at dksX2_takes_2 17 rfl rfl)
theorem dX2_takes_78 : decode cX2_takes 78 = .ok (.iconst 2, 1) := dk_5 (dk_at dksX2_takes_2 18 rfl rfl)
theorem dX2_takes_79 : decode cX2_takes 79 = .ok (.invokevirtual 156, 3) := dk_182 0 156 (dk_at dksX2_takes_2 19 rfl rfl)
theorem dX2_takes_82 : decode cX2_takes 82 = .ok (.ireturn, 1) := dk_172 (dk_at dksX2_takes_2 22 rfl rfl)
theorem dX2_takes_83 : decode cX2_takes 83 = .ok (.aload_n 0, 1) := dk_42 (dk_at dksX2_takes_2 23 rfl rfl)
theorem dX2_takes_84 : decode cX2_takes 84 = .ok (.iload_n 1, 1) := dk_27 (dk_at dksX2_takes_3 0 rfl rfl)
theorem dX2_takes_85 : decode cX2_takes 85 = .ok (.bipush 48, 2) := dk_16 48 (dk_at dksX2_takes_3 1 rfl rfl)
theorem dX2_takes_87 : decode cX2_takes 87 = .ok (.isub, 1) := dk_100 (dk_at dksX2_takes_3 3 rfl rfl)
theorem dX2_takes_88 : decode cX2_takes 88 = .ok (.putfield 140, 3) := dk_181 0 140 (dk_at dksX2_takes_3 4 rfl rfl)
theorem dX2_takes_91 : decode cX2_takes 91 = .ok (.aload_n 0, 1) := dk_42 (dk_at dksX2_takes_3 7 rfl rfl)
theorem dX2_takes_92 : decode cX2_takes 92 = .ok (.iload_n 1, 1) := dk_27 (dk_at dksX2_takes_3 8 rfl rfl)
theorem dX2_takes_93 : decode cX2_takes 93 = .ok (.bipush 48, 2) := dk_16 48 (dk_at dksX2_takes_3 9 rfl rfl)
theorem dX2_takes_95 : decode cX2_takes 95 = .ok (.bipush 57, 2) := dk_16 57 (dk_at dksX2_takes_3 11 rfl rfl)
theorem dX2_takes_97 : decode cX2_takes 97 = .ok (.invokestatic 58, 3) := dk_184 0 58 (dk_at dksX2_takes_3 13 rfl rfl)
theorem dX2_takes_100 : decode cX2_takes 100 = .ok (.iconst 3, 1) := dk_6 (dk_at dksX2_takes_3 16 rfl rfl)
theorem dX2_takes_101 : decode cX2_takes 101 = .ok (.invokevirtual 156, 3) := dk_182 0 156 (dk_at dksX2_takes_3 17 rfl rfl)
theorem dX2_takes_104 : decode cX2_takes 104 = .ok (.ireturn, 1) := dk_172 (dk_at dksX2_takes_3 20 rfl rfl)
theorem dX2_takes_105 : decode cX2_takes 105 = .ok (.aload_n 0, 1) := dk_42 (dk_at dksX2_takes_3 21 rfl rfl)
theorem dX2_takes_106 : decode cX2_takes 106 = .ok (.iload_n 1, 1) := dk_27 (dk_at dksX2_takes_3 22 rfl rfl)
theorem dX2_takes_107 : decode cX2_takes 107 = .ok (.invokevirtual 160, 3) := dk_182 0 160 (dk_at dksX2_takes_4 0 rfl rfl)
theorem dX2_takes_110 : decode cX2_takes 110 = .ok (.ireturn, 1) := dk_172 (dk_at dksX2_takes_4 3 rfl rfl)
theorem dX2_takes_111 : decode cX2_takes 111 = .ok (.aload_n 0, 1) := dk_42 (dk_at dksX2_takes_4 4 rfl rfl)
theorem dX2_takes_112 : decode cX2_takes 112 = .ok (.iload_n 1, 1) := dk_27 (dk_at dksX2_takes_4 5 rfl rfl)
theorem dX2_takes_113 : decode cX2_takes 113 = .ok (.bipush 44, 2) := dk_16 44 (dk_at dksX2_takes_4 6 rfl rfl)
theorem dX2_takes_115 : decode cX2_takes 115 = .ok (.if_icmp .ne 18, 3) := dk_160 0 18 (dk_at dksX2_takes_4 8 rfl rfl)
theorem dX2_takes_118 : decode cX2_takes 118 = .ok (.aload_n 0, 1) := dk_42 (dk_at dksX2_takes_4 11 rfl rfl)
theorem dX2_takes_119 : decode cX2_takes 119 = .ok (.getfield 131, 3) := dk_180 0 131 (dk_at dksX2_takes_4 12 rfl rfl)
theorem dX2_takes_122 : decode cX2_takes 122 = .ok (.aload_n 0, 1) := dk_42 (dk_at dksX2_takes_4 15 rfl rfl)
theorem dX2_takes_123 : decode cX2_takes 123 = .ok (.getfield 55, 3) := dk_180 0 55 (dk_at dksX2_takes_4 16 rfl rfl)
theorem dX2_takes_126 : decode cX2_takes 126 = .ok (.if_icmp .ge 7, 3) := dk_162 0 7 (dk_at dksX2_takes_4 19 rfl rfl)
theorem dX2_takes_129 : decode cX2_takes 129 = .ok (.iconst 1, 1) := dk_4 (dk_at dksX2_takes_4 22 rfl rfl)
theorem dX2_takes_130 : decode cX2_takes 130 = .ok (.goto 4, 3) := dk_167 0 4 (dk_at dksX2_takes_5 0 rfl rfl)
theorem dX2_takes_133 : decode cX2_takes 133 = .ok (.iconst 0, 1) := dk_3 (dk_at dksX2_takes_5 3 rfl rfl)
theorem dX2_takes_134 : decode cX2_takes 134 = .ok (.iconst 2, 1) := dk_5 (dk_at dksX2_takes_5 4 rfl rfl)
theorem dX2_takes_135 : decode cX2_takes 135 = .ok (.invokevirtual 156, 3) := dk_182 0 156 (dk_at dksX2_takes_5 5 rfl rfl)
theorem dX2_takes_138 : decode cX2_takes 138 = .ok (.ireturn, 1) := dk_172 (dk_at dksX2_takes_5 8 rfl rfl)
theorem dX2_takes_139 : decode cX2_takes 139 = .ok (.aload_n 0, 1) := dk_42 (dk_at dksX2_takes_5 9 rfl rfl)
theorem dX2_takes_140 : decode cX2_takes 140 = .ok (.iload_n 1, 1) := dk_27 (dk_at dksX2_takes_5 10 rfl rfl)
theorem dX2_takes_141 : decode cX2_takes 141 = .ok (.bipush 58, 2) := dk_16 58 (dk_at dksX2_takes_5 11 rfl rfl)
theorem dX2_takes_143 : decode cX2_takes 143 = .ok (.if_icmp .ne 7, 3) := dk_160 0 7 (dk_at dksX2_takes_5 13 rfl rfl)
theorem dX2_takes_146 : decode cX2_takes 146 = .ok (.iconst 1, 1) := dk_4 (dk_at dksX2_takes_5 16 rfl rfl)
theorem dX2_takes_147 : decode cX2_takes 147 = .ok (.goto 4, 3) := dk_167 0 4 (dk_at dksX2_takes_5 17 rfl rfl)
theorem dX2_takes_150 : decode cX2_takes 150 = .ok (.iconst 0, 1) := dk_3 (dk_at dksX2_takes_5 20 rfl rfl)
theorem dX2_takes_151 : decode cX2_takes 151 = .ok (.bipush 6, 2) := dk_16 6 (dk_at dksX2_takes_5 21 rfl rfl)
theorem dX2_takes_153 : decode cX2_takes 153 = .ok (.invokevirtual 156, 3) := dk_182 0 156 (dk_at dksX2_takes_6 0 rfl rfl)
theorem dX2_takes_156 : decode cX2_takes 156 = .ok (.ireturn, 1) := dk_172 (dk_at dksX2_takes_6 3 rfl rfl)
theorem dX2_takes_157 : decode cX2_takes 157 = .ok (.aload_n 0, 1) := dk_42 (dk_at dksX2_takes_6 4 rfl rfl)
theorem dX2_takes_158 : decode cX2_takes 158 = .ok (.iload_n 1, 1) := dk_27 (dk_at dksX2_takes_6 5 rfl rfl)
theorem dX2_takes_159 : decode cX2_takes 159 = .ok (.invokevirtual 163, 3) := dk_182 0 163 (dk_at dksX2_takes_6 6 rfl rfl)
theorem dX2_takes_162 : decode cX2_takes 162 = .ok (.ireturn, 1) := dk_172 (dk_at dksX2_takes_6 9 rfl rfl)
abbrev cX2_canEnd : ByteArray := prog_10_method_31_code
def yX2_canEnd : MethodName := ⟨RX2, "canEnd", "()Z"⟩
def dkwX2_canEnd_1 : List UInt8 := [16, 6, 160, 0, 14, 42, 180, 0, 134, 158, 0, 7, 4, 167, 0, 4, 3, 172]
abbrev dktX2_canEnd_1 : List UInt8 := dkwX2_canEnd_1 ++ []
def dkwX2_canEnd_0 : List UInt8 := [42, 180, 0, 137, 7, 160, 0, 14, 42, 180, 0, 131, 42, 180, 0, 55, 159, 0, 19, 42, 180, 0, 137]
abbrev dktX2_canEnd_0 : List UInt8 := dkwX2_canEnd_0 ++ dktX2_canEnd_1
theorem dksX2_canEnd_0 : cX2_canEnd.data.toList.drop 0 = dktX2_canEnd_0 := by decide +kernel
theorem dksX2_canEnd_1 : cX2_canEnd.data.toList.drop 23 = dktX2_canEnd_1 := dk_seg dksX2_canEnd_0 23 rfl rfl
theorem dX2_canEnd_0 : decode cX2_canEnd 0 = .ok (.aload_n 0, 1) := dk_42 (dk_at dksX2_canEnd_0 0 rfl rfl)
theorem dX2_canEnd_1 : decode cX2_canEnd 1 = .ok (.getfield 137, 3) := dk_180 0 137 (dk_at dksX2_canEnd_0 1 rfl rfl)
theorem dX2_canEnd_4 : decode cX2_canEnd 4 = .ok (.iconst 4, 1) := dk_7 (dk_at dksX2_canEnd_0 4 rfl rfl)
theorem dX2_canEnd_5 : decode cX2_canEnd 5 = .ok (.if_icmp .ne 14, 3) := dk_160 0 14 (dk_at dksX2_canEnd_0 5 rfl rfl)
theorem dX2_canEnd_8 : decode cX2_canEnd 8 = .ok (.aload_n 0, 1) := dk_42 (dk_at dksX2_canEnd_0 8 rfl rfl)
theorem dX2_canEnd_9 : decode cX2_canEnd 9 = .ok (.getfield 131, 3) := dk_180 0 131 (dk_at dksX2_canEnd_0 9 rfl rfl)
theorem dX2_canEnd_12 : decode cX2_canEnd 12 = .ok (.aload_n 0, 1) := dk_42 (dk_at dksX2_canEnd_0 12 rfl rfl)
theorem dX2_canEnd_13 : decode cX2_canEnd 13 = .ok (.getfield 55, 3) := dk_180 0 55 (dk_at dksX2_canEnd_0 13 rfl rfl)
theorem dX2_canEnd_16 : decode cX2_canEnd 16 = .ok (.if_icmp .eq 19, 3) := dk_159 0 19 (dk_at dksX2_canEnd_0 16 rfl rfl)
theorem dX2_canEnd_19 : decode cX2_canEnd 19 = .ok (.aload_n 0, 1) := dk_42 (dk_at dksX2_canEnd_0 19 rfl rfl)
theorem dX2_canEnd_20 : decode cX2_canEnd 20 = .ok (.getfield 137, 3) := dk_180 0 137 (dk_at dksX2_canEnd_0 20 rfl rfl)
theorem dX2_canEnd_23 : decode cX2_canEnd 23 = .ok (.bipush 6, 2) := dk_16 6 (dk_at dksX2_canEnd_1 0 rfl rfl)
theorem dX2_canEnd_25 : decode cX2_canEnd 25 = .ok (.if_icmp .ne 14, 3) := dk_160 0 14 (dk_at dksX2_canEnd_1 2 rfl rfl)
theorem dX2_canEnd_28 : decode cX2_canEnd 28 = .ok (.aload_n 0, 1) := dk_42 (dk_at dksX2_canEnd_1 5 rfl rfl)
theorem dX2_canEnd_29 : decode cX2_canEnd 29 = .ok (.getfield 134, 3) := dk_180 0 134 (dk_at dksX2_canEnd_1 6 rfl rfl)
theorem dX2_canEnd_32 : decode cX2_canEnd 32 = .ok (.ifCond .le 7, 3) := dk_158 0 7 (dk_at dksX2_canEnd_1 9 rfl rfl)
theorem dX2_canEnd_35 : decode cX2_canEnd 35 = .ok (.iconst 1, 1) := dk_4 (dk_at dksX2_canEnd_1 12 rfl rfl)
theorem dX2_canEnd_36 : decode cX2_canEnd 36 = .ok (.goto 4, 3) := dk_167 0 4 (dk_at dksX2_canEnd_1 13 rfl rfl)
theorem dX2_canEnd_39 : decode cX2_canEnd 39 = .ok (.iconst 0, 1) := dk_3 (dk_at dksX2_canEnd_1 16 rfl rfl)
theorem dX2_canEnd_40 : decode cX2_canEnd 40 = .ok (.ireturn, 1) := dk_172 (dk_at dksX2_canEnd_1 17 rfl rfl)
abbrev cX2_endItem : ByteArray := prog_10_method_32_code
def yX2_endItem : MethodName := ⟨RX2, "endItem", "()V"⟩
def dkwX2_endItem_2 : List UInt8 := [96, 181, 0, 143, 42, 3, 181, 0, 137, 177]
abbrev dktX2_endItem_2 : List UInt8 := dkwX2_endItem_2 ++ []
def dkwX2_endItem_1 : List UInt8 := [42, 180, 0, 16, 16, 10, 42, 180, 0, 143, 104, 4, 96, 42, 180, 0, 134, 79, 42, 89, 180, 0, 143, 4]
abbrev dktX2_endItem_1 : List UInt8 := dkwX2_endItem_1 ++ dktX2_endItem_2
def dkwX2_endItem_0 : List UInt8 := [42, 180, 0, 16, 16, 10, 42, 180, 0, 143, 104, 42, 180, 0, 128, 79, 42, 180, 0, 128, 6, 160, 0, 21]
abbrev dktX2_endItem_0 : List UInt8 := dkwX2_endItem_0 ++ dktX2_endItem_1
theorem dksX2_endItem_0 : cX2_endItem.data.toList.drop 0 = dktX2_endItem_0 := by decide +kernel
theorem dksX2_endItem_1 : cX2_endItem.data.toList.drop 24 = dktX2_endItem_1 := dk_seg dksX2_endItem_0 24 rfl rfl
theorem dksX2_endItem_2 : cX2_endItem.data.toList.drop 48 = dktX2_endItem_2 := dk_seg dksX2_endItem_1 24 rfl rfl
theorem dX2_endItem_0 : decode cX2_endItem 0 = .ok (.aload_n 0, 1) := dk_42 (dk_at dksX2_endItem_0 0 rfl rfl)
theorem dX2_endItem_1 : decode cX2_endItem 1 = .ok (.getfield 16, 3) := dk_180 0 16 (dk_at dksX2_endItem_0 1 rfl rfl)
theorem dX2_endItem_4 : decode cX2_endItem 4 = .ok (.bipush 10, 2) := dk_16 10 (dk_at dksX2_endItem_0 4 rfl rfl)
theorem dX2_endItem_6 : decode cX2_endItem 6 = .ok (.aload_n 0, 1) := dk_42 (dk_at dksX2_endItem_0 6 rfl rfl)
theorem dX2_endItem_7 : decode cX2_endItem 7 = .ok (.getfield 143, 3) := dk_180 0 143 (dk_at dksX2_endItem_0 7 rfl rfl)
theorem dX2_endItem_10 : decode cX2_endItem 10 = .ok (.imul, 1) := dk_104 (dk_at dksX2_endItem_0 10 rfl rfl)
theorem dX2_endItem_11 : decode cX2_endItem 11 = .ok (.aload_n 0, 1) := dk_42 (dk_at dksX2_endItem_0 11 rfl rfl)
theorem dX2_endItem_12 : decode cX2_endItem 12 = .ok (.getfield 128, 3) := dk_180 0 128 (dk_at dksX2_endItem_0 12 rfl rfl)
theorem dX2_endItem_15 : decode cX2_endItem 15 = .ok (.iastore, 1) := dk_79 (dk_at dksX2_endItem_0 15 rfl rfl)
theorem dX2_endItem_16 : decode cX2_endItem 16 = .ok (.aload_n 0, 1) := dk_42 (dk_at dksX2_endItem_0 16 rfl rfl)
theorem dX2_endItem_17 : decode cX2_endItem 17 = .ok (.getfield 128, 3) := dk_180 0 128 (dk_at dksX2_endItem_0 17 rfl rfl)
theorem dX2_endItem_20 : decode cX2_endItem 20 = .ok (.iconst 3, 1) := dk_6 (dk_at dksX2_endItem_0 20 rfl rfl)
theorem dX2_endItem_21 : decode cX2_endItem 21 = .ok (.if_icmp .ne 21, 3) := dk_160 0 21 (dk_at dksX2_endItem_0 21 rfl rfl)
theorem dX2_endItem_24 : decode cX2_endItem 24 = .ok (.aload_n 0, 1) := dk_42 (dk_at dksX2_endItem_1 0 rfl rfl)
theorem dX2_endItem_25 : decode cX2_endItem 25 = .ok (.getfield 16, 3) := dk_180 0 16 (dk_at dksX2_endItem_1 1 rfl rfl)
theorem dX2_endItem_28 : decode cX2_endItem 28 = .ok (.bipush 10, 2) := dk_16 10 (dk_at dksX2_endItem_1 4 rfl rfl)
theorem dX2_endItem_30 : decode cX2_endItem 30 = .ok (.aload_n 0, 1) := dk_42 (dk_at dksX2_endItem_1 6 rfl rfl)
theorem dX2_endItem_31 : decode cX2_endItem 31 = .ok (.getfield 143, 3) := dk_180 0 143 (dk_at dksX2_endItem_1 7 rfl rfl)
theorem dX2_endItem_34 : decode cX2_endItem 34 = .ok (.imul, 1) := dk_104 (dk_at dksX2_endItem_1 10 rfl rfl)
theorem dX2_endItem_35 : decode cX2_endItem 35 = .ok (.iconst 1, 1) := dk_4 (dk_at dksX2_endItem_1 11 rfl rfl)
theorem dX2_endItem_36 : decode cX2_endItem 36 = .ok (.iadd, 1) := dk_96 (dk_at dksX2_endItem_1 12 rfl rfl)
theorem dX2_endItem_37 : decode cX2_endItem 37 = .ok (.aload_n 0, 1) := dk_42 (dk_at dksX2_endItem_1 13 rfl rfl)
theorem dX2_endItem_38 : decode cX2_endItem 38 = .ok (.getfield 134, 3) := dk_180 0 134 (dk_at dksX2_endItem_1 14 rfl rfl)
theorem dX2_endItem_41 : decode cX2_endItem 41 = .ok (.iastore, 1) := dk_79 (dk_at dksX2_endItem_1 17 rfl rfl)
theorem dX2_endItem_42 : decode cX2_endItem 42 = .ok (.aload_n 0, 1) := dk_42 (dk_at dksX2_endItem_1 18 rfl rfl)
theorem dX2_endItem_43 : decode cX2_endItem 43 = .ok (.dup, 1) := dk_89 (dk_at dksX2_endItem_1 19 rfl rfl)
theorem dX2_endItem_44 : decode cX2_endItem 44 = .ok (.getfield 143, 3) := dk_180 0 143 (dk_at dksX2_endItem_1 20 rfl rfl)
theorem dX2_endItem_47 : decode cX2_endItem 47 = .ok (.iconst 1, 1) := dk_4 (dk_at dksX2_endItem_1 23 rfl rfl)
theorem dX2_endItem_48 : decode cX2_endItem 48 = .ok (.iadd, 1) := dk_96 (dk_at dksX2_endItem_2 0 rfl rfl)
theorem dX2_endItem_49 : decode cX2_endItem 49 = .ok (.putfield 143, 3) := dk_181 0 143 (dk_at dksX2_endItem_2 1 rfl rfl)
theorem dX2_endItem_52 : decode cX2_endItem 52 = .ok (.aload_n 0, 1) := dk_42 (dk_at dksX2_endItem_2 4 rfl rfl)
theorem dX2_endItem_53 : decode cX2_endItem 53 = .ok (.iconst 0, 1) := dk_3 (dk_at dksX2_endItem_2 5 rfl rfl)
theorem dX2_endItem_54 : decode cX2_endItem 54 = .ok (.putfield 137, 3) := dk_181 0 137 (dk_at dksX2_endItem_2 6 rfl rfl)
theorem dX2_endItem_57 : decode cX2_endItem 57 = .ok (.return_, 1) := dk_177 (dk_at dksX2_endItem_2 9 rfl rfl)
abbrev cX2_begins : ByteArray := prog_10_method_27_code
def yX2_begins : MethodName := ⟨RX2, "begins", "(I)Z"⟩
def dkwX2_begins_3 : List UInt8 := [180, 0, 137, 181, 0, 137, 28, 172]
abbrev dktX2_begins_3 : List UInt8 := dkwX2_begins_3 ++ []
def dkwX2_begins_2 : List UInt8 := [181, 0, 134, 42, 28, 153, 0, 17, 27, 16, 80, 160, 0, 7, 8, 167, 0, 11, 4, 167, 0, 7, 42]
abbrev dktX2_begins_2 : List UInt8 := dkwX2_begins_2 ++ dktX2_begins_3
def dkwX2_begins_1 : List UInt8 := [27, 16, 80, 160, 0, 7, 6, 167, 0, 7, 27, 16, 65, 100, 181, 0, 128, 42, 3, 181, 0, 131, 42, 3]
abbrev dktX2_begins_1 : List UInt8 := dkwX2_begins_1 ++ dktX2_begins_2
def dkwX2_begins_0 : List UInt8 := [27, 16, 65, 16, 67, 184, 0, 58, 154, 0, 9, 27, 16, 80, 160, 0, 7, 4, 167, 0, 4, 3, 61, 42]
abbrev dktX2_begins_0 : List UInt8 := dkwX2_begins_0 ++ dktX2_begins_1
theorem dksX2_begins_0 : cX2_begins.data.toList.drop 0 = dktX2_begins_0 := by decide +kernel
theorem dksX2_begins_1 : cX2_begins.data.toList.drop 24 = dktX2_begins_1 := dk_seg dksX2_begins_0 24 rfl rfl
theorem dksX2_begins_2 : cX2_begins.data.toList.drop 48 = dktX2_begins_2 := dk_seg dksX2_begins_1 24 rfl rfl
theorem dksX2_begins_3 : cX2_begins.data.toList.drop 71 = dktX2_begins_3 := dk_seg dksX2_begins_2 23 rfl rfl
theorem dX2_begins_0 : decode cX2_begins 0 = .ok (.iload_n 1, 1) := dk_27 (dk_at dksX2_begins_0 0 rfl rfl)
theorem dX2_begins_1 : decode cX2_begins 1 = .ok (.bipush 65, 2) := dk_16 65 (dk_at dksX2_begins_0 1 rfl rfl)
theorem dX2_begins_3 : decode cX2_begins 3 = .ok (.bipush 67, 2) := dk_16 67 (dk_at dksX2_begins_0 3 rfl rfl)
theorem dX2_begins_5 : decode cX2_begins 5 = .ok (.invokestatic 58, 3) := dk_184 0 58 (dk_at dksX2_begins_0 5 rfl rfl)
theorem dX2_begins_8 : decode cX2_begins 8 = .ok (.ifCond .ne 9, 3) := dk_154 0 9 (dk_at dksX2_begins_0 8 rfl rfl)
theorem dX2_begins_11 : decode cX2_begins 11 = .ok (.iload_n 1, 1) := dk_27 (dk_at dksX2_begins_0 11 rfl rfl)
theorem dX2_begins_12 : decode cX2_begins 12 = .ok (.bipush 80, 2) := dk_16 80 (dk_at dksX2_begins_0 12 rfl rfl)
theorem dX2_begins_14 : decode cX2_begins 14 = .ok (.if_icmp .ne 7, 3) := dk_160 0 7 (dk_at dksX2_begins_0 14 rfl rfl)
theorem dX2_begins_17 : decode cX2_begins 17 = .ok (.iconst 1, 1) := dk_4 (dk_at dksX2_begins_0 17 rfl rfl)
theorem dX2_begins_18 : decode cX2_begins 18 = .ok (.goto 4, 3) := dk_167 0 4 (dk_at dksX2_begins_0 18 rfl rfl)
theorem dX2_begins_21 : decode cX2_begins 21 = .ok (.iconst 0, 1) := dk_3 (dk_at dksX2_begins_0 21 rfl rfl)
theorem dX2_begins_22 : decode cX2_begins 22 = .ok (.istore_n 2, 1) := dk_61 (dk_at dksX2_begins_0 22 rfl rfl)
theorem dX2_begins_23 : decode cX2_begins 23 = .ok (.aload_n 0, 1) := dk_42 (dk_at dksX2_begins_0 23 rfl rfl)
theorem dX2_begins_24 : decode cX2_begins 24 = .ok (.iload_n 1, 1) := dk_27 (dk_at dksX2_begins_1 0 rfl rfl)
theorem dX2_begins_25 : decode cX2_begins 25 = .ok (.bipush 80, 2) := dk_16 80 (dk_at dksX2_begins_1 1 rfl rfl)
theorem dX2_begins_27 : decode cX2_begins 27 = .ok (.if_icmp .ne 7, 3) := dk_160 0 7 (dk_at dksX2_begins_1 3 rfl rfl)
theorem dX2_begins_30 : decode cX2_begins 30 = .ok (.iconst 3, 1) := dk_6 (dk_at dksX2_begins_1 6 rfl rfl)
theorem dX2_begins_31 : decode cX2_begins 31 = .ok (.goto 7, 3) := dk_167 0 7 (dk_at dksX2_begins_1 7 rfl rfl)
theorem dX2_begins_34 : decode cX2_begins 34 = .ok (.iload_n 1, 1) := dk_27 (dk_at dksX2_begins_1 10 rfl rfl)
theorem dX2_begins_35 : decode cX2_begins 35 = .ok (.bipush 65, 2) := dk_16 65 (dk_at dksX2_begins_1 11 rfl rfl)
theorem dX2_begins_37 : decode cX2_begins 37 = .ok (.isub, 1) := dk_100 (dk_at dksX2_begins_1 13 rfl rfl)
theorem dX2_begins_38 : decode cX2_begins 38 = .ok (.putfield 128, 3) := dk_181 0 128 (dk_at dksX2_begins_1 14 rfl rfl)
theorem dX2_begins_41 : decode cX2_begins 41 = .ok (.aload_n 0, 1) := dk_42 (dk_at dksX2_begins_1 17 rfl rfl)
theorem dX2_begins_42 : decode cX2_begins 42 = .ok (.iconst 0, 1) := dk_3 (dk_at dksX2_begins_1 18 rfl rfl)
theorem dX2_begins_43 : decode cX2_begins 43 = .ok (.putfield 131, 3) := dk_181 0 131 (dk_at dksX2_begins_1 19 rfl rfl)
theorem dX2_begins_46 : decode cX2_begins 46 = .ok (.aload_n 0, 1) := dk_42 (dk_at dksX2_begins_1 22 rfl rfl)
theorem dX2_begins_47 : decode cX2_begins 47 = .ok (.iconst 0, 1) := dk_3 (dk_at dksX2_begins_1 23 rfl rfl)
theorem dX2_begins_48 : decode cX2_begins 48 = .ok (.putfield 134, 3) := dk_181 0 134 (dk_at dksX2_begins_2 0 rfl rfl)
theorem dX2_begins_51 : decode cX2_begins 51 = .ok (.aload_n 0, 1) := dk_42 (dk_at dksX2_begins_2 3 rfl rfl)
theorem dX2_begins_52 : decode cX2_begins 52 = .ok (.iload_n 2, 1) := dk_28 (dk_at dksX2_begins_2 4 rfl rfl)
theorem dX2_begins_53 : decode cX2_begins 53 = .ok (.ifCond .eq 17, 3) := dk_153 0 17 (dk_at dksX2_begins_2 5 rfl rfl)
theorem dX2_begins_56 : decode cX2_begins 56 = .ok (.iload_n 1, 1) := dk_27 (dk_at dksX2_begins_2 8 rfl rfl)
theorem dX2_begins_57 : decode cX2_begins 57 = .ok (.bipush 80, 2) := dk_16 80 (dk_at dksX2_begins_2 9 rfl rfl)
theorem dX2_begins_59 : decode cX2_begins 59 = .ok (.if_icmp .ne 7, 3) := dk_160 0 7 (dk_at dksX2_begins_2 11 rfl rfl)
theorem dX2_begins_62 : decode cX2_begins 62 = .ok (.iconst 5, 1) := dk_8 (dk_at dksX2_begins_2 14 rfl rfl)
theorem dX2_begins_63 : decode cX2_begins 63 = .ok (.goto 11, 3) := dk_167 0 11 (dk_at dksX2_begins_2 15 rfl rfl)
theorem dX2_begins_66 : decode cX2_begins 66 = .ok (.iconst 1, 1) := dk_4 (dk_at dksX2_begins_2 18 rfl rfl)
theorem dX2_begins_67 : decode cX2_begins 67 = .ok (.goto 7, 3) := dk_167 0 7 (dk_at dksX2_begins_2 19 rfl rfl)
theorem dX2_begins_70 : decode cX2_begins 70 = .ok (.aload_n 0, 1) := dk_42 (dk_at dksX2_begins_2 22 rfl rfl)
theorem dX2_begins_71 : decode cX2_begins 71 = .ok (.getfield 137, 3) := dk_180 0 137 (dk_at dksX2_begins_3 0 rfl rfl)
theorem dX2_begins_74 : decode cX2_begins 74 = .ok (.putfield 137, 3) := dk_181 0 137 (dk_at dksX2_begins_3 3 rfl rfl)
theorem dX2_begins_77 : decode cX2_begins 77 = .ok (.iload_n 2, 1) := dk_28 (dk_at dksX2_begins_3 6 rfl rfl)
theorem dX2_begins_78 : decode cX2_begins 78 = .ok (.ireturn, 1) := dk_172 (dk_at dksX2_begins_3 7 rfl rfl)
abbrev cX2_goes : ByteArray := prog_10_method_28_code
def yX2_goes : MethodName := ⟨RX2, "goes", "(ZI)Z"⟩
def dkwX2_goes_0 : List UInt8 := [42, 27, 153, 0, 7, 28, 167, 0, 7, 42, 180, 0, 137, 181, 0, 137, 27, 172]
abbrev dktX2_goes_0 : List UInt8 := dkwX2_goes_0 ++ []
theorem dksX2_goes_0 : cX2_goes.data.toList.drop 0 = dktX2_goes_0 := by decide +kernel
theorem dX2_goes_0 : decode cX2_goes 0 = .ok (.aload_n 0, 1) := dk_42 (dk_at dksX2_goes_0 0 rfl rfl)
theorem dX2_goes_1 : decode cX2_goes 1 = .ok (.iload_n 1, 1) := dk_27 (dk_at dksX2_goes_0 1 rfl rfl)
theorem dX2_goes_2 : decode cX2_goes 2 = .ok (.ifCond .eq 7, 3) := dk_153 0 7 (dk_at dksX2_goes_0 2 rfl rfl)
theorem dX2_goes_5 : decode cX2_goes 5 = .ok (.iload_n 2, 1) := dk_28 (dk_at dksX2_goes_0 5 rfl rfl)
theorem dX2_goes_6 : decode cX2_goes 6 = .ok (.goto 7, 3) := dk_167 0 7 (dk_at dksX2_goes_0 6 rfl rfl)
theorem dX2_goes_9 : decode cX2_goes 9 = .ok (.aload_n 0, 1) := dk_42 (dk_at dksX2_goes_0 9 rfl rfl)
theorem dX2_goes_10 : decode cX2_goes 10 = .ok (.getfield 137, 3) := dk_180 0 137 (dk_at dksX2_goes_0 10 rfl rfl)
theorem dX2_goes_13 : decode cX2_goes 13 = .ok (.putfield 137, 3) := dk_181 0 137 (dk_at dksX2_goes_0 13 rfl rfl)
theorem dX2_goes_16 : decode cX2_goes 16 = .ok (.iload_n 1, 1) := dk_27 (dk_at dksX2_goes_0 16 rfl rfl)
theorem dX2_goes_17 : decode cX2_goes 17 = .ok (.ireturn, 1) := dk_172 (dk_at dksX2_goes_0 17 rfl rfl)
abbrev cX2_takesForward : ByteArray := prog_10_method_29_code
def yX2_takesForward : MethodName := ⟨RX2, "takesForward", "(I)Z"⟩
def dkwX2_takesForward_4 : List UInt8 := [181, 0, 131, 42, 7, 181, 0, 137, 28, 172]
abbrev dktX2_takesForward_4 : List UInt8 := dkwX2_takesForward_4 ++ []
def dkwX2_takesForward_3 : List UInt8 := [104, 5, 96, 5, 42, 180, 0, 131, 104, 96, 27, 16, 48, 100, 79, 42, 89, 180, 0, 131, 4, 96]
abbrev dktX2_takesForward_3 : List UInt8 := dkwX2_takesForward_3 ++ dktX2_takesForward_4
def dkwX2_takesForward_2 : List UInt8 := [4, 96, 5, 42, 180, 0, 131, 104, 96, 42, 180, 0, 140, 79, 42, 180, 0, 16, 16, 10, 42, 180, 0, 143]
abbrev dktX2_takesForward_2 : List UInt8 := dkwX2_takesForward_2 ++ dktX2_takesForward_3
def dkwX2_takesForward_1 : List UInt8 := [163, 0, 7, 4, 167, 0, 4, 3, 61, 28, 153, 0, 68, 42, 180, 0, 16, 16, 10, 42, 180, 0, 143, 104]
abbrev dktX2_takesForward_1 : List UInt8 := dkwX2_takesForward_1 ++ dktX2_takesForward_2
def dkwX2_takesForward_0 : List UInt8 := [27, 16, 48, 16, 57, 184, 0, 58, 153, 0, 21, 42, 180, 0, 140, 27, 96, 16, 48, 100, 16, 10]
abbrev dktX2_takesForward_0 : List UInt8 := dkwX2_takesForward_0 ++ dktX2_takesForward_1
theorem dksX2_takesForward_0 : cX2_takesForward.data.toList.drop 0 = dktX2_takesForward_0 := by decide +kernel
theorem dksX2_takesForward_1 : cX2_takesForward.data.toList.drop 22 = dktX2_takesForward_1 := dk_seg dksX2_takesForward_0 22 rfl rfl
theorem dksX2_takesForward_2 : cX2_takesForward.data.toList.drop 46 = dktX2_takesForward_2 := dk_seg dksX2_takesForward_1 24 rfl rfl
theorem dksX2_takesForward_3 : cX2_takesForward.data.toList.drop 70 = dktX2_takesForward_3 := dk_seg dksX2_takesForward_2 24 rfl rfl
theorem dksX2_takesForward_4 : cX2_takesForward.data.toList.drop 92 = dktX2_takesForward_4 := dk_seg dksX2_takesForward_3 22 rfl rfl
theorem dX2_takesForward_0 : decode cX2_takesForward 0 = .ok (.iload_n 1, 1) := dk_27 (dk_at dksX2_takesForward_0 0 rfl rfl)
theorem dX2_takesForward_1 : decode cX2_takesForward 1 = .ok (.bipush 48, 2) := dk_16 48 (dk_at dksX2_takesForward_0 1 rfl rfl)
theorem dX2_takesForward_3 : decode cX2_takesForward 3 = .ok (.bipush 57, 2) := dk_16 57 (dk_at dksX2_takesForward_0 3 rfl rfl)
theorem dX2_takesForward_5 : decode cX2_takesForward 5 = .ok (.invokestatic 58, 3) := dk_184 0 58 (dk_at dksX2_takesForward_0 5 rfl rfl)
theorem dX2_takesForward_8 : decode cX2_takesForward 8 = .ok (.ifCond .eq 21, 3) := dk_153 0 21 (dk_at dksX2_takesForward_0 8 rfl rfl)
theorem dX2_takesForward_11 : decode cX2_takesForward 11 = .ok (.aload_n 0, 1) := dk_42 (dk_at dksX2_takesForward_0 11 rfl rfl)
theorem dX2_takesForward_12 : decode cX2_takesForward 12 = .ok (.getfield 140, 3) := dk_180 0 140 (dk_at dksX2_takesForward_0 12 rfl rfl)
theorem dX2_takesForward_15 : decode cX2_takesForward 15 = .ok (.iload_n 1, 1) := dk_27 (dk_at dksX2_takesForward_0 15 rfl rfl)
theorem dX2_takesForward_16 : decode cX2_takesForward 16 = .ok (.iadd, 1) := dk_96 (dk_at dksX2_takesForward_0 16 rfl rfl)
theorem dX2_takesForward_17 : decode cX2_takesForward 17 = .ok (.bipush 48, 2) := dk_16 48 (dk_at dksX2_takesForward_0 17 rfl rfl)
theorem dX2_takesForward_19 : decode cX2_takesForward 19 = .ok (.isub, 1) := dk_100 (dk_at dksX2_takesForward_0 19 rfl rfl)
theorem dX2_takesForward_20 : decode cX2_takesForward 20 = .ok (.bipush 10, 2) := dk_16 10 (dk_at dksX2_takesForward_0 20 rfl rfl)
theorem dX2_takesForward_22 : decode cX2_takesForward 22 = .ok (.if_icmp .gt 7, 3) := dk_163 0 7 (dk_at dksX2_takesForward_1 0 rfl rfl)
theorem dX2_takesForward_25 : decode cX2_takesForward 25 = .ok (.iconst 1, 1) := dk_4 (dk_at dksX2_takesForward_1 3 rfl rfl)
theorem dX2_takesForward_26 : decode cX2_takesForward 26 = .ok (.goto 4, 3) := dk_167 0 4 (dk_at dksX2_takesForward_1 4 rfl rfl)
theorem dX2_takesForward_29 : decode cX2_takesForward 29 = .ok (.iconst 0, 1) := dk_3 (dk_at dksX2_takesForward_1 7 rfl rfl)
theorem dX2_takesForward_30 : decode cX2_takesForward 30 = .ok (.istore_n 2, 1) := dk_61 (dk_at dksX2_takesForward_1 8 rfl rfl)
theorem dX2_takesForward_31 : decode cX2_takesForward 31 = .ok (.iload_n 2, 1) := dk_28 (dk_at dksX2_takesForward_1 9 rfl rfl)
theorem dX2_takesForward_32 : decode cX2_takesForward 32 = .ok (.ifCond .eq 68, 3) := dk_153 0 68 (dk_at dksX2_takesForward_1 10 rfl rfl)
theorem dX2_takesForward_35 : decode cX2_takesForward 35 = .ok (.aload_n 0, 1) := dk_42 (dk_at dksX2_takesForward_1 13 rfl rfl)
theorem dX2_takesForward_36 : decode cX2_takesForward 36 = .ok (.getfield 16, 3) := dk_180 0 16 (dk_at dksX2_takesForward_1 14 rfl rfl)
theorem dX2_takesForward_39 : decode cX2_takesForward 39 = .ok (.bipush 10, 2) := dk_16 10 (dk_at dksX2_takesForward_1 17 rfl rfl)
theorem dX2_takesForward_41 : decode cX2_takesForward 41 = .ok (.aload_n 0, 1) := dk_42 (dk_at dksX2_takesForward_1 19 rfl rfl)
theorem dX2_takesForward_42 : decode cX2_takesForward 42 = .ok (.getfield 143, 3) := dk_180 0 143 (dk_at dksX2_takesForward_1 20 rfl rfl)
theorem dX2_takesForward_45 : decode cX2_takesForward 45 = .ok (.imul, 1) := dk_104 (dk_at dksX2_takesForward_1 23 rfl rfl)
theorem dX2_takesForward_46 : decode cX2_takesForward 46 = .ok (.iconst 1, 1) := dk_4 (dk_at dksX2_takesForward_2 0 rfl rfl)
theorem dX2_takesForward_47 : decode cX2_takesForward 47 = .ok (.iadd, 1) := dk_96 (dk_at dksX2_takesForward_2 1 rfl rfl)
theorem dX2_takesForward_48 : decode cX2_takesForward 48 = .ok (.iconst 2, 1) := dk_5 (dk_at dksX2_takesForward_2 2 rfl rfl)
theorem dX2_takesForward_49 : decode cX2_takesForward 49 = .ok (.aload_n 0, 1) := dk_42 (dk_at dksX2_takesForward_2 3 rfl rfl)
theorem dX2_takesForward_50 : decode cX2_takesForward 50 = .ok (.getfield 131, 3) := dk_180 0 131 (dk_at dksX2_takesForward_2 4 rfl rfl)
theorem dX2_takesForward_53 : decode cX2_takesForward 53 = .ok (.imul, 1) := dk_104 (dk_at dksX2_takesForward_2 7 rfl rfl)
theorem dX2_takesForward_54 : decode cX2_takesForward 54 = .ok (.iadd, 1) := dk_96 (dk_at dksX2_takesForward_2 8 rfl rfl)
theorem dX2_takesForward_55 : decode cX2_takesForward 55 = .ok (.aload_n 0, 1) := dk_42 (dk_at dksX2_takesForward_2 9 rfl rfl)
theorem dX2_takesForward_56 : decode cX2_takesForward 56 = .ok (.getfield 140, 3) := dk_180 0 140 (dk_at dksX2_takesForward_2 10 rfl rfl)
theorem dX2_takesForward_59 : decode cX2_takesForward 59 = .ok (.iastore, 1) := dk_79 (dk_at dksX2_takesForward_2 13 rfl rfl)
theorem dX2_takesForward_60 : decode cX2_takesForward 60 = .ok (.aload_n 0, 1) := dk_42 (dk_at dksX2_takesForward_2 14 rfl rfl)
theorem dX2_takesForward_61 : decode cX2_takesForward 61 = .ok (.getfield 16, 3) := dk_180 0 16 (dk_at dksX2_takesForward_2 15 rfl rfl)
theorem dX2_takesForward_64 : decode cX2_takesForward 64 = .ok (.bipush 10, 2) := dk_16 10 (dk_at dksX2_takesForward_2 18 rfl rfl)
theorem dX2_takesForward_66 : decode cX2_takesForward 66 = .ok (.aload_n 0, 1) := dk_42 (dk_at dksX2_takesForward_2 20 rfl rfl)
theorem dX2_takesForward_67 : decode cX2_takesForward 67 = .ok (.getfield 143, 3) := dk_180 0 143 (dk_at dksX2_takesForward_2 21 rfl rfl)
theorem dX2_takesForward_70 : decode cX2_takesForward 70 = .ok (.imul, 1) := dk_104 (dk_at dksX2_takesForward_3 0 rfl rfl)
theorem dX2_takesForward_71 : decode cX2_takesForward 71 = .ok (.iconst 2, 1) := dk_5 (dk_at dksX2_takesForward_3 1 rfl rfl)
theorem dX2_takesForward_72 : decode cX2_takesForward 72 = .ok (.iadd, 1) := dk_96 (dk_at dksX2_takesForward_3 2 rfl rfl)
theorem dX2_takesForward_73 : decode cX2_takesForward 73 = .ok (.iconst 2, 1) := dk_5 (dk_at dksX2_takesForward_3 3 rfl rfl)
theorem dX2_takesForward_74 : decode cX2_takesForward 74 = .ok (.aload_n 0, 1) := dk_42 (dk_at dksX2_takesForward_3 4 rfl rfl)
theorem dX2_takesForward_75 : decode cX2_takesForward 75 = .ok (.getfield 131, 3) := dk_180 0 131 (dk_at dksX2_takesForward_3 5 rfl rfl)
theorem dX2_takesForward_78 : decode cX2_takesForward 78 = .ok (.imul, 1) := dk_104 (dk_at dksX2_takesForward_3 8 rfl rfl)
theorem dX2_takesForward_79 : decode cX2_takesForward 79 = .ok (.iadd, 1) := dk_96 (dk_at dksX2_takesForward_3 9 rfl rfl)
theorem dX2_takesForward_80 : decode cX2_takesForward 80 = .ok (.iload_n 1, 1) := dk_27 (dk_at dksX2_takesForward_3 10 rfl rfl)
theorem dX2_takesForward_81 : decode cX2_takesForward 81 = .ok (.bipush 48, 2) := dk_16 48 (dk_at dksX2_takesForward_3 11 rfl rfl)
theorem dX2_takesForward_83 : decode cX2_takesForward 83 = .ok (.isub, 1) := dk_100 (dk_at dksX2_takesForward_3 13 rfl rfl)
theorem dX2_takesForward_84 : decode cX2_takesForward 84 = .ok (.iastore, 1) := dk_79 (dk_at dksX2_takesForward_3 14 rfl rfl)
theorem dX2_takesForward_85 : decode cX2_takesForward 85 = .ok (.aload_n 0, 1) := dk_42 (dk_at dksX2_takesForward_3 15 rfl rfl)
theorem dX2_takesForward_86 : decode cX2_takesForward 86 = .ok (.dup, 1) := dk_89 (dk_at dksX2_takesForward_3 16 rfl rfl)
theorem dX2_takesForward_87 : decode cX2_takesForward 87 = .ok (.getfield 131, 3) := dk_180 0 131 (dk_at dksX2_takesForward_3 17 rfl rfl)
theorem dX2_takesForward_90 : decode cX2_takesForward 90 = .ok (.iconst 1, 1) := dk_4 (dk_at dksX2_takesForward_3 20 rfl rfl)
theorem dX2_takesForward_91 : decode cX2_takesForward 91 = .ok (.iadd, 1) := dk_96 (dk_at dksX2_takesForward_3 21 rfl rfl)
theorem dX2_takesForward_92 : decode cX2_takesForward 92 = .ok (.putfield 131, 3) := dk_181 0 131 (dk_at dksX2_takesForward_4 0 rfl rfl)
theorem dX2_takesForward_95 : decode cX2_takesForward 95 = .ok (.aload_n 0, 1) := dk_42 (dk_at dksX2_takesForward_4 3 rfl rfl)
theorem dX2_takesForward_96 : decode cX2_takesForward 96 = .ok (.iconst 4, 1) := dk_7 (dk_at dksX2_takesForward_4 4 rfl rfl)
theorem dX2_takesForward_97 : decode cX2_takesForward 97 = .ok (.putfield 137, 3) := dk_181 0 137 (dk_at dksX2_takesForward_4 5 rfl rfl)
theorem dX2_takesForward_100 : decode cX2_takesForward 100 = .ok (.iload_n 2, 1) := dk_28 (dk_at dksX2_takesForward_4 8 rfl rfl)
theorem dX2_takesForward_101 : decode cX2_takesForward 101 = .ok (.ireturn, 1) := dk_172 (dk_at dksX2_takesForward_4 9 rfl rfl)
abbrev cX2_takesLetter : ByteArray := prog_10_method_30_code
def yX2_takesLetter : MethodName := ⟨RX2, "takesLetter", "(I)Z"⟩
def dkwX2_takesLetter_2 : List UInt8 := [180, 0, 134, 181, 0, 134, 28, 172]
abbrev dktX2_takesLetter_2 : List UInt8 := dkwX2_takesLetter_2 ++ []
def dkwX2_takesLetter_1 : List UInt8 := [3, 61, 42, 28, 153, 0, 19, 7, 42, 180, 0, 134, 104, 27, 96, 16, 65, 100, 4, 96, 167, 0, 7, 42]
abbrev dktX2_takesLetter_1 : List UInt8 := dkwX2_takesLetter_1 ++ dktX2_takesLetter_2
def dkwX2_takesLetter_0 : List UInt8 := [27, 16, 65, 16, 67, 184, 0, 58, 153, 0, 16, 42, 180, 0, 134, 16, 64, 162, 0, 7, 4, 167, 0, 4]
abbrev dktX2_takesLetter_0 : List UInt8 := dkwX2_takesLetter_0 ++ dktX2_takesLetter_1
theorem dksX2_takesLetter_0 : cX2_takesLetter.data.toList.drop 0 = dktX2_takesLetter_0 := by decide +kernel
theorem dksX2_takesLetter_1 : cX2_takesLetter.data.toList.drop 24 = dktX2_takesLetter_1 := dk_seg dksX2_takesLetter_0 24 rfl rfl
theorem dksX2_takesLetter_2 : cX2_takesLetter.data.toList.drop 48 = dktX2_takesLetter_2 := dk_seg dksX2_takesLetter_1 24 rfl rfl
theorem dX2_takesLetter_0 : decode cX2_takesLetter 0 = .ok (.iload_n 1, 1) := dk_27 (dk_at dksX2_takesLetter_0 0 rfl rfl)
theorem dX2_takesLetter_1 : decode cX2_takesLetter 1 = .ok (.bipush 65, 2) := dk_16 65 (dk_at dksX2_takesLetter_0 1 rfl rfl)
theorem dX2_takesLetter_3 : decode cX2_takesLetter 3 = .ok (.bipush 67, 2) := dk_16 67 (dk_at dksX2_takesLetter_0 3 rfl rfl)
theorem dX2_takesLetter_5 : decode cX2_takesLetter 5 = .ok (.invokestatic 58, 3) := dk_184 0 58 (dk_at dksX2_takesLetter_0 5 rfl rfl)
theorem dX2_takesLetter_8 : decode cX2_takesLetter 8 = .ok (.ifCond .eq 16, 3) := dk_153 0 16 (dk_at dksX2_takesLetter_0 8 rfl rfl)
theorem dX2_takesLetter_11 : decode cX2_takesLetter 11 = .ok (.aload_n 0, 1) := dk_42 (dk_at dksX2_takesLetter_0 11 rfl rfl)
theorem dX2_takesLetter_12 : decode cX2_takesLetter 12 = .ok (.getfield 134, 3) := dk_180 0 134 (dk_at dksX2_takesLetter_0 12 rfl rfl)
theorem dX2_takesLetter_15 : decode cX2_takesLetter 15 = .ok (.bipush 64, 2) := dk_16 64 (dk_at dksX2_takesLetter_0 15 rfl rfl)
theorem dX2_takesLetter_17 : decode cX2_takesLetter 17 = .ok (.if_icmp .ge 7, 3) := dk_162 0 7 (dk_at dksX2_takesLetter_0 17 rfl rfl)
theorem dX2_takesLetter_20 : decode cX2_takesLetter 20 = .ok (.iconst 1, 1) := dk_4 (dk_at dksX2_takesLetter_0 20 rfl rfl)
theorem dX2_takesLetter_21 : decode cX2_takesLetter 21 = .ok (.goto 4, 3) := dk_167 0 4 (dk_at dksX2_takesLetter_0 21 rfl rfl)
theorem dX2_takesLetter_24 : decode cX2_takesLetter 24 = .ok (.iconst 0, 1) := dk_3 (dk_at dksX2_takesLetter_1 0 rfl rfl)
theorem dX2_takesLetter_25 : decode cX2_takesLetter 25 = .ok (.istore_n 2, 1) := dk_61 (dk_at dksX2_takesLetter_1 1 rfl rfl)
theorem dX2_takesLetter_26 : decode cX2_takesLetter 26 = .ok (.aload_n 0, 1) := dk_42 (dk_at dksX2_takesLetter_1 2 rfl rfl)
theorem dX2_takesLetter_27 : decode cX2_takesLetter 27 = .ok (.iload_n 2, 1) := dk_28 (dk_at dksX2_takesLetter_1 3 rfl rfl)
theorem dX2_takesLetter_28 : decode cX2_takesLetter 28 = .ok (.ifCond .eq 19, 3) := dk_153 0 19 (dk_at dksX2_takesLetter_1 4 rfl rfl)
theorem dX2_takesLetter_31 : decode cX2_takesLetter 31 = .ok (.iconst 4, 1) := dk_7 (dk_at dksX2_takesLetter_1 7 rfl rfl)
theorem dX2_takesLetter_32 : decode cX2_takesLetter 32 = .ok (.aload_n 0, 1) := dk_42 (dk_at dksX2_takesLetter_1 8 rfl rfl)
theorem dX2_takesLetter_33 : decode cX2_takesLetter 33 = .ok (.getfield 134, 3) := dk_180 0 134 (dk_at dksX2_takesLetter_1 9 rfl rfl)
theorem dX2_takesLetter_36 : decode cX2_takesLetter 36 = .ok (.imul, 1) := dk_104 (dk_at dksX2_takesLetter_1 12 rfl rfl)
theorem dX2_takesLetter_37 : decode cX2_takesLetter 37 = .ok (.iload_n 1, 1) := dk_27 (dk_at dksX2_takesLetter_1 13 rfl rfl)
theorem dX2_takesLetter_38 : decode cX2_takesLetter 38 = .ok (.iadd, 1) := dk_96 (dk_at dksX2_takesLetter_1 14 rfl rfl)
theorem dX2_takesLetter_39 : decode cX2_takesLetter 39 = .ok (.bipush 65, 2) := dk_16 65 (dk_at dksX2_takesLetter_1 15 rfl rfl)
theorem dX2_takesLetter_41 : decode cX2_takesLetter 41 = .ok (.isub, 1) := dk_100 (dk_at dksX2_takesLetter_1 17 rfl rfl)
theorem dX2_takesLetter_42 : decode cX2_takesLetter 42 = .ok (.iconst 1, 1) := dk_4 (dk_at dksX2_takesLetter_1 18 rfl rfl)
theorem dX2_takesLetter_43 : decode cX2_takesLetter 43 = .ok (.iadd, 1) := dk_96 (dk_at dksX2_takesLetter_1 19 rfl rfl)
theorem dX2_takesLetter_44 : decode cX2_takesLetter 44 = .ok (.goto 7, 3) := dk_167 0 7 (dk_at dksX2_takesLetter_1 20 rfl rfl)
theorem dX2_takesLetter_47 : decode cX2_takesLetter 47 = .ok (.aload_n 0, 1) := dk_42 (dk_at dksX2_takesLetter_1 23 rfl rfl)
theorem dX2_takesLetter_48 : decode cX2_takesLetter 48 = .ok (.getfield 134, 3) := dk_180 0 134 (dk_at dksX2_takesLetter_2 0 rfl rfl)
theorem dX2_takesLetter_51 : decode cX2_takesLetter 51 = .ok (.putfield 134, 3) := dk_181 0 134 (dk_at dksX2_takesLetter_2 3 rfl rfl)
theorem dX2_takesLetter_54 : decode cX2_takesLetter 54 = .ok (.iload_n 2, 1) := dk_28 (dk_at dksX2_takesLetter_2 6 rfl rfl)
theorem dX2_takesLetter_55 : decode cX2_takesLetter 55 = .ok (.ireturn, 1) := dk_172 (dk_at dksX2_takesLetter_2 7 rfl rfl)
abbrev cX2_load : ByteArray := prog_10_method_36_code
def yX2_load : MethodName := ⟨RX2, "load", "()I"⟩
def dkwX2_load_6 : List UInt8 := [132, 2, 1, 167, 255, 201, 132, 1, 1, 167, 255, 149, 42, 3, 181, 0, 125, 42, 180, 0, 143, 172]
abbrev dktX2_load_6 : List UInt8 := dkwX2_load_6 ++ []
def dkwX2_load_5 : List UInt8 := [5, 28, 104, 96, 46, 42, 180, 0, 16, 16, 10, 27, 104, 5, 96, 5, 28, 104, 96, 46, 182, 0, 104]
abbrev dktX2_load_5 : List UInt8 := dkwX2_load_5 ++ dktX2_load_6
def dkwX2_load_4 : List UInt8 := [162, 0, 53, 42, 42, 180, 0, 16, 16, 10, 27, 104, 46, 28, 42, 180, 0, 16, 16, 10, 27, 104, 4, 96]
abbrev dktX2_load_4 : List UInt8 := dkwX2_load_4 ++ dktX2_load_5
def dkwX2_load_3 : List UInt8 := [104, 4, 96, 46, 181, 0, 75, 42, 3, 181, 0, 78, 167, 0, 63, 3, 61, 28, 42, 180, 0, 55]
abbrev dktX2_load_3 : List UInt8 := dkwX2_load_3 ++ dktX2_load_4
def dkwX2_load_2 : List UInt8 := [162, 0, 105, 42, 180, 0, 16, 16, 10, 27, 104, 46, 6, 160, 0, 26, 42, 42, 180, 0, 16, 16, 10, 27]
abbrev dktX2_load_2 : List UInt8 := dkwX2_load_2 ++ dktX2_load_3
def dkwX2_load_1 : List UInt8 := [181, 0, 51, 42, 180, 0, 51, 158, 0, 5, 3, 172, 42, 182, 0, 150, 3, 60, 27, 42, 180, 0, 143]
abbrev dktX2_load_1 : List UInt8 := dkwX2_load_1 ++ dktX2_load_2
def dkwX2_load_0 : List UInt8 := [42, 42, 182, 0, 169, 42, 180, 0, 125, 160, 0, 14, 42, 182, 0, 146, 153, 0, 7, 3, 167, 0, 4, 4]
abbrev dktX2_load_0 : List UInt8 := dkwX2_load_0 ++ dktX2_load_1
theorem dksX2_load_0 : cX2_load.data.toList.drop 0 = dktX2_load_0 := by decide +kernel
theorem dksX2_load_1 : cX2_load.data.toList.drop 24 = dktX2_load_1 := dk_seg dksX2_load_0 24 rfl rfl
theorem dksX2_load_2 : cX2_load.data.toList.drop 47 = dktX2_load_2 := dk_seg dksX2_load_1 23 rfl rfl
theorem dksX2_load_3 : cX2_load.data.toList.drop 71 = dktX2_load_3 := dk_seg dksX2_load_2 24 rfl rfl
theorem dksX2_load_4 : cX2_load.data.toList.drop 93 = dktX2_load_4 := dk_seg dksX2_load_3 22 rfl rfl
theorem dksX2_load_5 : cX2_load.data.toList.drop 117 = dktX2_load_5 := dk_seg dksX2_load_4 24 rfl rfl
theorem dksX2_load_6 : cX2_load.data.toList.drop 140 = dktX2_load_6 := dk_seg dksX2_load_5 23 rfl rfl
theorem dX2_load_0 : decode cX2_load 0 = .ok (.aload_n 0, 1) := dk_42 (dk_at dksX2_load_0 0 rfl rfl)
theorem dX2_load_1 : decode cX2_load 1 = .ok (.aload_n 0, 1) := dk_42 (dk_at dksX2_load_0 1 rfl rfl)
theorem dX2_load_2 : decode cX2_load 2 = .ok (.invokevirtual 169, 3) := dk_182 0 169 (dk_at dksX2_load_0 2 rfl rfl)
theorem dX2_load_5 : decode cX2_load 5 = .ok (.aload_n 0, 1) := dk_42 (dk_at dksX2_load_0 5 rfl rfl)
theorem dX2_load_6 : decode cX2_load 6 = .ok (.getfield 125, 3) := dk_180 0 125 (dk_at dksX2_load_0 6 rfl rfl)
theorem dX2_load_9 : decode cX2_load 9 = .ok (.if_icmp .ne 14, 3) := dk_160 0 14 (dk_at dksX2_load_0 9 rfl rfl)
theorem dX2_load_12 : decode cX2_load 12 = .ok (.aload_n 0, 1) := dk_42 (dk_at dksX2_load_0 12 rfl rfl)
theorem dX2_load_13 : decode cX2_load 13 = .ok (.invokevirtual 146, 3) := dk_182 0 146 (dk_at dksX2_load_0 13 rfl rfl)
theorem dX2_load_16 : decode cX2_load 16 = .ok (.ifCond .eq 7, 3) := dk_153 0 7 (dk_at dksX2_load_0 16 rfl rfl)
theorem dX2_load_19 : decode cX2_load 19 = .ok (.iconst 0, 1) := dk_3 (dk_at dksX2_load_0 19 rfl rfl)
theorem dX2_load_20 : decode cX2_load 20 = .ok (.goto 4, 3) := dk_167 0 4 (dk_at dksX2_load_0 20 rfl rfl)
theorem dX2_load_23 : decode cX2_load 23 = .ok (.iconst 1, 1) := dk_4 (dk_at dksX2_load_0 23 rfl rfl)
theorem dX2_load_24 : decode cX2_load 24 = .ok (.putfield 51, 3) := dk_181 0 51 (dk_at dksX2_load_1 0 rfl rfl)
theorem dX2_load_27 : decode cX2_load 27 = .ok (.aload_n 0, 1) := dk_42 (dk_at dksX2_load_1 3 rfl rfl)
theorem dX2_load_28 : decode cX2_load 28 = .ok (.getfield 51, 3) := dk_180 0 51 (dk_at dksX2_load_1 4 rfl rfl)
theorem dX2_load_31 : decode cX2_load 31 = .ok (.ifCond .le 5, 3) := dk_158 0 5 (dk_at dksX2_load_1 7 rfl rfl)
theorem dX2_load_34 : decode cX2_load 34 = .ok (.iconst 0, 1) := dk_3 (dk_at dksX2_load_1 10 rfl rfl)
theorem dX2_load_35 : decode cX2_load 35 = .ok (.ireturn, 1) := dk_172 (dk_at dksX2_load_1 11 rfl rfl)
theorem dX2_load_36 : decode cX2_load 36 = .ok (.aload_n 0, 1) := dk_42 (dk_at dksX2_load_1 12 rfl rfl)
theorem dX2_load_37 : decode cX2_load 37 = .ok (.invokevirtual 150, 3) := dk_182 0 150 (dk_at dksX2_load_1 13 rfl rfl)
theorem dX2_load_40 : decode cX2_load 40 = .ok (.iconst 0, 1) := dk_3 (dk_at dksX2_load_1 16 rfl rfl)
theorem dX2_load_41 : decode cX2_load 41 = .ok (.istore_n 1, 1) := dk_60 (dk_at dksX2_load_1 17 rfl rfl)
theorem dX2_load_42 : decode cX2_load 42 = .ok (.iload_n 1, 1) := dk_27 (dk_at dksX2_load_1 18 rfl rfl)
theorem dX2_load_43 : decode cX2_load 43 = .ok (.aload_n 0, 1) := dk_42 (dk_at dksX2_load_1 19 rfl rfl)
theorem dX2_load_44 : decode cX2_load 44 = .ok (.getfield 143, 3) := dk_180 0 143 (dk_at dksX2_load_1 20 rfl rfl)
theorem dX2_load_47 : decode cX2_load 47 = .ok (.if_icmp .ge 105, 3) := dk_162 0 105 (dk_at dksX2_load_2 0 rfl rfl)
theorem dX2_load_50 : decode cX2_load 50 = .ok (.aload_n 0, 1) := dk_42 (dk_at dksX2_load_2 3 rfl rfl)
theorem dX2_load_51 : decode cX2_load 51 = .ok (.getfield 16, 3) := dk_180 0 16 (dk_at dksX2_load_2 4 rfl rfl)
theorem dX2_load_54 : decode cX2_load 54 = .ok (.bipush 10, 2) := dk_16 10 (dk_at dksX2_load_2 7 rfl rfl)
theorem dX2_load_56 : decode cX2_load 56 = .ok (.iload_n 1, 1) := dk_27 (dk_at dksX2_load_2 9 rfl rfl)
theorem dX2_load_57 : decode cX2_load 57 = .ok (.imul, 1) := dk_104 (dk_at dksX2_load_2 10 rfl rfl)
theorem dX2_load_58 : decode cX2_load 58 = .ok (.iaload, 1) := dk_46 (dk_at dksX2_load_2 11 rfl rfl)
theorem dX2_load_59 : decode cX2_load 59 = .ok (.iconst 3, 1) := dk_6 (dk_at dksX2_load_2 12 rfl rfl)
theorem dX2_load_60 : decode cX2_load 60 = .ok (.if_icmp .ne 26, 3) := dk_160 0 26 (dk_at dksX2_load_2 13 rfl rfl)
theorem dX2_load_63 : decode cX2_load 63 = .ok (.aload_n 0, 1) := dk_42 (dk_at dksX2_load_2 16 rfl rfl)
theorem dX2_load_64 : decode cX2_load 64 = .ok (.aload_n 0, 1) := dk_42 (dk_at dksX2_load_2 17 rfl rfl)
theorem dX2_load_65 : decode cX2_load 65 = .ok (.getfield 16, 3) := dk_180 0 16 (dk_at dksX2_load_2 18 rfl rfl)
theorem dX2_load_68 : decode cX2_load 68 = .ok (.bipush 10, 2) := dk_16 10 (dk_at dksX2_load_2 21 rfl rfl)
theorem dX2_load_70 : decode cX2_load 70 = .ok (.iload_n 1, 1) := dk_27 (dk_at dksX2_load_2 23 rfl rfl)
theorem dX2_load_71 : decode cX2_load 71 = .ok (.imul, 1) := dk_104 (dk_at dksX2_load_3 0 rfl rfl)
theorem dX2_load_72 : decode cX2_load 72 = .ok (.iconst 1, 1) := dk_4 (dk_at dksX2_load_3 1 rfl rfl)
theorem dX2_load_73 : decode cX2_load 73 = .ok (.iadd, 1) := dk_96 (dk_at dksX2_load_3 2 rfl rfl)
theorem dX2_load_74 : decode cX2_load 74 = .ok (.iaload, 1) := dk_46 (dk_at dksX2_load_3 3 rfl rfl)
theorem dX2_load_75 : decode cX2_load 75 = .ok (.putfield 75, 3) := dk_181 0 75 (dk_at dksX2_load_3 4 rfl rfl)
theorem dX2_load_78 : decode cX2_load 78 = .ok (.aload_n 0, 1) := dk_42 (dk_at dksX2_load_3 7 rfl rfl)
theorem dX2_load_79 : decode cX2_load 79 = .ok (.iconst 0, 1) := dk_3 (dk_at dksX2_load_3 8 rfl rfl)
theorem dX2_load_80 : decode cX2_load 80 = .ok (.putfield 78, 3) := dk_181 0 78 (dk_at dksX2_load_3 9 rfl rfl)
theorem dX2_load_83 : decode cX2_load 83 = .ok (.goto 63, 3) := dk_167 0 63 (dk_at dksX2_load_3 12 rfl rfl)
theorem dX2_load_86 : decode cX2_load 86 = .ok (.iconst 0, 1) := dk_3 (dk_at dksX2_load_3 15 rfl rfl)
theorem dX2_load_87 : decode cX2_load 87 = .ok (.istore_n 2, 1) := dk_61 (dk_at dksX2_load_3 16 rfl rfl)
theorem dX2_load_88 : decode cX2_load 88 = .ok (.iload_n 2, 1) := dk_28 (dk_at dksX2_load_3 17 rfl rfl)
theorem dX2_load_89 : decode cX2_load 89 = .ok (.aload_n 0, 1) := dk_42 (dk_at dksX2_load_3 18 rfl rfl)
theorem dX2_load_90 : decode cX2_load 90 = .ok (.getfield 55, 3) := dk_180 0 55 (dk_at dksX2_load_3 19 rfl rfl)
theorem dX2_load_93 : decode cX2_load 93 = .ok (.if_icmp .ge 53, 3) := dk_162 0 53 (dk_at dksX2_load_4 0 rfl rfl)
theorem dX2_load_96 : decode cX2_load 96 = .ok (.aload_n 0, 1) := dk_42 (dk_at dksX2_load_4 3 rfl rfl)
theorem dX2_load_97 : decode cX2_load 97 = .ok (.aload_n 0, 1) := dk_42 (dk_at dksX2_load_4 4 rfl rfl)
theorem dX2_load_98 : decode cX2_load 98 = .ok (.getfield 16, 3) := dk_180 0 16 (dk_at dksX2_load_4 5 rfl rfl)
theorem dX2_load_101 : decode cX2_load 101 = .ok (.bipush 10, 2) := dk_16 10 (dk_at dksX2_load_4 8 rfl rfl)
theorem dX2_load_103 : decode cX2_load 103 = .ok (.iload_n 1, 1) := dk_27 (dk_at dksX2_load_4 10 rfl rfl)
theorem dX2_load_104 : decode cX2_load 104 = .ok (.imul, 1) := dk_104 (dk_at dksX2_load_4 11 rfl rfl)
theorem dX2_load_105 : decode cX2_load 105 = .ok (.iaload, 1) := dk_46 (dk_at dksX2_load_4 12 rfl rfl)
theorem dX2_load_106 : decode cX2_load 106 = .ok (.iload_n 2, 1) := dk_28 (dk_at dksX2_load_4 13 rfl rfl)
theorem dX2_load_107 : decode cX2_load 107 = .ok (.aload_n 0, 1) := dk_42 (dk_at dksX2_load_4 14 rfl rfl)
theorem dX2_load_108 : decode cX2_load 108 = .ok (.getfield 16, 3) := dk_180 0 16 (dk_at dksX2_load_4 15 rfl rfl)
theorem dX2_load_111 : decode cX2_load 111 = .ok (.bipush 10, 2) := dk_16 10 (dk_at dksX2_load_4 18 rfl rfl)
theorem dX2_load_113 : decode cX2_load 113 = .ok (.iload_n 1, 1) := dk_27 (dk_at dksX2_load_4 20 rfl rfl)
theorem dX2_load_114 : decode cX2_load 114 = .ok (.imul, 1) := dk_104 (dk_at dksX2_load_4 21 rfl rfl)
theorem dX2_load_115 : decode cX2_load 115 = .ok (.iconst 1, 1) := dk_4 (dk_at dksX2_load_4 22 rfl rfl)
theorem dX2_load_116 : decode cX2_load 116 = .ok (.iadd, 1) := dk_96 (dk_at dksX2_load_4 23 rfl rfl)
theorem dX2_load_117 : decode cX2_load 117 = .ok (.iconst 2, 1) := dk_5 (dk_at dksX2_load_5 0 rfl rfl)
theorem dX2_load_118 : decode cX2_load 118 = .ok (.iload_n 2, 1) := dk_28 (dk_at dksX2_load_5 1 rfl rfl)
theorem dX2_load_119 : decode cX2_load 119 = .ok (.imul, 1) := dk_104 (dk_at dksX2_load_5 2 rfl rfl)
theorem dX2_load_120 : decode cX2_load 120 = .ok (.iadd, 1) := dk_96 (dk_at dksX2_load_5 3 rfl rfl)
theorem dX2_load_121 : decode cX2_load 121 = .ok (.iaload, 1) := dk_46 (dk_at dksX2_load_5 4 rfl rfl)
theorem dX2_load_122 : decode cX2_load 122 = .ok (.aload_n 0, 1) := dk_42 (dk_at dksX2_load_5 5 rfl rfl)
theorem dX2_load_123 : decode cX2_load 123 = .ok (.getfield 16, 3) := dk_180 0 16 (dk_at dksX2_load_5 6 rfl rfl)
theorem dX2_load_126 : decode cX2_load 126 = .ok (.bipush 10, 2) := dk_16 10 (dk_at dksX2_load_5 9 rfl rfl)
theorem dX2_load_128 : decode cX2_load 128 = .ok (.iload_n 1, 1) := dk_27 (dk_at dksX2_load_5 11 rfl rfl)
theorem dX2_load_129 : decode cX2_load 129 = .ok (.imul, 1) := dk_104 (dk_at dksX2_load_5 12 rfl rfl)
theorem dX2_load_130 : decode cX2_load 130 = .ok (.iconst 2, 1) := dk_5 (dk_at dksX2_load_5 13 rfl rfl)
theorem dX2_load_131 : decode cX2_load 131 = .ok (.iadd, 1) := dk_96 (dk_at dksX2_load_5 14 rfl rfl)
theorem dX2_load_132 : decode cX2_load 132 = .ok (.iconst 2, 1) := dk_5 (dk_at dksX2_load_5 15 rfl rfl)
theorem dX2_load_133 : decode cX2_load 133 = .ok (.iload_n 2, 1) := dk_28 (dk_at dksX2_load_5 16 rfl rfl)
theorem dX2_load_134 : decode cX2_load 134 = .ok (.imul, 1) := dk_104 (dk_at dksX2_load_5 17 rfl rfl)
theorem dX2_load_135 : decode cX2_load 135 = .ok (.iadd, 1) := dk_96 (dk_at dksX2_load_5 18 rfl rfl)
theorem dX2_load_136 : decode cX2_load 136 = .ok (.iaload, 1) := dk_46 (dk_at dksX2_load_5 19 rfl rfl)
theorem dX2_load_137 : decode cX2_load 137 = .ok (.invokevirtual 104, 3) := dk_182 0 104 (dk_at dksX2_load_5 20 rfl rfl)
theorem dX2_load_140 : decode cX2_load 140 = .ok (.iinc 2 1, 3) := dk_132 2 1 (dk_at dksX2_load_6 0 rfl rfl)
theorem dX2_load_143 : decode cX2_load 143 = .ok (.goto (-55), 3) := dk_167 255 201 (dk_at dksX2_load_6 3 rfl rfl)
theorem dX2_load_146 : decode cX2_load 146 = .ok (.iinc 1 1, 3) := dk_132 1 1 (dk_at dksX2_load_6 6 rfl rfl)
theorem dX2_load_149 : decode cX2_load 149 = .ok (.goto (-107), 3) := dk_167 255 149 (dk_at dksX2_load_6 9 rfl rfl)
theorem dX2_load_152 : decode cX2_load 152 = .ok (.aload_n 0, 1) := dk_42 (dk_at dksX2_load_6 12 rfl rfl)
theorem dX2_load_153 : decode cX2_load 153 = .ok (.iconst 0, 1) := dk_3 (dk_at dksX2_load_6 13 rfl rfl)
theorem dX2_load_154 : decode cX2_load 154 = .ok (.putfield 125, 3) := dk_181 0 125 (dk_at dksX2_load_6 14 rfl rfl)
theorem dX2_load_157 : decode cX2_load 157 = .ok (.aload_n 0, 1) := dk_42 (dk_at dksX2_load_6 17 rfl rfl)
theorem dX2_load_158 : decode cX2_load 158 = .ok (.getfield 143, 3) := dk_180 0 143 (dk_at dksX2_load_6 18 rfl rfl)
theorem dX2_load_161 : decode cX2_load 161 = .ok (.ireturn, 1) := dk_172 (dk_at dksX2_load_6 21 rfl rfl)
abbrev cX2_cycle : ByteArray := prog_10_method_38_code
def yX2_cycle : MethodName := ⟨RX2, "cycle", "(I)I"⟩
def dkwX2_cycle_1 : List UInt8 := [158, 0, 7, 3, 167, 0, 8, 42, 27, 182, 0, 172, 172]
abbrev dktX2_cycle_1 : List UInt8 := dkwX2_cycle_1 ++ []
def dkwX2_cycle_0 : List UInt8 := [42, 27, 3, 5, 184, 0, 58, 153, 0, 7, 3, 167, 0, 4, 4, 181, 0, 51, 42, 180, 0, 51]
abbrev dktX2_cycle_0 : List UInt8 := dkwX2_cycle_0 ++ dktX2_cycle_1
theorem dksX2_cycle_0 : cX2_cycle.data.toList.drop 0 = dktX2_cycle_0 := by decide +kernel
theorem dksX2_cycle_1 : cX2_cycle.data.toList.drop 22 = dktX2_cycle_1 := dk_seg dksX2_cycle_0 22 rfl rfl
theorem dX2_cycle_0 : decode cX2_cycle 0 = .ok (.aload_n 0, 1) := dk_42 (dk_at dksX2_cycle_0 0 rfl rfl)
theorem dX2_cycle_1 : decode cX2_cycle 1 = .ok (.iload_n 1, 1) := dk_27 (dk_at dksX2_cycle_0 1 rfl rfl)
theorem dX2_cycle_2 : decode cX2_cycle 2 = .ok (.iconst 0, 1) := dk_3 (dk_at dksX2_cycle_0 2 rfl rfl)
theorem dX2_cycle_3 : decode cX2_cycle 3 = .ok (.iconst 2, 1) := dk_5 (dk_at dksX2_cycle_0 3 rfl rfl)
theorem dX2_cycle_4 : decode cX2_cycle 4 = .ok (.invokestatic 58, 3) := dk_184 0 58 (dk_at dksX2_cycle_0 4 rfl rfl)
theorem dX2_cycle_7 : decode cX2_cycle 7 = .ok (.ifCond .eq 7, 3) := dk_153 0 7 (dk_at dksX2_cycle_0 7 rfl rfl)
theorem dX2_cycle_10 : decode cX2_cycle 10 = .ok (.iconst 0, 1) := dk_3 (dk_at dksX2_cycle_0 10 rfl rfl)
theorem dX2_cycle_11 : decode cX2_cycle 11 = .ok (.goto 4, 3) := dk_167 0 4 (dk_at dksX2_cycle_0 11 rfl rfl)
theorem dX2_cycle_14 : decode cX2_cycle 14 = .ok (.iconst 1, 1) := dk_4 (dk_at dksX2_cycle_0 14 rfl rfl)
theorem dX2_cycle_15 : decode cX2_cycle 15 = .ok (.putfield 51, 3) := dk_181 0 51 (dk_at dksX2_cycle_0 15 rfl rfl)
theorem dX2_cycle_18 : decode cX2_cycle 18 = .ok (.aload_n 0, 1) := dk_42 (dk_at dksX2_cycle_0 18 rfl rfl)
theorem dX2_cycle_19 : decode cX2_cycle 19 = .ok (.getfield 51, 3) := dk_180 0 51 (dk_at dksX2_cycle_0 19 rfl rfl)
theorem dX2_cycle_22 : decode cX2_cycle 22 = .ok (.ifCond .le 7, 3) := dk_158 0 7 (dk_at dksX2_cycle_1 0 rfl rfl)
theorem dX2_cycle_25 : decode cX2_cycle 25 = .ok (.iconst 0, 1) := dk_3 (dk_at dksX2_cycle_1 3 rfl rfl)
theorem dX2_cycle_26 : decode cX2_cycle 26 = .ok (.goto 8, 3) := dk_167 0 8 (dk_at dksX2_cycle_1 4 rfl rfl)
theorem dX2_cycle_29 : decode cX2_cycle 29 = .ok (.aload_n 0, 1) := dk_42 (dk_at dksX2_cycle_1 7 rfl rfl)
theorem dX2_cycle_30 : decode cX2_cycle 30 = .ok (.iload_n 1, 1) := dk_27 (dk_at dksX2_cycle_1 8 rfl rfl)
theorem dX2_cycle_31 : decode cX2_cycle 31 = .ok (.invokevirtual 172, 3) := dk_182 0 172 (dk_at dksX2_cycle_1 9 rfl rfl)
theorem dX2_cycle_34 : decode cX2_cycle 34 = .ok (.ireturn, 1) := dk_172 (dk_at dksX2_cycle_1 12 rfl rfl)
abbrev cX2_cycleNow : ByteArray := prog_10_method_37_code
def yX2_cycleNow : MethodName := ⟨RX2, "cycleNow", "(I)I"⟩
def dkwX2_cycleNow_8 : List UInt8 := [167, 0, 13, 21, 6, 42, 180, 0, 22, 21, 7, 46, 100, 172]
abbrev dktX2_cycleNow_8 : List UInt8 := dkwX2_cycleNow_8 ++ []
def dkwX2_cycleNow_7 : List UInt8 := [46, 4, 100, 167, 0, 33, 27, 4, 160, 0, 18, 21, 5, 42, 180, 0, 19, 21, 7, 46, 100, 4, 96]
abbrev dktX2_cycleNow_7 : List UInt8 := dkwX2_cycleNow_7 ++ dktX2_cycleNow_8
def dkwX2_cycleNow_6 : List UInt8 := [181, 0, 72, 42, 29, 181, 0, 78, 42, 21, 4, 181, 0, 81, 27, 154, 0, 15, 42, 180, 0, 19, 21, 7]
abbrev dktX2_cycleNow_6 : List UInt8 := dkwX2_cycleNow_6 ++ dktX2_cycleNow_7
def dkwX2_cycleNow_5 : List UInt8 := [104, 17, 3, 232, 42, 180, 0, 78, 104, 96, 42, 180, 0, 81, 96, 54, 7, 167, 255, 190, 42, 28]
abbrev dktX2_cycleNow_5 : List UInt8 := dkwX2_cycleNow_5 ++ dktX2_cycleNow_6
def dkwX2_cycleNow_4 : List UInt8 := [21, 7, 21, 6, 79, 21, 6, 42, 182, 0, 121, 96, 54, 6, 132, 5, 1, 17, 15, 160, 42, 180, 0, 72]
abbrev dktX2_cycleNow_4 : List UInt8 := dkwX2_cycleNow_4 ++ dktX2_cycleNow_5
def dkwX2_cycleNow_3 : List UInt8 := [180, 0, 19, 21, 7, 46, 154, 0, 62, 42, 180, 0, 19, 21, 7, 21, 5, 4, 96, 79, 42, 180, 0, 22]
abbrev dktX2_cycleNow_3 : List UInt8 := dkwX2_cycleNow_3 ++ dktX2_cycleNow_4
def dkwX2_cycleNow_2 : List UInt8 := [42, 180, 0, 72, 104, 17, 3, 232, 42, 180, 0, 78, 104, 96, 42, 180, 0, 81, 96, 54, 7, 42]
abbrev dktX2_cycleNow_2 : List UInt8 := dkwX2_cycleNow_2 ++ dktX2_cycleNow_3
def dkwX2_cycleNow_1 : List UInt8 := [180, 0, 72, 61, 42, 180, 0, 78, 62, 42, 180, 0, 81, 54, 4, 3, 54, 5, 3, 54, 6, 17, 15, 160]
abbrev dktX2_cycleNow_1 : List UInt8 := dkwX2_cycleNow_1 ++ dktX2_cycleNow_2
def dkwX2_cycleNow_0 : List UInt8 := [3, 61, 28, 17, 62, 128, 162, 0, 16, 42, 180, 0, 19, 28, 3, 79, 132, 2, 1, 167, 255, 239, 42]
abbrev dktX2_cycleNow_0 : List UInt8 := dkwX2_cycleNow_0 ++ dktX2_cycleNow_1
theorem dksX2_cycleNow_0 : cX2_cycleNow.data.toList.drop 0 = dktX2_cycleNow_0 := by decide +kernel
theorem dksX2_cycleNow_1 : cX2_cycleNow.data.toList.drop 23 = dktX2_cycleNow_1 := dk_seg dksX2_cycleNow_0 23 rfl rfl
theorem dksX2_cycleNow_2 : cX2_cycleNow.data.toList.drop 47 = dktX2_cycleNow_2 := dk_seg dksX2_cycleNow_1 24 rfl rfl
theorem dksX2_cycleNow_3 : cX2_cycleNow.data.toList.drop 69 = dktX2_cycleNow_3 := dk_seg dksX2_cycleNow_2 22 rfl rfl
theorem dksX2_cycleNow_4 : cX2_cycleNow.data.toList.drop 93 = dktX2_cycleNow_4 := dk_seg dksX2_cycleNow_3 24 rfl rfl
theorem dksX2_cycleNow_5 : cX2_cycleNow.data.toList.drop 117 = dktX2_cycleNow_5 := dk_seg dksX2_cycleNow_4 24 rfl rfl
theorem dksX2_cycleNow_6 : cX2_cycleNow.data.toList.drop 139 = dktX2_cycleNow_6 := dk_seg dksX2_cycleNow_5 22 rfl rfl
theorem dksX2_cycleNow_7 : cX2_cycleNow.data.toList.drop 163 = dktX2_cycleNow_7 := dk_seg dksX2_cycleNow_6 24 rfl rfl
theorem dksX2_cycleNow_8 : cX2_cycleNow.data.toList.drop 186 = dktX2_cycleNow_8 := dk_seg dksX2_cycleNow_7 23 rfl rfl
theorem dX2_cycleNow_0 : decode cX2_cycleNow 0 = .ok (.iconst 0, 1) := dk_3 (dk_at dksX2_cycleNow_0 0 rfl rfl)
theorem dX2_cycleNow_1 : decode cX2_cycleNow 1 = .ok (.istore_n 2, 1) := dk_61 (dk_at dksX2_cycleNow_0 1 rfl rfl)
theorem dX2_cycleNow_2 : decode cX2_cycleNow 2 = .ok (.iload_n 2, 1) := dk_28 (dk_at dksX2_cycleNow_0 2 rfl rfl)
theorem dX2_cycleNow_3 : decode cX2_cycleNow 3 = .ok (.sipush 16000, 3) := dk_17 62 128 (dk_at dksX2_cycleNow_0 3 rfl rfl)
theorem dX2_cycleNow_6 : decode cX2_cycleNow 6 = .ok (.if_icmp .ge 16, 3) := dk_162 0 16 (dk_at dksX2_cycleNow_0 6 rfl rfl)
theorem dX2_cycleNow_9 : decode cX2_cycleNow 9 = .ok (.aload_n 0, 1) := dk_42 (dk_at dksX2_cycleNow_0 9 rfl rfl)
theorem dX2_cycleNow_10 : decode cX2_cycleNow 10 = .ok (.getfield 19, 3) := dk_180 0 19 (dk_at dksX2_cycleNow_0 10 rfl rfl)
theorem dX2_cycleNow_13 : decode cX2_cycleNow 13 = .ok (.iload_n 2, 1) := dk_28 (dk_at dksX2_cycleNow_0 13 rfl rfl)
theorem dX2_cycleNow_14 : decode cX2_cycleNow 14 = .ok (.iconst 0, 1) := dk_3 (dk_at dksX2_cycleNow_0 14 rfl rfl)
theorem dX2_cycleNow_15 : decode cX2_cycleNow 15 = .ok (.iastore, 1) := dk_79 (dk_at dksX2_cycleNow_0 15 rfl rfl)
theorem dX2_cycleNow_16 : decode cX2_cycleNow 16 = .ok (.iinc 2 1, 3) := dk_132 2 1 (dk_at dksX2_cycleNow_0 16 rfl rfl)
theorem dX2_cycleNow_19 : decode cX2_cycleNow 19 = .ok (.goto (-17), 3) := dk_167 255 239 (dk_at dksX2_cycleNow_0 19 rfl rfl)
theorem dX2_cycleNow_22 : decode cX2_cycleNow 22 = .ok (.aload_n 0, 1) := dk_42 (dk_at dksX2_cycleNow_0 22 rfl rfl)
theorem dX2_cycleNow_23 : decode cX2_cycleNow 23 = .ok (.getfield 72, 3) := dk_180 0 72 (dk_at dksX2_cycleNow_1 0 rfl rfl)
theorem dX2_cycleNow_26 : decode cX2_cycleNow 26 = .ok (.istore_n 2, 1) := dk_61 (dk_at dksX2_cycleNow_1 3 rfl rfl)
theorem dX2_cycleNow_27 : decode cX2_cycleNow 27 = .ok (.aload_n 0, 1) := dk_42 (dk_at dksX2_cycleNow_1 4 rfl rfl)
theorem dX2_cycleNow_28 : decode cX2_cycleNow 28 = .ok (.getfield 78, 3) := dk_180 0 78 (dk_at dksX2_cycleNow_1 5 rfl rfl)
theorem dX2_cycleNow_31 : decode cX2_cycleNow 31 = .ok (.istore_n 3, 1) := dk_62 (dk_at dksX2_cycleNow_1 8 rfl rfl)
theorem dX2_cycleNow_32 : decode cX2_cycleNow 32 = .ok (.aload_n 0, 1) := dk_42 (dk_at dksX2_cycleNow_1 9 rfl rfl)
theorem dX2_cycleNow_33 : decode cX2_cycleNow 33 = .ok (.getfield 81, 3) := dk_180 0 81 (dk_at dksX2_cycleNow_1 10 rfl rfl)
theorem dX2_cycleNow_36 : decode cX2_cycleNow 36 = .ok (.istore 4, 2) := dk_54 4 (dk_at dksX2_cycleNow_1 13 rfl rfl)
theorem dX2_cycleNow_38 : decode cX2_cycleNow 38 = .ok (.iconst 0, 1) := dk_3 (dk_at dksX2_cycleNow_1 15 rfl rfl)
theorem dX2_cycleNow_39 : decode cX2_cycleNow 39 = .ok (.istore 5, 2) := dk_54 5 (dk_at dksX2_cycleNow_1 16 rfl rfl)
theorem dX2_cycleNow_41 : decode cX2_cycleNow 41 = .ok (.iconst 0, 1) := dk_3 (dk_at dksX2_cycleNow_1 18 rfl rfl)
theorem dX2_cycleNow_42 : decode cX2_cycleNow 42 = .ok (.istore 6, 2) := dk_54 6 (dk_at dksX2_cycleNow_1 19 rfl rfl)
theorem dX2_cycleNow_44 : decode cX2_cycleNow 44 = .ok (.sipush 4000, 3) := dk_17 15 160 (dk_at dksX2_cycleNow_1 21 rfl rfl)
theorem dX2_cycleNow_47 : decode cX2_cycleNow 47 = .ok (.aload_n 0, 1) := dk_42 (dk_at dksX2_cycleNow_2 0 rfl rfl)
theorem dX2_cycleNow_48 : decode cX2_cycleNow 48 = .ok (.getfield 72, 3) := dk_180 0 72 (dk_at dksX2_cycleNow_2 1 rfl rfl)
theorem dX2_cycleNow_51 : decode cX2_cycleNow 51 = .ok (.imul, 1) := dk_104 (dk_at dksX2_cycleNow_2 4 rfl rfl)
theorem dX2_cycleNow_52 : decode cX2_cycleNow 52 = .ok (.sipush 1000, 3) := dk_17 3 232 (dk_at dksX2_cycleNow_2 5 rfl rfl)
theorem dX2_cycleNow_55 : decode cX2_cycleNow 55 = .ok (.aload_n 0, 1) := dk_42 (dk_at dksX2_cycleNow_2 8 rfl rfl)
theorem dX2_cycleNow_56 : decode cX2_cycleNow 56 = .ok (.getfield 78, 3) := dk_180 0 78 (dk_at dksX2_cycleNow_2 9 rfl rfl)
theorem dX2_cycleNow_59 : decode cX2_cycleNow 59 = .ok (.imul, 1) := dk_104 (dk_at dksX2_cycleNow_2 12 rfl rfl)
theorem dX2_cycleNow_60 : decode cX2_cycleNow 60 = .ok (.iadd, 1) := dk_96 (dk_at dksX2_cycleNow_2 13 rfl rfl)
theorem dX2_cycleNow_61 : decode cX2_cycleNow 61 = .ok (.aload_n 0, 1) := dk_42 (dk_at dksX2_cycleNow_2 14 rfl rfl)
theorem dX2_cycleNow_62 : decode cX2_cycleNow 62 = .ok (.getfield 81, 3) := dk_180 0 81 (dk_at dksX2_cycleNow_2 15 rfl rfl)
theorem dX2_cycleNow_65 : decode cX2_cycleNow 65 = .ok (.iadd, 1) := dk_96 (dk_at dksX2_cycleNow_2 18 rfl rfl)
theorem dX2_cycleNow_66 : decode cX2_cycleNow 66 = .ok (.istore 7, 2) := dk_54 7 (dk_at dksX2_cycleNow_2 19 rfl rfl)
theorem dX2_cycleNow_68 : decode cX2_cycleNow 68 = .ok (.aload_n 0, 1) := dk_42 (dk_at dksX2_cycleNow_2 21 rfl rfl)
theorem dX2_cycleNow_69 : decode cX2_cycleNow 69 = .ok (.getfield 19, 3) := dk_180 0 19 (dk_at dksX2_cycleNow_3 0 rfl rfl)
theorem dX2_cycleNow_72 : decode cX2_cycleNow 72 = .ok (.iload 7, 2) := dk_21 7 (dk_at dksX2_cycleNow_3 3 rfl rfl)
theorem dX2_cycleNow_74 : decode cX2_cycleNow 74 = .ok (.iaload, 1) := dk_46 (dk_at dksX2_cycleNow_3 5 rfl rfl)
theorem dX2_cycleNow_75 : decode cX2_cycleNow 75 = .ok (.ifCond .ne 62, 3) := dk_154 0 62 (dk_at dksX2_cycleNow_3 6 rfl rfl)
theorem dX2_cycleNow_78 : decode cX2_cycleNow 78 = .ok (.aload_n 0, 1) := dk_42 (dk_at dksX2_cycleNow_3 9 rfl rfl)
theorem dX2_cycleNow_79 : decode cX2_cycleNow 79 = .ok (.getfield 19, 3) := dk_180 0 19 (dk_at dksX2_cycleNow_3 10 rfl rfl)
theorem dX2_cycleNow_82 : decode cX2_cycleNow 82 = .ok (.iload 7, 2) := dk_21 7 (dk_at dksX2_cycleNow_3 13 rfl rfl)
theorem dX2_cycleNow_84 : decode cX2_cycleNow 84 = .ok (.iload 5, 2) := dk_21 5 (dk_at dksX2_cycleNow_3 15 rfl rfl)
theorem dX2_cycleNow_86 : decode cX2_cycleNow 86 = .ok (.iconst 1, 1) := dk_4 (dk_at dksX2_cycleNow_3 17 rfl rfl)
theorem dX2_cycleNow_87 : decode cX2_cycleNow 87 = .ok (.iadd, 1) := dk_96 (dk_at dksX2_cycleNow_3 18 rfl rfl)
theorem dX2_cycleNow_88 : decode cX2_cycleNow 88 = .ok (.iastore, 1) := dk_79 (dk_at dksX2_cycleNow_3 19 rfl rfl)
theorem dX2_cycleNow_89 : decode cX2_cycleNow 89 = .ok (.aload_n 0, 1) := dk_42 (dk_at dksX2_cycleNow_3 20 rfl rfl)
theorem dX2_cycleNow_90 : decode cX2_cycleNow 90 = .ok (.getfield 22, 3) := dk_180 0 22 (dk_at dksX2_cycleNow_3 21 rfl rfl)
theorem dX2_cycleNow_93 : decode cX2_cycleNow 93 = .ok (.iload 7, 2) := dk_21 7 (dk_at dksX2_cycleNow_4 0 rfl rfl)
theorem dX2_cycleNow_95 : decode cX2_cycleNow 95 = .ok (.iload 6, 2) := dk_21 6 (dk_at dksX2_cycleNow_4 2 rfl rfl)
theorem dX2_cycleNow_97 : decode cX2_cycleNow 97 = .ok (.iastore, 1) := dk_79 (dk_at dksX2_cycleNow_4 4 rfl rfl)
theorem dX2_cycleNow_98 : decode cX2_cycleNow 98 = .ok (.iload 6, 2) := dk_21 6 (dk_at dksX2_cycleNow_4 5 rfl rfl)
theorem dX2_cycleNow_100 : decode cX2_cycleNow 100 = .ok (.aload_n 0, 1) := dk_42 (dk_at dksX2_cycleNow_4 7 rfl rfl)
theorem dX2_cycleNow_101 : decode cX2_cycleNow 101 = .ok (.invokevirtual 121, 3) := dk_182 0 121 (dk_at dksX2_cycleNow_4 8 rfl rfl)
theorem dX2_cycleNow_104 : decode cX2_cycleNow 104 = .ok (.iadd, 1) := dk_96 (dk_at dksX2_cycleNow_4 11 rfl rfl)
theorem dX2_cycleNow_105 : decode cX2_cycleNow 105 = .ok (.istore 6, 2) := dk_54 6 (dk_at dksX2_cycleNow_4 12 rfl rfl)
theorem dX2_cycleNow_107 : decode cX2_cycleNow 107 = .ok (.iinc 5 1, 3) := dk_132 5 1 (dk_at dksX2_cycleNow_4 14 rfl rfl)
theorem dX2_cycleNow_110 : decode cX2_cycleNow 110 = .ok (.sipush 4000, 3) := dk_17 15 160 (dk_at dksX2_cycleNow_4 17 rfl rfl)
theorem dX2_cycleNow_113 : decode cX2_cycleNow 113 = .ok (.aload_n 0, 1) := dk_42 (dk_at dksX2_cycleNow_4 20 rfl rfl)
theorem dX2_cycleNow_114 : decode cX2_cycleNow 114 = .ok (.getfield 72, 3) := dk_180 0 72 (dk_at dksX2_cycleNow_4 21 rfl rfl)
theorem dX2_cycleNow_117 : decode cX2_cycleNow 117 = .ok (.imul, 1) := dk_104 (dk_at dksX2_cycleNow_5 0 rfl rfl)
theorem dX2_cycleNow_118 : decode cX2_cycleNow 118 = .ok (.sipush 1000, 3) := dk_17 3 232 (dk_at dksX2_cycleNow_5 1 rfl rfl)
theorem dX2_cycleNow_121 : decode cX2_cycleNow 121 = .ok (.aload_n 0, 1) := dk_42 (dk_at dksX2_cycleNow_5 4 rfl rfl)
theorem dX2_cycleNow_122 : decode cX2_cycleNow 122 = .ok (.getfield 78, 3) := dk_180 0 78 (dk_at dksX2_cycleNow_5 5 rfl rfl)
theorem dX2_cycleNow_125 : decode cX2_cycleNow 125 = .ok (.imul, 1) := dk_104 (dk_at dksX2_cycleNow_5 8 rfl rfl)
theorem dX2_cycleNow_126 : decode cX2_cycleNow 126 = .ok (.iadd, 1) := dk_96 (dk_at dksX2_cycleNow_5 9 rfl rfl)
theorem dX2_cycleNow_127 : decode cX2_cycleNow 127 = .ok (.aload_n 0, 1) := dk_42 (dk_at dksX2_cycleNow_5 10 rfl rfl)
theorem dX2_cycleNow_128 : decode cX2_cycleNow 128 = .ok (.getfield 81, 3) := dk_180 0 81 (dk_at dksX2_cycleNow_5 11 rfl rfl)
theorem dX2_cycleNow_131 : decode cX2_cycleNow 131 = .ok (.iadd, 1) := dk_96 (dk_at dksX2_cycleNow_5 14 rfl rfl)
theorem dX2_cycleNow_132 : decode cX2_cycleNow 132 = .ok (.istore 7, 2) := dk_54 7 (dk_at dksX2_cycleNow_5 15 rfl rfl)
theorem dX2_cycleNow_134 : decode cX2_cycleNow 134 = .ok (.goto (-66), 3) := dk_167 255 190 (dk_at dksX2_cycleNow_5 17 rfl rfl)
theorem dX2_cycleNow_137 : decode cX2_cycleNow 137 = .ok (.aload_n 0, 1) := dk_42 (dk_at dksX2_cycleNow_5 20 rfl rfl)
theorem dX2_cycleNow_138 : decode cX2_cycleNow 138 = .ok (.iload_n 2, 1) := dk_28 (dk_at dksX2_cycleNow_5 21 rfl rfl)
theorem dX2_cycleNow_139 : decode cX2_cycleNow 139 = .ok (.putfield 72, 3) := dk_181 0 72 (dk_at dksX2_cycleNow_6 0 rfl rfl)
theorem dX2_cycleNow_142 : decode cX2_cycleNow 142 = .ok (.aload_n 0, 1) := dk_42 (dk_at dksX2_cycleNow_6 3 rfl rfl)
theorem dX2_cycleNow_143 : decode cX2_cycleNow 143 = .ok (.iload_n 3, 1) := dk_29 (dk_at dksX2_cycleNow_6 4 rfl rfl)
theorem dX2_cycleNow_144 : decode cX2_cycleNow 144 = .ok (.putfield 78, 3) := dk_181 0 78 (dk_at dksX2_cycleNow_6 5 rfl rfl)
theorem dX2_cycleNow_147 : decode cX2_cycleNow 147 = .ok (.aload_n 0, 1) := dk_42 (dk_at dksX2_cycleNow_6 8 rfl rfl)
theorem dX2_cycleNow_148 : decode cX2_cycleNow 148 = .ok (.iload 4, 2) := dk_21 4 (dk_at dksX2_cycleNow_6 9 rfl rfl)
theorem dX2_cycleNow_150 : decode cX2_cycleNow 150 = .ok (.putfield 81, 3) := dk_181 0 81 (dk_at dksX2_cycleNow_6 11 rfl rfl)
theorem dX2_cycleNow_153 : decode cX2_cycleNow 153 = .ok (.iload_n 1, 1) := dk_27 (dk_at dksX2_cycleNow_6 14 rfl rfl)
theorem dX2_cycleNow_154 : decode cX2_cycleNow 154 = .ok (.ifCond .ne 15, 3) := dk_154 0 15 (dk_at dksX2_cycleNow_6 15 rfl rfl)
theorem dX2_cycleNow_157 : decode cX2_cycleNow 157 = .ok (.aload_n 0, 1) := dk_42 (dk_at dksX2_cycleNow_6 18 rfl rfl)
theorem dX2_cycleNow_158 : decode cX2_cycleNow 158 = .ok (.getfield 19, 3) := dk_180 0 19 (dk_at dksX2_cycleNow_6 19 rfl rfl)
theorem dX2_cycleNow_161 : decode cX2_cycleNow 161 = .ok (.iload 7, 2) := dk_21 7 (dk_at dksX2_cycleNow_6 22 rfl rfl)
theorem dX2_cycleNow_163 : decode cX2_cycleNow 163 = .ok (.iaload, 1) := dk_46 (dk_at dksX2_cycleNow_7 0 rfl rfl)
theorem dX2_cycleNow_164 : decode cX2_cycleNow 164 = .ok (.iconst 1, 1) := dk_4 (dk_at dksX2_cycleNow_7 1 rfl rfl)
theorem dX2_cycleNow_165 : decode cX2_cycleNow 165 = .ok (.isub, 1) := dk_100 (dk_at dksX2_cycleNow_7 2 rfl rfl)
theorem dX2_cycleNow_166 : decode cX2_cycleNow 166 = .ok (.goto 33, 3) := dk_167 0 33 (dk_at dksX2_cycleNow_7 3 rfl rfl)
theorem dX2_cycleNow_169 : decode cX2_cycleNow 169 = .ok (.iload_n 1, 1) := dk_27 (dk_at dksX2_cycleNow_7 6 rfl rfl)
theorem dX2_cycleNow_170 : decode cX2_cycleNow 170 = .ok (.iconst 1, 1) := dk_4 (dk_at dksX2_cycleNow_7 7 rfl rfl)
theorem dX2_cycleNow_171 : decode cX2_cycleNow 171 = .ok (.if_icmp .ne 18, 3) := dk_160 0 18 (dk_at dksX2_cycleNow_7 8 rfl rfl)
theorem dX2_cycleNow_174 : decode cX2_cycleNow 174 = .ok (.iload 5, 2) := dk_21 5 (dk_at dksX2_cycleNow_7 11 rfl rfl)
theorem dX2_cycleNow_176 : decode cX2_cycleNow 176 = .ok (.aload_n 0, 1) := dk_42 (dk_at dksX2_cycleNow_7 13 rfl rfl)
theorem dX2_cycleNow_177 : decode cX2_cycleNow 177 = .ok (.getfield 19, 3) := dk_180 0 19 (dk_at dksX2_cycleNow_7 14 rfl rfl)
theorem dX2_cycleNow_180 : decode cX2_cycleNow 180 = .ok (.iload 7, 2) := dk_21 7 (dk_at dksX2_cycleNow_7 17 rfl rfl)
theorem dX2_cycleNow_182 : decode cX2_cycleNow 182 = .ok (.iaload, 1) := dk_46 (dk_at dksX2_cycleNow_7 19 rfl rfl)
theorem dX2_cycleNow_183 : decode cX2_cycleNow 183 = .ok (.isub, 1) := dk_100 (dk_at dksX2_cycleNow_7 20 rfl rfl)
theorem dX2_cycleNow_184 : decode cX2_cycleNow 184 = .ok (.iconst 1, 1) := dk_4 (dk_at dksX2_cycleNow_7 21 rfl rfl)
theorem dX2_cycleNow_185 : decode cX2_cycleNow 185 = .ok (.iadd, 1) := dk_96 (dk_at dksX2_cycleNow_7 22 rfl rfl)
theorem dX2_cycleNow_186 : decode cX2_cycleNow 186 = .ok (.goto 13, 3) := dk_167 0 13 (dk_at dksX2_cycleNow_8 0 rfl rfl)
theorem dX2_cycleNow_189 : decode cX2_cycleNow 189 = .ok (.iload 6, 2) := dk_21 6 (dk_at dksX2_cycleNow_8 3 rfl rfl)
theorem dX2_cycleNow_191 : decode cX2_cycleNow 191 = .ok (.aload_n 0, 1) := dk_42 (dk_at dksX2_cycleNow_8 5 rfl rfl)
theorem dX2_cycleNow_192 : decode cX2_cycleNow 192 = .ok (.getfield 22, 3) := dk_180 0 22 (dk_at dksX2_cycleNow_8 6 rfl rfl)
theorem dX2_cycleNow_195 : decode cX2_cycleNow 195 = .ok (.iload 7, 2) := dk_21 7 (dk_at dksX2_cycleNow_8 9 rfl rfl)
theorem dX2_cycleNow_197 : decode cX2_cycleNow 197 = .ok (.iaload, 1) := dk_46 (dk_at dksX2_cycleNow_8 11 rfl rfl)
theorem dX2_cycleNow_198 : decode cX2_cycleNow 198 = .ok (.isub, 1) := dk_100 (dk_at dksX2_cycleNow_8 12 rfl rfl)
theorem dX2_cycleNow_199 : decode cX2_cycleNow 199 = .ok (.ireturn, 1) := dk_172 (dk_at dksX2_cycleNow_8 13 rfl rfl)
abbrev cX2_chance : ByteArray := prog_10_method_43_code
def yX2_chance : MethodName := ⟨RX2, "chance", "(II)J"⟩
def dkwX2_chance_2 : List UInt8 := [173]
abbrev dktX2_chance_2 : List UInt8 := dkwX2_chance_2 ++ []
def dkwX2_chance_1 : List UInt8 := [167, 0, 4, 5, 181, 0, 51, 42, 180, 0, 51, 158, 0, 7, 9, 167, 0, 9, 42, 27, 28, 182, 0, 201]
abbrev dktX2_chance_1 : List UInt8 := dkwX2_chance_1 ++ dktX2_chance_2
def dkwX2_chance_0 : List UInt8 := [42, 27, 3, 16, 15, 184, 0, 58, 154, 0, 7, 4, 167, 0, 16, 42, 28, 182, 0, 97, 153, 0, 7, 3]
abbrev dktX2_chance_0 : List UInt8 := dkwX2_chance_0 ++ dktX2_chance_1
theorem dksX2_chance_0 : cX2_chance.data.toList.drop 0 = dktX2_chance_0 := by decide +kernel
theorem dksX2_chance_1 : cX2_chance.data.toList.drop 24 = dktX2_chance_1 := dk_seg dksX2_chance_0 24 rfl rfl
theorem dksX2_chance_2 : cX2_chance.data.toList.drop 48 = dktX2_chance_2 := dk_seg dksX2_chance_1 24 rfl rfl
theorem dX2_chance_0 : decode cX2_chance 0 = .ok (.aload_n 0, 1) := dk_42 (dk_at dksX2_chance_0 0 rfl rfl)
theorem dX2_chance_1 : decode cX2_chance 1 = .ok (.iload_n 1, 1) := dk_27 (dk_at dksX2_chance_0 1 rfl rfl)
theorem dX2_chance_2 : decode cX2_chance 2 = .ok (.iconst 0, 1) := dk_3 (dk_at dksX2_chance_0 2 rfl rfl)
theorem dX2_chance_3 : decode cX2_chance 3 = .ok (.bipush 15, 2) := dk_16 15 (dk_at dksX2_chance_0 3 rfl rfl)
theorem dX2_chance_5 : decode cX2_chance 5 = .ok (.invokestatic 58, 3) := dk_184 0 58 (dk_at dksX2_chance_0 5 rfl rfl)
theorem dX2_chance_8 : decode cX2_chance 8 = .ok (.ifCond .ne 7, 3) := dk_154 0 7 (dk_at dksX2_chance_0 8 rfl rfl)
theorem dX2_chance_11 : decode cX2_chance 11 = .ok (.iconst 1, 1) := dk_4 (dk_at dksX2_chance_0 11 rfl rfl)
theorem dX2_chance_12 : decode cX2_chance 12 = .ok (.goto 16, 3) := dk_167 0 16 (dk_at dksX2_chance_0 12 rfl rfl)
theorem dX2_chance_15 : decode cX2_chance 15 = .ok (.aload_n 0, 1) := dk_42 (dk_at dksX2_chance_0 15 rfl rfl)
theorem dX2_chance_16 : decode cX2_chance 16 = .ok (.iload_n 2, 1) := dk_28 (dk_at dksX2_chance_0 16 rfl rfl)
theorem dX2_chance_17 : decode cX2_chance 17 = .ok (.invokevirtual 97, 3) := dk_182 0 97 (dk_at dksX2_chance_0 17 rfl rfl)
theorem dX2_chance_20 : decode cX2_chance 20 = .ok (.ifCond .eq 7, 3) := dk_153 0 7 (dk_at dksX2_chance_0 20 rfl rfl)
theorem dX2_chance_23 : decode cX2_chance 23 = .ok (.iconst 0, 1) := dk_3 (dk_at dksX2_chance_0 23 rfl rfl)
theorem dX2_chance_24 : decode cX2_chance 24 = .ok (.goto 4, 3) := dk_167 0 4 (dk_at dksX2_chance_1 0 rfl rfl)
theorem dX2_chance_27 : decode cX2_chance 27 = .ok (.iconst 2, 1) := dk_5 (dk_at dksX2_chance_1 3 rfl rfl)
theorem dX2_chance_28 : decode cX2_chance 28 = .ok (.putfield 51, 3) := dk_181 0 51 (dk_at dksX2_chance_1 4 rfl rfl)
theorem dX2_chance_31 : decode cX2_chance 31 = .ok (.aload_n 0, 1) := dk_42 (dk_at dksX2_chance_1 7 rfl rfl)
theorem dX2_chance_32 : decode cX2_chance 32 = .ok (.getfield 51, 3) := dk_180 0 51 (dk_at dksX2_chance_1 8 rfl rfl)
theorem dX2_chance_35 : decode cX2_chance 35 = .ok (.ifCond .le 7, 3) := dk_158 0 7 (dk_at dksX2_chance_1 11 rfl rfl)
theorem dX2_chance_38 : decode cX2_chance 38 = .ok (.lconst 0, 1) := dk_9 (dk_at dksX2_chance_1 14 rfl rfl)
theorem dX2_chance_39 : decode cX2_chance 39 = .ok (.goto 9, 3) := dk_167 0 9 (dk_at dksX2_chance_1 15 rfl rfl)
theorem dX2_chance_42 : decode cX2_chance 42 = .ok (.aload_n 0, 1) := dk_42 (dk_at dksX2_chance_1 18 rfl rfl)
theorem dX2_chance_43 : decode cX2_chance 43 = .ok (.iload_n 1, 1) := dk_27 (dk_at dksX2_chance_1 19 rfl rfl)
theorem dX2_chance_44 : decode cX2_chance 44 = .ok (.iload_n 2, 1) := dk_28 (dk_at dksX2_chance_1 20 rfl rfl)
theorem dX2_chance_45 : decode cX2_chance 45 = .ok (.invokevirtual 201, 3) := dk_182 0 201 (dk_at dksX2_chance_1 21 rfl rfl)
theorem dX2_chance_48 : decode cX2_chance 48 = .ok (.lreturn, 1) := dk_173 (dk_at dksX2_chance_2 0 rfl rfl)
abbrev cX2_chanceAt : ByteArray := prog_10_method_42_code
def yX2_chanceAt : MethodName := ⟨RX2, "chanceAt", "(II)J"⟩
def dkwX2_chanceAt_1 : List UInt8 := [180, 0, 25, 7, 21, 5, 104, 28, 96, 47, 97, 66, 132, 5, 1, 167, 255, 232, 33, 173]
abbrev dktX2_chanceAt_1 : List UInt8 := dkwX2_chanceAt_1 ++ []
def dkwX2_chanceAt_0 : List UInt8 := [42, 27, 16, 156, 16, 100, 182, 0, 198, 9, 66, 3, 54, 5, 21, 5, 16, 31, 162, 0, 23, 33, 42]
abbrev dktX2_chanceAt_0 : List UInt8 := dkwX2_chanceAt_0 ++ dktX2_chanceAt_1
theorem dksX2_chanceAt_0 : cX2_chanceAt.data.toList.drop 0 = dktX2_chanceAt_0 := by decide +kernel
theorem dksX2_chanceAt_1 : cX2_chanceAt.data.toList.drop 23 = dktX2_chanceAt_1 := dk_seg dksX2_chanceAt_0 23 rfl rfl
theorem dX2_chanceAt_0 : decode cX2_chanceAt 0 = .ok (.aload_n 0, 1) := dk_42 (dk_at dksX2_chanceAt_0 0 rfl rfl)
theorem dX2_chanceAt_1 : decode cX2_chanceAt 1 = .ok (.iload_n 1, 1) := dk_27 (dk_at dksX2_chanceAt_0 1 rfl rfl)
theorem dX2_chanceAt_2 : decode cX2_chanceAt 2 = .ok (.bipush (-100), 2) := dk_16 156 (dk_at dksX2_chanceAt_0 2 rfl rfl)
theorem dX2_chanceAt_4 : decode cX2_chanceAt 4 = .ok (.bipush 100, 2) := dk_16 100 (dk_at dksX2_chanceAt_0 4 rfl rfl)
theorem dX2_chanceAt_6 : decode cX2_chanceAt 6 = .ok (.invokevirtual 198, 3) := dk_182 0 198 (dk_at dksX2_chanceAt_0 6 rfl rfl)
theorem dX2_chanceAt_9 : decode cX2_chanceAt 9 = .ok (.lconst 0, 1) := dk_9 (dk_at dksX2_chanceAt_0 9 rfl rfl)
theorem dX2_chanceAt_10 : decode cX2_chanceAt 10 = .ok (.lstore_n 3, 1) := dk_66 (dk_at dksX2_chanceAt_0 10 rfl rfl)
theorem dX2_chanceAt_11 : decode cX2_chanceAt 11 = .ok (.iconst 0, 1) := dk_3 (dk_at dksX2_chanceAt_0 11 rfl rfl)
theorem dX2_chanceAt_12 : decode cX2_chanceAt 12 = .ok (.istore 5, 2) := dk_54 5 (dk_at dksX2_chanceAt_0 12 rfl rfl)
theorem dX2_chanceAt_14 : decode cX2_chanceAt 14 = .ok (.iload 5, 2) := dk_21 5 (dk_at dksX2_chanceAt_0 14 rfl rfl)
theorem dX2_chanceAt_16 : decode cX2_chanceAt 16 = .ok (.bipush 31, 2) := dk_16 31 (dk_at dksX2_chanceAt_0 16 rfl rfl)
theorem dX2_chanceAt_18 : decode cX2_chanceAt 18 = .ok (.if_icmp .ge 23, 3) := dk_162 0 23 (dk_at dksX2_chanceAt_0 18 rfl rfl)
theorem dX2_chanceAt_21 : decode cX2_chanceAt 21 = .ok (.lload_n 3, 1) := dk_33 (dk_at dksX2_chanceAt_0 21 rfl rfl)
theorem dX2_chanceAt_22 : decode cX2_chanceAt 22 = .ok (.aload_n 0, 1) := dk_42 (dk_at dksX2_chanceAt_0 22 rfl rfl)
theorem dX2_chanceAt_23 : decode cX2_chanceAt 23 = .ok (.getfield 25, 3) := dk_180 0 25 (dk_at dksX2_chanceAt_1 0 rfl rfl)
theorem dX2_chanceAt_26 : decode cX2_chanceAt 26 = .ok (.iconst 4, 1) := dk_7 (dk_at dksX2_chanceAt_1 3 rfl rfl)
theorem dX2_chanceAt_27 : decode cX2_chanceAt 27 = .ok (.iload 5, 2) := dk_21 5 (dk_at dksX2_chanceAt_1 4 rfl rfl)
theorem dX2_chanceAt_29 : decode cX2_chanceAt 29 = .ok (.imul, 1) := dk_104 (dk_at dksX2_chanceAt_1 6 rfl rfl)
theorem dX2_chanceAt_30 : decode cX2_chanceAt 30 = .ok (.iload_n 2, 1) := dk_28 (dk_at dksX2_chanceAt_1 7 rfl rfl)
theorem dX2_chanceAt_31 : decode cX2_chanceAt 31 = .ok (.iadd, 1) := dk_96 (dk_at dksX2_chanceAt_1 8 rfl rfl)
theorem dX2_chanceAt_32 : decode cX2_chanceAt 32 = .ok (.laload, 1) := dk_47 (dk_at dksX2_chanceAt_1 9 rfl rfl)
theorem dX2_chanceAt_33 : decode cX2_chanceAt 33 = .ok (.ladd, 1) := dk_97 (dk_at dksX2_chanceAt_1 10 rfl rfl)
theorem dX2_chanceAt_34 : decode cX2_chanceAt 34 = .ok (.lstore_n 3, 1) := dk_66 (dk_at dksX2_chanceAt_1 11 rfl rfl)
theorem dX2_chanceAt_35 : decode cX2_chanceAt 35 = .ok (.iinc 5 1, 3) := dk_132 5 1 (dk_at dksX2_chanceAt_1 12 rfl rfl)
theorem dX2_chanceAt_38 : decode cX2_chanceAt 38 = .ok (.goto (-24), 3) := dk_167 255 232 (dk_at dksX2_chanceAt_1 15 rfl rfl)
theorem dX2_chanceAt_41 : decode cX2_chanceAt 41 = .ok (.lload_n 3, 1) := dk_33 (dk_at dksX2_chanceAt_1 18 rfl rfl)
theorem dX2_chanceAt_42 : decode cX2_chanceAt 42 = .ok (.lreturn, 1) := dk_173 (dk_at dksX2_chanceAt_1 19 rfl rfl)
abbrev cX2_go : ByteArray := prog_10_method_41_code
def yX2_go : MethodName := ⟨RX2, "go", "(III)V"⟩
def dkwX2_go_3 : List UInt8 := [184, 0, 62, 112, 184, 0, 114, 28, 29, 182, 0, 194, 132, 4, 1, 167, 255, 219, 177]
abbrev dktX2_go_3 : List UInt8 := dkwX2_go_3 ++ []
def dkwX2_go_2 : List UInt8 := [54, 4, 21, 4, 27, 162, 0, 37, 42, 42, 180, 0, 75, 42, 180, 0, 78, 21, 4, 96, 42, 180, 0, 75]
abbrev dktX2_go_2 : List UInt8 := dkwX2_go_2 ++ dktX2_go_3
def dkwX2_go_1 : List UInt8 := [42, 180, 0, 25, 16, 60, 42, 180, 0, 72, 96, 10, 80, 42, 9, 181, 0, 175, 42, 9, 181, 0, 181, 3]
abbrev dktX2_go_1 : List UInt8 := dkwX2_go_1 ++ dktX2_go_2
def dkwX2_go_0 : List UInt8 := [3, 54, 4, 21, 4, 16, 124, 162, 0, 17, 42, 180, 0, 25, 21, 4, 9, 80, 132, 4, 1, 167, 255, 238]
abbrev dktX2_go_0 : List UInt8 := dkwX2_go_0 ++ dktX2_go_1
theorem dksX2_go_0 : cX2_go.data.toList.drop 0 = dktX2_go_0 := by decide +kernel
theorem dksX2_go_1 : cX2_go.data.toList.drop 24 = dktX2_go_1 := dk_seg dksX2_go_0 24 rfl rfl
theorem dksX2_go_2 : cX2_go.data.toList.drop 48 = dktX2_go_2 := dk_seg dksX2_go_1 24 rfl rfl
theorem dksX2_go_3 : cX2_go.data.toList.drop 72 = dktX2_go_3 := dk_seg dksX2_go_2 24 rfl rfl
theorem dX2_go_0 : decode cX2_go 0 = .ok (.iconst 0, 1) := dk_3 (dk_at dksX2_go_0 0 rfl rfl)
theorem dX2_go_1 : decode cX2_go 1 = .ok (.istore 4, 2) := dk_54 4 (dk_at dksX2_go_0 1 rfl rfl)
theorem dX2_go_3 : decode cX2_go 3 = .ok (.iload 4, 2) := dk_21 4 (dk_at dksX2_go_0 3 rfl rfl)
theorem dX2_go_5 : decode cX2_go 5 = .ok (.bipush 124, 2) := dk_16 124 (dk_at dksX2_go_0 5 rfl rfl)
theorem dX2_go_7 : decode cX2_go 7 = .ok (.if_icmp .ge 17, 3) := dk_162 0 17 (dk_at dksX2_go_0 7 rfl rfl)
theorem dX2_go_10 : decode cX2_go 10 = .ok (.aload_n 0, 1) := dk_42 (dk_at dksX2_go_0 10 rfl rfl)
theorem dX2_go_11 : decode cX2_go 11 = .ok (.getfield 25, 3) := dk_180 0 25 (dk_at dksX2_go_0 11 rfl rfl)
theorem dX2_go_14 : decode cX2_go 14 = .ok (.iload 4, 2) := dk_21 4 (dk_at dksX2_go_0 14 rfl rfl)
theorem dX2_go_16 : decode cX2_go 16 = .ok (.lconst 0, 1) := dk_9 (dk_at dksX2_go_0 16 rfl rfl)
theorem dX2_go_17 : decode cX2_go 17 = .ok (.lastore, 1) := dk_80 (dk_at dksX2_go_0 17 rfl rfl)
theorem dX2_go_18 : decode cX2_go 18 = .ok (.iinc 4 1, 3) := dk_132 4 1 (dk_at dksX2_go_0 18 rfl rfl)
theorem dX2_go_21 : decode cX2_go 21 = .ok (.goto (-18), 3) := dk_167 255 238 (dk_at dksX2_go_0 21 rfl rfl)
theorem dX2_go_24 : decode cX2_go 24 = .ok (.aload_n 0, 1) := dk_42 (dk_at dksX2_go_1 0 rfl rfl)
theorem dX2_go_25 : decode cX2_go 25 = .ok (.getfield 25, 3) := dk_180 0 25 (dk_at dksX2_go_1 1 rfl rfl)
theorem dX2_go_28 : decode cX2_go 28 = .ok (.bipush 60, 2) := dk_16 60 (dk_at dksX2_go_1 4 rfl rfl)
theorem dX2_go_30 : decode cX2_go 30 = .ok (.aload_n 0, 1) := dk_42 (dk_at dksX2_go_1 6 rfl rfl)
theorem dX2_go_31 : decode cX2_go 31 = .ok (.getfield 72, 3) := dk_180 0 72 (dk_at dksX2_go_1 7 rfl rfl)
theorem dX2_go_34 : decode cX2_go 34 = .ok (.iadd, 1) := dk_96 (dk_at dksX2_go_1 10 rfl rfl)
theorem dX2_go_35 : decode cX2_go 35 = .ok (.lconst 1, 1) := dk_10 (dk_at dksX2_go_1 11 rfl rfl)
theorem dX2_go_36 : decode cX2_go 36 = .ok (.lastore, 1) := dk_80 (dk_at dksX2_go_1 12 rfl rfl)
theorem dX2_go_37 : decode cX2_go 37 = .ok (.aload_n 0, 1) := dk_42 (dk_at dksX2_go_1 13 rfl rfl)
theorem dX2_go_38 : decode cX2_go 38 = .ok (.lconst 0, 1) := dk_9 (dk_at dksX2_go_1 14 rfl rfl)
theorem dX2_go_39 : decode cX2_go 39 = .ok (.putfield 175, 3) := dk_181 0 175 (dk_at dksX2_go_1 15 rfl rfl)
theorem dX2_go_42 : decode cX2_go 42 = .ok (.aload_n 0, 1) := dk_42 (dk_at dksX2_go_1 18 rfl rfl)
theorem dX2_go_43 : decode cX2_go 43 = .ok (.lconst 0, 1) := dk_9 (dk_at dksX2_go_1 19 rfl rfl)
theorem dX2_go_44 : decode cX2_go 44 = .ok (.putfield 181, 3) := dk_181 0 181 (dk_at dksX2_go_1 20 rfl rfl)
theorem dX2_go_47 : decode cX2_go 47 = .ok (.iconst 0, 1) := dk_3 (dk_at dksX2_go_1 23 rfl rfl)
theorem dX2_go_48 : decode cX2_go 48 = .ok (.istore 4, 2) := dk_54 4 (dk_at dksX2_go_2 0 rfl rfl)
theorem dX2_go_50 : decode cX2_go 50 = .ok (.iload 4, 2) := dk_21 4 (dk_at dksX2_go_2 2 rfl rfl)
theorem dX2_go_52 : decode cX2_go 52 = .ok (.iload_n 1, 1) := dk_27 (dk_at dksX2_go_2 4 rfl rfl)
theorem dX2_go_53 : decode cX2_go 53 = .ok (.if_icmp .ge 37, 3) := dk_162 0 37 (dk_at dksX2_go_2 5 rfl rfl)
theorem dX2_go_56 : decode cX2_go 56 = .ok (.aload_n 0, 1) := dk_42 (dk_at dksX2_go_2 8 rfl rfl)
theorem dX2_go_57 : decode cX2_go 57 = .ok (.aload_n 0, 1) := dk_42 (dk_at dksX2_go_2 9 rfl rfl)
theorem dX2_go_58 : decode cX2_go 58 = .ok (.getfield 75, 3) := dk_180 0 75 (dk_at dksX2_go_2 10 rfl rfl)
theorem dX2_go_61 : decode cX2_go 61 = .ok (.aload_n 0, 1) := dk_42 (dk_at dksX2_go_2 13 rfl rfl)
theorem dX2_go_62 : decode cX2_go 62 = .ok (.getfield 78, 3) := dk_180 0 78 (dk_at dksX2_go_2 14 rfl rfl)
theorem dX2_go_65 : decode cX2_go 65 = .ok (.iload 4, 2) := dk_21 4 (dk_at dksX2_go_2 17 rfl rfl)
theorem dX2_go_67 : decode cX2_go 67 = .ok (.iadd, 1) := dk_96 (dk_at dksX2_go_2 19 rfl rfl)
theorem dX2_go_68 : decode cX2_go 68 = .ok (.aload_n 0, 1) := dk_42 (dk_at dksX2_go_2 20 rfl rfl)
theorem dX2_go_69 : decode cX2_go 69 = .ok (.getfield 75, 3) := dk_180 0 75 (dk_at dksX2_go_2 21 rfl rfl)
theorem dX2_go_72 : decode cX2_go 72 = .ok (.invokestatic 62, 3) := dk_184 0 62 (dk_at dksX2_go_3 0 rfl rfl)
theorem dX2_go_75 : decode cX2_go 75 = .ok (.irem, 1) := dk_112 (dk_at dksX2_go_3 3 rfl rfl)
theorem dX2_go_76 : decode cX2_go 76 = .ok (.invokestatic 114, 3) := dk_184 0 114 (dk_at dksX2_go_3 4 rfl rfl)
theorem dX2_go_79 : decode cX2_go 79 = .ok (.iload_n 2, 1) := dk_28 (dk_at dksX2_go_3 7 rfl rfl)
theorem dX2_go_80 : decode cX2_go 80 = .ok (.iload_n 3, 1) := dk_29 (dk_at dksX2_go_3 8 rfl rfl)
theorem dX2_go_81 : decode cX2_go 81 = .ok (.invokevirtual 194, 3) := dk_182 0 194 (dk_at dksX2_go_3 9 rfl rfl)
theorem dX2_go_84 : decode cX2_go 84 = .ok (.iinc 4 1, 3) := dk_132 4 1 (dk_at dksX2_go_3 12 rfl rfl)
theorem dX2_go_87 : decode cX2_go 87 = .ok (.goto (-37), 3) := dk_167 255 219 (dk_at dksX2_go_3 15 rfl rfl)
theorem dX2_go_90 : decode cX2_go 90 = .ok (.return_, 1) := dk_177 (dk_at dksX2_go_3 18 rfl rfl)
abbrev cX2_spread : ByteArray := prog_10_method_39_code
def yX2_spread : MethodName := ⟨RX2, "spread", "(III)V"⟩
def dkwX2_spread_9 : List UInt8 := [132, 4, 1, 167, 255, 232, 177]
abbrev dktX2_spread_9 : List UInt8 := dkwX2_spread_9 ++ []
def dkwX2_spread_8 : List UInt8 := [54, 4, 21, 4, 16, 124, 162, 0, 23, 42, 180, 0, 25, 21, 4, 42, 180, 0, 29, 21, 4, 47, 80]
abbrev dktX2_spread_8 : List UInt8 := dkwX2_spread_8 ++ dktX2_spread_9
def dkwX2_spread_7 : List UInt8 := [42, 180, 0, 25, 21, 4, 47, 21, 7, 133, 105, 28, 29, 182, 0, 190, 132, 4, 1, 167, 255, 121, 3]
abbrev dktX2_spread_7 : List UInt8 := dkwX2_spread_7 ++ dktX2_spread_8
def dkwX2_spread_6 : List UInt8 := [21, 7, 100, 133, 105, 28, 29, 182, 0, 190, 42, 21, 4, 7, 108, 4, 96, 42, 21, 5, 4, 182, 0, 117]
abbrev dktX2_spread_6 : List UInt8 := dkwX2_spread_6 ++ dktX2_spread_7
def dkwX2_spread_5 : List UInt8 := [28, 29, 182, 0, 190, 42, 21, 4, 7, 108, 21, 5, 42, 180, 0, 25, 21, 4, 47, 16, 10, 21, 6, 100]
abbrev dktX2_spread_5 : List UInt8 := dkwX2_spread_5 ++ dktX2_spread_6
def dkwX2_spread_4 : List UInt8 := [21, 4, 7, 108, 4, 100, 42, 21, 5, 2, 182, 0, 117, 42, 180, 0, 25, 21, 4, 47, 21, 6, 133, 105]
abbrev dktX2_spread_4 : List UInt8 := dkwX2_spread_4 ++ dktX2_spread_5
def dkwX2_spread_3 : List UInt8 := [7, 112, 54, 5, 42, 27, 21, 5, 182, 0, 184, 54, 6, 42, 27, 21, 5, 182, 0, 187, 54, 7, 42]
abbrev dktX2_spread_3 : List UInt8 := dkwX2_spread_3 ++ dktX2_spread_4
def dkwX2_spread_2 : List UInt8 := [3, 54, 4, 21, 4, 16, 124, 162, 0, 134, 42, 180, 0, 25, 21, 4, 47, 9, 148, 153, 0, 116, 21, 4]
abbrev dktX2_spread_2 : List UInt8 := dkwX2_spread_2 ++ dktX2_spread_3
def dkwX2_spread_1 : List UInt8 := [42, 89, 180, 0, 175, 20, 0, 179, 105, 181, 0, 175, 42, 89, 180, 0, 181, 20, 0, 179, 105, 181, 0, 181]
abbrev dktX2_spread_1 : List UInt8 := dkwX2_spread_1 ++ dktX2_spread_2
def dkwX2_spread_0 : List UInt8 := [3, 54, 4, 21, 4, 16, 124, 162, 0, 17, 42, 180, 0, 29, 21, 4, 9, 80, 132, 4, 1, 167, 255, 238]
abbrev dktX2_spread_0 : List UInt8 := dkwX2_spread_0 ++ dktX2_spread_1
theorem dksX2_spread_0 : cX2_spread.data.toList.drop 0 = dktX2_spread_0 := by decide +kernel
theorem dksX2_spread_1 : cX2_spread.data.toList.drop 24 = dktX2_spread_1 := dk_seg dksX2_spread_0 24 rfl rfl
theorem dksX2_spread_2 : cX2_spread.data.toList.drop 48 = dktX2_spread_2 := dk_seg dksX2_spread_1 24 rfl rfl
theorem dksX2_spread_3 : cX2_spread.data.toList.drop 72 = dktX2_spread_3 := dk_seg dksX2_spread_2 24 rfl rfl
theorem dksX2_spread_4 : cX2_spread.data.toList.drop 95 = dktX2_spread_4 := dk_seg dksX2_spread_3 23 rfl rfl
theorem dksX2_spread_5 : cX2_spread.data.toList.drop 119 = dktX2_spread_5 := dk_seg dksX2_spread_4 24 rfl rfl
theorem dksX2_spread_6 : cX2_spread.data.toList.drop 143 = dktX2_spread_6 := dk_seg dksX2_spread_5 24 rfl rfl
theorem dksX2_spread_7 : cX2_spread.data.toList.drop 167 = dktX2_spread_7 := dk_seg dksX2_spread_6 24 rfl rfl
theorem dksX2_spread_8 : cX2_spread.data.toList.drop 190 = dktX2_spread_8 := dk_seg dksX2_spread_7 23 rfl rfl
theorem dksX2_spread_9 : cX2_spread.data.toList.drop 213 = dktX2_spread_9 := dk_seg dksX2_spread_8 23 rfl rfl
theorem dX2_spread_0 : decode cX2_spread 0 = .ok (.iconst 0, 1) := dk_3 (dk_at dksX2_spread_0 0 rfl rfl)
theorem dX2_spread_1 : decode cX2_spread 1 = .ok (.istore 4, 2) := dk_54 4 (dk_at dksX2_spread_0 1 rfl rfl)
theorem dX2_spread_3 : decode cX2_spread 3 = .ok (.iload 4, 2) := dk_21 4 (dk_at dksX2_spread_0 3 rfl rfl)
theorem dX2_spread_5 : decode cX2_spread 5 = .ok (.bipush 124, 2) := dk_16 124 (dk_at dksX2_spread_0 5 rfl rfl)
theorem dX2_spread_7 : decode cX2_spread 7 = .ok (.if_icmp .ge 17, 3) := dk_162 0 17 (dk_at dksX2_spread_0 7 rfl rfl)
theorem dX2_spread_10 : decode cX2_spread 10 = .ok (.aload_n 0, 1) := dk_42 (dk_at dksX2_spread_0 10 rfl rfl)
theorem dX2_spread_11 : decode cX2_spread 11 = .ok (.getfield 29, 3) := dk_180 0 29 (dk_at dksX2_spread_0 11 rfl rfl)
theorem dX2_spread_14 : decode cX2_spread 14 = .ok (.iload 4, 2) := dk_21 4 (dk_at dksX2_spread_0 14 rfl rfl)
theorem dX2_spread_16 : decode cX2_spread 16 = .ok (.lconst 0, 1) := dk_9 (dk_at dksX2_spread_0 16 rfl rfl)
theorem dX2_spread_17 : decode cX2_spread 17 = .ok (.lastore, 1) := dk_80 (dk_at dksX2_spread_0 17 rfl rfl)
theorem dX2_spread_18 : decode cX2_spread 18 = .ok (.iinc 4 1, 3) := dk_132 4 1 (dk_at dksX2_spread_0 18 rfl rfl)
theorem dX2_spread_21 : decode cX2_spread 21 = .ok (.goto (-18), 3) := dk_167 255 238 (dk_at dksX2_spread_0 21 rfl rfl)
theorem dX2_spread_24 : decode cX2_spread 24 = .ok (.aload_n 0, 1) := dk_42 (dk_at dksX2_spread_1 0 rfl rfl)
theorem dX2_spread_25 : decode cX2_spread 25 = .ok (.dup, 1) := dk_89 (dk_at dksX2_spread_1 1 rfl rfl)
theorem dX2_spread_26 : decode cX2_spread 26 = .ok (.getfield 175, 3) := dk_180 0 175 (dk_at dksX2_spread_1 2 rfl rfl)
theorem dX2_spread_29 : decode cX2_spread 29 = .ok (.ldc2_w 179, 3) := dk_20 0 179 (dk_at dksX2_spread_1 5 rfl rfl)
theorem dX2_spread_32 : decode cX2_spread 32 = .ok (.lmul, 1) := dk_105 (dk_at dksX2_spread_1 8 rfl rfl)
theorem dX2_spread_33 : decode cX2_spread 33 = .ok (.putfield 175, 3) := dk_181 0 175 (dk_at dksX2_spread_1 9 rfl rfl)
theorem dX2_spread_36 : decode cX2_spread 36 = .ok (.aload_n 0, 1) := dk_42 (dk_at dksX2_spread_1 12 rfl rfl)
theorem dX2_spread_37 : decode cX2_spread 37 = .ok (.dup, 1) := dk_89 (dk_at dksX2_spread_1 13 rfl rfl)
theorem dX2_spread_38 : decode cX2_spread 38 = .ok (.getfield 181, 3) := dk_180 0 181 (dk_at dksX2_spread_1 14 rfl rfl)
theorem dX2_spread_41 : decode cX2_spread 41 = .ok (.ldc2_w 179, 3) := dk_20 0 179 (dk_at dksX2_spread_1 17 rfl rfl)
theorem dX2_spread_44 : decode cX2_spread 44 = .ok (.lmul, 1) := dk_105 (dk_at dksX2_spread_1 20 rfl rfl)
theorem dX2_spread_45 : decode cX2_spread 45 = .ok (.putfield 181, 3) := dk_181 0 181 (dk_at dksX2_spread_1 21 rfl rfl)
theorem dX2_spread_48 : decode cX2_spread 48 = .ok (.iconst 0, 1) := dk_3 (dk_at dksX2_spread_2 0 rfl rfl)
theorem dX2_spread_49 : decode cX2_spread 49 = .ok (.istore 4, 2) := dk_54 4 (dk_at dksX2_spread_2 1 rfl rfl)
theorem dX2_spread_51 : decode cX2_spread 51 = .ok (.iload 4, 2) := dk_21 4 (dk_at dksX2_spread_2 3 rfl rfl)
theorem dX2_spread_53 : decode cX2_spread 53 = .ok (.bipush 124, 2) := dk_16 124 (dk_at dksX2_spread_2 5 rfl rfl)
theorem dX2_spread_55 : decode cX2_spread 55 = .ok (.if_icmp .ge 134, 3) := dk_162 0 134 (dk_at dksX2_spread_2 7 rfl rfl)
theorem dX2_spread_58 : decode cX2_spread 58 = .ok (.aload_n 0, 1) := dk_42 (dk_at dksX2_spread_2 10 rfl rfl)
theorem dX2_spread_59 : decode cX2_spread 59 = .ok (.getfield 25, 3) := dk_180 0 25 (dk_at dksX2_spread_2 11 rfl rfl)
theorem dX2_spread_62 : decode cX2_spread 62 = .ok (.iload 4, 2) := dk_21 4 (dk_at dksX2_spread_2 14 rfl rfl)
theorem dX2_spread_64 : decode cX2_spread 64 = .ok (.laload, 1) := dk_47 (dk_at dksX2_spread_2 16 rfl rfl)
theorem dX2_spread_65 : decode cX2_spread 65 = .ok (.lconst 0, 1) := dk_9 (dk_at dksX2_spread_2 17 rfl rfl)
theorem dX2_spread_66 : decode cX2_spread 66 = .ok (.lcmp, 1) := dk_148 (dk_at dksX2_spread_2 18 rfl rfl)
theorem dX2_spread_67 : decode cX2_spread 67 = .ok (.ifCond .eq 116, 3) := dk_153 0 116 (dk_at dksX2_spread_2 19 rfl rfl)
theorem dX2_spread_70 : decode cX2_spread 70 = .ok (.iload 4, 2) := dk_21 4 (dk_at dksX2_spread_2 22 rfl rfl)
theorem dX2_spread_72 : decode cX2_spread 72 = .ok (.iconst 4, 1) := dk_7 (dk_at dksX2_spread_3 0 rfl rfl)
theorem dX2_spread_73 : decode cX2_spread 73 = .ok (.irem, 1) := dk_112 (dk_at dksX2_spread_3 1 rfl rfl)
theorem dX2_spread_74 : decode cX2_spread 74 = .ok (.istore 5, 2) := dk_54 5 (dk_at dksX2_spread_3 2 rfl rfl)
theorem dX2_spread_76 : decode cX2_spread 76 = .ok (.aload_n 0, 1) := dk_42 (dk_at dksX2_spread_3 4 rfl rfl)
theorem dX2_spread_77 : decode cX2_spread 77 = .ok (.iload_n 1, 1) := dk_27 (dk_at dksX2_spread_3 5 rfl rfl)
theorem dX2_spread_78 : decode cX2_spread 78 = .ok (.iload 5, 2) := dk_21 5 (dk_at dksX2_spread_3 6 rfl rfl)
theorem dX2_spread_80 : decode cX2_spread 80 = .ok (.invokevirtual 184, 3) := dk_182 0 184 (dk_at dksX2_spread_3 8 rfl rfl)
theorem dX2_spread_83 : decode cX2_spread 83 = .ok (.istore 6, 2) := dk_54 6 (dk_at dksX2_spread_3 11 rfl rfl)
theorem dX2_spread_85 : decode cX2_spread 85 = .ok (.aload_n 0, 1) := dk_42 (dk_at dksX2_spread_3 13 rfl rfl)
theorem dX2_spread_86 : decode cX2_spread 86 = .ok (.iload_n 1, 1) := dk_27 (dk_at dksX2_spread_3 14 rfl rfl)
theorem dX2_spread_87 : decode cX2_spread 87 = .ok (.iload 5, 2) := dk_21 5 (dk_at dksX2_spread_3 15 rfl rfl)
theorem dX2_spread_89 : decode cX2_spread 89 = .ok (.invokevirtual 187, 3) := dk_182 0 187 (dk_at dksX2_spread_3 17 rfl rfl)
theorem dX2_spread_92 : decode cX2_spread 92 = .ok (.istore 7, 2) := dk_54 7 (dk_at dksX2_spread_3 20 rfl rfl)
theorem dX2_spread_94 : decode cX2_spread 94 = .ok (.aload_n 0, 1) := dk_42 (dk_at dksX2_spread_3 22 rfl rfl)
theorem dX2_spread_95 : decode cX2_spread 95 = .ok (.iload 4, 2) := dk_21 4 (dk_at dksX2_spread_4 0 rfl rfl)
theorem dX2_spread_97 : decode cX2_spread 97 = .ok (.iconst 4, 1) := dk_7 (dk_at dksX2_spread_4 2 rfl rfl)
theorem dX2_spread_98 : decode cX2_spread 98 = .ok (.idiv, 1) := dk_108 (dk_at dksX2_spread_4 3 rfl rfl)
theorem dX2_spread_99 : decode cX2_spread 99 = .ok (.iconst 1, 1) := dk_4 (dk_at dksX2_spread_4 4 rfl rfl)
theorem dX2_spread_100 : decode cX2_spread 100 = .ok (.isub, 1) := dk_100 (dk_at dksX2_spread_4 5 rfl rfl)
theorem dX2_spread_101 : decode cX2_spread 101 = .ok (.aload_n 0, 1) := dk_42 (dk_at dksX2_spread_4 6 rfl rfl)
theorem dX2_spread_102 : decode cX2_spread 102 = .ok (.iload 5, 2) := dk_21 5 (dk_at dksX2_spread_4 7 rfl rfl)
theorem dX2_spread_104 : decode cX2_spread 104 = .ok (.iconst (-1), 1) := dk_2 (dk_at dksX2_spread_4 9 rfl rfl)
theorem dX2_spread_105 : decode cX2_spread 105 = .ok (.invokevirtual 117, 3) := dk_182 0 117 (dk_at dksX2_spread_4 10 rfl rfl)
theorem dX2_spread_108 : decode cX2_spread 108 = .ok (.aload_n 0, 1) := dk_42 (dk_at dksX2_spread_4 13 rfl rfl)
theorem dX2_spread_109 : decode cX2_spread 109 = .ok (.getfield 25, 3) := dk_180 0 25 (dk_at dksX2_spread_4 14 rfl rfl)
theorem dX2_spread_112 : decode cX2_spread 112 = .ok (.iload 4, 2) := dk_21 4 (dk_at dksX2_spread_4 17 rfl rfl)
theorem dX2_spread_114 : decode cX2_spread 114 = .ok (.laload, 1) := dk_47 (dk_at dksX2_spread_4 19 rfl rfl)
theorem dX2_spread_115 : decode cX2_spread 115 = .ok (.iload 6, 2) := dk_21 6 (dk_at dksX2_spread_4 20 rfl rfl)
theorem dX2_spread_117 : decode cX2_spread 117 = .ok (.i2l, 1) := dk_133 (dk_at dksX2_spread_4 22 rfl rfl)
theorem dX2_spread_118 : decode cX2_spread 118 = .ok (.lmul, 1) := dk_105 (dk_at dksX2_spread_4 23 rfl rfl)
theorem dX2_spread_119 : decode cX2_spread 119 = .ok (.iload_n 2, 1) := dk_28 (dk_at dksX2_spread_5 0 rfl rfl)
theorem dX2_spread_120 : decode cX2_spread 120 = .ok (.iload_n 3, 1) := dk_29 (dk_at dksX2_spread_5 1 rfl rfl)
theorem dX2_spread_121 : decode cX2_spread 121 = .ok (.invokevirtual 190, 3) := dk_182 0 190 (dk_at dksX2_spread_5 2 rfl rfl)
theorem dX2_spread_124 : decode cX2_spread 124 = .ok (.aload_n 0, 1) := dk_42 (dk_at dksX2_spread_5 5 rfl rfl)
theorem dX2_spread_125 : decode cX2_spread 125 = .ok (.iload 4, 2) := dk_21 4 (dk_at dksX2_spread_5 6 rfl rfl)
theorem dX2_spread_127 : decode cX2_spread 127 = .ok (.iconst 4, 1) := dk_7 (dk_at dksX2_spread_5 8 rfl rfl)
theorem dX2_spread_128 : decode cX2_spread 128 = .ok (.idiv, 1) := dk_108 (dk_at dksX2_spread_5 9 rfl rfl)
theorem dX2_spread_129 : decode cX2_spread 129 = .ok (.iload 5, 2) := dk_21 5 (dk_at dksX2_spread_5 10 rfl rfl)
theorem dX2_spread_131 : decode cX2_spread 131 = .ok (.aload_n 0, 1) := dk_42 (dk_at dksX2_spread_5 12 rfl rfl)
theorem dX2_spread_132 : decode cX2_spread 132 = .ok (.getfield 25, 3) := dk_180 0 25 (dk_at dksX2_spread_5 13 rfl rfl)
theorem dX2_spread_135 : decode cX2_spread 135 = .ok (.iload 4, 2) := dk_21 4 (dk_at dksX2_spread_5 16 rfl rfl)
theorem dX2_spread_137 : decode cX2_spread 137 = .ok (.laload, 1) := dk_47 (dk_at dksX2_spread_5 18 rfl rfl)
theorem dX2_spread_138 : decode cX2_spread 138 = .ok (.bipush 10, 2) := dk_16 10 (dk_at dksX2_spread_5 19 rfl rfl)
theorem dX2_spread_140 : decode cX2_spread 140 = .ok (.iload 6, 2) := dk_21 6 (dk_at dksX2_spread_5 21 rfl rfl)
theorem dX2_spread_142 : decode cX2_spread 142 = .ok (.isub, 1) := dk_100 (dk_at dksX2_spread_5 23 rfl rfl)
theorem dX2_spread_143 : decode cX2_spread 143 = .ok (.iload 7, 2) := dk_21 7 (dk_at dksX2_spread_6 0 rfl rfl)
theorem dX2_spread_145 : decode cX2_spread 145 = .ok (.isub, 1) := dk_100 (dk_at dksX2_spread_6 2 rfl rfl)
theorem dX2_spread_146 : decode cX2_spread 146 = .ok (.i2l, 1) := dk_133 (dk_at dksX2_spread_6 3 rfl rfl)
theorem dX2_spread_147 : decode cX2_spread 147 = .ok (.lmul, 1) := dk_105 (dk_at dksX2_spread_6 4 rfl rfl)
theorem dX2_spread_148 : decode cX2_spread 148 = .ok (.iload_n 2, 1) := dk_28 (dk_at dksX2_spread_6 5 rfl rfl)
theorem dX2_spread_149 : decode cX2_spread 149 = .ok (.iload_n 3, 1) := dk_29 (dk_at dksX2_spread_6 6 rfl rfl)
theorem dX2_spread_150 : decode cX2_spread 150 = .ok (.invokevirtual 190, 3) := dk_182 0 190 (dk_at dksX2_spread_6 7 rfl rfl)
theorem dX2_spread_153 : decode cX2_spread 153 = .ok (.aload_n 0, 1) := dk_42 (dk_at dksX2_spread_6 10 rfl rfl)
theorem dX2_spread_154 : decode cX2_spread 154 = .ok (.iload 4, 2) := dk_21 4 (dk_at dksX2_spread_6 11 rfl rfl)
theorem dX2_spread_156 : decode cX2_spread 156 = .ok (.iconst 4, 1) := dk_7 (dk_at dksX2_spread_6 13 rfl rfl)
theorem dX2_spread_157 : decode cX2_spread 157 = .ok (.idiv, 1) := dk_108 (dk_at dksX2_spread_6 14 rfl rfl)
theorem dX2_spread_158 : decode cX2_spread 158 = .ok (.iconst 1, 1) := dk_4 (dk_at dksX2_spread_6 15 rfl rfl)
theorem dX2_spread_159 : decode cX2_spread 159 = .ok (.iadd, 1) := dk_96 (dk_at dksX2_spread_6 16 rfl rfl)
theorem dX2_spread_160 : decode cX2_spread 160 = .ok (.aload_n 0, 1) := dk_42 (dk_at dksX2_spread_6 17 rfl rfl)
theorem dX2_spread_161 : decode cX2_spread 161 = .ok (.iload 5, 2) := dk_21 5 (dk_at dksX2_spread_6 18 rfl rfl)
theorem dX2_spread_163 : decode cX2_spread 163 = .ok (.iconst 1, 1) := dk_4 (dk_at dksX2_spread_6 20 rfl rfl)
theorem dX2_spread_164 : decode cX2_spread 164 = .ok (.invokevirtual 117, 3) := dk_182 0 117 (dk_at dksX2_spread_6 21 rfl rfl)
theorem dX2_spread_167 : decode cX2_spread 167 = .ok (.aload_n 0, 1) := dk_42 (dk_at dksX2_spread_7 0 rfl rfl)
theorem dX2_spread_168 : decode cX2_spread 168 = .ok (.getfield 25, 3) := dk_180 0 25 (dk_at dksX2_spread_7 1 rfl rfl)
theorem dX2_spread_171 : decode cX2_spread 171 = .ok (.iload 4, 2) := dk_21 4 (dk_at dksX2_spread_7 4 rfl rfl)
theorem dX2_spread_173 : decode cX2_spread 173 = .ok (.laload, 1) := dk_47 (dk_at dksX2_spread_7 6 rfl rfl)
theorem dX2_spread_174 : decode cX2_spread 174 = .ok (.iload 7, 2) := dk_21 7 (dk_at dksX2_spread_7 7 rfl rfl)
theorem dX2_spread_176 : decode cX2_spread 176 = .ok (.i2l, 1) := dk_133 (dk_at dksX2_spread_7 9 rfl rfl)
theorem dX2_spread_177 : decode cX2_spread 177 = .ok (.lmul, 1) := dk_105 (dk_at dksX2_spread_7 10 rfl rfl)
theorem dX2_spread_178 : decode cX2_spread 178 = .ok (.iload_n 2, 1) := dk_28 (dk_at dksX2_spread_7 11 rfl rfl)
theorem dX2_spread_179 : decode cX2_spread 179 = .ok (.iload_n 3, 1) := dk_29 (dk_at dksX2_spread_7 12 rfl rfl)
theorem dX2_spread_180 : decode cX2_spread 180 = .ok (.invokevirtual 190, 3) := dk_182 0 190 (dk_at dksX2_spread_7 13 rfl rfl)
theorem dX2_spread_183 : decode cX2_spread 183 = .ok (.iinc 4 1, 3) := dk_132 4 1 (dk_at dksX2_spread_7 16 rfl rfl)
theorem dX2_spread_186 : decode cX2_spread 186 = .ok (.goto (-135), 3) := dk_167 255 121 (dk_at dksX2_spread_7 19 rfl rfl)
theorem dX2_spread_189 : decode cX2_spread 189 = .ok (.iconst 0, 1) := dk_3 (dk_at dksX2_spread_7 22 rfl rfl)
theorem dX2_spread_190 : decode cX2_spread 190 = .ok (.istore 4, 2) := dk_54 4 (dk_at dksX2_spread_8 0 rfl rfl)
theorem dX2_spread_192 : decode cX2_spread 192 = .ok (.iload 4, 2) := dk_21 4 (dk_at dksX2_spread_8 2 rfl rfl)
theorem dX2_spread_194 : decode cX2_spread 194 = .ok (.bipush 124, 2) := dk_16 124 (dk_at dksX2_spread_8 4 rfl rfl)
theorem dX2_spread_196 : decode cX2_spread 196 = .ok (.if_icmp .ge 23, 3) := dk_162 0 23 (dk_at dksX2_spread_8 6 rfl rfl)
theorem dX2_spread_199 : decode cX2_spread 199 = .ok (.aload_n 0, 1) := dk_42 (dk_at dksX2_spread_8 9 rfl rfl)
theorem dX2_spread_200 : decode cX2_spread 200 = .ok (.getfield 25, 3) := dk_180 0 25 (dk_at dksX2_spread_8 10 rfl rfl)
theorem dX2_spread_203 : decode cX2_spread 203 = .ok (.iload 4, 2) := dk_21 4 (dk_at dksX2_spread_8 13 rfl rfl)
theorem dX2_spread_205 : decode cX2_spread 205 = .ok (.aload_n 0, 1) := dk_42 (dk_at dksX2_spread_8 15 rfl rfl)
theorem dX2_spread_206 : decode cX2_spread 206 = .ok (.getfield 29, 3) := dk_180 0 29 (dk_at dksX2_spread_8 16 rfl rfl)
theorem dX2_spread_209 : decode cX2_spread 209 = .ok (.iload 4, 2) := dk_21 4 (dk_at dksX2_spread_8 19 rfl rfl)
theorem dX2_spread_211 : decode cX2_spread 211 = .ok (.laload, 1) := dk_47 (dk_at dksX2_spread_8 21 rfl rfl)
theorem dX2_spread_212 : decode cX2_spread 212 = .ok (.lastore, 1) := dk_80 (dk_at dksX2_spread_8 22 rfl rfl)
theorem dX2_spread_213 : decode cX2_spread 213 = .ok (.iinc 4 1, 3) := dk_132 4 1 (dk_at dksX2_spread_9 0 rfl rfl)
theorem dX2_spread_216 : decode cX2_spread 216 = .ok (.goto (-24), 3) := dk_167 255 232 (dk_at dksX2_spread_9 3 rfl rfl)
theorem dX2_spread_219 : decode cX2_spread 219 = .ok (.return_, 1) := dk_177 (dk_at dksX2_spread_9 6 rfl rfl)
abbrev cX2_back : ByteArray := prog_10_method_11_code
def yX2_back : MethodName := ⟨RX2, "back", "(II)I"⟩
def dkwX2_back_1 : List UInt8 := [16, 8, 27, 104, 5, 28, 104, 96, 46, 167, 0, 4, 3, 172]
abbrev dktX2_back_1 : List UInt8 := dkwX2_back_1 ++ []
def dkwX2_back_0 : List UInt8 := [42, 27, 182, 0, 90, 153, 0, 30, 42, 180, 0, 69, 28, 122, 4, 126, 154, 0, 19, 42, 180, 0, 7]
abbrev dktX2_back_0 : List UInt8 := dkwX2_back_0 ++ dktX2_back_1
theorem dksX2_back_0 : cX2_back.data.toList.drop 0 = dktX2_back_0 := by decide +kernel
theorem dksX2_back_1 : cX2_back.data.toList.drop 23 = dktX2_back_1 := dk_seg dksX2_back_0 23 rfl rfl
theorem dX2_back_0 : decode cX2_back 0 = .ok (.aload_n 0, 1) := dk_42 (dk_at dksX2_back_0 0 rfl rfl)
theorem dX2_back_1 : decode cX2_back 1 = .ok (.iload_n 1, 1) := dk_27 (dk_at dksX2_back_0 1 rfl rfl)
theorem dX2_back_2 : decode cX2_back 2 = .ok (.invokevirtual 90, 3) := dk_182 0 90 (dk_at dksX2_back_0 2 rfl rfl)
theorem dX2_back_5 : decode cX2_back 5 = .ok (.ifCond .eq 30, 3) := dk_153 0 30 (dk_at dksX2_back_0 5 rfl rfl)
theorem dX2_back_8 : decode cX2_back 8 = .ok (.aload_n 0, 1) := dk_42 (dk_at dksX2_back_0 8 rfl rfl)
theorem dX2_back_9 : decode cX2_back 9 = .ok (.getfield 69, 3) := dk_180 0 69 (dk_at dksX2_back_0 9 rfl rfl)
theorem dX2_back_12 : decode cX2_back 12 = .ok (.iload_n 2, 1) := dk_28 (dk_at dksX2_back_0 12 rfl rfl)
theorem dX2_back_13 : decode cX2_back 13 = .ok (.ishr, 1) := dk_122 (dk_at dksX2_back_0 13 rfl rfl)
theorem dX2_back_14 : decode cX2_back 14 = .ok (.iconst 1, 1) := dk_4 (dk_at dksX2_back_0 14 rfl rfl)
theorem dX2_back_15 : decode cX2_back 15 = .ok (.iand, 1) := dk_126 (dk_at dksX2_back_0 15 rfl rfl)
theorem dX2_back_16 : decode cX2_back 16 = .ok (.ifCond .ne 19, 3) := dk_154 0 19 (dk_at dksX2_back_0 16 rfl rfl)
theorem dX2_back_19 : decode cX2_back 19 = .ok (.aload_n 0, 1) := dk_42 (dk_at dksX2_back_0 19 rfl rfl)
theorem dX2_back_20 : decode cX2_back 20 = .ok (.getfield 7, 3) := dk_180 0 7 (dk_at dksX2_back_0 20 rfl rfl)
theorem dX2_back_23 : decode cX2_back 23 = .ok (.bipush 8, 2) := dk_16 8 (dk_at dksX2_back_1 0 rfl rfl)
theorem dX2_back_25 : decode cX2_back 25 = .ok (.iload_n 1, 1) := dk_27 (dk_at dksX2_back_1 2 rfl rfl)
theorem dX2_back_26 : decode cX2_back 26 = .ok (.imul, 1) := dk_104 (dk_at dksX2_back_1 3 rfl rfl)
theorem dX2_back_27 : decode cX2_back 27 = .ok (.iconst 2, 1) := dk_5 (dk_at dksX2_back_1 4 rfl rfl)
theorem dX2_back_28 : decode cX2_back 28 = .ok (.iload_n 2, 1) := dk_28 (dk_at dksX2_back_1 5 rfl rfl)
theorem dX2_back_29 : decode cX2_back 29 = .ok (.imul, 1) := dk_104 (dk_at dksX2_back_1 6 rfl rfl)
theorem dX2_back_30 : decode cX2_back 30 = .ok (.iadd, 1) := dk_96 (dk_at dksX2_back_1 7 rfl rfl)
theorem dX2_back_31 : decode cX2_back 31 = .ok (.iaload, 1) := dk_46 (dk_at dksX2_back_1 8 rfl rfl)
theorem dX2_back_32 : decode cX2_back 32 = .ok (.goto 4, 3) := dk_167 0 4 (dk_at dksX2_back_1 9 rfl rfl)
theorem dX2_back_35 : decode cX2_back 35 = .ok (.iconst 0, 1) := dk_3 (dk_at dksX2_back_1 12 rfl rfl)
theorem dX2_back_36 : decode cX2_back 36 = .ok (.ireturn, 1) := dk_172 (dk_at dksX2_back_1 13 rfl rfl)
abbrev cX2_forward : ByteArray := prog_10_method_12_code
def yX2_forward : MethodName := ⟨RX2, "forward", "(II)I"⟩
def dkwX2_forward_1 : List UInt8 := [167, 0, 4, 3, 172]
abbrev dktX2_forward_1 : List UInt8 := dkwX2_forward_1 ++ []
def dkwX2_forward_0 : List UInt8 := [42, 27, 182, 0, 90, 153, 0, 21, 42, 180, 0, 7, 16, 8, 27, 104, 5, 28, 104, 96, 4, 96, 46]
abbrev dktX2_forward_0 : List UInt8 := dkwX2_forward_0 ++ dktX2_forward_1
theorem dksX2_forward_0 : cX2_forward.data.toList.drop 0 = dktX2_forward_0 := by decide +kernel
theorem dksX2_forward_1 : cX2_forward.data.toList.drop 23 = dktX2_forward_1 := dk_seg dksX2_forward_0 23 rfl rfl
theorem dX2_forward_0 : decode cX2_forward 0 = .ok (.aload_n 0, 1) := dk_42 (dk_at dksX2_forward_0 0 rfl rfl)
theorem dX2_forward_1 : decode cX2_forward 1 = .ok (.iload_n 1, 1) := dk_27 (dk_at dksX2_forward_0 1 rfl rfl)
theorem dX2_forward_2 : decode cX2_forward 2 = .ok (.invokevirtual 90, 3) := dk_182 0 90 (dk_at dksX2_forward_0 2 rfl rfl)
theorem dX2_forward_5 : decode cX2_forward 5 = .ok (.ifCond .eq 21, 3) := dk_153 0 21 (dk_at dksX2_forward_0 5 rfl rfl)
theorem dX2_forward_8 : decode cX2_forward 8 = .ok (.aload_n 0, 1) := dk_42 (dk_at dksX2_forward_0 8 rfl rfl)
theorem dX2_forward_9 : decode cX2_forward 9 = .ok (.getfield 7, 3) := dk_180 0 7 (dk_at dksX2_forward_0 9 rfl rfl)
theorem dX2_forward_12 : decode cX2_forward 12 = .ok (.bipush 8, 2) := dk_16 8 (dk_at dksX2_forward_0 12 rfl rfl)
theorem dX2_forward_14 : decode cX2_forward 14 = .ok (.iload_n 1, 1) := dk_27 (dk_at dksX2_forward_0 14 rfl rfl)
theorem dX2_forward_15 : decode cX2_forward 15 = .ok (.imul, 1) := dk_104 (dk_at dksX2_forward_0 15 rfl rfl)
theorem dX2_forward_16 : decode cX2_forward 16 = .ok (.iconst 2, 1) := dk_5 (dk_at dksX2_forward_0 16 rfl rfl)
theorem dX2_forward_17 : decode cX2_forward 17 = .ok (.iload_n 2, 1) := dk_28 (dk_at dksX2_forward_0 17 rfl rfl)
theorem dX2_forward_18 : decode cX2_forward 18 = .ok (.imul, 1) := dk_104 (dk_at dksX2_forward_0 18 rfl rfl)
theorem dX2_forward_19 : decode cX2_forward 19 = .ok (.iadd, 1) := dk_96 (dk_at dksX2_forward_0 19 rfl rfl)
theorem dX2_forward_20 : decode cX2_forward 20 = .ok (.iconst 1, 1) := dk_4 (dk_at dksX2_forward_0 20 rfl rfl)
theorem dX2_forward_21 : decode cX2_forward 21 = .ok (.iadd, 1) := dk_96 (dk_at dksX2_forward_0 21 rfl rfl)
theorem dX2_forward_22 : decode cX2_forward 22 = .ok (.iaload, 1) := dk_46 (dk_at dksX2_forward_0 22 rfl rfl)
theorem dX2_forward_23 : decode cX2_forward 23 = .ok (.goto 4, 3) := dk_167 0 4 (dk_at dksX2_forward_1 0 rfl rfl)
theorem dX2_forward_26 : decode cX2_forward 26 = .ok (.iconst 0, 1) := dk_3 (dk_at dksX2_forward_1 3 rfl rfl)
theorem dX2_forward_27 : decode cX2_forward 27 = .ok (.ireturn, 1) := dk_172 (dk_at dksX2_forward_1 4 rfl rfl)
abbrev cX2_arrive : ByteArray := prog_10_method_40_code
def yX2_arrive : MethodName := ⟨RX2, "arrive", "(IIJII)V"⟩
def dkwX2_arrive_2 : List UInt8 := [181, 0, 181, 167, 0, 17, 42, 180, 0, 29, 7, 27, 104, 28, 96, 92, 47, 33, 97, 80, 177]
abbrev dktX2_arrive_2 : List UInt8 := dkwX2_arrive_2 ++ []
def dkwX2_arrive_1 : List UInt8 := [181, 0, 175, 167, 0, 39, 27, 16, 15, 100, 21, 6, 161, 0, 16, 42, 89, 180, 0, 181, 33, 97]
abbrev dktX2_arrive_1 : List UInt8 := dkwX2_arrive_1 ++ dktX2_arrive_2
def dkwX2_arrive_0 : List UInt8 := [33, 9, 148, 154, 0, 4, 177, 27, 16, 15, 100, 21, 5, 163, 0, 16, 42, 89, 180, 0, 175, 33, 97]
abbrev dktX2_arrive_0 : List UInt8 := dkwX2_arrive_0 ++ dktX2_arrive_1
theorem dksX2_arrive_0 : cX2_arrive.data.toList.drop 0 = dktX2_arrive_0 := by decide +kernel
theorem dksX2_arrive_1 : cX2_arrive.data.toList.drop 23 = dktX2_arrive_1 := dk_seg dksX2_arrive_0 23 rfl rfl
theorem dksX2_arrive_2 : cX2_arrive.data.toList.drop 45 = dktX2_arrive_2 := dk_seg dksX2_arrive_1 22 rfl rfl
theorem dX2_arrive_0 : decode cX2_arrive 0 = .ok (.lload_n 3, 1) := dk_33 (dk_at dksX2_arrive_0 0 rfl rfl)
theorem dX2_arrive_1 : decode cX2_arrive 1 = .ok (.lconst 0, 1) := dk_9 (dk_at dksX2_arrive_0 1 rfl rfl)
theorem dX2_arrive_2 : decode cX2_arrive 2 = .ok (.lcmp, 1) := dk_148 (dk_at dksX2_arrive_0 2 rfl rfl)
theorem dX2_arrive_3 : decode cX2_arrive 3 = .ok (.ifCond .ne 4, 3) := dk_154 0 4 (dk_at dksX2_arrive_0 3 rfl rfl)
theorem dX2_arrive_6 : decode cX2_arrive 6 = .ok (.return_, 1) := dk_177 (dk_at dksX2_arrive_0 6 rfl rfl)
theorem dX2_arrive_7 : decode cX2_arrive 7 = .ok (.iload_n 1, 1) := dk_27 (dk_at dksX2_arrive_0 7 rfl rfl)
theorem dX2_arrive_8 : decode cX2_arrive 8 = .ok (.bipush 15, 2) := dk_16 15 (dk_at dksX2_arrive_0 8 rfl rfl)
theorem dX2_arrive_10 : decode cX2_arrive 10 = .ok (.isub, 1) := dk_100 (dk_at dksX2_arrive_0 10 rfl rfl)
theorem dX2_arrive_11 : decode cX2_arrive 11 = .ok (.iload 5, 2) := dk_21 5 (dk_at dksX2_arrive_0 11 rfl rfl)
theorem dX2_arrive_13 : decode cX2_arrive 13 = .ok (.if_icmp .gt 16, 3) := dk_163 0 16 (dk_at dksX2_arrive_0 13 rfl rfl)
theorem dX2_arrive_16 : decode cX2_arrive 16 = .ok (.aload_n 0, 1) := dk_42 (dk_at dksX2_arrive_0 16 rfl rfl)
theorem dX2_arrive_17 : decode cX2_arrive 17 = .ok (.dup, 1) := dk_89 (dk_at dksX2_arrive_0 17 rfl rfl)
theorem dX2_arrive_18 : decode cX2_arrive 18 = .ok (.getfield 175, 3) := dk_180 0 175 (dk_at dksX2_arrive_0 18 rfl rfl)
theorem dX2_arrive_21 : decode cX2_arrive 21 = .ok (.lload_n 3, 1) := dk_33 (dk_at dksX2_arrive_0 21 rfl rfl)
theorem dX2_arrive_22 : decode cX2_arrive 22 = .ok (.ladd, 1) := dk_97 (dk_at dksX2_arrive_0 22 rfl rfl)
theorem dX2_arrive_23 : decode cX2_arrive 23 = .ok (.putfield 175, 3) := dk_181 0 175 (dk_at dksX2_arrive_1 0 rfl rfl)
theorem dX2_arrive_26 : decode cX2_arrive 26 = .ok (.goto 39, 3) := dk_167 0 39 (dk_at dksX2_arrive_1 3 rfl rfl)
theorem dX2_arrive_29 : decode cX2_arrive 29 = .ok (.iload_n 1, 1) := dk_27 (dk_at dksX2_arrive_1 6 rfl rfl)
theorem dX2_arrive_30 : decode cX2_arrive 30 = .ok (.bipush 15, 2) := dk_16 15 (dk_at dksX2_arrive_1 7 rfl rfl)
theorem dX2_arrive_32 : decode cX2_arrive 32 = .ok (.isub, 1) := dk_100 (dk_at dksX2_arrive_1 9 rfl rfl)
theorem dX2_arrive_33 : decode cX2_arrive 33 = .ok (.iload 6, 2) := dk_21 6 (dk_at dksX2_arrive_1 10 rfl rfl)
theorem dX2_arrive_35 : decode cX2_arrive 35 = .ok (.if_icmp .lt 16, 3) := dk_161 0 16 (dk_at dksX2_arrive_1 12 rfl rfl)
theorem dX2_arrive_38 : decode cX2_arrive 38 = .ok (.aload_n 0, 1) := dk_42 (dk_at dksX2_arrive_1 15 rfl rfl)
theorem dX2_arrive_39 : decode cX2_arrive 39 = .ok (.dup, 1) := dk_89 (dk_at dksX2_arrive_1 16 rfl rfl)
theorem dX2_arrive_40 : decode cX2_arrive 40 = .ok (.getfield 181, 3) := dk_180 0 181 (dk_at dksX2_arrive_1 17 rfl rfl)
theorem dX2_arrive_43 : decode cX2_arrive 43 = .ok (.lload_n 3, 1) := dk_33 (dk_at dksX2_arrive_1 20 rfl rfl)
theorem dX2_arrive_44 : decode cX2_arrive 44 = .ok (.ladd, 1) := dk_97 (dk_at dksX2_arrive_1 21 rfl rfl)
theorem dX2_arrive_45 : decode cX2_arrive 45 = .ok (.putfield 181, 3) := dk_181 0 181 (dk_at dksX2_arrive_2 0 rfl rfl)
theorem dX2_arrive_48 : decode cX2_arrive 48 = .ok (.goto 17, 3) := dk_167 0 17 (dk_at dksX2_arrive_2 3 rfl rfl)
theorem dX2_arrive_51 : decode cX2_arrive 51 = .ok (.aload_n 0, 1) := dk_42 (dk_at dksX2_arrive_2 6 rfl rfl)
theorem dX2_arrive_52 : decode cX2_arrive 52 = .ok (.getfield 29, 3) := dk_180 0 29 (dk_at dksX2_arrive_2 7 rfl rfl)
theorem dX2_arrive_55 : decode cX2_arrive 55 = .ok (.iconst 4, 1) := dk_7 (dk_at dksX2_arrive_2 10 rfl rfl)
theorem dX2_arrive_56 : decode cX2_arrive 56 = .ok (.iload_n 1, 1) := dk_27 (dk_at dksX2_arrive_2 11 rfl rfl)
theorem dX2_arrive_57 : decode cX2_arrive 57 = .ok (.imul, 1) := dk_104 (dk_at dksX2_arrive_2 12 rfl rfl)
theorem dX2_arrive_58 : decode cX2_arrive 58 = .ok (.iload_n 2, 1) := dk_28 (dk_at dksX2_arrive_2 13 rfl rfl)
theorem dX2_arrive_59 : decode cX2_arrive 59 = .ok (.iadd, 1) := dk_96 (dk_at dksX2_arrive_2 14 rfl rfl)
theorem dX2_arrive_60 : decode cX2_arrive 60 = .ok (.dup2, 1) := dk_92 (dk_at dksX2_arrive_2 15 rfl rfl)
theorem dX2_arrive_61 : decode cX2_arrive 61 = .ok (.laload, 1) := dk_47 (dk_at dksX2_arrive_2 16 rfl rfl)
theorem dX2_arrive_62 : decode cX2_arrive 62 = .ok (.lload_n 3, 1) := dk_33 (dk_at dksX2_arrive_2 17 rfl rfl)
theorem dX2_arrive_63 : decode cX2_arrive 63 = .ok (.ladd, 1) := dk_97 (dk_at dksX2_arrive_2 18 rfl rfl)
theorem dX2_arrive_64 : decode cX2_arrive 64 = .ok (.lastore, 1) := dk_80 (dk_at dksX2_arrive_2 19 rfl rfl)
theorem dX2_arrive_65 : decode cX2_arrive 65 = .ok (.return_, 1) := dk_177 (dk_at dksX2_arrive_2 20 rfl rfl)
abbrev cX2_chanceOfGain : ByteArray := prog_10_method_45_code
def yX2_chanceOfGain : MethodName := ⟨RX2, "chanceOfGain", "(II)J"⟩
def dkwX2_chanceOfGain_1 : List UInt8 := [158, 0, 7, 9, 167, 0, 9, 42, 27, 28, 182, 0, 205, 173]
abbrev dktX2_chanceOfGain_1 : List UInt8 := dkwX2_chanceOfGain_1 ++ []
def dkwX2_chanceOfGain_0 : List UInt8 := [42, 27, 3, 16, 15, 184, 0, 58, 153, 0, 7, 3, 167, 0, 4, 4, 181, 0, 51, 42, 180, 0, 51]
abbrev dktX2_chanceOfGain_0 : List UInt8 := dkwX2_chanceOfGain_0 ++ dktX2_chanceOfGain_1
theorem dksX2_chanceOfGain_0 : cX2_chanceOfGain.data.toList.drop 0 = dktX2_chanceOfGain_0 := by decide +kernel
theorem dksX2_chanceOfGain_1 : cX2_chanceOfGain.data.toList.drop 23 = dktX2_chanceOfGain_1 := dk_seg dksX2_chanceOfGain_0 23 rfl rfl
theorem dX2_chanceOfGain_0 : decode cX2_chanceOfGain 0 = .ok (.aload_n 0, 1) := dk_42 (dk_at dksX2_chanceOfGain_0 0 rfl rfl)
theorem dX2_chanceOfGain_1 : decode cX2_chanceOfGain 1 = .ok (.iload_n 1, 1) := dk_27 (dk_at dksX2_chanceOfGain_0 1 rfl rfl)
theorem dX2_chanceOfGain_2 : decode cX2_chanceOfGain 2 = .ok (.iconst 0, 1) := dk_3 (dk_at dksX2_chanceOfGain_0 2 rfl rfl)
theorem dX2_chanceOfGain_3 : decode cX2_chanceOfGain 3 = .ok (.bipush 15, 2) := dk_16 15 (dk_at dksX2_chanceOfGain_0 3 rfl rfl)
theorem dX2_chanceOfGain_5 : decode cX2_chanceOfGain 5 = .ok (.invokestatic 58, 3) := dk_184 0 58 (dk_at dksX2_chanceOfGain_0 5 rfl rfl)
theorem dX2_chanceOfGain_8 : decode cX2_chanceOfGain 8 = .ok (.ifCond .eq 7, 3) := dk_153 0 7 (dk_at dksX2_chanceOfGain_0 8 rfl rfl)
theorem dX2_chanceOfGain_11 : decode cX2_chanceOfGain 11 = .ok (.iconst 0, 1) := dk_3 (dk_at dksX2_chanceOfGain_0 11 rfl rfl)
theorem dX2_chanceOfGain_12 : decode cX2_chanceOfGain 12 = .ok (.goto 4, 3) := dk_167 0 4 (dk_at dksX2_chanceOfGain_0 12 rfl rfl)
theorem dX2_chanceOfGain_15 : decode cX2_chanceOfGain 15 = .ok (.iconst 1, 1) := dk_4 (dk_at dksX2_chanceOfGain_0 15 rfl rfl)
theorem dX2_chanceOfGain_16 : decode cX2_chanceOfGain 16 = .ok (.putfield 51, 3) := dk_181 0 51 (dk_at dksX2_chanceOfGain_0 16 rfl rfl)
theorem dX2_chanceOfGain_19 : decode cX2_chanceOfGain 19 = .ok (.aload_n 0, 1) := dk_42 (dk_at dksX2_chanceOfGain_0 19 rfl rfl)
theorem dX2_chanceOfGain_20 : decode cX2_chanceOfGain 20 = .ok (.getfield 51, 3) := dk_180 0 51 (dk_at dksX2_chanceOfGain_0 20 rfl rfl)
theorem dX2_chanceOfGain_23 : decode cX2_chanceOfGain 23 = .ok (.ifCond .le 7, 3) := dk_158 0 7 (dk_at dksX2_chanceOfGain_1 0 rfl rfl)
theorem dX2_chanceOfGain_26 : decode cX2_chanceOfGain 26 = .ok (.lconst 0, 1) := dk_9 (dk_at dksX2_chanceOfGain_1 3 rfl rfl)
theorem dX2_chanceOfGain_27 : decode cX2_chanceOfGain 27 = .ok (.goto 9, 3) := dk_167 0 9 (dk_at dksX2_chanceOfGain_1 4 rfl rfl)
theorem dX2_chanceOfGain_30 : decode cX2_chanceOfGain 30 = .ok (.aload_n 0, 1) := dk_42 (dk_at dksX2_chanceOfGain_1 7 rfl rfl)
theorem dX2_chanceOfGain_31 : decode cX2_chanceOfGain 31 = .ok (.iload_n 1, 1) := dk_27 (dk_at dksX2_chanceOfGain_1 8 rfl rfl)
theorem dX2_chanceOfGain_32 : decode cX2_chanceOfGain 32 = .ok (.iload_n 2, 1) := dk_28 (dk_at dksX2_chanceOfGain_1 9 rfl rfl)
theorem dX2_chanceOfGain_33 : decode cX2_chanceOfGain 33 = .ok (.invokevirtual 205, 3) := dk_182 0 205 (dk_at dksX2_chanceOfGain_1 10 rfl rfl)
theorem dX2_chanceOfGain_36 : decode cX2_chanceOfGain 36 = .ok (.lreturn, 1) := dk_173 (dk_at dksX2_chanceOfGain_1 13 rfl rfl)
abbrev cX2_chanceFrom : ByteArray := prog_10_method_44_code
def yX2_chanceFrom : MethodName := ⟨RX2, "chanceFrom", "(II)J"⟩
def dkwX2_chanceFrom_2 : List UInt8 := [21, 6, 96, 47, 97, 66, 132, 6, 1, 167, 255, 223, 132, 5, 1, 167, 255, 207, 33, 173]
abbrev dktX2_chanceFrom_2 : List UInt8 := dkwX2_chanceFrom_2 ++ []
def dkwX2_chanceFrom_1 : List UInt8 := [21, 6, 7, 162, 0, 33, 21, 5, 16, 15, 100, 28, 161, 0, 24, 33, 42, 180, 0, 25, 7, 21, 5, 104]
abbrev dktX2_chanceFrom_1 : List UInt8 := dkwX2_chanceFrom_1 ++ dktX2_chanceFrom_2
def dkwX2_chanceFrom_0 : List UInt8 := [42, 27, 16, 156, 16, 100, 182, 0, 198, 9, 66, 3, 54, 5, 21, 5, 16, 31, 162, 0, 48, 3, 54, 6]
abbrev dktX2_chanceFrom_0 : List UInt8 := dkwX2_chanceFrom_0 ++ dktX2_chanceFrom_1
theorem dksX2_chanceFrom_0 : cX2_chanceFrom.data.toList.drop 0 = dktX2_chanceFrom_0 := by decide +kernel
theorem dksX2_chanceFrom_1 : cX2_chanceFrom.data.toList.drop 24 = dktX2_chanceFrom_1 := dk_seg dksX2_chanceFrom_0 24 rfl rfl
theorem dksX2_chanceFrom_2 : cX2_chanceFrom.data.toList.drop 48 = dktX2_chanceFrom_2 := dk_seg dksX2_chanceFrom_1 24 rfl rfl
theorem dX2_chanceFrom_0 : decode cX2_chanceFrom 0 = .ok (.aload_n 0, 1) := dk_42 (dk_at dksX2_chanceFrom_0 0 rfl rfl)
theorem dX2_chanceFrom_1 : decode cX2_chanceFrom 1 = .ok (.iload_n 1, 1) := dk_27 (dk_at dksX2_chanceFrom_0 1 rfl rfl)
theorem dX2_chanceFrom_2 : decode cX2_chanceFrom 2 = .ok (.bipush (-100), 2) := dk_16 156 (dk_at dksX2_chanceFrom_0 2 rfl rfl)
theorem dX2_chanceFrom_4 : decode cX2_chanceFrom 4 = .ok (.bipush 100, 2) := dk_16 100 (dk_at dksX2_chanceFrom_0 4 rfl rfl)
theorem dX2_chanceFrom_6 : decode cX2_chanceFrom 6 = .ok (.invokevirtual 198, 3) := dk_182 0 198 (dk_at dksX2_chanceFrom_0 6 rfl rfl)
theorem dX2_chanceFrom_9 : decode cX2_chanceFrom 9 = .ok (.lconst 0, 1) := dk_9 (dk_at dksX2_chanceFrom_0 9 rfl rfl)
theorem dX2_chanceFrom_10 : decode cX2_chanceFrom 10 = .ok (.lstore_n 3, 1) := dk_66 (dk_at dksX2_chanceFrom_0 10 rfl rfl)
theorem dX2_chanceFrom_11 : decode cX2_chanceFrom 11 = .ok (.iconst 0, 1) := dk_3 (dk_at dksX2_chanceFrom_0 11 rfl rfl)
theorem dX2_chanceFrom_12 : decode cX2_chanceFrom 12 = .ok (.istore 5, 2) := dk_54 5 (dk_at dksX2_chanceFrom_0 12 rfl rfl)
theorem dX2_chanceFrom_14 : decode cX2_chanceFrom 14 = .ok (.iload 5, 2) := dk_21 5 (dk_at dksX2_chanceFrom_0 14 rfl rfl)
theorem dX2_chanceFrom_16 : decode cX2_chanceFrom 16 = .ok (.bipush 31, 2) := dk_16 31 (dk_at dksX2_chanceFrom_0 16 rfl rfl)
theorem dX2_chanceFrom_18 : decode cX2_chanceFrom 18 = .ok (.if_icmp .ge 48, 3) := dk_162 0 48 (dk_at dksX2_chanceFrom_0 18 rfl rfl)
theorem dX2_chanceFrom_21 : decode cX2_chanceFrom 21 = .ok (.iconst 0, 1) := dk_3 (dk_at dksX2_chanceFrom_0 21 rfl rfl)
theorem dX2_chanceFrom_22 : decode cX2_chanceFrom 22 = .ok (.istore 6, 2) := dk_54 6 (dk_at dksX2_chanceFrom_0 22 rfl rfl)
theorem dX2_chanceFrom_24 : decode cX2_chanceFrom 24 = .ok (.iload 6, 2) := dk_21 6 (dk_at dksX2_chanceFrom_1 0 rfl rfl)
theorem dX2_chanceFrom_26 : decode cX2_chanceFrom 26 = .ok (.iconst 4, 1) := dk_7 (dk_at dksX2_chanceFrom_1 2 rfl rfl)
theorem dX2_chanceFrom_27 : decode cX2_chanceFrom 27 = .ok (.if_icmp .ge 33, 3) := dk_162 0 33 (dk_at dksX2_chanceFrom_1 3 rfl rfl)
theorem dX2_chanceFrom_30 : decode cX2_chanceFrom 30 = .ok (.iload 5, 2) := dk_21 5 (dk_at dksX2_chanceFrom_1 6 rfl rfl)
theorem dX2_chanceFrom_32 : decode cX2_chanceFrom 32 = .ok (.bipush 15, 2) := dk_16 15 (dk_at dksX2_chanceFrom_1 8 rfl rfl)
theorem dX2_chanceFrom_34 : decode cX2_chanceFrom 34 = .ok (.isub, 1) := dk_100 (dk_at dksX2_chanceFrom_1 10 rfl rfl)
theorem dX2_chanceFrom_35 : decode cX2_chanceFrom 35 = .ok (.iload_n 2, 1) := dk_28 (dk_at dksX2_chanceFrom_1 11 rfl rfl)
theorem dX2_chanceFrom_36 : decode cX2_chanceFrom 36 = .ok (.if_icmp .lt 24, 3) := dk_161 0 24 (dk_at dksX2_chanceFrom_1 12 rfl rfl)
theorem dX2_chanceFrom_39 : decode cX2_chanceFrom 39 = .ok (.lload_n 3, 1) := dk_33 (dk_at dksX2_chanceFrom_1 15 rfl rfl)
theorem dX2_chanceFrom_40 : decode cX2_chanceFrom 40 = .ok (.aload_n 0, 1) := dk_42 (dk_at dksX2_chanceFrom_1 16 rfl rfl)
theorem dX2_chanceFrom_41 : decode cX2_chanceFrom 41 = .ok (.getfield 25, 3) := dk_180 0 25 (dk_at dksX2_chanceFrom_1 17 rfl rfl)
theorem dX2_chanceFrom_44 : decode cX2_chanceFrom 44 = .ok (.iconst 4, 1) := dk_7 (dk_at dksX2_chanceFrom_1 20 rfl rfl)
theorem dX2_chanceFrom_45 : decode cX2_chanceFrom 45 = .ok (.iload 5, 2) := dk_21 5 (dk_at dksX2_chanceFrom_1 21 rfl rfl)
theorem dX2_chanceFrom_47 : decode cX2_chanceFrom 47 = .ok (.imul, 1) := dk_104 (dk_at dksX2_chanceFrom_1 23 rfl rfl)
theorem dX2_chanceFrom_48 : decode cX2_chanceFrom 48 = .ok (.iload 6, 2) := dk_21 6 (dk_at dksX2_chanceFrom_2 0 rfl rfl)
theorem dX2_chanceFrom_50 : decode cX2_chanceFrom 50 = .ok (.iadd, 1) := dk_96 (dk_at dksX2_chanceFrom_2 2 rfl rfl)
theorem dX2_chanceFrom_51 : decode cX2_chanceFrom 51 = .ok (.laload, 1) := dk_47 (dk_at dksX2_chanceFrom_2 3 rfl rfl)
theorem dX2_chanceFrom_52 : decode cX2_chanceFrom 52 = .ok (.ladd, 1) := dk_97 (dk_at dksX2_chanceFrom_2 4 rfl rfl)
theorem dX2_chanceFrom_53 : decode cX2_chanceFrom 53 = .ok (.lstore_n 3, 1) := dk_66 (dk_at dksX2_chanceFrom_2 5 rfl rfl)
theorem dX2_chanceFrom_54 : decode cX2_chanceFrom 54 = .ok (.iinc 6 1, 3) := dk_132 6 1 (dk_at dksX2_chanceFrom_2 6 rfl rfl)
theorem dX2_chanceFrom_57 : decode cX2_chanceFrom 57 = .ok (.goto (-33), 3) := dk_167 255 223 (dk_at dksX2_chanceFrom_2 9 rfl rfl)
theorem dX2_chanceFrom_60 : decode cX2_chanceFrom 60 = .ok (.iinc 5 1, 3) := dk_132 5 1 (dk_at dksX2_chanceFrom_2 12 rfl rfl)
theorem dX2_chanceFrom_63 : decode cX2_chanceFrom 63 = .ok (.goto (-49), 3) := dk_167 255 207 (dk_at dksX2_chanceFrom_2 15 rfl rfl)
theorem dX2_chanceFrom_66 : decode cX2_chanceFrom 66 = .ok (.lload_n 3, 1) := dk_33 (dk_at dksX2_chanceFrom_2 18 rfl rfl)
theorem dX2_chanceFrom_67 : decode cX2_chanceFrom 67 = .ok (.lreturn, 1) := dk_173 (dk_at dksX2_chanceFrom_2 19 rfl rfl)
abbrev cX2_game : ByteArray := prog_10_method_47_code
def yX2_game : MethodName := ⟨RX2, "game", "(IIII)J"⟩
def dkwX2_game_2 : List UInt8 := [181, 0, 51, 42, 180, 0, 51, 158, 0, 7, 9, 167, 0, 12, 42, 27, 28, 29, 21, 4, 182, 0, 208, 173]
abbrev dktX2_game_2 : List UInt8 := dkwX2_game_2 ++ []
def dkwX2_game_1 : List UInt8 := [16, 15, 184, 0, 58, 153, 0, 17, 21, 4, 3, 5, 184, 0, 58, 153, 0, 7, 3, 167, 0, 4, 4]
abbrev dktX2_game_1 : List UInt8 := dkwX2_game_1 ++ dktX2_game_2
def dkwX2_game_0 : List UInt8 := [42, 27, 4, 16, 15, 184, 0, 58, 153, 0, 37, 28, 4, 16, 15, 184, 0, 58, 153, 0, 27, 29, 3]
abbrev dktX2_game_0 : List UInt8 := dkwX2_game_0 ++ dktX2_game_1
theorem dksX2_game_0 : cX2_game.data.toList.drop 0 = dktX2_game_0 := by decide +kernel
theorem dksX2_game_1 : cX2_game.data.toList.drop 23 = dktX2_game_1 := dk_seg dksX2_game_0 23 rfl rfl
theorem dksX2_game_2 : cX2_game.data.toList.drop 46 = dktX2_game_2 := dk_seg dksX2_game_1 23 rfl rfl
theorem dX2_game_0 : decode cX2_game 0 = .ok (.aload_n 0, 1) := dk_42 (dk_at dksX2_game_0 0 rfl rfl)
theorem dX2_game_1 : decode cX2_game 1 = .ok (.iload_n 1, 1) := dk_27 (dk_at dksX2_game_0 1 rfl rfl)
theorem dX2_game_2 : decode cX2_game 2 = .ok (.iconst 1, 1) := dk_4 (dk_at dksX2_game_0 2 rfl rfl)
theorem dX2_game_3 : decode cX2_game 3 = .ok (.bipush 15, 2) := dk_16 15 (dk_at dksX2_game_0 3 rfl rfl)
theorem dX2_game_5 : decode cX2_game 5 = .ok (.invokestatic 58, 3) := dk_184 0 58 (dk_at dksX2_game_0 5 rfl rfl)
theorem dX2_game_8 : decode cX2_game 8 = .ok (.ifCond .eq 37, 3) := dk_153 0 37 (dk_at dksX2_game_0 8 rfl rfl)
theorem dX2_game_11 : decode cX2_game 11 = .ok (.iload_n 2, 1) := dk_28 (dk_at dksX2_game_0 11 rfl rfl)
theorem dX2_game_12 : decode cX2_game 12 = .ok (.iconst 1, 1) := dk_4 (dk_at dksX2_game_0 12 rfl rfl)
theorem dX2_game_13 : decode cX2_game 13 = .ok (.bipush 15, 2) := dk_16 15 (dk_at dksX2_game_0 13 rfl rfl)
theorem dX2_game_15 : decode cX2_game 15 = .ok (.invokestatic 58, 3) := dk_184 0 58 (dk_at dksX2_game_0 15 rfl rfl)
theorem dX2_game_18 : decode cX2_game 18 = .ok (.ifCond .eq 27, 3) := dk_153 0 27 (dk_at dksX2_game_0 18 rfl rfl)
theorem dX2_game_21 : decode cX2_game 21 = .ok (.iload_n 3, 1) := dk_29 (dk_at dksX2_game_0 21 rfl rfl)
theorem dX2_game_22 : decode cX2_game 22 = .ok (.iconst 0, 1) := dk_3 (dk_at dksX2_game_0 22 rfl rfl)
theorem dX2_game_23 : decode cX2_game 23 = .ok (.bipush 15, 2) := dk_16 15 (dk_at dksX2_game_1 0 rfl rfl)
theorem dX2_game_25 : decode cX2_game 25 = .ok (.invokestatic 58, 3) := dk_184 0 58 (dk_at dksX2_game_1 2 rfl rfl)
theorem dX2_game_28 : decode cX2_game 28 = .ok (.ifCond .eq 17, 3) := dk_153 0 17 (dk_at dksX2_game_1 5 rfl rfl)
theorem dX2_game_31 : decode cX2_game 31 = .ok (.iload 4, 2) := dk_21 4 (dk_at dksX2_game_1 8 rfl rfl)
theorem dX2_game_33 : decode cX2_game 33 = .ok (.iconst 0, 1) := dk_3 (dk_at dksX2_game_1 10 rfl rfl)
theorem dX2_game_34 : decode cX2_game 34 = .ok (.iconst 2, 1) := dk_5 (dk_at dksX2_game_1 11 rfl rfl)
theorem dX2_game_35 : decode cX2_game 35 = .ok (.invokestatic 58, 3) := dk_184 0 58 (dk_at dksX2_game_1 12 rfl rfl)
theorem dX2_game_38 : decode cX2_game 38 = .ok (.ifCond .eq 7, 3) := dk_153 0 7 (dk_at dksX2_game_1 15 rfl rfl)
theorem dX2_game_41 : decode cX2_game 41 = .ok (.iconst 0, 1) := dk_3 (dk_at dksX2_game_1 18 rfl rfl)
theorem dX2_game_42 : decode cX2_game 42 = .ok (.goto 4, 3) := dk_167 0 4 (dk_at dksX2_game_1 19 rfl rfl)
theorem dX2_game_45 : decode cX2_game 45 = .ok (.iconst 1, 1) := dk_4 (dk_at dksX2_game_1 22 rfl rfl)
theorem dX2_game_46 : decode cX2_game 46 = .ok (.putfield 51, 3) := dk_181 0 51 (dk_at dksX2_game_2 0 rfl rfl)
theorem dX2_game_49 : decode cX2_game 49 = .ok (.aload_n 0, 1) := dk_42 (dk_at dksX2_game_2 3 rfl rfl)
theorem dX2_game_50 : decode cX2_game 50 = .ok (.getfield 51, 3) := dk_180 0 51 (dk_at dksX2_game_2 4 rfl rfl)
theorem dX2_game_53 : decode cX2_game 53 = .ok (.ifCond .le 7, 3) := dk_158 0 7 (dk_at dksX2_game_2 7 rfl rfl)
theorem dX2_game_56 : decode cX2_game 56 = .ok (.lconst 0, 1) := dk_9 (dk_at dksX2_game_2 10 rfl rfl)
theorem dX2_game_57 : decode cX2_game 57 = .ok (.goto 12, 3) := dk_167 0 12 (dk_at dksX2_game_2 11 rfl rfl)
theorem dX2_game_60 : decode cX2_game 60 = .ok (.aload_n 0, 1) := dk_42 (dk_at dksX2_game_2 14 rfl rfl)
theorem dX2_game_61 : decode cX2_game 61 = .ok (.iload_n 1, 1) := dk_27 (dk_at dksX2_game_2 15 rfl rfl)
theorem dX2_game_62 : decode cX2_game 62 = .ok (.iload_n 2, 1) := dk_28 (dk_at dksX2_game_2 16 rfl rfl)
theorem dX2_game_63 : decode cX2_game 63 = .ok (.iload_n 3, 1) := dk_29 (dk_at dksX2_game_2 17 rfl rfl)
theorem dX2_game_64 : decode cX2_game 64 = .ok (.iload 4, 2) := dk_21 4 (dk_at dksX2_game_2 18 rfl rfl)
theorem dX2_game_66 : decode cX2_game 66 = .ok (.invokevirtual 208, 3) := dk_182 0 208 (dk_at dksX2_game_2 20 rfl rfl)
theorem dX2_game_69 : decode cX2_game 69 = .ok (.lreturn, 1) := dk_173 (dk_at dksX2_game_2 23 rfl rfl)
abbrev cX2_gameOf : ByteArray := prog_10_method_46_code
def yX2_gameOf : MethodName := ⟨RX2, "gameOf", "(IIII)J"⟩
def dkwX2_gameOf_2 : List UInt8 := [167, 0, 18, 21, 4, 4, 160, 0, 10, 42, 180, 0, 181, 167, 0, 5, 22, 5, 173]
abbrev dktX2_gameOf_2 : List UInt8 := dkwX2_gameOf_2 ++ []
def dkwX2_gameOf_1 : List UInt8 := [180, 0, 25, 21, 7, 47, 97, 55, 5, 132, 7, 1, 167, 255, 234, 21, 4, 154, 0, 10, 42, 180, 0, 175]
abbrev dktX2_gameOf_1 : List UInt8 := dkwX2_gameOf_1 ++ dktX2_gameOf_2
def dkwX2_gameOf_0 : List UInt8 := [42, 29, 27, 116, 28, 182, 0, 198, 9, 55, 5, 3, 54, 7, 21, 7, 16, 124, 162, 0, 21, 22, 5, 42]
abbrev dktX2_gameOf_0 : List UInt8 := dkwX2_gameOf_0 ++ dktX2_gameOf_1
theorem dksX2_gameOf_0 : cX2_gameOf.data.toList.drop 0 = dktX2_gameOf_0 := by decide +kernel
theorem dksX2_gameOf_1 : cX2_gameOf.data.toList.drop 24 = dktX2_gameOf_1 := dk_seg dksX2_gameOf_0 24 rfl rfl
theorem dksX2_gameOf_2 : cX2_gameOf.data.toList.drop 48 = dktX2_gameOf_2 := dk_seg dksX2_gameOf_1 24 rfl rfl
theorem dX2_gameOf_0 : decode cX2_gameOf 0 = .ok (.aload_n 0, 1) := dk_42 (dk_at dksX2_gameOf_0 0 rfl rfl)
theorem dX2_gameOf_1 : decode cX2_gameOf 1 = .ok (.iload_n 3, 1) := dk_29 (dk_at dksX2_gameOf_0 1 rfl rfl)
theorem dX2_gameOf_2 : decode cX2_gameOf 2 = .ok (.iload_n 1, 1) := dk_27 (dk_at dksX2_gameOf_0 2 rfl rfl)
theorem dX2_gameOf_3 : decode cX2_gameOf 3 = .ok (.ineg, 1) := dk_116 (dk_at dksX2_gameOf_0 3 rfl rfl)
theorem dX2_gameOf_4 : decode cX2_gameOf 4 = .ok (.iload_n 2, 1) := dk_28 (dk_at dksX2_gameOf_0 4 rfl rfl)
theorem dX2_gameOf_5 : decode cX2_gameOf 5 = .ok (.invokevirtual 198, 3) := dk_182 0 198 (dk_at dksX2_gameOf_0 5 rfl rfl)
theorem dX2_gameOf_8 : decode cX2_gameOf 8 = .ok (.lconst 0, 1) := dk_9 (dk_at dksX2_gameOf_0 8 rfl rfl)
theorem dX2_gameOf_9 : decode cX2_gameOf 9 = .ok (.lstore 5, 2) := dk_55 5 (dk_at dksX2_gameOf_0 9 rfl rfl)
theorem dX2_gameOf_11 : decode cX2_gameOf 11 = .ok (.iconst 0, 1) := dk_3 (dk_at dksX2_gameOf_0 11 rfl rfl)
theorem dX2_gameOf_12 : decode cX2_gameOf 12 = .ok (.istore 7, 2) := dk_54 7 (dk_at dksX2_gameOf_0 12 rfl rfl)
theorem dX2_gameOf_14 : decode cX2_gameOf 14 = .ok (.iload 7, 2) := dk_21 7 (dk_at dksX2_gameOf_0 14 rfl rfl)
theorem dX2_gameOf_16 : decode cX2_gameOf 16 = .ok (.bipush 124, 2) := dk_16 124 (dk_at dksX2_gameOf_0 16 rfl rfl)
theorem dX2_gameOf_18 : decode cX2_gameOf 18 = .ok (.if_icmp .ge 21, 3) := dk_162 0 21 (dk_at dksX2_gameOf_0 18 rfl rfl)
theorem dX2_gameOf_21 : decode cX2_gameOf 21 = .ok (.lload 5, 2) := dk_22 5 (dk_at dksX2_gameOf_0 21 rfl rfl)
theorem dX2_gameOf_23 : decode cX2_gameOf 23 = .ok (.aload_n 0, 1) := dk_42 (dk_at dksX2_gameOf_0 23 rfl rfl)
theorem dX2_gameOf_24 : decode cX2_gameOf 24 = .ok (.getfield 25, 3) := dk_180 0 25 (dk_at dksX2_gameOf_1 0 rfl rfl)
theorem dX2_gameOf_27 : decode cX2_gameOf 27 = .ok (.iload 7, 2) := dk_21 7 (dk_at dksX2_gameOf_1 3 rfl rfl)
theorem dX2_gameOf_29 : decode cX2_gameOf 29 = .ok (.laload, 1) := dk_47 (dk_at dksX2_gameOf_1 5 rfl rfl)
theorem dX2_gameOf_30 : decode cX2_gameOf 30 = .ok (.ladd, 1) := dk_97 (dk_at dksX2_gameOf_1 6 rfl rfl)
theorem dX2_gameOf_31 : decode cX2_gameOf 31 = .ok (.lstore 5, 2) := dk_55 5 (dk_at dksX2_gameOf_1 7 rfl rfl)
theorem dX2_gameOf_33 : decode cX2_gameOf 33 = .ok (.iinc 7 1, 3) := dk_132 7 1 (dk_at dksX2_gameOf_1 9 rfl rfl)
theorem dX2_gameOf_36 : decode cX2_gameOf 36 = .ok (.goto (-22), 3) := dk_167 255 234 (dk_at dksX2_gameOf_1 12 rfl rfl)
theorem dX2_gameOf_39 : decode cX2_gameOf 39 = .ok (.iload 4, 2) := dk_21 4 (dk_at dksX2_gameOf_1 15 rfl rfl)
theorem dX2_gameOf_41 : decode cX2_gameOf 41 = .ok (.ifCond .ne 10, 3) := dk_154 0 10 (dk_at dksX2_gameOf_1 17 rfl rfl)
theorem dX2_gameOf_44 : decode cX2_gameOf 44 = .ok (.aload_n 0, 1) := dk_42 (dk_at dksX2_gameOf_1 20 rfl rfl)
theorem dX2_gameOf_45 : decode cX2_gameOf 45 = .ok (.getfield 175, 3) := dk_180 0 175 (dk_at dksX2_gameOf_1 21 rfl rfl)
theorem dX2_gameOf_48 : decode cX2_gameOf 48 = .ok (.goto 18, 3) := dk_167 0 18 (dk_at dksX2_gameOf_2 0 rfl rfl)
theorem dX2_gameOf_51 : decode cX2_gameOf 51 = .ok (.iload 4, 2) := dk_21 4 (dk_at dksX2_gameOf_2 3 rfl rfl)
theorem dX2_gameOf_53 : decode cX2_gameOf 53 = .ok (.iconst 1, 1) := dk_4 (dk_at dksX2_gameOf_2 5 rfl rfl)
theorem dX2_gameOf_54 : decode cX2_gameOf 54 = .ok (.if_icmp .ne 10, 3) := dk_160 0 10 (dk_at dksX2_gameOf_2 6 rfl rfl)
theorem dX2_gameOf_57 : decode cX2_gameOf 57 = .ok (.aload_n 0, 1) := dk_42 (dk_at dksX2_gameOf_2 9 rfl rfl)
theorem dX2_gameOf_58 : decode cX2_gameOf 58 = .ok (.getfield 181, 3) := dk_180 0 181 (dk_at dksX2_gameOf_2 10 rfl rfl)
theorem dX2_gameOf_61 : decode cX2_gameOf 61 = .ok (.goto 5, 3) := dk_167 0 5 (dk_at dksX2_gameOf_2 13 rfl rfl)
theorem dX2_gameOf_64 : decode cX2_gameOf 64 = .ok (.lload 5, 2) := dk_22 5 (dk_at dksX2_gameOf_2 16 rfl rfl)
theorem dX2_gameOf_66 : decode cX2_gameOf 66 = .ok (.lreturn, 1) := dk_173 (dk_at dksX2_gameOf_2 18 rfl rfl)
abbrev cX2_average : ByteArray := prog_10_method_58_code
def yX2_average : MethodName := ⟨RX2, "average", "(II)J"⟩
def dkwX2_average_1 : List UInt8 := [181, 0, 51, 42, 180, 0, 51, 158, 0, 7, 9, 167, 0, 9, 42, 27, 28, 182, 1, 1, 173]
abbrev dktX2_average_1 : List UInt8 := dkwX2_average_1 ++ []
def dkwX2_average_0 : List UInt8 := [42, 27, 184, 0, 111, 153, 0, 16, 28, 3, 4, 184, 0, 58, 153, 0, 7, 3, 167, 0, 4, 4]
abbrev dktX2_average_0 : List UInt8 := dkwX2_average_0 ++ dktX2_average_1
theorem dksX2_average_0 : cX2_average.data.toList.drop 0 = dktX2_average_0 := by decide +kernel
theorem dksX2_average_1 : cX2_average.data.toList.drop 22 = dktX2_average_1 := dk_seg dksX2_average_0 22 rfl rfl
theorem dX2_average_0 : decode cX2_average 0 = .ok (.aload_n 0, 1) := dk_42 (dk_at dksX2_average_0 0 rfl rfl)
theorem dX2_average_1 : decode cX2_average 1 = .ok (.iload_n 1, 1) := dk_27 (dk_at dksX2_average_0 1 rfl rfl)
theorem dX2_average_2 : decode cX2_average 2 = .ok (.invokestatic 111, 3) := dk_184 0 111 (dk_at dksX2_average_0 2 rfl rfl)
theorem dX2_average_5 : decode cX2_average 5 = .ok (.ifCond .eq 16, 3) := dk_153 0 16 (dk_at dksX2_average_0 5 rfl rfl)
theorem dX2_average_8 : decode cX2_average 8 = .ok (.iload_n 2, 1) := dk_28 (dk_at dksX2_average_0 8 rfl rfl)
theorem dX2_average_9 : decode cX2_average 9 = .ok (.iconst 0, 1) := dk_3 (dk_at dksX2_average_0 9 rfl rfl)
theorem dX2_average_10 : decode cX2_average 10 = .ok (.iconst 1, 1) := dk_4 (dk_at dksX2_average_0 10 rfl rfl)
theorem dX2_average_11 : decode cX2_average 11 = .ok (.invokestatic 58, 3) := dk_184 0 58 (dk_at dksX2_average_0 11 rfl rfl)
theorem dX2_average_14 : decode cX2_average 14 = .ok (.ifCond .eq 7, 3) := dk_153 0 7 (dk_at dksX2_average_0 14 rfl rfl)
theorem dX2_average_17 : decode cX2_average 17 = .ok (.iconst 0, 1) := dk_3 (dk_at dksX2_average_0 17 rfl rfl)
theorem dX2_average_18 : decode cX2_average 18 = .ok (.goto 4, 3) := dk_167 0 4 (dk_at dksX2_average_0 18 rfl rfl)
theorem dX2_average_21 : decode cX2_average 21 = .ok (.iconst 1, 1) := dk_4 (dk_at dksX2_average_0 21 rfl rfl)
theorem dX2_average_22 : decode cX2_average 22 = .ok (.putfield 51, 3) := dk_181 0 51 (dk_at dksX2_average_1 0 rfl rfl)
theorem dX2_average_25 : decode cX2_average 25 = .ok (.aload_n 0, 1) := dk_42 (dk_at dksX2_average_1 3 rfl rfl)
theorem dX2_average_26 : decode cX2_average 26 = .ok (.getfield 51, 3) := dk_180 0 51 (dk_at dksX2_average_1 4 rfl rfl)
theorem dX2_average_29 : decode cX2_average 29 = .ok (.ifCond .le 7, 3) := dk_158 0 7 (dk_at dksX2_average_1 7 rfl rfl)
theorem dX2_average_32 : decode cX2_average 32 = .ok (.lconst 0, 1) := dk_9 (dk_at dksX2_average_1 10 rfl rfl)
theorem dX2_average_33 : decode cX2_average 33 = .ok (.goto 9, 3) := dk_167 0 9 (dk_at dksX2_average_1 11 rfl rfl)
theorem dX2_average_36 : decode cX2_average 36 = .ok (.aload_n 0, 1) := dk_42 (dk_at dksX2_average_1 14 rfl rfl)
theorem dX2_average_37 : decode cX2_average 37 = .ok (.iload_n 1, 1) := dk_27 (dk_at dksX2_average_1 15 rfl rfl)
theorem dX2_average_38 : decode cX2_average 38 = .ok (.iload_n 2, 1) := dk_28 (dk_at dksX2_average_1 16 rfl rfl)
theorem dX2_average_39 : decode cX2_average 39 = .ok (.invokevirtual 257, 3) := dk_182 1 1 (dk_at dksX2_average_1 17 rfl rfl)
theorem dX2_average_42 : decode cX2_average 42 = .ok (.lreturn, 1) := dk_173 (dk_at dksX2_average_1 20 rfl rfl)
abbrev cX2_averageOf : ByteArray := prog_10_method_57_code
def yX2_averageOf : MethodName := ⟨RX2, "averageOf", "(II)J"⟩
def dkwX2_averageOf_0 : List UInt8 := [42, 27, 182, 0, 254, 28, 154, 0, 10, 42, 180, 0, 232, 167, 0, 7, 42, 180, 0, 235, 173]
abbrev dktX2_averageOf_0 : List UInt8 := dkwX2_averageOf_0 ++ []
theorem dksX2_averageOf_0 : cX2_averageOf.data.toList.drop 0 = dktX2_averageOf_0 := by decide +kernel
theorem dX2_averageOf_0 : decode cX2_averageOf 0 = .ok (.aload_n 0, 1) := dk_42 (dk_at dksX2_averageOf_0 0 rfl rfl)
theorem dX2_averageOf_1 : decode cX2_averageOf 1 = .ok (.iload_n 1, 1) := dk_27 (dk_at dksX2_averageOf_0 1 rfl rfl)
theorem dX2_averageOf_2 : decode cX2_averageOf 2 = .ok (.invokevirtual 254, 3) := dk_182 0 254 (dk_at dksX2_averageOf_0 2 rfl rfl)
theorem dX2_averageOf_5 : decode cX2_averageOf 5 = .ok (.iload_n 2, 1) := dk_28 (dk_at dksX2_averageOf_0 5 rfl rfl)
theorem dX2_averageOf_6 : decode cX2_averageOf 6 = .ok (.ifCond .ne 10, 3) := dk_154 0 10 (dk_at dksX2_averageOf_0 6 rfl rfl)
theorem dX2_averageOf_9 : decode cX2_averageOf 9 = .ok (.aload_n 0, 1) := dk_42 (dk_at dksX2_averageOf_0 9 rfl rfl)
theorem dX2_averageOf_10 : decode cX2_averageOf 10 = .ok (.getfield 232, 3) := dk_180 0 232 (dk_at dksX2_averageOf_0 10 rfl rfl)
theorem dX2_averageOf_13 : decode cX2_averageOf 13 = .ok (.goto 7, 3) := dk_167 0 7 (dk_at dksX2_averageOf_0 13 rfl rfl)
theorem dX2_averageOf_16 : decode cX2_averageOf 16 = .ok (.aload_n 0, 1) := dk_42 (dk_at dksX2_averageOf_0 16 rfl rfl)
theorem dX2_averageOf_17 : decode cX2_averageOf 17 = .ok (.getfield 235, 3) := dk_180 0 235 (dk_at dksX2_averageOf_0 17 rfl rfl)
theorem dX2_averageOf_20 : decode cX2_averageOf 20 = .ok (.lreturn, 1) := dk_173 (dk_at dksX2_averageOf_0 20 rfl rfl)
abbrev cX2_layAverage : ByteArray := prog_10_method_56_code
def yX2_layAverage : MethodName := ⟨RX2, "layAverage", "(I)V"⟩
def dkwX2_layAverage_7 : List UInt8 := [182, 0, 250, 177]
abbrev dktX2_layAverage_7 : List UInt8 := dkwX2_layAverage_7 ++ []
def dkwX2_layAverage_6 : List UInt8 := [132, 6, 1, 167, 255, 197, 42, 22, 4, 42, 180, 0, 247, 42, 180, 0, 212, 105, 27, 184, 0, 62, 133, 105]
abbrev dktX2_layAverage_6 : List UInt8 := dkwX2_layAverage_6 ++ dktX2_layAverage_7
def dkwX2_layAverage_5 : List UInt8 := [181, 0, 247, 22, 4, 42, 180, 0, 44, 21, 6, 47, 42, 180, 0, 35, 21, 6, 47, 105, 97, 55, 4]
abbrev dktX2_layAverage_5 : List UInt8 := dkwX2_layAverage_5 ++ dktX2_layAverage_6
def dkwX2_layAverage_4 : List UInt8 := [180, 0, 44, 21, 6, 92, 47, 32, 109, 80, 42, 89, 180, 0, 247, 42, 180, 0, 44, 21, 6, 47, 97]
abbrev dktX2_layAverage_4 : List UInt8 := dkwX2_layAverage_4 ++ dktX2_layAverage_5
def dkwX2_layAverage_3 : List UInt8 := [167, 255, 219, 42, 9, 181, 0, 247, 9, 55, 4, 3, 54, 6, 21, 6, 42, 180, 0, 55, 162, 0, 56, 42]
abbrev dktX2_layAverage_3 : List UInt8 := dkwX2_layAverage_3 ++ dktX2_layAverage_4
def dkwX2_layAverage_2 : List UInt8 := [42, 21, 4, 182, 0, 244, 80, 42, 180, 0, 44, 21, 4, 47, 32, 184, 0, 228, 65, 132, 4, 1]
abbrev dktX2_layAverage_2 : List UInt8 := dkwX2_layAverage_2 ++ dktX2_layAverage_3
def dkwX2_layAverage_1 : List UInt8 := [164, 0, 4, 177, 9, 65, 3, 54, 4, 21, 4, 42, 180, 0, 55, 162, 0, 34, 42, 180, 0, 44, 21, 4]
abbrev dktX2_layAverage_1 : List UInt8 := dkwX2_layAverage_1 ++ dktX2_layAverage_2
def dkwX2_layAverage_0 : List UInt8 := [42, 27, 182, 0, 238, 42, 182, 0, 241, 42, 9, 181, 0, 232, 42, 9, 181, 0, 235, 42, 180, 0, 219, 4]
abbrev dktX2_layAverage_0 : List UInt8 := dkwX2_layAverage_0 ++ dktX2_layAverage_1
theorem dksX2_layAverage_0 : cX2_layAverage.data.toList.drop 0 = dktX2_layAverage_0 := by decide +kernel
theorem dksX2_layAverage_1 : cX2_layAverage.data.toList.drop 24 = dktX2_layAverage_1 := dk_seg dksX2_layAverage_0 24 rfl rfl
theorem dksX2_layAverage_2 : cX2_layAverage.data.toList.drop 48 = dktX2_layAverage_2 := dk_seg dksX2_layAverage_1 24 rfl rfl
theorem dksX2_layAverage_3 : cX2_layAverage.data.toList.drop 70 = dktX2_layAverage_3 := dk_seg dksX2_layAverage_2 22 rfl rfl
theorem dksX2_layAverage_4 : cX2_layAverage.data.toList.drop 94 = dktX2_layAverage_4 := dk_seg dksX2_layAverage_3 24 rfl rfl
theorem dksX2_layAverage_5 : cX2_layAverage.data.toList.drop 117 = dktX2_layAverage_5 := dk_seg dksX2_layAverage_4 23 rfl rfl
theorem dksX2_layAverage_6 : cX2_layAverage.data.toList.drop 140 = dktX2_layAverage_6 := dk_seg dksX2_layAverage_5 23 rfl rfl
theorem dksX2_layAverage_7 : cX2_layAverage.data.toList.drop 164 = dktX2_layAverage_7 := dk_seg dksX2_layAverage_6 24 rfl rfl
theorem dX2_layAverage_0 : decode cX2_layAverage 0 = .ok (.aload_n 0, 1) := dk_42 (dk_at dksX2_layAverage_0 0 rfl rfl)
theorem dX2_layAverage_1 : decode cX2_layAverage 1 = .ok (.iload_n 1, 1) := dk_27 (dk_at dksX2_layAverage_0 1 rfl rfl)
theorem dX2_layAverage_2 : decode cX2_layAverage 2 = .ok (.invokevirtual 238, 3) := dk_182 0 238 (dk_at dksX2_layAverage_0 2 rfl rfl)
theorem dX2_layAverage_5 : decode cX2_layAverage 5 = .ok (.aload_n 0, 1) := dk_42 (dk_at dksX2_layAverage_0 5 rfl rfl)
theorem dX2_layAverage_6 : decode cX2_layAverage 6 = .ok (.invokevirtual 241, 3) := dk_182 0 241 (dk_at dksX2_layAverage_0 6 rfl rfl)
theorem dX2_layAverage_9 : decode cX2_layAverage 9 = .ok (.aload_n 0, 1) := dk_42 (dk_at dksX2_layAverage_0 9 rfl rfl)
theorem dX2_layAverage_10 : decode cX2_layAverage 10 = .ok (.lconst 0, 1) := dk_9 (dk_at dksX2_layAverage_0 10 rfl rfl)
theorem dX2_layAverage_11 : decode cX2_layAverage 11 = .ok (.putfield 232, 3) := dk_181 0 232 (dk_at dksX2_layAverage_0 11 rfl rfl)
theorem dX2_layAverage_14 : decode cX2_layAverage 14 = .ok (.aload_n 0, 1) := dk_42 (dk_at dksX2_layAverage_0 14 rfl rfl)
theorem dX2_layAverage_15 : decode cX2_layAverage 15 = .ok (.lconst 0, 1) := dk_9 (dk_at dksX2_layAverage_0 15 rfl rfl)
theorem dX2_layAverage_16 : decode cX2_layAverage 16 = .ok (.putfield 235, 3) := dk_181 0 235 (dk_at dksX2_layAverage_0 16 rfl rfl)
theorem dX2_layAverage_19 : decode cX2_layAverage 19 = .ok (.aload_n 0, 1) := dk_42 (dk_at dksX2_layAverage_0 19 rfl rfl)
theorem dX2_layAverage_20 : decode cX2_layAverage 20 = .ok (.getfield 219, 3) := dk_180 0 219 (dk_at dksX2_layAverage_0 20 rfl rfl)
theorem dX2_layAverage_23 : decode cX2_layAverage 23 = .ok (.iconst 1, 1) := dk_4 (dk_at dksX2_layAverage_0 23 rfl rfl)
theorem dX2_layAverage_24 : decode cX2_layAverage 24 = .ok (.if_icmp .le 4, 3) := dk_164 0 4 (dk_at dksX2_layAverage_1 0 rfl rfl)
theorem dX2_layAverage_27 : decode cX2_layAverage 27 = .ok (.return_, 1) := dk_177 (dk_at dksX2_layAverage_1 3 rfl rfl)
theorem dX2_layAverage_28 : decode cX2_layAverage 28 = .ok (.lconst 0, 1) := dk_9 (dk_at dksX2_layAverage_1 4 rfl rfl)
theorem dX2_layAverage_29 : decode cX2_layAverage 29 = .ok (.lstore_n 2, 1) := dk_65 (dk_at dksX2_layAverage_1 5 rfl rfl)
theorem dX2_layAverage_30 : decode cX2_layAverage 30 = .ok (.iconst 0, 1) := dk_3 (dk_at dksX2_layAverage_1 6 rfl rfl)
theorem dX2_layAverage_31 : decode cX2_layAverage 31 = .ok (.istore 4, 2) := dk_54 4 (dk_at dksX2_layAverage_1 7 rfl rfl)
theorem dX2_layAverage_33 : decode cX2_layAverage 33 = .ok (.iload 4, 2) := dk_21 4 (dk_at dksX2_layAverage_1 9 rfl rfl)
theorem dX2_layAverage_35 : decode cX2_layAverage 35 = .ok (.aload_n 0, 1) := dk_42 (dk_at dksX2_layAverage_1 11 rfl rfl)
theorem dX2_layAverage_36 : decode cX2_layAverage 36 = .ok (.getfield 55, 3) := dk_180 0 55 (dk_at dksX2_layAverage_1 12 rfl rfl)
theorem dX2_layAverage_39 : decode cX2_layAverage 39 = .ok (.if_icmp .ge 34, 3) := dk_162 0 34 (dk_at dksX2_layAverage_1 15 rfl rfl)
theorem dX2_layAverage_42 : decode cX2_layAverage 42 = .ok (.aload_n 0, 1) := dk_42 (dk_at dksX2_layAverage_1 18 rfl rfl)
theorem dX2_layAverage_43 : decode cX2_layAverage 43 = .ok (.getfield 44, 3) := dk_180 0 44 (dk_at dksX2_layAverage_1 19 rfl rfl)
theorem dX2_layAverage_46 : decode cX2_layAverage 46 = .ok (.iload 4, 2) := dk_21 4 (dk_at dksX2_layAverage_1 22 rfl rfl)
theorem dX2_layAverage_48 : decode cX2_layAverage 48 = .ok (.aload_n 0, 1) := dk_42 (dk_at dksX2_layAverage_2 0 rfl rfl)
theorem dX2_layAverage_49 : decode cX2_layAverage 49 = .ok (.iload 4, 2) := dk_21 4 (dk_at dksX2_layAverage_2 1 rfl rfl)
theorem dX2_layAverage_51 : decode cX2_layAverage 51 = .ok (.invokevirtual 244, 3) := dk_182 0 244 (dk_at dksX2_layAverage_2 3 rfl rfl)
theorem dX2_layAverage_54 : decode cX2_layAverage 54 = .ok (.lastore, 1) := dk_80 (dk_at dksX2_layAverage_2 6 rfl rfl)
theorem dX2_layAverage_55 : decode cX2_layAverage 55 = .ok (.aload_n 0, 1) := dk_42 (dk_at dksX2_layAverage_2 7 rfl rfl)
theorem dX2_layAverage_56 : decode cX2_layAverage 56 = .ok (.getfield 44, 3) := dk_180 0 44 (dk_at dksX2_layAverage_2 8 rfl rfl)
theorem dX2_layAverage_59 : decode cX2_layAverage 59 = .ok (.iload 4, 2) := dk_21 4 (dk_at dksX2_layAverage_2 11 rfl rfl)
theorem dX2_layAverage_61 : decode cX2_layAverage 61 = .ok (.laload, 1) := dk_47 (dk_at dksX2_layAverage_2 13 rfl rfl)
theorem dX2_layAverage_62 : decode cX2_layAverage 62 = .ok (.lload_n 2, 1) := dk_32 (dk_at dksX2_layAverage_2 14 rfl rfl)
theorem dX2_layAverage_63 : decode cX2_layAverage 63 = .ok (.invokestatic 228, 3) := dk_184 0 228 (dk_at dksX2_layAverage_2 15 rfl rfl)
theorem dX2_layAverage_66 : decode cX2_layAverage 66 = .ok (.lstore_n 2, 1) := dk_65 (dk_at dksX2_layAverage_2 18 rfl rfl)
theorem dX2_layAverage_67 : decode cX2_layAverage 67 = .ok (.iinc 4 1, 3) := dk_132 4 1 (dk_at dksX2_layAverage_2 19 rfl rfl)
theorem dX2_layAverage_70 : decode cX2_layAverage 70 = .ok (.goto (-37), 3) := dk_167 255 219 (dk_at dksX2_layAverage_3 0 rfl rfl)
theorem dX2_layAverage_73 : decode cX2_layAverage 73 = .ok (.aload_n 0, 1) := dk_42 (dk_at dksX2_layAverage_3 3 rfl rfl)
theorem dX2_layAverage_74 : decode cX2_layAverage 74 = .ok (.lconst 0, 1) := dk_9 (dk_at dksX2_layAverage_3 4 rfl rfl)
theorem dX2_layAverage_75 : decode cX2_layAverage 75 = .ok (.putfield 247, 3) := dk_181 0 247 (dk_at dksX2_layAverage_3 5 rfl rfl)
theorem dX2_layAverage_78 : decode cX2_layAverage 78 = .ok (.lconst 0, 1) := dk_9 (dk_at dksX2_layAverage_3 8 rfl rfl)
theorem dX2_layAverage_79 : decode cX2_layAverage 79 = .ok (.lstore 4, 2) := dk_55 4 (dk_at dksX2_layAverage_3 9 rfl rfl)
theorem dX2_layAverage_81 : decode cX2_layAverage 81 = .ok (.iconst 0, 1) := dk_3 (dk_at dksX2_layAverage_3 11 rfl rfl)
theorem dX2_layAverage_82 : decode cX2_layAverage 82 = .ok (.istore 6, 2) := dk_54 6 (dk_at dksX2_layAverage_3 12 rfl rfl)
theorem dX2_layAverage_84 : decode cX2_layAverage 84 = .ok (.iload 6, 2) := dk_21 6 (dk_at dksX2_layAverage_3 14 rfl rfl)
theorem dX2_layAverage_86 : decode cX2_layAverage 86 = .ok (.aload_n 0, 1) := dk_42 (dk_at dksX2_layAverage_3 16 rfl rfl)
theorem dX2_layAverage_87 : decode cX2_layAverage 87 = .ok (.getfield 55, 3) := dk_180 0 55 (dk_at dksX2_layAverage_3 17 rfl rfl)
theorem dX2_layAverage_90 : decode cX2_layAverage 90 = .ok (.if_icmp .ge 56, 3) := dk_162 0 56 (dk_at dksX2_layAverage_3 20 rfl rfl)
theorem dX2_layAverage_93 : decode cX2_layAverage 93 = .ok (.aload_n 0, 1) := dk_42 (dk_at dksX2_layAverage_3 23 rfl rfl)
theorem dX2_layAverage_94 : decode cX2_layAverage 94 = .ok (.getfield 44, 3) := dk_180 0 44 (dk_at dksX2_layAverage_4 0 rfl rfl)
theorem dX2_layAverage_97 : decode cX2_layAverage 97 = .ok (.iload 6, 2) := dk_21 6 (dk_at dksX2_layAverage_4 3 rfl rfl)
theorem dX2_layAverage_99 : decode cX2_layAverage 99 = .ok (.dup2, 1) := dk_92 (dk_at dksX2_layAverage_4 5 rfl rfl)
theorem dX2_layAverage_100 : decode cX2_layAverage 100 = .ok (.laload, 1) := dk_47 (dk_at dksX2_layAverage_4 6 rfl rfl)
theorem dX2_layAverage_101 : decode cX2_layAverage 101 = .ok (.lload_n 2, 1) := dk_32 (dk_at dksX2_layAverage_4 7 rfl rfl)
theorem dX2_layAverage_102 : decode cX2_layAverage 102 = .ok (.ldiv, 1) := dk_109 (dk_at dksX2_layAverage_4 8 rfl rfl)
theorem dX2_layAverage_103 : decode cX2_layAverage 103 = .ok (.lastore, 1) := dk_80 (dk_at dksX2_layAverage_4 9 rfl rfl)
theorem dX2_layAverage_104 : decode cX2_layAverage 104 = .ok (.aload_n 0, 1) := dk_42 (dk_at dksX2_layAverage_4 10 rfl rfl)
theorem dX2_layAverage_105 : decode cX2_layAverage 105 = .ok (.dup, 1) := dk_89 (dk_at dksX2_layAverage_4 11 rfl rfl)
theorem dX2_layAverage_106 : decode cX2_layAverage 106 = .ok (.getfield 247, 3) := dk_180 0 247 (dk_at dksX2_layAverage_4 12 rfl rfl)
theorem dX2_layAverage_109 : decode cX2_layAverage 109 = .ok (.aload_n 0, 1) := dk_42 (dk_at dksX2_layAverage_4 15 rfl rfl)
theorem dX2_layAverage_110 : decode cX2_layAverage 110 = .ok (.getfield 44, 3) := dk_180 0 44 (dk_at dksX2_layAverage_4 16 rfl rfl)
theorem dX2_layAverage_113 : decode cX2_layAverage 113 = .ok (.iload 6, 2) := dk_21 6 (dk_at dksX2_layAverage_4 19 rfl rfl)
theorem dX2_layAverage_115 : decode cX2_layAverage 115 = .ok (.laload, 1) := dk_47 (dk_at dksX2_layAverage_4 21 rfl rfl)
theorem dX2_layAverage_116 : decode cX2_layAverage 116 = .ok (.ladd, 1) := dk_97 (dk_at dksX2_layAverage_4 22 rfl rfl)
theorem dX2_layAverage_117 : decode cX2_layAverage 117 = .ok (.putfield 247, 3) := dk_181 0 247 (dk_at dksX2_layAverage_5 0 rfl rfl)
theorem dX2_layAverage_120 : decode cX2_layAverage 120 = .ok (.lload 4, 2) := dk_22 4 (dk_at dksX2_layAverage_5 3 rfl rfl)
theorem dX2_layAverage_122 : decode cX2_layAverage 122 = .ok (.aload_n 0, 1) := dk_42 (dk_at dksX2_layAverage_5 5 rfl rfl)
theorem dX2_layAverage_123 : decode cX2_layAverage 123 = .ok (.getfield 44, 3) := dk_180 0 44 (dk_at dksX2_layAverage_5 6 rfl rfl)
theorem dX2_layAverage_126 : decode cX2_layAverage 126 = .ok (.iload 6, 2) := dk_21 6 (dk_at dksX2_layAverage_5 9 rfl rfl)
theorem dX2_layAverage_128 : decode cX2_layAverage 128 = .ok (.laload, 1) := dk_47 (dk_at dksX2_layAverage_5 11 rfl rfl)
theorem dX2_layAverage_129 : decode cX2_layAverage 129 = .ok (.aload_n 0, 1) := dk_42 (dk_at dksX2_layAverage_5 12 rfl rfl)
theorem dX2_layAverage_130 : decode cX2_layAverage 130 = .ok (.getfield 35, 3) := dk_180 0 35 (dk_at dksX2_layAverage_5 13 rfl rfl)
theorem dX2_layAverage_133 : decode cX2_layAverage 133 = .ok (.iload 6, 2) := dk_21 6 (dk_at dksX2_layAverage_5 16 rfl rfl)
theorem dX2_layAverage_135 : decode cX2_layAverage 135 = .ok (.laload, 1) := dk_47 (dk_at dksX2_layAverage_5 18 rfl rfl)
theorem dX2_layAverage_136 : decode cX2_layAverage 136 = .ok (.lmul, 1) := dk_105 (dk_at dksX2_layAverage_5 19 rfl rfl)
theorem dX2_layAverage_137 : decode cX2_layAverage 137 = .ok (.ladd, 1) := dk_97 (dk_at dksX2_layAverage_5 20 rfl rfl)
theorem dX2_layAverage_138 : decode cX2_layAverage 138 = .ok (.lstore 4, 2) := dk_55 4 (dk_at dksX2_layAverage_5 21 rfl rfl)
theorem dX2_layAverage_140 : decode cX2_layAverage 140 = .ok (.iinc 6 1, 3) := dk_132 6 1 (dk_at dksX2_layAverage_6 0 rfl rfl)
theorem dX2_layAverage_143 : decode cX2_layAverage 143 = .ok (.goto (-59), 3) := dk_167 255 197 (dk_at dksX2_layAverage_6 3 rfl rfl)
theorem dX2_layAverage_146 : decode cX2_layAverage 146 = .ok (.aload_n 0, 1) := dk_42 (dk_at dksX2_layAverage_6 6 rfl rfl)
theorem dX2_layAverage_147 : decode cX2_layAverage 147 = .ok (.lload 4, 2) := dk_22 4 (dk_at dksX2_layAverage_6 7 rfl rfl)
theorem dX2_layAverage_149 : decode cX2_layAverage 149 = .ok (.aload_n 0, 1) := dk_42 (dk_at dksX2_layAverage_6 9 rfl rfl)
theorem dX2_layAverage_150 : decode cX2_layAverage 150 = .ok (.getfield 247, 3) := dk_180 0 247 (dk_at dksX2_layAverage_6 10 rfl rfl)
theorem dX2_layAverage_153 : decode cX2_layAverage 153 = .ok (.aload_n 0, 1) := dk_42 (dk_at dksX2_layAverage_6 13 rfl rfl)
theorem dX2_layAverage_154 : decode cX2_layAverage 154 = .ok (.getfield 212, 3) := dk_180 0 212 (dk_at dksX2_layAverage_6 14 rfl rfl)
theorem dX2_layAverage_157 : decode cX2_layAverage 157 = .ok (.lmul, 1) := dk_105 (dk_at dksX2_layAverage_6 17 rfl rfl)
theorem dX2_layAverage_158 : decode cX2_layAverage 158 = .ok (.iload_n 1, 1) := dk_27 (dk_at dksX2_layAverage_6 18 rfl rfl)
theorem dX2_layAverage_159 : decode cX2_layAverage 159 = .ok (.invokestatic 62, 3) := dk_184 0 62 (dk_at dksX2_layAverage_6 19 rfl rfl)
theorem dX2_layAverage_162 : decode cX2_layAverage 162 = .ok (.i2l, 1) := dk_133 (dk_at dksX2_layAverage_6 22 rfl rfl)
theorem dX2_layAverage_163 : decode cX2_layAverage 163 = .ok (.lmul, 1) := dk_105 (dk_at dksX2_layAverage_6 23 rfl rfl)
theorem dX2_layAverage_164 : decode cX2_layAverage 164 = .ok (.invokevirtual 250, 3) := dk_182 0 250 (dk_at dksX2_layAverage_7 0 rfl rfl)
theorem dX2_layAverage_167 : decode cX2_layAverage 167 = .ok (.return_, 1) := dk_177 (dk_at dksX2_layAverage_7 3 rfl rfl)
abbrev cX2_layRound : ByteArray := prog_10_method_48_code
def yX2_layRound : MethodName := ⟨RX2, "layRound", "(I)V"⟩
def dkwX2_layRound_7 : List UInt8 := [167, 255, 130, 177]
abbrev dktX2_layRound_7 : List UInt8 := dkwX2_layRound_7 ++ []
def dkwX2_layRound_6 : List UInt8 := [7, 29, 104, 21, 4, 96, 42, 180, 0, 38, 21, 4, 47, 80, 132, 4, 1, 167, 255, 229, 132, 3, 1]
abbrev dktX2_layRound_6 : List UInt8 := dkwX2_layRound_6 ++ dktX2_layRound_7
def dkwX2_layRound_5 : List UInt8 := [182, 0, 215, 97, 80, 132, 4, 1, 167, 255, 220, 3, 54, 4, 21, 4, 7, 162, 0, 27, 42, 180, 0, 32]
abbrev dktX2_layRound_5 : List UInt8 := dkwX2_layRound_5 ++ dktX2_layRound_6
def dkwX2_layRound_4 : List UInt8 := [42, 180, 0, 35, 29, 20, 0, 179, 42, 180, 0, 35, 29, 47, 105, 42, 27, 21, 4, 184, 0, 114]
abbrev dktX2_layRound_4 : List UInt8 := dkwX2_layRound_4 ++ dktX2_layRound_5
def dkwX2_layRound_3 : List UInt8 := [160, 0, 7, 10, 167, 0, 4, 9, 80, 132, 4, 1, 167, 255, 229, 3, 54, 4, 21, 4, 28, 162, 0, 36]
abbrev dktX2_layRound_3 : List UInt8 := dkwX2_layRound_3 ++ dktX2_layRound_4
def dkwX2_layRound_2 : List UInt8 := [180, 0, 35, 29, 9, 80, 3, 54, 4, 21, 4, 7, 162, 0, 27, 42, 180, 0, 38, 21, 4, 21, 4, 29]
abbrev dktX2_layRound_2 : List UInt8 := dkwX2_layRound_2 ++ dktX2_layRound_3
def dkwX2_layRound_1 : List UInt8 := [20, 0, 179, 105, 181, 0, 212, 132, 3, 1, 167, 255, 236, 3, 62, 29, 42, 180, 0, 55, 162, 0, 124, 42]
abbrev dktX2_layRound_1 : List UInt8 := dkwX2_layRound_1 ++ dktX2_layRound_2
def dkwX2_layRound_0 : List UInt8 := [27, 184, 0, 62, 61, 42, 10, 181, 0, 212, 3, 62, 29, 28, 162, 0, 21, 42, 89, 180, 0, 212]
abbrev dktX2_layRound_0 : List UInt8 := dkwX2_layRound_0 ++ dktX2_layRound_1
theorem dksX2_layRound_0 : cX2_layRound.data.toList.drop 0 = dktX2_layRound_0 := by decide +kernel
theorem dksX2_layRound_1 : cX2_layRound.data.toList.drop 22 = dktX2_layRound_1 := dk_seg dksX2_layRound_0 22 rfl rfl
theorem dksX2_layRound_2 : cX2_layRound.data.toList.drop 46 = dktX2_layRound_2 := dk_seg dksX2_layRound_1 24 rfl rfl
theorem dksX2_layRound_3 : cX2_layRound.data.toList.drop 70 = dktX2_layRound_3 := dk_seg dksX2_layRound_2 24 rfl rfl
theorem dksX2_layRound_4 : cX2_layRound.data.toList.drop 94 = dktX2_layRound_4 := dk_seg dksX2_layRound_3 24 rfl rfl
theorem dksX2_layRound_5 : cX2_layRound.data.toList.drop 116 = dktX2_layRound_5 := dk_seg dksX2_layRound_4 22 rfl rfl
theorem dksX2_layRound_6 : cX2_layRound.data.toList.drop 140 = dktX2_layRound_6 := dk_seg dksX2_layRound_5 24 rfl rfl
theorem dksX2_layRound_7 : cX2_layRound.data.toList.drop 163 = dktX2_layRound_7 := dk_seg dksX2_layRound_6 23 rfl rfl
theorem dX2_layRound_0 : decode cX2_layRound 0 = .ok (.iload_n 1, 1) := dk_27 (dk_at dksX2_layRound_0 0 rfl rfl)
theorem dX2_layRound_1 : decode cX2_layRound 1 = .ok (.invokestatic 62, 3) := dk_184 0 62 (dk_at dksX2_layRound_0 1 rfl rfl)
theorem dX2_layRound_4 : decode cX2_layRound 4 = .ok (.istore_n 2, 1) := dk_61 (dk_at dksX2_layRound_0 4 rfl rfl)
theorem dX2_layRound_5 : decode cX2_layRound 5 = .ok (.aload_n 0, 1) := dk_42 (dk_at dksX2_layRound_0 5 rfl rfl)
theorem dX2_layRound_6 : decode cX2_layRound 6 = .ok (.lconst 1, 1) := dk_10 (dk_at dksX2_layRound_0 6 rfl rfl)
theorem dX2_layRound_7 : decode cX2_layRound 7 = .ok (.putfield 212, 3) := dk_181 0 212 (dk_at dksX2_layRound_0 7 rfl rfl)
theorem dX2_layRound_10 : decode cX2_layRound 10 = .ok (.iconst 0, 1) := dk_3 (dk_at dksX2_layRound_0 10 rfl rfl)
theorem dX2_layRound_11 : decode cX2_layRound 11 = .ok (.istore_n 3, 1) := dk_62 (dk_at dksX2_layRound_0 11 rfl rfl)
theorem dX2_layRound_12 : decode cX2_layRound 12 = .ok (.iload_n 3, 1) := dk_29 (dk_at dksX2_layRound_0 12 rfl rfl)
theorem dX2_layRound_13 : decode cX2_layRound 13 = .ok (.iload_n 2, 1) := dk_28 (dk_at dksX2_layRound_0 13 rfl rfl)
theorem dX2_layRound_14 : decode cX2_layRound 14 = .ok (.if_icmp .ge 21, 3) := dk_162 0 21 (dk_at dksX2_layRound_0 14 rfl rfl)
theorem dX2_layRound_17 : decode cX2_layRound 17 = .ok (.aload_n 0, 1) := dk_42 (dk_at dksX2_layRound_0 17 rfl rfl)
theorem dX2_layRound_18 : decode cX2_layRound 18 = .ok (.dup, 1) := dk_89 (dk_at dksX2_layRound_0 18 rfl rfl)
theorem dX2_layRound_19 : decode cX2_layRound 19 = .ok (.getfield 212, 3) := dk_180 0 212 (dk_at dksX2_layRound_0 19 rfl rfl)
theorem dX2_layRound_22 : decode cX2_layRound 22 = .ok (.ldc2_w 179, 3) := dk_20 0 179 (dk_at dksX2_layRound_1 0 rfl rfl)
theorem dX2_layRound_25 : decode cX2_layRound 25 = .ok (.lmul, 1) := dk_105 (dk_at dksX2_layRound_1 3 rfl rfl)
theorem dX2_layRound_26 : decode cX2_layRound 26 = .ok (.putfield 212, 3) := dk_181 0 212 (dk_at dksX2_layRound_1 4 rfl rfl)
theorem dX2_layRound_29 : decode cX2_layRound 29 = .ok (.iinc 3 1, 3) := dk_132 3 1 (dk_at dksX2_layRound_1 7 rfl rfl)
theorem dX2_layRound_32 : decode cX2_layRound 32 = .ok (.goto (-20), 3) := dk_167 255 236 (dk_at dksX2_layRound_1 10 rfl rfl)
theorem dX2_layRound_35 : decode cX2_layRound 35 = .ok (.iconst 0, 1) := dk_3 (dk_at dksX2_layRound_1 13 rfl rfl)
theorem dX2_layRound_36 : decode cX2_layRound 36 = .ok (.istore_n 3, 1) := dk_62 (dk_at dksX2_layRound_1 14 rfl rfl)
theorem dX2_layRound_37 : decode cX2_layRound 37 = .ok (.iload_n 3, 1) := dk_29 (dk_at dksX2_layRound_1 15 rfl rfl)
theorem dX2_layRound_38 : decode cX2_layRound 38 = .ok (.aload_n 0, 1) := dk_42 (dk_at dksX2_layRound_1 16 rfl rfl)
theorem dX2_layRound_39 : decode cX2_layRound 39 = .ok (.getfield 55, 3) := dk_180 0 55 (dk_at dksX2_layRound_1 17 rfl rfl)
theorem dX2_layRound_42 : decode cX2_layRound 42 = .ok (.if_icmp .ge 124, 3) := dk_162 0 124 (dk_at dksX2_layRound_1 20 rfl rfl)
theorem dX2_layRound_45 : decode cX2_layRound 45 = .ok (.aload_n 0, 1) := dk_42 (dk_at dksX2_layRound_1 23 rfl rfl)
theorem dX2_layRound_46 : decode cX2_layRound 46 = .ok (.getfield 35, 3) := dk_180 0 35 (dk_at dksX2_layRound_2 0 rfl rfl)
theorem dX2_layRound_49 : decode cX2_layRound 49 = .ok (.iload_n 3, 1) := dk_29 (dk_at dksX2_layRound_2 3 rfl rfl)
theorem dX2_layRound_50 : decode cX2_layRound 50 = .ok (.lconst 0, 1) := dk_9 (dk_at dksX2_layRound_2 4 rfl rfl)
theorem dX2_layRound_51 : decode cX2_layRound 51 = .ok (.lastore, 1) := dk_80 (dk_at dksX2_layRound_2 5 rfl rfl)
theorem dX2_layRound_52 : decode cX2_layRound 52 = .ok (.iconst 0, 1) := dk_3 (dk_at dksX2_layRound_2 6 rfl rfl)
theorem dX2_layRound_53 : decode cX2_layRound 53 = .ok (.istore 4, 2) := dk_54 4 (dk_at dksX2_layRound_2 7 rfl rfl)
theorem dX2_layRound_55 : decode cX2_layRound 55 = .ok (.iload 4, 2) := dk_21 4 (dk_at dksX2_layRound_2 9 rfl rfl)
theorem dX2_layRound_57 : decode cX2_layRound 57 = .ok (.iconst 4, 1) := dk_7 (dk_at dksX2_layRound_2 11 rfl rfl)
theorem dX2_layRound_58 : decode cX2_layRound 58 = .ok (.if_icmp .ge 27, 3) := dk_162 0 27 (dk_at dksX2_layRound_2 12 rfl rfl)
theorem dX2_layRound_61 : decode cX2_layRound 61 = .ok (.aload_n 0, 1) := dk_42 (dk_at dksX2_layRound_2 15 rfl rfl)
theorem dX2_layRound_62 : decode cX2_layRound 62 = .ok (.getfield 38, 3) := dk_180 0 38 (dk_at dksX2_layRound_2 16 rfl rfl)
theorem dX2_layRound_65 : decode cX2_layRound 65 = .ok (.iload 4, 2) := dk_21 4 (dk_at dksX2_layRound_2 19 rfl rfl)
theorem dX2_layRound_67 : decode cX2_layRound 67 = .ok (.iload 4, 2) := dk_21 4 (dk_at dksX2_layRound_2 21 rfl rfl)
theorem dX2_layRound_69 : decode cX2_layRound 69 = .ok (.iload_n 3, 1) := dk_29 (dk_at dksX2_layRound_2 23 rfl rfl)
theorem dX2_layRound_70 : decode cX2_layRound 70 = .ok (.if_icmp .ne 7, 3) := dk_160 0 7 (dk_at dksX2_layRound_3 0 rfl rfl)
theorem dX2_layRound_73 : decode cX2_layRound 73 = .ok (.lconst 1, 1) := dk_10 (dk_at dksX2_layRound_3 3 rfl rfl)
theorem dX2_layRound_74 : decode cX2_layRound 74 = .ok (.goto 4, 3) := dk_167 0 4 (dk_at dksX2_layRound_3 4 rfl rfl)
theorem dX2_layRound_77 : decode cX2_layRound 77 = .ok (.lconst 0, 1) := dk_9 (dk_at dksX2_layRound_3 7 rfl rfl)
theorem dX2_layRound_78 : decode cX2_layRound 78 = .ok (.lastore, 1) := dk_80 (dk_at dksX2_layRound_3 8 rfl rfl)
theorem dX2_layRound_79 : decode cX2_layRound 79 = .ok (.iinc 4 1, 3) := dk_132 4 1 (dk_at dksX2_layRound_3 9 rfl rfl)
theorem dX2_layRound_82 : decode cX2_layRound 82 = .ok (.goto (-27), 3) := dk_167 255 229 (dk_at dksX2_layRound_3 12 rfl rfl)
theorem dX2_layRound_85 : decode cX2_layRound 85 = .ok (.iconst 0, 1) := dk_3 (dk_at dksX2_layRound_3 15 rfl rfl)
theorem dX2_layRound_86 : decode cX2_layRound 86 = .ok (.istore 4, 2) := dk_54 4 (dk_at dksX2_layRound_3 16 rfl rfl)
theorem dX2_layRound_88 : decode cX2_layRound 88 = .ok (.iload 4, 2) := dk_21 4 (dk_at dksX2_layRound_3 18 rfl rfl)
theorem dX2_layRound_90 : decode cX2_layRound 90 = .ok (.iload_n 2, 1) := dk_28 (dk_at dksX2_layRound_3 20 rfl rfl)
theorem dX2_layRound_91 : decode cX2_layRound 91 = .ok (.if_icmp .ge 36, 3) := dk_162 0 36 (dk_at dksX2_layRound_3 21 rfl rfl)
theorem dX2_layRound_94 : decode cX2_layRound 94 = .ok (.aload_n 0, 1) := dk_42 (dk_at dksX2_layRound_4 0 rfl rfl)
theorem dX2_layRound_95 : decode cX2_layRound 95 = .ok (.getfield 35, 3) := dk_180 0 35 (dk_at dksX2_layRound_4 1 rfl rfl)
theorem dX2_layRound_98 : decode cX2_layRound 98 = .ok (.iload_n 3, 1) := dk_29 (dk_at dksX2_layRound_4 4 rfl rfl)
theorem dX2_layRound_99 : decode cX2_layRound 99 = .ok (.ldc2_w 179, 3) := dk_20 0 179 (dk_at dksX2_layRound_4 5 rfl rfl)
theorem dX2_layRound_102 : decode cX2_layRound 102 = .ok (.aload_n 0, 1) := dk_42 (dk_at dksX2_layRound_4 8 rfl rfl)
theorem dX2_layRound_103 : decode cX2_layRound 103 = .ok (.getfield 35, 3) := dk_180 0 35 (dk_at dksX2_layRound_4 9 rfl rfl)
theorem dX2_layRound_106 : decode cX2_layRound 106 = .ok (.iload_n 3, 1) := dk_29 (dk_at dksX2_layRound_4 12 rfl rfl)
theorem dX2_layRound_107 : decode cX2_layRound 107 = .ok (.laload, 1) := dk_47 (dk_at dksX2_layRound_4 13 rfl rfl)
theorem dX2_layRound_108 : decode cX2_layRound 108 = .ok (.lmul, 1) := dk_105 (dk_at dksX2_layRound_4 14 rfl rfl)
theorem dX2_layRound_109 : decode cX2_layRound 109 = .ok (.aload_n 0, 1) := dk_42 (dk_at dksX2_layRound_4 15 rfl rfl)
theorem dX2_layRound_110 : decode cX2_layRound 110 = .ok (.iload_n 1, 1) := dk_27 (dk_at dksX2_layRound_4 16 rfl rfl)
theorem dX2_layRound_111 : decode cX2_layRound 111 = .ok (.iload 4, 2) := dk_21 4 (dk_at dksX2_layRound_4 17 rfl rfl)
theorem dX2_layRound_113 : decode cX2_layRound 113 = .ok (.invokestatic 114, 3) := dk_184 0 114 (dk_at dksX2_layRound_4 19 rfl rfl)
theorem dX2_layRound_116 : decode cX2_layRound 116 = .ok (.invokevirtual 215, 3) := dk_182 0 215 (dk_at dksX2_layRound_5 0 rfl rfl)
theorem dX2_layRound_119 : decode cX2_layRound 119 = .ok (.ladd, 1) := dk_97 (dk_at dksX2_layRound_5 3 rfl rfl)
theorem dX2_layRound_120 : decode cX2_layRound 120 = .ok (.lastore, 1) := dk_80 (dk_at dksX2_layRound_5 4 rfl rfl)
theorem dX2_layRound_121 : decode cX2_layRound 121 = .ok (.iinc 4 1, 3) := dk_132 4 1 (dk_at dksX2_layRound_5 5 rfl rfl)
theorem dX2_layRound_124 : decode cX2_layRound 124 = .ok (.goto (-36), 3) := dk_167 255 220 (dk_at dksX2_layRound_5 8 rfl rfl)
theorem dX2_layRound_127 : decode cX2_layRound 127 = .ok (.iconst 0, 1) := dk_3 (dk_at dksX2_layRound_5 11 rfl rfl)
theorem dX2_layRound_128 : decode cX2_layRound 128 = .ok (.istore 4, 2) := dk_54 4 (dk_at dksX2_layRound_5 12 rfl rfl)
theorem dX2_layRound_130 : decode cX2_layRound 130 = .ok (.iload 4, 2) := dk_21 4 (dk_at dksX2_layRound_5 14 rfl rfl)
theorem dX2_layRound_132 : decode cX2_layRound 132 = .ok (.iconst 4, 1) := dk_7 (dk_at dksX2_layRound_5 16 rfl rfl)
theorem dX2_layRound_133 : decode cX2_layRound 133 = .ok (.if_icmp .ge 27, 3) := dk_162 0 27 (dk_at dksX2_layRound_5 17 rfl rfl)
theorem dX2_layRound_136 : decode cX2_layRound 136 = .ok (.aload_n 0, 1) := dk_42 (dk_at dksX2_layRound_5 20 rfl rfl)
theorem dX2_layRound_137 : decode cX2_layRound 137 = .ok (.getfield 32, 3) := dk_180 0 32 (dk_at dksX2_layRound_5 21 rfl rfl)
theorem dX2_layRound_140 : decode cX2_layRound 140 = .ok (.iconst 4, 1) := dk_7 (dk_at dksX2_layRound_6 0 rfl rfl)
theorem dX2_layRound_141 : decode cX2_layRound 141 = .ok (.iload_n 3, 1) := dk_29 (dk_at dksX2_layRound_6 1 rfl rfl)
theorem dX2_layRound_142 : decode cX2_layRound 142 = .ok (.imul, 1) := dk_104 (dk_at dksX2_layRound_6 2 rfl rfl)
theorem dX2_layRound_143 : decode cX2_layRound 143 = .ok (.iload 4, 2) := dk_21 4 (dk_at dksX2_layRound_6 3 rfl rfl)
theorem dX2_layRound_145 : decode cX2_layRound 145 = .ok (.iadd, 1) := dk_96 (dk_at dksX2_layRound_6 5 rfl rfl)
theorem dX2_layRound_146 : decode cX2_layRound 146 = .ok (.aload_n 0, 1) := dk_42 (dk_at dksX2_layRound_6 6 rfl rfl)
theorem dX2_layRound_147 : decode cX2_layRound 147 = .ok (.getfield 38, 3) := dk_180 0 38 (dk_at dksX2_layRound_6 7 rfl rfl)
theorem dX2_layRound_150 : decode cX2_layRound 150 = .ok (.iload 4, 2) := dk_21 4 (dk_at dksX2_layRound_6 10 rfl rfl)
theorem dX2_layRound_152 : decode cX2_layRound 152 = .ok (.laload, 1) := dk_47 (dk_at dksX2_layRound_6 12 rfl rfl)
theorem dX2_layRound_153 : decode cX2_layRound 153 = .ok (.lastore, 1) := dk_80 (dk_at dksX2_layRound_6 13 rfl rfl)
theorem dX2_layRound_154 : decode cX2_layRound 154 = .ok (.iinc 4 1, 3) := dk_132 4 1 (dk_at dksX2_layRound_6 14 rfl rfl)
theorem dX2_layRound_157 : decode cX2_layRound 157 = .ok (.goto (-27), 3) := dk_167 255 229 (dk_at dksX2_layRound_6 17 rfl rfl)
theorem dX2_layRound_160 : decode cX2_layRound 160 = .ok (.iinc 3 1, 3) := dk_132 3 1 (dk_at dksX2_layRound_6 20 rfl rfl)
theorem dX2_layRound_163 : decode cX2_layRound 163 = .ok (.goto (-126), 3) := dk_167 255 130 (dk_at dksX2_layRound_7 0 rfl rfl)
theorem dX2_layRound_166 : decode cX2_layRound 166 = .ok (.return_, 1) := dk_177 (dk_at dksX2_layRound_7 3 rfl rfl)
abbrev cX2_pass : ByteArray := prog_10_method_49_code
def yX2_pass : MethodName := ⟨RX2, "pass", "(I)J"⟩
def dkwX2_pass_7 : List UInt8 := [42, 180, 0, 38, 21, 4, 42, 180, 0, 41, 21, 4, 47, 80, 132, 4, 1, 167, 255, 233, 32, 173]
abbrev dktX2_pass_7 : List UInt8 := dkwX2_pass_7 ++ []
def dkwX2_pass_6 : List UInt8 := [21, 4, 47, 21, 6, 133, 105, 97, 80, 132, 4, 1, 167, 255, 130, 3, 54, 4, 21, 4, 7, 162, 0, 23]
abbrev dktX2_pass_6 : List UInt8 := dkwX2_pass_6 ++ dktX2_pass_7
def dkwX2_pass_5 : List UInt8 := [21, 6, 100, 133, 105, 97, 80, 42, 180, 0, 41, 42, 21, 4, 4, 182, 0, 117, 92, 47, 42, 180, 0, 38]
abbrev dktX2_pass_5 : List UInt8 := dkwX2_pass_5 ++ dktX2_pass_6
def dkwX2_pass_4 : List UInt8 := [133, 105, 97, 80, 42, 180, 0, 41, 21, 4, 92, 47, 42, 180, 0, 38, 21, 4, 47, 16, 10, 21, 5, 100]
abbrev dktX2_pass_4 : List UInt8 := dkwX2_pass_4 ++ dktX2_pass_5
def dkwX2_pass_3 : List UInt8 := [97, 65, 42, 180, 0, 41, 42, 21, 4, 2, 182, 0, 117, 92, 47, 42, 180, 0, 38, 21, 4, 47, 21, 5]
abbrev dktX2_pass_3 : List UInt8 := dkwX2_pass_3 ++ dktX2_pass_4
def dkwX2_pass_2 : List UInt8 := [42, 27, 21, 4, 182, 0, 187, 54, 6, 32, 42, 180, 0, 38, 21, 4, 47, 21, 6, 21, 5, 100, 133, 105]
abbrev dktX2_pass_2 : List UInt8 := dkwX2_pass_2 ++ dktX2_pass_3
def dkwX2_pass_1 : List UInt8 := [167, 255, 239, 3, 54, 4, 21, 4, 42, 180, 0, 55, 162, 0, 123, 42, 27, 21, 4, 182, 0, 184, 54, 5]
abbrev dktX2_pass_1 : List UInt8 := dkwX2_pass_1 ++ dktX2_pass_2
def dkwX2_pass_0 : List UInt8 := [9, 65, 3, 54, 4, 21, 4, 7, 162, 0, 17, 42, 180, 0, 41, 21, 4, 9, 80, 132, 4, 1]
abbrev dktX2_pass_0 : List UInt8 := dkwX2_pass_0 ++ dktX2_pass_1
theorem dksX2_pass_0 : cX2_pass.data.toList.drop 0 = dktX2_pass_0 := by decide +kernel
theorem dksX2_pass_1 : cX2_pass.data.toList.drop 22 = dktX2_pass_1 := dk_seg dksX2_pass_0 22 rfl rfl
theorem dksX2_pass_2 : cX2_pass.data.toList.drop 46 = dktX2_pass_2 := dk_seg dksX2_pass_1 24 rfl rfl
theorem dksX2_pass_3 : cX2_pass.data.toList.drop 70 = dktX2_pass_3 := dk_seg dksX2_pass_2 24 rfl rfl
theorem dksX2_pass_4 : cX2_pass.data.toList.drop 94 = dktX2_pass_4 := dk_seg dksX2_pass_3 24 rfl rfl
theorem dksX2_pass_5 : cX2_pass.data.toList.drop 118 = dktX2_pass_5 := dk_seg dksX2_pass_4 24 rfl rfl
theorem dksX2_pass_6 : cX2_pass.data.toList.drop 142 = dktX2_pass_6 := dk_seg dksX2_pass_5 24 rfl rfl
theorem dksX2_pass_7 : cX2_pass.data.toList.drop 166 = dktX2_pass_7 := dk_seg dksX2_pass_6 24 rfl rfl
theorem dX2_pass_0 : decode cX2_pass 0 = .ok (.lconst 0, 1) := dk_9 (dk_at dksX2_pass_0 0 rfl rfl)
theorem dX2_pass_1 : decode cX2_pass 1 = .ok (.lstore_n 2, 1) := dk_65 (dk_at dksX2_pass_0 1 rfl rfl)
theorem dX2_pass_2 : decode cX2_pass 2 = .ok (.iconst 0, 1) := dk_3 (dk_at dksX2_pass_0 2 rfl rfl)
theorem dX2_pass_3 : decode cX2_pass 3 = .ok (.istore 4, 2) := dk_54 4 (dk_at dksX2_pass_0 3 rfl rfl)
theorem dX2_pass_5 : decode cX2_pass 5 = .ok (.iload 4, 2) := dk_21 4 (dk_at dksX2_pass_0 5 rfl rfl)
theorem dX2_pass_7 : decode cX2_pass 7 = .ok (.iconst 4, 1) := dk_7 (dk_at dksX2_pass_0 7 rfl rfl)
theorem dX2_pass_8 : decode cX2_pass 8 = .ok (.if_icmp .ge 17, 3) := dk_162 0 17 (dk_at dksX2_pass_0 8 rfl rfl)
theorem dX2_pass_11 : decode cX2_pass 11 = .ok (.aload_n 0, 1) := dk_42 (dk_at dksX2_pass_0 11 rfl rfl)
theorem dX2_pass_12 : decode cX2_pass 12 = .ok (.getfield 41, 3) := dk_180 0 41 (dk_at dksX2_pass_0 12 rfl rfl)
theorem dX2_pass_15 : decode cX2_pass 15 = .ok (.iload 4, 2) := dk_21 4 (dk_at dksX2_pass_0 15 rfl rfl)
theorem dX2_pass_17 : decode cX2_pass 17 = .ok (.lconst 0, 1) := dk_9 (dk_at dksX2_pass_0 17 rfl rfl)
theorem dX2_pass_18 : decode cX2_pass 18 = .ok (.lastore, 1) := dk_80 (dk_at dksX2_pass_0 18 rfl rfl)
theorem dX2_pass_19 : decode cX2_pass 19 = .ok (.iinc 4 1, 3) := dk_132 4 1 (dk_at dksX2_pass_0 19 rfl rfl)
theorem dX2_pass_22 : decode cX2_pass 22 = .ok (.goto (-17), 3) := dk_167 255 239 (dk_at dksX2_pass_1 0 rfl rfl)
theorem dX2_pass_25 : decode cX2_pass 25 = .ok (.iconst 0, 1) := dk_3 (dk_at dksX2_pass_1 3 rfl rfl)
theorem dX2_pass_26 : decode cX2_pass 26 = .ok (.istore 4, 2) := dk_54 4 (dk_at dksX2_pass_1 4 rfl rfl)
theorem dX2_pass_28 : decode cX2_pass 28 = .ok (.iload 4, 2) := dk_21 4 (dk_at dksX2_pass_1 6 rfl rfl)
theorem dX2_pass_30 : decode cX2_pass 30 = .ok (.aload_n 0, 1) := dk_42 (dk_at dksX2_pass_1 8 rfl rfl)
theorem dX2_pass_31 : decode cX2_pass 31 = .ok (.getfield 55, 3) := dk_180 0 55 (dk_at dksX2_pass_1 9 rfl rfl)
theorem dX2_pass_34 : decode cX2_pass 34 = .ok (.if_icmp .ge 123, 3) := dk_162 0 123 (dk_at dksX2_pass_1 12 rfl rfl)
theorem dX2_pass_37 : decode cX2_pass 37 = .ok (.aload_n 0, 1) := dk_42 (dk_at dksX2_pass_1 15 rfl rfl)
theorem dX2_pass_38 : decode cX2_pass 38 = .ok (.iload_n 1, 1) := dk_27 (dk_at dksX2_pass_1 16 rfl rfl)
theorem dX2_pass_39 : decode cX2_pass 39 = .ok (.iload 4, 2) := dk_21 4 (dk_at dksX2_pass_1 17 rfl rfl)
theorem dX2_pass_41 : decode cX2_pass 41 = .ok (.invokevirtual 184, 3) := dk_182 0 184 (dk_at dksX2_pass_1 19 rfl rfl)
theorem dX2_pass_44 : decode cX2_pass 44 = .ok (.istore 5, 2) := dk_54 5 (dk_at dksX2_pass_1 22 rfl rfl)
theorem dX2_pass_46 : decode cX2_pass 46 = .ok (.aload_n 0, 1) := dk_42 (dk_at dksX2_pass_2 0 rfl rfl)
theorem dX2_pass_47 : decode cX2_pass 47 = .ok (.iload_n 1, 1) := dk_27 (dk_at dksX2_pass_2 1 rfl rfl)
theorem dX2_pass_48 : decode cX2_pass 48 = .ok (.iload 4, 2) := dk_21 4 (dk_at dksX2_pass_2 2 rfl rfl)
theorem dX2_pass_50 : decode cX2_pass 50 = .ok (.invokevirtual 187, 3) := dk_182 0 187 (dk_at dksX2_pass_2 4 rfl rfl)
theorem dX2_pass_53 : decode cX2_pass 53 = .ok (.istore 6, 2) := dk_54 6 (dk_at dksX2_pass_2 7 rfl rfl)
theorem dX2_pass_55 : decode cX2_pass 55 = .ok (.lload_n 2, 1) := dk_32 (dk_at dksX2_pass_2 9 rfl rfl)
theorem dX2_pass_56 : decode cX2_pass 56 = .ok (.aload_n 0, 1) := dk_42 (dk_at dksX2_pass_2 10 rfl rfl)
theorem dX2_pass_57 : decode cX2_pass 57 = .ok (.getfield 38, 3) := dk_180 0 38 (dk_at dksX2_pass_2 11 rfl rfl)
theorem dX2_pass_60 : decode cX2_pass 60 = .ok (.iload 4, 2) := dk_21 4 (dk_at dksX2_pass_2 14 rfl rfl)
theorem dX2_pass_62 : decode cX2_pass 62 = .ok (.laload, 1) := dk_47 (dk_at dksX2_pass_2 16 rfl rfl)
theorem dX2_pass_63 : decode cX2_pass 63 = .ok (.iload 6, 2) := dk_21 6 (dk_at dksX2_pass_2 17 rfl rfl)
theorem dX2_pass_65 : decode cX2_pass 65 = .ok (.iload 5, 2) := dk_21 5 (dk_at dksX2_pass_2 19 rfl rfl)
theorem dX2_pass_67 : decode cX2_pass 67 = .ok (.isub, 1) := dk_100 (dk_at dksX2_pass_2 21 rfl rfl)
theorem dX2_pass_68 : decode cX2_pass 68 = .ok (.i2l, 1) := dk_133 (dk_at dksX2_pass_2 22 rfl rfl)
theorem dX2_pass_69 : decode cX2_pass 69 = .ok (.lmul, 1) := dk_105 (dk_at dksX2_pass_2 23 rfl rfl)
theorem dX2_pass_70 : decode cX2_pass 70 = .ok (.ladd, 1) := dk_97 (dk_at dksX2_pass_3 0 rfl rfl)
theorem dX2_pass_71 : decode cX2_pass 71 = .ok (.lstore_n 2, 1) := dk_65 (dk_at dksX2_pass_3 1 rfl rfl)
theorem dX2_pass_72 : decode cX2_pass 72 = .ok (.aload_n 0, 1) := dk_42 (dk_at dksX2_pass_3 2 rfl rfl)
theorem dX2_pass_73 : decode cX2_pass 73 = .ok (.getfield 41, 3) := dk_180 0 41 (dk_at dksX2_pass_3 3 rfl rfl)
theorem dX2_pass_76 : decode cX2_pass 76 = .ok (.aload_n 0, 1) := dk_42 (dk_at dksX2_pass_3 6 rfl rfl)
theorem dX2_pass_77 : decode cX2_pass 77 = .ok (.iload 4, 2) := dk_21 4 (dk_at dksX2_pass_3 7 rfl rfl)
theorem dX2_pass_79 : decode cX2_pass 79 = .ok (.iconst (-1), 1) := dk_2 (dk_at dksX2_pass_3 9 rfl rfl)
theorem dX2_pass_80 : decode cX2_pass 80 = .ok (.invokevirtual 117, 3) := dk_182 0 117 (dk_at dksX2_pass_3 10 rfl rfl)
theorem dX2_pass_83 : decode cX2_pass 83 = .ok (.dup2, 1) := dk_92 (dk_at dksX2_pass_3 13 rfl rfl)
theorem dX2_pass_84 : decode cX2_pass 84 = .ok (.laload, 1) := dk_47 (dk_at dksX2_pass_3 14 rfl rfl)
theorem dX2_pass_85 : decode cX2_pass 85 = .ok (.aload_n 0, 1) := dk_42 (dk_at dksX2_pass_3 15 rfl rfl)
theorem dX2_pass_86 : decode cX2_pass 86 = .ok (.getfield 38, 3) := dk_180 0 38 (dk_at dksX2_pass_3 16 rfl rfl)
theorem dX2_pass_89 : decode cX2_pass 89 = .ok (.iload 4, 2) := dk_21 4 (dk_at dksX2_pass_3 19 rfl rfl)
theorem dX2_pass_91 : decode cX2_pass 91 = .ok (.laload, 1) := dk_47 (dk_at dksX2_pass_3 21 rfl rfl)
theorem dX2_pass_92 : decode cX2_pass 92 = .ok (.iload 5, 2) := dk_21 5 (dk_at dksX2_pass_3 22 rfl rfl)
theorem dX2_pass_94 : decode cX2_pass 94 = .ok (.i2l, 1) := dk_133 (dk_at dksX2_pass_4 0 rfl rfl)
theorem dX2_pass_95 : decode cX2_pass 95 = .ok (.lmul, 1) := dk_105 (dk_at dksX2_pass_4 1 rfl rfl)
theorem dX2_pass_96 : decode cX2_pass 96 = .ok (.ladd, 1) := dk_97 (dk_at dksX2_pass_4 2 rfl rfl)
theorem dX2_pass_97 : decode cX2_pass 97 = .ok (.lastore, 1) := dk_80 (dk_at dksX2_pass_4 3 rfl rfl)
theorem dX2_pass_98 : decode cX2_pass 98 = .ok (.aload_n 0, 1) := dk_42 (dk_at dksX2_pass_4 4 rfl rfl)
theorem dX2_pass_99 : decode cX2_pass 99 = .ok (.getfield 41, 3) := dk_180 0 41 (dk_at dksX2_pass_4 5 rfl rfl)
theorem dX2_pass_102 : decode cX2_pass 102 = .ok (.iload 4, 2) := dk_21 4 (dk_at dksX2_pass_4 8 rfl rfl)
theorem dX2_pass_104 : decode cX2_pass 104 = .ok (.dup2, 1) := dk_92 (dk_at dksX2_pass_4 10 rfl rfl)
theorem dX2_pass_105 : decode cX2_pass 105 = .ok (.laload, 1) := dk_47 (dk_at dksX2_pass_4 11 rfl rfl)
theorem dX2_pass_106 : decode cX2_pass 106 = .ok (.aload_n 0, 1) := dk_42 (dk_at dksX2_pass_4 12 rfl rfl)
theorem dX2_pass_107 : decode cX2_pass 107 = .ok (.getfield 38, 3) := dk_180 0 38 (dk_at dksX2_pass_4 13 rfl rfl)
theorem dX2_pass_110 : decode cX2_pass 110 = .ok (.iload 4, 2) := dk_21 4 (dk_at dksX2_pass_4 16 rfl rfl)
theorem dX2_pass_112 : decode cX2_pass 112 = .ok (.laload, 1) := dk_47 (dk_at dksX2_pass_4 18 rfl rfl)
theorem dX2_pass_113 : decode cX2_pass 113 = .ok (.bipush 10, 2) := dk_16 10 (dk_at dksX2_pass_4 19 rfl rfl)
theorem dX2_pass_115 : decode cX2_pass 115 = .ok (.iload 5, 2) := dk_21 5 (dk_at dksX2_pass_4 21 rfl rfl)
theorem dX2_pass_117 : decode cX2_pass 117 = .ok (.isub, 1) := dk_100 (dk_at dksX2_pass_4 23 rfl rfl)
theorem dX2_pass_118 : decode cX2_pass 118 = .ok (.iload 6, 2) := dk_21 6 (dk_at dksX2_pass_5 0 rfl rfl)
theorem dX2_pass_120 : decode cX2_pass 120 = .ok (.isub, 1) := dk_100 (dk_at dksX2_pass_5 2 rfl rfl)
theorem dX2_pass_121 : decode cX2_pass 121 = .ok (.i2l, 1) := dk_133 (dk_at dksX2_pass_5 3 rfl rfl)
theorem dX2_pass_122 : decode cX2_pass 122 = .ok (.lmul, 1) := dk_105 (dk_at dksX2_pass_5 4 rfl rfl)
theorem dX2_pass_123 : decode cX2_pass 123 = .ok (.ladd, 1) := dk_97 (dk_at dksX2_pass_5 5 rfl rfl)
theorem dX2_pass_124 : decode cX2_pass 124 = .ok (.lastore, 1) := dk_80 (dk_at dksX2_pass_5 6 rfl rfl)
theorem dX2_pass_125 : decode cX2_pass 125 = .ok (.aload_n 0, 1) := dk_42 (dk_at dksX2_pass_5 7 rfl rfl)
theorem dX2_pass_126 : decode cX2_pass 126 = .ok (.getfield 41, 3) := dk_180 0 41 (dk_at dksX2_pass_5 8 rfl rfl)
theorem dX2_pass_129 : decode cX2_pass 129 = .ok (.aload_n 0, 1) := dk_42 (dk_at dksX2_pass_5 11 rfl rfl)
theorem dX2_pass_130 : decode cX2_pass 130 = .ok (.iload 4, 2) := dk_21 4 (dk_at dksX2_pass_5 12 rfl rfl)
theorem dX2_pass_132 : decode cX2_pass 132 = .ok (.iconst 1, 1) := dk_4 (dk_at dksX2_pass_5 14 rfl rfl)
theorem dX2_pass_133 : decode cX2_pass 133 = .ok (.invokevirtual 117, 3) := dk_182 0 117 (dk_at dksX2_pass_5 15 rfl rfl)
theorem dX2_pass_136 : decode cX2_pass 136 = .ok (.dup2, 1) := dk_92 (dk_at dksX2_pass_5 18 rfl rfl)
theorem dX2_pass_137 : decode cX2_pass 137 = .ok (.laload, 1) := dk_47 (dk_at dksX2_pass_5 19 rfl rfl)
theorem dX2_pass_138 : decode cX2_pass 138 = .ok (.aload_n 0, 1) := dk_42 (dk_at dksX2_pass_5 20 rfl rfl)
theorem dX2_pass_139 : decode cX2_pass 139 = .ok (.getfield 38, 3) := dk_180 0 38 (dk_at dksX2_pass_5 21 rfl rfl)
theorem dX2_pass_142 : decode cX2_pass 142 = .ok (.iload 4, 2) := dk_21 4 (dk_at dksX2_pass_6 0 rfl rfl)
theorem dX2_pass_144 : decode cX2_pass 144 = .ok (.laload, 1) := dk_47 (dk_at dksX2_pass_6 2 rfl rfl)
theorem dX2_pass_145 : decode cX2_pass 145 = .ok (.iload 6, 2) := dk_21 6 (dk_at dksX2_pass_6 3 rfl rfl)
theorem dX2_pass_147 : decode cX2_pass 147 = .ok (.i2l, 1) := dk_133 (dk_at dksX2_pass_6 5 rfl rfl)
theorem dX2_pass_148 : decode cX2_pass 148 = .ok (.lmul, 1) := dk_105 (dk_at dksX2_pass_6 6 rfl rfl)
theorem dX2_pass_149 : decode cX2_pass 149 = .ok (.ladd, 1) := dk_97 (dk_at dksX2_pass_6 7 rfl rfl)
theorem dX2_pass_150 : decode cX2_pass 150 = .ok (.lastore, 1) := dk_80 (dk_at dksX2_pass_6 8 rfl rfl)
theorem dX2_pass_151 : decode cX2_pass 151 = .ok (.iinc 4 1, 3) := dk_132 4 1 (dk_at dksX2_pass_6 9 rfl rfl)
theorem dX2_pass_154 : decode cX2_pass 154 = .ok (.goto (-126), 3) := dk_167 255 130 (dk_at dksX2_pass_6 12 rfl rfl)
theorem dX2_pass_157 : decode cX2_pass 157 = .ok (.iconst 0, 1) := dk_3 (dk_at dksX2_pass_6 15 rfl rfl)
theorem dX2_pass_158 : decode cX2_pass 158 = .ok (.istore 4, 2) := dk_54 4 (dk_at dksX2_pass_6 16 rfl rfl)
theorem dX2_pass_160 : decode cX2_pass 160 = .ok (.iload 4, 2) := dk_21 4 (dk_at dksX2_pass_6 18 rfl rfl)
theorem dX2_pass_162 : decode cX2_pass 162 = .ok (.iconst 4, 1) := dk_7 (dk_at dksX2_pass_6 20 rfl rfl)
theorem dX2_pass_163 : decode cX2_pass 163 = .ok (.if_icmp .ge 23, 3) := dk_162 0 23 (dk_at dksX2_pass_6 21 rfl rfl)
theorem dX2_pass_166 : decode cX2_pass 166 = .ok (.aload_n 0, 1) := dk_42 (dk_at dksX2_pass_7 0 rfl rfl)
theorem dX2_pass_167 : decode cX2_pass 167 = .ok (.getfield 38, 3) := dk_180 0 38 (dk_at dksX2_pass_7 1 rfl rfl)
theorem dX2_pass_170 : decode cX2_pass 170 = .ok (.iload 4, 2) := dk_21 4 (dk_at dksX2_pass_7 4 rfl rfl)
theorem dX2_pass_172 : decode cX2_pass 172 = .ok (.aload_n 0, 1) := dk_42 (dk_at dksX2_pass_7 6 rfl rfl)
theorem dX2_pass_173 : decode cX2_pass 173 = .ok (.getfield 41, 3) := dk_180 0 41 (dk_at dksX2_pass_7 7 rfl rfl)
theorem dX2_pass_176 : decode cX2_pass 176 = .ok (.iload 4, 2) := dk_21 4 (dk_at dksX2_pass_7 10 rfl rfl)
theorem dX2_pass_178 : decode cX2_pass 178 = .ok (.laload, 1) := dk_47 (dk_at dksX2_pass_7 12 rfl rfl)
theorem dX2_pass_179 : decode cX2_pass 179 = .ok (.lastore, 1) := dk_80 (dk_at dksX2_pass_7 13 rfl rfl)
theorem dX2_pass_180 : decode cX2_pass 180 = .ok (.iinc 4 1, 3) := dk_132 4 1 (dk_at dksX2_pass_7 14 rfl rfl)
theorem dX2_pass_183 : decode cX2_pass 183 = .ok (.goto (-23), 3) := dk_167 255 233 (dk_at dksX2_pass_7 17 rfl rfl)
theorem dX2_pass_186 : decode cX2_pass 186 = .ok (.lload_n 2, 1) := dk_32 (dk_at dksX2_pass_7 20 rfl rfl)
theorem dX2_pass_187 : decode cX2_pass 187 = .ok (.lreturn, 1) := dk_173 (dk_at dksX2_pass_7 21 rfl rfl)
abbrev cX2_layClasses : ByteArray := prog_10_method_51_code
def yX2_layClasses : MethodName := ⟨RX2, "layClasses", "()V"⟩
def dkwX2_layClasses_4 : List UInt8 := [181, 0, 219, 132, 1, 1, 167, 255, 162, 177]
abbrev dktX2_layClasses_4 : List UInt8 := dkwX2_layClasses_4 ++ []
def dkwX2_layClasses_3 : List UInt8 := [180, 0, 219, 29, 153, 0, 17, 28, 4, 27, 120, 4, 100, 126, 154, 0, 7, 4, 167, 0, 4, 3, 96]
abbrev dktX2_layClasses_3 : List UInt8 := dkwX2_layClasses_3 ++ dktX2_layClasses_4
def dkwX2_layClasses_2 : List UInt8 := [42, 21, 4, 182, 0, 222, 28, 160, 0, 7, 4, 167, 0, 4, 3, 62, 132, 4, 1, 167, 255, 215, 42, 89]
abbrev dktX2_layClasses_2 : List UInt8 := dkwX2_layClasses_2 ++ dktX2_layClasses_3
def dkwX2_layClasses_1 : List UInt8 := [54, 4, 21, 4, 42, 180, 0, 55, 162, 0, 38, 29, 153, 0, 26, 28, 21, 4, 122, 4, 126, 153, 0, 13]
abbrev dktX2_layClasses_1 : List UInt8 := dkwX2_layClasses_1 ++ dktX2_layClasses_2
def dkwX2_layClasses_0 : List UInt8 := [42, 3, 181, 0, 219, 3, 60, 27, 42, 180, 0, 55, 162, 0, 92, 42, 27, 182, 0, 222, 61, 4, 62, 3]
abbrev dktX2_layClasses_0 : List UInt8 := dkwX2_layClasses_0 ++ dktX2_layClasses_1
theorem dksX2_layClasses_0 : cX2_layClasses.data.toList.drop 0 = dktX2_layClasses_0 := by decide +kernel
theorem dksX2_layClasses_1 : cX2_layClasses.data.toList.drop 24 = dktX2_layClasses_1 := dk_seg dksX2_layClasses_0 24 rfl rfl
theorem dksX2_layClasses_2 : cX2_layClasses.data.toList.drop 48 = dktX2_layClasses_2 := dk_seg dksX2_layClasses_1 24 rfl rfl
theorem dksX2_layClasses_3 : cX2_layClasses.data.toList.drop 72 = dktX2_layClasses_3 := dk_seg dksX2_layClasses_2 24 rfl rfl
theorem dksX2_layClasses_4 : cX2_layClasses.data.toList.drop 95 = dktX2_layClasses_4 := dk_seg dksX2_layClasses_3 23 rfl rfl
theorem dX2_layClasses_0 : decode cX2_layClasses 0 = .ok (.aload_n 0, 1) := dk_42 (dk_at dksX2_layClasses_0 0 rfl rfl)
theorem dX2_layClasses_1 : decode cX2_layClasses 1 = .ok (.iconst 0, 1) := dk_3 (dk_at dksX2_layClasses_0 1 rfl rfl)
theorem dX2_layClasses_2 : decode cX2_layClasses 2 = .ok (.putfield 219, 3) := dk_181 0 219 (dk_at dksX2_layClasses_0 2 rfl rfl)
theorem dX2_layClasses_5 : decode cX2_layClasses 5 = .ok (.iconst 0, 1) := dk_3 (dk_at dksX2_layClasses_0 5 rfl rfl)
theorem dX2_layClasses_6 : decode cX2_layClasses 6 = .ok (.istore_n 1, 1) := dk_60 (dk_at dksX2_layClasses_0 6 rfl rfl)
theorem dX2_layClasses_7 : decode cX2_layClasses 7 = .ok (.iload_n 1, 1) := dk_27 (dk_at dksX2_layClasses_0 7 rfl rfl)
theorem dX2_layClasses_8 : decode cX2_layClasses 8 = .ok (.aload_n 0, 1) := dk_42 (dk_at dksX2_layClasses_0 8 rfl rfl)
theorem dX2_layClasses_9 : decode cX2_layClasses 9 = .ok (.getfield 55, 3) := dk_180 0 55 (dk_at dksX2_layClasses_0 9 rfl rfl)
theorem dX2_layClasses_12 : decode cX2_layClasses 12 = .ok (.if_icmp .ge 92, 3) := dk_162 0 92 (dk_at dksX2_layClasses_0 12 rfl rfl)
theorem dX2_layClasses_15 : decode cX2_layClasses 15 = .ok (.aload_n 0, 1) := dk_42 (dk_at dksX2_layClasses_0 15 rfl rfl)
theorem dX2_layClasses_16 : decode cX2_layClasses 16 = .ok (.iload_n 1, 1) := dk_27 (dk_at dksX2_layClasses_0 16 rfl rfl)
theorem dX2_layClasses_17 : decode cX2_layClasses 17 = .ok (.invokevirtual 222, 3) := dk_182 0 222 (dk_at dksX2_layClasses_0 17 rfl rfl)
theorem dX2_layClasses_20 : decode cX2_layClasses 20 = .ok (.istore_n 2, 1) := dk_61 (dk_at dksX2_layClasses_0 20 rfl rfl)
theorem dX2_layClasses_21 : decode cX2_layClasses 21 = .ok (.iconst 1, 1) := dk_4 (dk_at dksX2_layClasses_0 21 rfl rfl)
theorem dX2_layClasses_22 : decode cX2_layClasses 22 = .ok (.istore_n 3, 1) := dk_62 (dk_at dksX2_layClasses_0 22 rfl rfl)
theorem dX2_layClasses_23 : decode cX2_layClasses 23 = .ok (.iconst 0, 1) := dk_3 (dk_at dksX2_layClasses_0 23 rfl rfl)
theorem dX2_layClasses_24 : decode cX2_layClasses 24 = .ok (.istore 4, 2) := dk_54 4 (dk_at dksX2_layClasses_1 0 rfl rfl)
theorem dX2_layClasses_26 : decode cX2_layClasses 26 = .ok (.iload 4, 2) := dk_21 4 (dk_at dksX2_layClasses_1 2 rfl rfl)
theorem dX2_layClasses_28 : decode cX2_layClasses 28 = .ok (.aload_n 0, 1) := dk_42 (dk_at dksX2_layClasses_1 4 rfl rfl)
theorem dX2_layClasses_29 : decode cX2_layClasses 29 = .ok (.getfield 55, 3) := dk_180 0 55 (dk_at dksX2_layClasses_1 5 rfl rfl)
theorem dX2_layClasses_32 : decode cX2_layClasses 32 = .ok (.if_icmp .ge 38, 3) := dk_162 0 38 (dk_at dksX2_layClasses_1 8 rfl rfl)
theorem dX2_layClasses_35 : decode cX2_layClasses 35 = .ok (.iload_n 3, 1) := dk_29 (dk_at dksX2_layClasses_1 11 rfl rfl)
theorem dX2_layClasses_36 : decode cX2_layClasses 36 = .ok (.ifCond .eq 26, 3) := dk_153 0 26 (dk_at dksX2_layClasses_1 12 rfl rfl)
theorem dX2_layClasses_39 : decode cX2_layClasses 39 = .ok (.iload_n 2, 1) := dk_28 (dk_at dksX2_layClasses_1 15 rfl rfl)
theorem dX2_layClasses_40 : decode cX2_layClasses 40 = .ok (.iload 4, 2) := dk_21 4 (dk_at dksX2_layClasses_1 16 rfl rfl)
theorem dX2_layClasses_42 : decode cX2_layClasses 42 = .ok (.ishr, 1) := dk_122 (dk_at dksX2_layClasses_1 18 rfl rfl)
theorem dX2_layClasses_43 : decode cX2_layClasses 43 = .ok (.iconst 1, 1) := dk_4 (dk_at dksX2_layClasses_1 19 rfl rfl)
theorem dX2_layClasses_44 : decode cX2_layClasses 44 = .ok (.iand, 1) := dk_126 (dk_at dksX2_layClasses_1 20 rfl rfl)
theorem dX2_layClasses_45 : decode cX2_layClasses 45 = .ok (.ifCond .eq 13, 3) := dk_153 0 13 (dk_at dksX2_layClasses_1 21 rfl rfl)
theorem dX2_layClasses_48 : decode cX2_layClasses 48 = .ok (.aload_n 0, 1) := dk_42 (dk_at dksX2_layClasses_2 0 rfl rfl)
theorem dX2_layClasses_49 : decode cX2_layClasses 49 = .ok (.iload 4, 2) := dk_21 4 (dk_at dksX2_layClasses_2 1 rfl rfl)
theorem dX2_layClasses_51 : decode cX2_layClasses 51 = .ok (.invokevirtual 222, 3) := dk_182 0 222 (dk_at dksX2_layClasses_2 3 rfl rfl)
theorem dX2_layClasses_54 : decode cX2_layClasses 54 = .ok (.iload_n 2, 1) := dk_28 (dk_at dksX2_layClasses_2 6 rfl rfl)
theorem dX2_layClasses_55 : decode cX2_layClasses 55 = .ok (.if_icmp .ne 7, 3) := dk_160 0 7 (dk_at dksX2_layClasses_2 7 rfl rfl)
theorem dX2_layClasses_58 : decode cX2_layClasses 58 = .ok (.iconst 1, 1) := dk_4 (dk_at dksX2_layClasses_2 10 rfl rfl)
theorem dX2_layClasses_59 : decode cX2_layClasses 59 = .ok (.goto 4, 3) := dk_167 0 4 (dk_at dksX2_layClasses_2 11 rfl rfl)
theorem dX2_layClasses_62 : decode cX2_layClasses 62 = .ok (.iconst 0, 1) := dk_3 (dk_at dksX2_layClasses_2 14 rfl rfl)
theorem dX2_layClasses_63 : decode cX2_layClasses 63 = .ok (.istore_n 3, 1) := dk_62 (dk_at dksX2_layClasses_2 15 rfl rfl)
theorem dX2_layClasses_64 : decode cX2_layClasses 64 = .ok (.iinc 4 1, 3) := dk_132 4 1 (dk_at dksX2_layClasses_2 16 rfl rfl)
theorem dX2_layClasses_67 : decode cX2_layClasses 67 = .ok (.goto (-41), 3) := dk_167 255 215 (dk_at dksX2_layClasses_2 19 rfl rfl)
theorem dX2_layClasses_70 : decode cX2_layClasses 70 = .ok (.aload_n 0, 1) := dk_42 (dk_at dksX2_layClasses_2 22 rfl rfl)
theorem dX2_layClasses_71 : decode cX2_layClasses 71 = .ok (.dup, 1) := dk_89 (dk_at dksX2_layClasses_2 23 rfl rfl)
theorem dX2_layClasses_72 : decode cX2_layClasses 72 = .ok (.getfield 219, 3) := dk_180 0 219 (dk_at dksX2_layClasses_3 0 rfl rfl)
theorem dX2_layClasses_75 : decode cX2_layClasses 75 = .ok (.iload_n 3, 1) := dk_29 (dk_at dksX2_layClasses_3 3 rfl rfl)
theorem dX2_layClasses_76 : decode cX2_layClasses 76 = .ok (.ifCond .eq 17, 3) := dk_153 0 17 (dk_at dksX2_layClasses_3 4 rfl rfl)
theorem dX2_layClasses_79 : decode cX2_layClasses 79 = .ok (.iload_n 2, 1) := dk_28 (dk_at dksX2_layClasses_3 7 rfl rfl)
theorem dX2_layClasses_80 : decode cX2_layClasses 80 = .ok (.iconst 1, 1) := dk_4 (dk_at dksX2_layClasses_3 8 rfl rfl)
theorem dX2_layClasses_81 : decode cX2_layClasses 81 = .ok (.iload_n 1, 1) := dk_27 (dk_at dksX2_layClasses_3 9 rfl rfl)
theorem dX2_layClasses_82 : decode cX2_layClasses 82 = .ok (.ishl, 1) := dk_120 (dk_at dksX2_layClasses_3 10 rfl rfl)
theorem dX2_layClasses_83 : decode cX2_layClasses 83 = .ok (.iconst 1, 1) := dk_4 (dk_at dksX2_layClasses_3 11 rfl rfl)
theorem dX2_layClasses_84 : decode cX2_layClasses 84 = .ok (.isub, 1) := dk_100 (dk_at dksX2_layClasses_3 12 rfl rfl)
theorem dX2_layClasses_85 : decode cX2_layClasses 85 = .ok (.iand, 1) := dk_126 (dk_at dksX2_layClasses_3 13 rfl rfl)
theorem dX2_layClasses_86 : decode cX2_layClasses 86 = .ok (.ifCond .ne 7, 3) := dk_154 0 7 (dk_at dksX2_layClasses_3 14 rfl rfl)
theorem dX2_layClasses_89 : decode cX2_layClasses 89 = .ok (.iconst 1, 1) := dk_4 (dk_at dksX2_layClasses_3 17 rfl rfl)
theorem dX2_layClasses_90 : decode cX2_layClasses 90 = .ok (.goto 4, 3) := dk_167 0 4 (dk_at dksX2_layClasses_3 18 rfl rfl)
theorem dX2_layClasses_93 : decode cX2_layClasses 93 = .ok (.iconst 0, 1) := dk_3 (dk_at dksX2_layClasses_3 21 rfl rfl)
theorem dX2_layClasses_94 : decode cX2_layClasses 94 = .ok (.iadd, 1) := dk_96 (dk_at dksX2_layClasses_3 22 rfl rfl)
theorem dX2_layClasses_95 : decode cX2_layClasses 95 = .ok (.putfield 219, 3) := dk_181 0 219 (dk_at dksX2_layClasses_4 0 rfl rfl)
theorem dX2_layClasses_98 : decode cX2_layClasses 98 = .ok (.iinc 1 1, 3) := dk_132 1 1 (dk_at dksX2_layClasses_4 3 rfl rfl)
theorem dX2_layClasses_101 : decode cX2_layClasses 101 = .ok (.goto (-94), 3) := dk_167 255 162 (dk_at dksX2_layClasses_4 6 rfl rfl)
theorem dX2_layClasses_104 : decode cX2_layClasses 104 = .ok (.return_, 1) := dk_177 (dk_at dksX2_layClasses_4 9 rfl rfl)
abbrev cX2_reached : ByteArray := prog_10_method_50_code
def yX2_reached : MethodName := ⟨RX2, "reached", "(I)I"⟩
def dkwX2_reached_4 : List UInt8 := [132, 3, 1, 167, 255, 167, 28, 172]
abbrev dktX2_reached_4 : List UInt8 := dkwX2_reached_4 ++ []
def dkwX2_reached_3 : List UInt8 := [167, 0, 4, 3, 54, 6, 28, 21, 6, 153, 0, 10, 4, 21, 5, 120, 167, 0, 4, 3, 128, 61]
abbrev dktX2_reached_3 : List UInt8 := dkwX2_reached_3 ++ dktX2_reached_4
def dkwX2_reached_2 : List UInt8 := [4, 160, 0, 24, 42, 180, 0, 32, 7, 21, 4, 104, 21, 5, 96, 47, 9, 148, 158, 0, 7, 4]
abbrev dktX2_reached_2 : List UInt8 := dkwX2_reached_2 ++ dktX2_reached_3
def dkwX2_reached_1 : List UInt8 := [21, 4, 42, 180, 0, 55, 162, 0, 43, 21, 5, 42, 180, 0, 55, 162, 0, 34, 28, 21, 4, 122, 4, 126]
abbrev dktX2_reached_1 : List UInt8 := dkwX2_reached_1 ++ dktX2_reached_2
def dkwX2_reached_0 : List UInt8 := [4, 27, 120, 61, 3, 62, 29, 16, 64, 162, 0, 89, 29, 7, 108, 7, 112, 54, 4, 29, 7, 112, 54, 5]
abbrev dktX2_reached_0 : List UInt8 := dkwX2_reached_0 ++ dktX2_reached_1
theorem dksX2_reached_0 : cX2_reached.data.toList.drop 0 = dktX2_reached_0 := by decide +kernel
theorem dksX2_reached_1 : cX2_reached.data.toList.drop 24 = dktX2_reached_1 := dk_seg dksX2_reached_0 24 rfl rfl
theorem dksX2_reached_2 : cX2_reached.data.toList.drop 48 = dktX2_reached_2 := dk_seg dksX2_reached_1 24 rfl rfl
theorem dksX2_reached_3 : cX2_reached.data.toList.drop 70 = dktX2_reached_3 := dk_seg dksX2_reached_2 22 rfl rfl
theorem dksX2_reached_4 : cX2_reached.data.toList.drop 92 = dktX2_reached_4 := dk_seg dksX2_reached_3 22 rfl rfl
theorem dX2_reached_0 : decode cX2_reached 0 = .ok (.iconst 1, 1) := dk_4 (dk_at dksX2_reached_0 0 rfl rfl)
theorem dX2_reached_1 : decode cX2_reached 1 = .ok (.iload_n 1, 1) := dk_27 (dk_at dksX2_reached_0 1 rfl rfl)
theorem dX2_reached_2 : decode cX2_reached 2 = .ok (.ishl, 1) := dk_120 (dk_at dksX2_reached_0 2 rfl rfl)
theorem dX2_reached_3 : decode cX2_reached 3 = .ok (.istore_n 2, 1) := dk_61 (dk_at dksX2_reached_0 3 rfl rfl)
theorem dX2_reached_4 : decode cX2_reached 4 = .ok (.iconst 0, 1) := dk_3 (dk_at dksX2_reached_0 4 rfl rfl)
theorem dX2_reached_5 : decode cX2_reached 5 = .ok (.istore_n 3, 1) := dk_62 (dk_at dksX2_reached_0 5 rfl rfl)
theorem dX2_reached_6 : decode cX2_reached 6 = .ok (.iload_n 3, 1) := dk_29 (dk_at dksX2_reached_0 6 rfl rfl)
theorem dX2_reached_7 : decode cX2_reached 7 = .ok (.bipush 64, 2) := dk_16 64 (dk_at dksX2_reached_0 7 rfl rfl)
theorem dX2_reached_9 : decode cX2_reached 9 = .ok (.if_icmp .ge 89, 3) := dk_162 0 89 (dk_at dksX2_reached_0 9 rfl rfl)
theorem dX2_reached_12 : decode cX2_reached 12 = .ok (.iload_n 3, 1) := dk_29 (dk_at dksX2_reached_0 12 rfl rfl)
theorem dX2_reached_13 : decode cX2_reached 13 = .ok (.iconst 4, 1) := dk_7 (dk_at dksX2_reached_0 13 rfl rfl)
theorem dX2_reached_14 : decode cX2_reached 14 = .ok (.idiv, 1) := dk_108 (dk_at dksX2_reached_0 14 rfl rfl)
theorem dX2_reached_15 : decode cX2_reached 15 = .ok (.iconst 4, 1) := dk_7 (dk_at dksX2_reached_0 15 rfl rfl)
theorem dX2_reached_16 : decode cX2_reached 16 = .ok (.irem, 1) := dk_112 (dk_at dksX2_reached_0 16 rfl rfl)
theorem dX2_reached_17 : decode cX2_reached 17 = .ok (.istore 4, 2) := dk_54 4 (dk_at dksX2_reached_0 17 rfl rfl)
theorem dX2_reached_19 : decode cX2_reached 19 = .ok (.iload_n 3, 1) := dk_29 (dk_at dksX2_reached_0 19 rfl rfl)
theorem dX2_reached_20 : decode cX2_reached 20 = .ok (.iconst 4, 1) := dk_7 (dk_at dksX2_reached_0 20 rfl rfl)
theorem dX2_reached_21 : decode cX2_reached 21 = .ok (.irem, 1) := dk_112 (dk_at dksX2_reached_0 21 rfl rfl)
theorem dX2_reached_22 : decode cX2_reached 22 = .ok (.istore 5, 2) := dk_54 5 (dk_at dksX2_reached_0 22 rfl rfl)
theorem dX2_reached_24 : decode cX2_reached 24 = .ok (.iload 4, 2) := dk_21 4 (dk_at dksX2_reached_1 0 rfl rfl)
theorem dX2_reached_26 : decode cX2_reached 26 = .ok (.aload_n 0, 1) := dk_42 (dk_at dksX2_reached_1 2 rfl rfl)
theorem dX2_reached_27 : decode cX2_reached 27 = .ok (.getfield 55, 3) := dk_180 0 55 (dk_at dksX2_reached_1 3 rfl rfl)
theorem dX2_reached_30 : decode cX2_reached 30 = .ok (.if_icmp .ge 43, 3) := dk_162 0 43 (dk_at dksX2_reached_1 6 rfl rfl)
theorem dX2_reached_33 : decode cX2_reached 33 = .ok (.iload 5, 2) := dk_21 5 (dk_at dksX2_reached_1 9 rfl rfl)
theorem dX2_reached_35 : decode cX2_reached 35 = .ok (.aload_n 0, 1) := dk_42 (dk_at dksX2_reached_1 11 rfl rfl)
theorem dX2_reached_36 : decode cX2_reached 36 = .ok (.getfield 55, 3) := dk_180 0 55 (dk_at dksX2_reached_1 12 rfl rfl)
theorem dX2_reached_39 : decode cX2_reached 39 = .ok (.if_icmp .ge 34, 3) := dk_162 0 34 (dk_at dksX2_reached_1 15 rfl rfl)
theorem dX2_reached_42 : decode cX2_reached 42 = .ok (.iload_n 2, 1) := dk_28 (dk_at dksX2_reached_1 18 rfl rfl)
theorem dX2_reached_43 : decode cX2_reached 43 = .ok (.iload 4, 2) := dk_21 4 (dk_at dksX2_reached_1 19 rfl rfl)
theorem dX2_reached_45 : decode cX2_reached 45 = .ok (.ishr, 1) := dk_122 (dk_at dksX2_reached_1 21 rfl rfl)
theorem dX2_reached_46 : decode cX2_reached 46 = .ok (.iconst 1, 1) := dk_4 (dk_at dksX2_reached_1 22 rfl rfl)
theorem dX2_reached_47 : decode cX2_reached 47 = .ok (.iand, 1) := dk_126 (dk_at dksX2_reached_1 23 rfl rfl)
theorem dX2_reached_48 : decode cX2_reached 48 = .ok (.iconst 1, 1) := dk_4 (dk_at dksX2_reached_2 0 rfl rfl)
theorem dX2_reached_49 : decode cX2_reached 49 = .ok (.if_icmp .ne 24, 3) := dk_160 0 24 (dk_at dksX2_reached_2 1 rfl rfl)
theorem dX2_reached_52 : decode cX2_reached 52 = .ok (.aload_n 0, 1) := dk_42 (dk_at dksX2_reached_2 4 rfl rfl)
theorem dX2_reached_53 : decode cX2_reached 53 = .ok (.getfield 32, 3) := dk_180 0 32 (dk_at dksX2_reached_2 5 rfl rfl)
theorem dX2_reached_56 : decode cX2_reached 56 = .ok (.iconst 4, 1) := dk_7 (dk_at dksX2_reached_2 8 rfl rfl)
theorem dX2_reached_57 : decode cX2_reached 57 = .ok (.iload 4, 2) := dk_21 4 (dk_at dksX2_reached_2 9 rfl rfl)
theorem dX2_reached_59 : decode cX2_reached 59 = .ok (.imul, 1) := dk_104 (dk_at dksX2_reached_2 11 rfl rfl)
theorem dX2_reached_60 : decode cX2_reached 60 = .ok (.iload 5, 2) := dk_21 5 (dk_at dksX2_reached_2 12 rfl rfl)
theorem dX2_reached_62 : decode cX2_reached 62 = .ok (.iadd, 1) := dk_96 (dk_at dksX2_reached_2 14 rfl rfl)
theorem dX2_reached_63 : decode cX2_reached 63 = .ok (.laload, 1) := dk_47 (dk_at dksX2_reached_2 15 rfl rfl)
theorem dX2_reached_64 : decode cX2_reached 64 = .ok (.lconst 0, 1) := dk_9 (dk_at dksX2_reached_2 16 rfl rfl)
theorem dX2_reached_65 : decode cX2_reached 65 = .ok (.lcmp, 1) := dk_148 (dk_at dksX2_reached_2 17 rfl rfl)
theorem dX2_reached_66 : decode cX2_reached 66 = .ok (.ifCond .le 7, 3) := dk_158 0 7 (dk_at dksX2_reached_2 18 rfl rfl)
theorem dX2_reached_69 : decode cX2_reached 69 = .ok (.iconst 1, 1) := dk_4 (dk_at dksX2_reached_2 21 rfl rfl)
theorem dX2_reached_70 : decode cX2_reached 70 = .ok (.goto 4, 3) := dk_167 0 4 (dk_at dksX2_reached_3 0 rfl rfl)
theorem dX2_reached_73 : decode cX2_reached 73 = .ok (.iconst 0, 1) := dk_3 (dk_at dksX2_reached_3 3 rfl rfl)
theorem dX2_reached_74 : decode cX2_reached 74 = .ok (.istore 6, 2) := dk_54 6 (dk_at dksX2_reached_3 4 rfl rfl)
theorem dX2_reached_76 : decode cX2_reached 76 = .ok (.iload_n 2, 1) := dk_28 (dk_at dksX2_reached_3 6 rfl rfl)
theorem dX2_reached_77 : decode cX2_reached 77 = .ok (.iload 6, 2) := dk_21 6 (dk_at dksX2_reached_3 7 rfl rfl)
theorem dX2_reached_79 : decode cX2_reached 79 = .ok (.ifCond .eq 10, 3) := dk_153 0 10 (dk_at dksX2_reached_3 9 rfl rfl)
theorem dX2_reached_82 : decode cX2_reached 82 = .ok (.iconst 1, 1) := dk_4 (dk_at dksX2_reached_3 12 rfl rfl)
theorem dX2_reached_83 : decode cX2_reached 83 = .ok (.iload 5, 2) := dk_21 5 (dk_at dksX2_reached_3 13 rfl rfl)
theorem dX2_reached_85 : decode cX2_reached 85 = .ok (.ishl, 1) := dk_120 (dk_at dksX2_reached_3 15 rfl rfl)
theorem dX2_reached_86 : decode cX2_reached 86 = .ok (.goto 4, 3) := dk_167 0 4 (dk_at dksX2_reached_3 16 rfl rfl)
theorem dX2_reached_89 : decode cX2_reached 89 = .ok (.iconst 0, 1) := dk_3 (dk_at dksX2_reached_3 19 rfl rfl)
theorem dX2_reached_90 : decode cX2_reached 90 = .ok (.ior, 1) := dk_128 (dk_at dksX2_reached_3 20 rfl rfl)
theorem dX2_reached_91 : decode cX2_reached 91 = .ok (.istore_n 2, 1) := dk_61 (dk_at dksX2_reached_3 21 rfl rfl)
theorem dX2_reached_92 : decode cX2_reached 92 = .ok (.iinc 3 1, 3) := dk_132 3 1 (dk_at dksX2_reached_4 0 rfl rfl)
theorem dX2_reached_95 : decode cX2_reached 95 = .ok (.goto (-89), 3) := dk_167 255 167 (dk_at dksX2_reached_4 3 rfl rfl)
theorem dX2_reached_98 : decode cX2_reached 98 = .ok (.iload_n 2, 1) := dk_28 (dk_at dksX2_reached_4 6 rfl rfl)
theorem dX2_reached_99 : decode cX2_reached 99 = .ok (.ireturn, 1) := dk_172 (dk_at dksX2_reached_4 7 rfl rfl)
abbrev cX2_minor : ByteArray := prog_10_method_53_code
def yX2_minor : MethodName := ⟨RX2, "minor", "(I)J"⟩
def dkwX2_minor_9 : List UInt8 := [97, 173]
abbrev dktX2_minor_9 : List UInt8 := dkwX2_minor_9 ++ []
def dkwX2_minor_8 : List UInt8 := [29, 29, 182, 0, 225, 42, 21, 4, 28, 182, 0, 225, 105, 101, 105, 55, 9, 22, 5, 22, 7, 101, 22, 9]
abbrev dktX2_minor_8 : List UInt8 := dkwX2_minor_8 ++ dktX2_minor_9
def dkwX2_minor_7 : List UInt8 := [55, 7, 42, 28, 21, 4, 182, 0, 225, 42, 29, 28, 182, 0, 225, 42, 21, 4, 29, 182, 0, 225, 105, 42]
abbrev dktX2_minor_7 : List UInt8 := dkwX2_minor_7 ++ dktX2_minor_8
def dkwX2_minor_6 : List UInt8 := [21, 4, 182, 0, 225, 105, 42, 29, 21, 4, 182, 0, 225, 42, 21, 4, 28, 182, 0, 225, 105, 101, 105]
abbrev dktX2_minor_6 : List UInt8 := dkwX2_minor_6 ++ dktX2_minor_7
def dkwX2_minor_5 : List UInt8 := [182, 0, 225, 105, 101, 105, 55, 5, 42, 28, 29, 182, 0, 225, 42, 29, 28, 182, 0, 225, 42, 21, 4]
abbrev dktX2_minor_5 : List UInt8 := dkwX2_minor_5 ++ dktX2_minor_6
def dkwX2_minor_4 : List UInt8 := [182, 0, 225, 42, 21, 4, 21, 4, 182, 0, 225, 105, 42, 29, 21, 4, 182, 0, 225, 42, 21, 4, 29]
abbrev dktX2_minor_4 : List UInt8 := dkwX2_minor_4 ++ dktX2_minor_5
def dkwX2_minor_3 : List UInt8 := [29, 182, 0, 225, 42, 29, 28, 182, 0, 225, 105, 101, 173, 42, 28, 28, 182, 0, 225, 42, 29, 29]
abbrev dktX2_minor_3 : List UInt8 := dkwX2_minor_3 ++ dktX2_minor_4
def dkwX2_minor_2 : List UInt8 := [173, 42, 180, 0, 55, 6, 160, 0, 31, 42, 28, 28, 182, 0, 225, 42, 29, 29, 182, 0, 225, 105, 42, 28]
abbrev dktX2_minor_2 : List UInt8 := dkwX2_minor_2 ++ dktX2_minor_3
def dkwX2_minor_1 : List UInt8 := [162, 0, 7, 6, 167, 0, 4, 5, 54, 4, 42, 180, 0, 55, 5, 160, 0, 10, 42, 28, 28, 182, 0, 225]
abbrev dktX2_minor_1 : List UInt8 := dkwX2_minor_1 ++ dktX2_minor_2
def dkwX2_minor_0 : List UInt8 := [27, 154, 0, 7, 4, 167, 0, 4, 3, 61, 27, 5, 162, 0, 7, 5, 167, 0, 4, 4, 62, 27, 6]
abbrev dktX2_minor_0 : List UInt8 := dkwX2_minor_0 ++ dktX2_minor_1
theorem dksX2_minor_0 : cX2_minor.data.toList.drop 0 = dktX2_minor_0 := by decide +kernel
theorem dksX2_minor_1 : cX2_minor.data.toList.drop 23 = dktX2_minor_1 := dk_seg dksX2_minor_0 23 rfl rfl
theorem dksX2_minor_2 : cX2_minor.data.toList.drop 47 = dktX2_minor_2 := dk_seg dksX2_minor_1 24 rfl rfl
theorem dksX2_minor_3 : cX2_minor.data.toList.drop 71 = dktX2_minor_3 := dk_seg dksX2_minor_2 24 rfl rfl
theorem dksX2_minor_4 : cX2_minor.data.toList.drop 93 = dktX2_minor_4 := dk_seg dksX2_minor_3 22 rfl rfl
theorem dksX2_minor_5 : cX2_minor.data.toList.drop 116 = dktX2_minor_5 := dk_seg dksX2_minor_4 23 rfl rfl
theorem dksX2_minor_6 : cX2_minor.data.toList.drop 139 = dktX2_minor_6 := dk_seg dksX2_minor_5 23 rfl rfl
theorem dksX2_minor_7 : cX2_minor.data.toList.drop 162 = dktX2_minor_7 := dk_seg dksX2_minor_6 23 rfl rfl
theorem dksX2_minor_8 : cX2_minor.data.toList.drop 186 = dktX2_minor_8 := dk_seg dksX2_minor_7 24 rfl rfl
theorem dksX2_minor_9 : cX2_minor.data.toList.drop 210 = dktX2_minor_9 := dk_seg dksX2_minor_8 24 rfl rfl
theorem dX2_minor_0 : decode cX2_minor 0 = .ok (.iload_n 1, 1) := dk_27 (dk_at dksX2_minor_0 0 rfl rfl)
theorem dX2_minor_1 : decode cX2_minor 1 = .ok (.ifCond .ne 7, 3) := dk_154 0 7 (dk_at dksX2_minor_0 1 rfl rfl)
theorem dX2_minor_4 : decode cX2_minor 4 = .ok (.iconst 1, 1) := dk_4 (dk_at dksX2_minor_0 4 rfl rfl)
theorem dX2_minor_5 : decode cX2_minor 5 = .ok (.goto 4, 3) := dk_167 0 4 (dk_at dksX2_minor_0 5 rfl rfl)
theorem dX2_minor_8 : decode cX2_minor 8 = .ok (.iconst 0, 1) := dk_3 (dk_at dksX2_minor_0 8 rfl rfl)
theorem dX2_minor_9 : decode cX2_minor 9 = .ok (.istore_n 2, 1) := dk_61 (dk_at dksX2_minor_0 9 rfl rfl)
theorem dX2_minor_10 : decode cX2_minor 10 = .ok (.iload_n 1, 1) := dk_27 (dk_at dksX2_minor_0 10 rfl rfl)
theorem dX2_minor_11 : decode cX2_minor 11 = .ok (.iconst 2, 1) := dk_5 (dk_at dksX2_minor_0 11 rfl rfl)
theorem dX2_minor_12 : decode cX2_minor 12 = .ok (.if_icmp .ge 7, 3) := dk_162 0 7 (dk_at dksX2_minor_0 12 rfl rfl)
theorem dX2_minor_15 : decode cX2_minor 15 = .ok (.iconst 2, 1) := dk_5 (dk_at dksX2_minor_0 15 rfl rfl)
theorem dX2_minor_16 : decode cX2_minor 16 = .ok (.goto 4, 3) := dk_167 0 4 (dk_at dksX2_minor_0 16 rfl rfl)
theorem dX2_minor_19 : decode cX2_minor 19 = .ok (.iconst 1, 1) := dk_4 (dk_at dksX2_minor_0 19 rfl rfl)
theorem dX2_minor_20 : decode cX2_minor 20 = .ok (.istore_n 3, 1) := dk_62 (dk_at dksX2_minor_0 20 rfl rfl)
theorem dX2_minor_21 : decode cX2_minor 21 = .ok (.iload_n 1, 1) := dk_27 (dk_at dksX2_minor_0 21 rfl rfl)
theorem dX2_minor_22 : decode cX2_minor 22 = .ok (.iconst 3, 1) := dk_6 (dk_at dksX2_minor_0 22 rfl rfl)
theorem dX2_minor_23 : decode cX2_minor 23 = .ok (.if_icmp .ge 7, 3) := dk_162 0 7 (dk_at dksX2_minor_1 0 rfl rfl)
theorem dX2_minor_26 : decode cX2_minor 26 = .ok (.iconst 3, 1) := dk_6 (dk_at dksX2_minor_1 3 rfl rfl)
theorem dX2_minor_27 : decode cX2_minor 27 = .ok (.goto 4, 3) := dk_167 0 4 (dk_at dksX2_minor_1 4 rfl rfl)
theorem dX2_minor_30 : decode cX2_minor 30 = .ok (.iconst 2, 1) := dk_5 (dk_at dksX2_minor_1 7 rfl rfl)
theorem dX2_minor_31 : decode cX2_minor 31 = .ok (.istore 4, 2) := dk_54 4 (dk_at dksX2_minor_1 8 rfl rfl)
theorem dX2_minor_33 : decode cX2_minor 33 = .ok (.aload_n 0, 1) := dk_42 (dk_at dksX2_minor_1 10 rfl rfl)
theorem dX2_minor_34 : decode cX2_minor 34 = .ok (.getfield 55, 3) := dk_180 0 55 (dk_at dksX2_minor_1 11 rfl rfl)
theorem dX2_minor_37 : decode cX2_minor 37 = .ok (.iconst 2, 1) := dk_5 (dk_at dksX2_minor_1 14 rfl rfl)
theorem dX2_minor_38 : decode cX2_minor 38 = .ok (.if_icmp .ne 10, 3) := dk_160 0 10 (dk_at dksX2_minor_1 15 rfl rfl)
theorem dX2_minor_41 : decode cX2_minor 41 = .ok (.aload_n 0, 1) := dk_42 (dk_at dksX2_minor_1 18 rfl rfl)
theorem dX2_minor_42 : decode cX2_minor 42 = .ok (.iload_n 2, 1) := dk_28 (dk_at dksX2_minor_1 19 rfl rfl)
theorem dX2_minor_43 : decode cX2_minor 43 = .ok (.iload_n 2, 1) := dk_28 (dk_at dksX2_minor_1 20 rfl rfl)
theorem dX2_minor_44 : decode cX2_minor 44 = .ok (.invokevirtual 225, 3) := dk_182 0 225 (dk_at dksX2_minor_1 21 rfl rfl)
theorem dX2_minor_47 : decode cX2_minor 47 = .ok (.lreturn, 1) := dk_173 (dk_at dksX2_minor_2 0 rfl rfl)
theorem dX2_minor_48 : decode cX2_minor 48 = .ok (.aload_n 0, 1) := dk_42 (dk_at dksX2_minor_2 1 rfl rfl)
theorem dX2_minor_49 : decode cX2_minor 49 = .ok (.getfield 55, 3) := dk_180 0 55 (dk_at dksX2_minor_2 2 rfl rfl)
theorem dX2_minor_52 : decode cX2_minor 52 = .ok (.iconst 3, 1) := dk_6 (dk_at dksX2_minor_2 5 rfl rfl)
theorem dX2_minor_53 : decode cX2_minor 53 = .ok (.if_icmp .ne 31, 3) := dk_160 0 31 (dk_at dksX2_minor_2 6 rfl rfl)
theorem dX2_minor_56 : decode cX2_minor 56 = .ok (.aload_n 0, 1) := dk_42 (dk_at dksX2_minor_2 9 rfl rfl)
theorem dX2_minor_57 : decode cX2_minor 57 = .ok (.iload_n 2, 1) := dk_28 (dk_at dksX2_minor_2 10 rfl rfl)
theorem dX2_minor_58 : decode cX2_minor 58 = .ok (.iload_n 2, 1) := dk_28 (dk_at dksX2_minor_2 11 rfl rfl)
theorem dX2_minor_59 : decode cX2_minor 59 = .ok (.invokevirtual 225, 3) := dk_182 0 225 (dk_at dksX2_minor_2 12 rfl rfl)
theorem dX2_minor_62 : decode cX2_minor 62 = .ok (.aload_n 0, 1) := dk_42 (dk_at dksX2_minor_2 15 rfl rfl)
theorem dX2_minor_63 : decode cX2_minor 63 = .ok (.iload_n 3, 1) := dk_29 (dk_at dksX2_minor_2 16 rfl rfl)
theorem dX2_minor_64 : decode cX2_minor 64 = .ok (.iload_n 3, 1) := dk_29 (dk_at dksX2_minor_2 17 rfl rfl)
theorem dX2_minor_65 : decode cX2_minor 65 = .ok (.invokevirtual 225, 3) := dk_182 0 225 (dk_at dksX2_minor_2 18 rfl rfl)
theorem dX2_minor_68 : decode cX2_minor 68 = .ok (.lmul, 1) := dk_105 (dk_at dksX2_minor_2 21 rfl rfl)
theorem dX2_minor_69 : decode cX2_minor 69 = .ok (.aload_n 0, 1) := dk_42 (dk_at dksX2_minor_2 22 rfl rfl)
theorem dX2_minor_70 : decode cX2_minor 70 = .ok (.iload_n 2, 1) := dk_28 (dk_at dksX2_minor_2 23 rfl rfl)
theorem dX2_minor_71 : decode cX2_minor 71 = .ok (.iload_n 3, 1) := dk_29 (dk_at dksX2_minor_3 0 rfl rfl)
theorem dX2_minor_72 : decode cX2_minor 72 = .ok (.invokevirtual 225, 3) := dk_182 0 225 (dk_at dksX2_minor_3 1 rfl rfl)
theorem dX2_minor_75 : decode cX2_minor 75 = .ok (.aload_n 0, 1) := dk_42 (dk_at dksX2_minor_3 4 rfl rfl)
theorem dX2_minor_76 : decode cX2_minor 76 = .ok (.iload_n 3, 1) := dk_29 (dk_at dksX2_minor_3 5 rfl rfl)
theorem dX2_minor_77 : decode cX2_minor 77 = .ok (.iload_n 2, 1) := dk_28 (dk_at dksX2_minor_3 6 rfl rfl)
theorem dX2_minor_78 : decode cX2_minor 78 = .ok (.invokevirtual 225, 3) := dk_182 0 225 (dk_at dksX2_minor_3 7 rfl rfl)
theorem dX2_minor_81 : decode cX2_minor 81 = .ok (.lmul, 1) := dk_105 (dk_at dksX2_minor_3 10 rfl rfl)
theorem dX2_minor_82 : decode cX2_minor 82 = .ok (.lsub, 1) := dk_101 (dk_at dksX2_minor_3 11 rfl rfl)
theorem dX2_minor_83 : decode cX2_minor 83 = .ok (.lreturn, 1) := dk_173 (dk_at dksX2_minor_3 12 rfl rfl)
theorem dX2_minor_84 : decode cX2_minor 84 = .ok (.aload_n 0, 1) := dk_42 (dk_at dksX2_minor_3 13 rfl rfl)
theorem dX2_minor_85 : decode cX2_minor 85 = .ok (.iload_n 2, 1) := dk_28 (dk_at dksX2_minor_3 14 rfl rfl)
theorem dX2_minor_86 : decode cX2_minor 86 = .ok (.iload_n 2, 1) := dk_28 (dk_at dksX2_minor_3 15 rfl rfl)
theorem dX2_minor_87 : decode cX2_minor 87 = .ok (.invokevirtual 225, 3) := dk_182 0 225 (dk_at dksX2_minor_3 16 rfl rfl)
theorem dX2_minor_90 : decode cX2_minor 90 = .ok (.aload_n 0, 1) := dk_42 (dk_at dksX2_minor_3 19 rfl rfl)
theorem dX2_minor_91 : decode cX2_minor 91 = .ok (.iload_n 3, 1) := dk_29 (dk_at dksX2_minor_3 20 rfl rfl)
theorem dX2_minor_92 : decode cX2_minor 92 = .ok (.iload_n 3, 1) := dk_29 (dk_at dksX2_minor_3 21 rfl rfl)
theorem dX2_minor_93 : decode cX2_minor 93 = .ok (.invokevirtual 225, 3) := dk_182 0 225 (dk_at dksX2_minor_4 0 rfl rfl)
theorem dX2_minor_96 : decode cX2_minor 96 = .ok (.aload_n 0, 1) := dk_42 (dk_at dksX2_minor_4 3 rfl rfl)
theorem dX2_minor_97 : decode cX2_minor 97 = .ok (.iload 4, 2) := dk_21 4 (dk_at dksX2_minor_4 4 rfl rfl)
theorem dX2_minor_99 : decode cX2_minor 99 = .ok (.iload 4, 2) := dk_21 4 (dk_at dksX2_minor_4 6 rfl rfl)
theorem dX2_minor_101 : decode cX2_minor 101 = .ok (.invokevirtual 225, 3) := dk_182 0 225 (dk_at dksX2_minor_4 8 rfl rfl)
theorem dX2_minor_104 : decode cX2_minor 104 = .ok (.lmul, 1) := dk_105 (dk_at dksX2_minor_4 11 rfl rfl)
theorem dX2_minor_105 : decode cX2_minor 105 = .ok (.aload_n 0, 1) := dk_42 (dk_at dksX2_minor_4 12 rfl rfl)
theorem dX2_minor_106 : decode cX2_minor 106 = .ok (.iload_n 3, 1) := dk_29 (dk_at dksX2_minor_4 13 rfl rfl)
theorem dX2_minor_107 : decode cX2_minor 107 = .ok (.iload 4, 2) := dk_21 4 (dk_at dksX2_minor_4 14 rfl rfl)
theorem dX2_minor_109 : decode cX2_minor 109 = .ok (.invokevirtual 225, 3) := dk_182 0 225 (dk_at dksX2_minor_4 16 rfl rfl)
theorem dX2_minor_112 : decode cX2_minor 112 = .ok (.aload_n 0, 1) := dk_42 (dk_at dksX2_minor_4 19 rfl rfl)
theorem dX2_minor_113 : decode cX2_minor 113 = .ok (.iload 4, 2) := dk_21 4 (dk_at dksX2_minor_4 20 rfl rfl)
theorem dX2_minor_115 : decode cX2_minor 115 = .ok (.iload_n 3, 1) := dk_29 (dk_at dksX2_minor_4 22 rfl rfl)
theorem dX2_minor_116 : decode cX2_minor 116 = .ok (.invokevirtual 225, 3) := dk_182 0 225 (dk_at dksX2_minor_5 0 rfl rfl)
theorem dX2_minor_119 : decode cX2_minor 119 = .ok (.lmul, 1) := dk_105 (dk_at dksX2_minor_5 3 rfl rfl)
theorem dX2_minor_120 : decode cX2_minor 120 = .ok (.lsub, 1) := dk_101 (dk_at dksX2_minor_5 4 rfl rfl)
theorem dX2_minor_121 : decode cX2_minor 121 = .ok (.lmul, 1) := dk_105 (dk_at dksX2_minor_5 5 rfl rfl)
theorem dX2_minor_122 : decode cX2_minor 122 = .ok (.lstore 5, 2) := dk_55 5 (dk_at dksX2_minor_5 6 rfl rfl)
theorem dX2_minor_124 : decode cX2_minor 124 = .ok (.aload_n 0, 1) := dk_42 (dk_at dksX2_minor_5 8 rfl rfl)
theorem dX2_minor_125 : decode cX2_minor 125 = .ok (.iload_n 2, 1) := dk_28 (dk_at dksX2_minor_5 9 rfl rfl)
theorem dX2_minor_126 : decode cX2_minor 126 = .ok (.iload_n 3, 1) := dk_29 (dk_at dksX2_minor_5 10 rfl rfl)
theorem dX2_minor_127 : decode cX2_minor 127 = .ok (.invokevirtual 225, 3) := dk_182 0 225 (dk_at dksX2_minor_5 11 rfl rfl)
theorem dX2_minor_130 : decode cX2_minor 130 = .ok (.aload_n 0, 1) := dk_42 (dk_at dksX2_minor_5 14 rfl rfl)
theorem dX2_minor_131 : decode cX2_minor 131 = .ok (.iload_n 3, 1) := dk_29 (dk_at dksX2_minor_5 15 rfl rfl)
theorem dX2_minor_132 : decode cX2_minor 132 = .ok (.iload_n 2, 1) := dk_28 (dk_at dksX2_minor_5 16 rfl rfl)
theorem dX2_minor_133 : decode cX2_minor 133 = .ok (.invokevirtual 225, 3) := dk_182 0 225 (dk_at dksX2_minor_5 17 rfl rfl)
theorem dX2_minor_136 : decode cX2_minor 136 = .ok (.aload_n 0, 1) := dk_42 (dk_at dksX2_minor_5 20 rfl rfl)
theorem dX2_minor_137 : decode cX2_minor 137 = .ok (.iload 4, 2) := dk_21 4 (dk_at dksX2_minor_5 21 rfl rfl)
theorem dX2_minor_139 : decode cX2_minor 139 = .ok (.iload 4, 2) := dk_21 4 (dk_at dksX2_minor_6 0 rfl rfl)
theorem dX2_minor_141 : decode cX2_minor 141 = .ok (.invokevirtual 225, 3) := dk_182 0 225 (dk_at dksX2_minor_6 2 rfl rfl)
theorem dX2_minor_144 : decode cX2_minor 144 = .ok (.lmul, 1) := dk_105 (dk_at dksX2_minor_6 5 rfl rfl)
theorem dX2_minor_145 : decode cX2_minor 145 = .ok (.aload_n 0, 1) := dk_42 (dk_at dksX2_minor_6 6 rfl rfl)
theorem dX2_minor_146 : decode cX2_minor 146 = .ok (.iload_n 3, 1) := dk_29 (dk_at dksX2_minor_6 7 rfl rfl)
theorem dX2_minor_147 : decode cX2_minor 147 = .ok (.iload 4, 2) := dk_21 4 (dk_at dksX2_minor_6 8 rfl rfl)
theorem dX2_minor_149 : decode cX2_minor 149 = .ok (.invokevirtual 225, 3) := dk_182 0 225 (dk_at dksX2_minor_6 10 rfl rfl)
theorem dX2_minor_152 : decode cX2_minor 152 = .ok (.aload_n 0, 1) := dk_42 (dk_at dksX2_minor_6 13 rfl rfl)
theorem dX2_minor_153 : decode cX2_minor 153 = .ok (.iload 4, 2) := dk_21 4 (dk_at dksX2_minor_6 14 rfl rfl)
theorem dX2_minor_155 : decode cX2_minor 155 = .ok (.iload_n 2, 1) := dk_28 (dk_at dksX2_minor_6 16 rfl rfl)
theorem dX2_minor_156 : decode cX2_minor 156 = .ok (.invokevirtual 225, 3) := dk_182 0 225 (dk_at dksX2_minor_6 17 rfl rfl)
theorem dX2_minor_159 : decode cX2_minor 159 = .ok (.lmul, 1) := dk_105 (dk_at dksX2_minor_6 20 rfl rfl)
theorem dX2_minor_160 : decode cX2_minor 160 = .ok (.lsub, 1) := dk_101 (dk_at dksX2_minor_6 21 rfl rfl)
theorem dX2_minor_161 : decode cX2_minor 161 = .ok (.lmul, 1) := dk_105 (dk_at dksX2_minor_6 22 rfl rfl)
theorem dX2_minor_162 : decode cX2_minor 162 = .ok (.lstore 7, 2) := dk_55 7 (dk_at dksX2_minor_7 0 rfl rfl)
theorem dX2_minor_164 : decode cX2_minor 164 = .ok (.aload_n 0, 1) := dk_42 (dk_at dksX2_minor_7 2 rfl rfl)
theorem dX2_minor_165 : decode cX2_minor 165 = .ok (.iload_n 2, 1) := dk_28 (dk_at dksX2_minor_7 3 rfl rfl)
theorem dX2_minor_166 : decode cX2_minor 166 = .ok (.iload 4, 2) := dk_21 4 (dk_at dksX2_minor_7 4 rfl rfl)
theorem dX2_minor_168 : decode cX2_minor 168 = .ok (.invokevirtual 225, 3) := dk_182 0 225 (dk_at dksX2_minor_7 6 rfl rfl)
theorem dX2_minor_171 : decode cX2_minor 171 = .ok (.aload_n 0, 1) := dk_42 (dk_at dksX2_minor_7 9 rfl rfl)
theorem dX2_minor_172 : decode cX2_minor 172 = .ok (.iload_n 3, 1) := dk_29 (dk_at dksX2_minor_7 10 rfl rfl)
theorem dX2_minor_173 : decode cX2_minor 173 = .ok (.iload_n 2, 1) := dk_28 (dk_at dksX2_minor_7 11 rfl rfl)
theorem dX2_minor_174 : decode cX2_minor 174 = .ok (.invokevirtual 225, 3) := dk_182 0 225 (dk_at dksX2_minor_7 12 rfl rfl)
theorem dX2_minor_177 : decode cX2_minor 177 = .ok (.aload_n 0, 1) := dk_42 (dk_at dksX2_minor_7 15 rfl rfl)
theorem dX2_minor_178 : decode cX2_minor 178 = .ok (.iload 4, 2) := dk_21 4 (dk_at dksX2_minor_7 16 rfl rfl)
theorem dX2_minor_180 : decode cX2_minor 180 = .ok (.iload_n 3, 1) := dk_29 (dk_at dksX2_minor_7 18 rfl rfl)
theorem dX2_minor_181 : decode cX2_minor 181 = .ok (.invokevirtual 225, 3) := dk_182 0 225 (dk_at dksX2_minor_7 19 rfl rfl)
theorem dX2_minor_184 : decode cX2_minor 184 = .ok (.lmul, 1) := dk_105 (dk_at dksX2_minor_7 22 rfl rfl)
theorem dX2_minor_185 : decode cX2_minor 185 = .ok (.aload_n 0, 1) := dk_42 (dk_at dksX2_minor_7 23 rfl rfl)
theorem dX2_minor_186 : decode cX2_minor 186 = .ok (.iload_n 3, 1) := dk_29 (dk_at dksX2_minor_8 0 rfl rfl)
theorem dX2_minor_187 : decode cX2_minor 187 = .ok (.iload_n 3, 1) := dk_29 (dk_at dksX2_minor_8 1 rfl rfl)
theorem dX2_minor_188 : decode cX2_minor 188 = .ok (.invokevirtual 225, 3) := dk_182 0 225 (dk_at dksX2_minor_8 2 rfl rfl)
theorem dX2_minor_191 : decode cX2_minor 191 = .ok (.aload_n 0, 1) := dk_42 (dk_at dksX2_minor_8 5 rfl rfl)
theorem dX2_minor_192 : decode cX2_minor 192 = .ok (.iload 4, 2) := dk_21 4 (dk_at dksX2_minor_8 6 rfl rfl)
theorem dX2_minor_194 : decode cX2_minor 194 = .ok (.iload_n 2, 1) := dk_28 (dk_at dksX2_minor_8 8 rfl rfl)
theorem dX2_minor_195 : decode cX2_minor 195 = .ok (.invokevirtual 225, 3) := dk_182 0 225 (dk_at dksX2_minor_8 9 rfl rfl)
theorem dX2_minor_198 : decode cX2_minor 198 = .ok (.lmul, 1) := dk_105 (dk_at dksX2_minor_8 12 rfl rfl)
theorem dX2_minor_199 : decode cX2_minor 199 = .ok (.lsub, 1) := dk_101 (dk_at dksX2_minor_8 13 rfl rfl)
theorem dX2_minor_200 : decode cX2_minor 200 = .ok (.lmul, 1) := dk_105 (dk_at dksX2_minor_8 14 rfl rfl)
theorem dX2_minor_201 : decode cX2_minor 201 = .ok (.lstore 9, 2) := dk_55 9 (dk_at dksX2_minor_8 15 rfl rfl)
theorem dX2_minor_203 : decode cX2_minor 203 = .ok (.lload 5, 2) := dk_22 5 (dk_at dksX2_minor_8 17 rfl rfl)
theorem dX2_minor_205 : decode cX2_minor 205 = .ok (.lload 7, 2) := dk_22 7 (dk_at dksX2_minor_8 19 rfl rfl)
theorem dX2_minor_207 : decode cX2_minor 207 = .ok (.lsub, 1) := dk_101 (dk_at dksX2_minor_8 21 rfl rfl)
theorem dX2_minor_208 : decode cX2_minor 208 = .ok (.lload 9, 2) := dk_22 9 (dk_at dksX2_minor_8 22 rfl rfl)
theorem dX2_minor_210 : decode cX2_minor 210 = .ok (.ladd, 1) := dk_97 (dk_at dksX2_minor_9 0 rfl rfl)
theorem dX2_minor_211 : decode cX2_minor 211 = .ok (.lreturn, 1) := dk_173 (dk_at dksX2_minor_9 1 rfl rfl)
abbrev cX2_entry : ByteArray := prog_10_method_52_code
def yX2_entry : MethodName := ⟨RX2, "entry", "(II)J"⟩
def dkwX2_entry_1 : List UInt8 := [180, 0, 32, 7, 27, 104, 28, 96, 47, 117, 173]
abbrev dktX2_entry_1 : List UInt8 := dkwX2_entry_1 ++ []
def dkwX2_entry_0 : List UInt8 := [27, 28, 160, 0, 21, 42, 180, 0, 212, 42, 180, 0, 32, 7, 27, 104, 27, 96, 47, 101, 167, 0, 14, 42]
abbrev dktX2_entry_0 : List UInt8 := dkwX2_entry_0 ++ dktX2_entry_1
theorem dksX2_entry_0 : cX2_entry.data.toList.drop 0 = dktX2_entry_0 := by decide +kernel
theorem dksX2_entry_1 : cX2_entry.data.toList.drop 24 = dktX2_entry_1 := dk_seg dksX2_entry_0 24 rfl rfl
theorem dX2_entry_0 : decode cX2_entry 0 = .ok (.iload_n 1, 1) := dk_27 (dk_at dksX2_entry_0 0 rfl rfl)
theorem dX2_entry_1 : decode cX2_entry 1 = .ok (.iload_n 2, 1) := dk_28 (dk_at dksX2_entry_0 1 rfl rfl)
theorem dX2_entry_2 : decode cX2_entry 2 = .ok (.if_icmp .ne 21, 3) := dk_160 0 21 (dk_at dksX2_entry_0 2 rfl rfl)
theorem dX2_entry_5 : decode cX2_entry 5 = .ok (.aload_n 0, 1) := dk_42 (dk_at dksX2_entry_0 5 rfl rfl)
theorem dX2_entry_6 : decode cX2_entry 6 = .ok (.getfield 212, 3) := dk_180 0 212 (dk_at dksX2_entry_0 6 rfl rfl)
theorem dX2_entry_9 : decode cX2_entry 9 = .ok (.aload_n 0, 1) := dk_42 (dk_at dksX2_entry_0 9 rfl rfl)
theorem dX2_entry_10 : decode cX2_entry 10 = .ok (.getfield 32, 3) := dk_180 0 32 (dk_at dksX2_entry_0 10 rfl rfl)
theorem dX2_entry_13 : decode cX2_entry 13 = .ok (.iconst 4, 1) := dk_7 (dk_at dksX2_entry_0 13 rfl rfl)
theorem dX2_entry_14 : decode cX2_entry 14 = .ok (.iload_n 1, 1) := dk_27 (dk_at dksX2_entry_0 14 rfl rfl)
theorem dX2_entry_15 : decode cX2_entry 15 = .ok (.imul, 1) := dk_104 (dk_at dksX2_entry_0 15 rfl rfl)
theorem dX2_entry_16 : decode cX2_entry 16 = .ok (.iload_n 1, 1) := dk_27 (dk_at dksX2_entry_0 16 rfl rfl)
theorem dX2_entry_17 : decode cX2_entry 17 = .ok (.iadd, 1) := dk_96 (dk_at dksX2_entry_0 17 rfl rfl)
theorem dX2_entry_18 : decode cX2_entry 18 = .ok (.laload, 1) := dk_47 (dk_at dksX2_entry_0 18 rfl rfl)
theorem dX2_entry_19 : decode cX2_entry 19 = .ok (.lsub, 1) := dk_101 (dk_at dksX2_entry_0 19 rfl rfl)
theorem dX2_entry_20 : decode cX2_entry 20 = .ok (.goto 14, 3) := dk_167 0 14 (dk_at dksX2_entry_0 20 rfl rfl)
theorem dX2_entry_23 : decode cX2_entry 23 = .ok (.aload_n 0, 1) := dk_42 (dk_at dksX2_entry_0 23 rfl rfl)
theorem dX2_entry_24 : decode cX2_entry 24 = .ok (.getfield 32, 3) := dk_180 0 32 (dk_at dksX2_entry_1 0 rfl rfl)
theorem dX2_entry_27 : decode cX2_entry 27 = .ok (.iconst 4, 1) := dk_7 (dk_at dksX2_entry_1 3 rfl rfl)
theorem dX2_entry_28 : decode cX2_entry 28 = .ok (.iload_n 1, 1) := dk_27 (dk_at dksX2_entry_1 4 rfl rfl)
theorem dX2_entry_29 : decode cX2_entry 29 = .ok (.imul, 1) := dk_104 (dk_at dksX2_entry_1 5 rfl rfl)
theorem dX2_entry_30 : decode cX2_entry 30 = .ok (.iload_n 2, 1) := dk_28 (dk_at dksX2_entry_1 6 rfl rfl)
theorem dX2_entry_31 : decode cX2_entry 31 = .ok (.iadd, 1) := dk_96 (dk_at dksX2_entry_1 7 rfl rfl)
theorem dX2_entry_32 : decode cX2_entry 32 = .ok (.laload, 1) := dk_47 (dk_at dksX2_entry_1 8 rfl rfl)
theorem dX2_entry_33 : decode cX2_entry 33 = .ok (.lneg, 1) := dk_117 (dk_at dksX2_entry_1 9 rfl rfl)
theorem dX2_entry_34 : decode cX2_entry 34 = .ok (.lreturn, 1) := dk_173 (dk_at dksX2_entry_1 10 rfl rfl)
abbrev cX2_common : ByteArray := prog_10_method_54_code
def yX2_common : MethodName := ⟨RX2, "common", "(JJ)J"⟩
def dkwX2_common_1 : List UInt8 := [22, 4, 22, 6, 113, 55, 8, 22, 6, 55, 4, 22, 8, 55, 6, 167, 255, 234, 22, 4, 173]
abbrev dktX2_common_1 : List UInt8 := dkwX2_common_1 ++ []
def dkwX2_common_0 : List UInt8 := [30, 9, 148, 156, 0, 8, 30, 117, 167, 0, 4, 30, 55, 4, 32, 55, 6, 22, 6, 9, 148, 158, 0, 21]
abbrev dktX2_common_0 : List UInt8 := dkwX2_common_0 ++ dktX2_common_1
theorem dksX2_common_0 : cX2_common.data.toList.drop 0 = dktX2_common_0 := by decide +kernel
theorem dksX2_common_1 : cX2_common.data.toList.drop 24 = dktX2_common_1 := dk_seg dksX2_common_0 24 rfl rfl
theorem dX2_common_0 : decode cX2_common 0 = .ok (.lload_n 0, 1) := dk_30 (dk_at dksX2_common_0 0 rfl rfl)
theorem dX2_common_1 : decode cX2_common 1 = .ok (.lconst 0, 1) := dk_9 (dk_at dksX2_common_0 1 rfl rfl)
theorem dX2_common_2 : decode cX2_common 2 = .ok (.lcmp, 1) := dk_148 (dk_at dksX2_common_0 2 rfl rfl)
theorem dX2_common_3 : decode cX2_common 3 = .ok (.ifCond .ge 8, 3) := dk_156 0 8 (dk_at dksX2_common_0 3 rfl rfl)
theorem dX2_common_6 : decode cX2_common 6 = .ok (.lload_n 0, 1) := dk_30 (dk_at dksX2_common_0 6 rfl rfl)
theorem dX2_common_7 : decode cX2_common 7 = .ok (.lneg, 1) := dk_117 (dk_at dksX2_common_0 7 rfl rfl)
theorem dX2_common_8 : decode cX2_common 8 = .ok (.goto 4, 3) := dk_167 0 4 (dk_at dksX2_common_0 8 rfl rfl)
theorem dX2_common_11 : decode cX2_common 11 = .ok (.lload_n 0, 1) := dk_30 (dk_at dksX2_common_0 11 rfl rfl)
theorem dX2_common_12 : decode cX2_common 12 = .ok (.lstore 4, 2) := dk_55 4 (dk_at dksX2_common_0 12 rfl rfl)
theorem dX2_common_14 : decode cX2_common 14 = .ok (.lload_n 2, 1) := dk_32 (dk_at dksX2_common_0 14 rfl rfl)
theorem dX2_common_15 : decode cX2_common 15 = .ok (.lstore 6, 2) := dk_55 6 (dk_at dksX2_common_0 15 rfl rfl)
theorem dX2_common_17 : decode cX2_common 17 = .ok (.lload 6, 2) := dk_22 6 (dk_at dksX2_common_0 17 rfl rfl)
theorem dX2_common_19 : decode cX2_common 19 = .ok (.lconst 0, 1) := dk_9 (dk_at dksX2_common_0 19 rfl rfl)
theorem dX2_common_20 : decode cX2_common 20 = .ok (.lcmp, 1) := dk_148 (dk_at dksX2_common_0 20 rfl rfl)
theorem dX2_common_21 : decode cX2_common 21 = .ok (.ifCond .le 21, 3) := dk_158 0 21 (dk_at dksX2_common_0 21 rfl rfl)
theorem dX2_common_24 : decode cX2_common 24 = .ok (.lload 4, 2) := dk_22 4 (dk_at dksX2_common_1 0 rfl rfl)
theorem dX2_common_26 : decode cX2_common 26 = .ok (.lload 6, 2) := dk_22 6 (dk_at dksX2_common_1 2 rfl rfl)
theorem dX2_common_28 : decode cX2_common 28 = .ok (.lrem, 1) := dk_113 (dk_at dksX2_common_1 4 rfl rfl)
theorem dX2_common_29 : decode cX2_common 29 = .ok (.lstore 8, 2) := dk_55 8 (dk_at dksX2_common_1 5 rfl rfl)
theorem dX2_common_31 : decode cX2_common 31 = .ok (.lload 6, 2) := dk_22 6 (dk_at dksX2_common_1 7 rfl rfl)
theorem dX2_common_33 : decode cX2_common 33 = .ok (.lstore 4, 2) := dk_55 4 (dk_at dksX2_common_1 9 rfl rfl)
theorem dX2_common_35 : decode cX2_common 35 = .ok (.lload 8, 2) := dk_22 8 (dk_at dksX2_common_1 11 rfl rfl)
theorem dX2_common_37 : decode cX2_common 37 = .ok (.lstore 6, 2) := dk_55 6 (dk_at dksX2_common_1 13 rfl rfl)
theorem dX2_common_39 : decode cX2_common 39 = .ok (.goto (-22), 3) := dk_167 255 234 (dk_at dksX2_common_1 15 rfl rfl)
theorem dX2_common_42 : decode cX2_common 42 = .ok (.lload 4, 2) := dk_22 4 (dk_at dksX2_common_1 18 rfl rfl)
theorem dX2_common_44 : decode cX2_common 44 = .ok (.lreturn, 1) := dk_173 (dk_at dksX2_common_1 20 rfl rfl)
abbrev cX2_reduce : ByteArray := prog_10_method_55_code
def yX2_reduce : MethodName := ⟨RX2, "reduce", "(JJ)V"⟩
def dkwX2_reduce_0 : List UInt8 := [31, 33, 184, 0, 228, 55, 5, 42, 31, 22, 5, 109, 181, 0, 232, 42, 33, 22, 5, 109, 181, 0, 235, 177]
abbrev dktX2_reduce_0 : List UInt8 := dkwX2_reduce_0 ++ []
theorem dksX2_reduce_0 : cX2_reduce.data.toList.drop 0 = dktX2_reduce_0 := by decide +kernel
theorem dX2_reduce_0 : decode cX2_reduce 0 = .ok (.lload_n 1, 1) := dk_31 (dk_at dksX2_reduce_0 0 rfl rfl)
theorem dX2_reduce_1 : decode cX2_reduce 1 = .ok (.lload_n 3, 1) := dk_33 (dk_at dksX2_reduce_0 1 rfl rfl)
theorem dX2_reduce_2 : decode cX2_reduce 2 = .ok (.invokestatic 228, 3) := dk_184 0 228 (dk_at dksX2_reduce_0 2 rfl rfl)
theorem dX2_reduce_5 : decode cX2_reduce 5 = .ok (.lstore 5, 2) := dk_55 5 (dk_at dksX2_reduce_0 5 rfl rfl)
theorem dX2_reduce_7 : decode cX2_reduce 7 = .ok (.aload_n 0, 1) := dk_42 (dk_at dksX2_reduce_0 7 rfl rfl)
theorem dX2_reduce_8 : decode cX2_reduce 8 = .ok (.lload_n 1, 1) := dk_31 (dk_at dksX2_reduce_0 8 rfl rfl)
theorem dX2_reduce_9 : decode cX2_reduce 9 = .ok (.lload 5, 2) := dk_22 5 (dk_at dksX2_reduce_0 9 rfl rfl)
theorem dX2_reduce_11 : decode cX2_reduce 11 = .ok (.ldiv, 1) := dk_109 (dk_at dksX2_reduce_0 11 rfl rfl)
theorem dX2_reduce_12 : decode cX2_reduce 12 = .ok (.putfield 232, 3) := dk_181 0 232 (dk_at dksX2_reduce_0 12 rfl rfl)
theorem dX2_reduce_15 : decode cX2_reduce 15 = .ok (.aload_n 0, 1) := dk_42 (dk_at dksX2_reduce_0 15 rfl rfl)
theorem dX2_reduce_16 : decode cX2_reduce 16 = .ok (.lload_n 3, 1) := dk_33 (dk_at dksX2_reduce_0 16 rfl rfl)
theorem dX2_reduce_17 : decode cX2_reduce 17 = .ok (.lload 5, 2) := dk_22 5 (dk_at dksX2_reduce_0 17 rfl rfl)
theorem dX2_reduce_19 : decode cX2_reduce 19 = .ok (.ldiv, 1) := dk_109 (dk_at dksX2_reduce_0 19 rfl rfl)
theorem dX2_reduce_20 : decode cX2_reduce 20 = .ok (.putfield 235, 3) := dk_181 0 235 (dk_at dksX2_reduce_0 20 rfl rfl)
theorem dX2_reduce_23 : decode cX2_reduce 23 = .ok (.return_, 1) := dk_177 (dk_at dksX2_reduce_0 23 rfl rfl)
abbrev cX2_share : ByteArray := prog_10_method_60_code
def yX2_share : MethodName := ⟨RX2, "share", "(III)J"⟩
def dkwX2_share_2 : List UInt8 := [167, 0, 10, 42, 27, 28, 29, 182, 1, 4, 173]
abbrev dktX2_share_2 : List UInt8 := dkwX2_share_2 ++ []
def dkwX2_share_1 : List UInt8 := [184, 0, 58, 153, 0, 7, 3, 167, 0, 4, 5, 181, 0, 51, 42, 180, 0, 51, 158, 0, 7, 9]
abbrev dktX2_share_1 : List UInt8 := dkwX2_share_1 ++ dktX2_share_2
def dkwX2_share_0 : List UInt8 := [42, 42, 28, 182, 0, 97, 154, 0, 7, 4, 167, 0, 24, 27, 184, 0, 111, 153, 0, 16, 29, 3, 4]
abbrev dktX2_share_0 : List UInt8 := dkwX2_share_0 ++ dktX2_share_1
theorem dksX2_share_0 : cX2_share.data.toList.drop 0 = dktX2_share_0 := by decide +kernel
theorem dksX2_share_1 : cX2_share.data.toList.drop 23 = dktX2_share_1 := dk_seg dksX2_share_0 23 rfl rfl
theorem dksX2_share_2 : cX2_share.data.toList.drop 45 = dktX2_share_2 := dk_seg dksX2_share_1 22 rfl rfl
theorem dX2_share_0 : decode cX2_share 0 = .ok (.aload_n 0, 1) := dk_42 (dk_at dksX2_share_0 0 rfl rfl)
theorem dX2_share_1 : decode cX2_share 1 = .ok (.aload_n 0, 1) := dk_42 (dk_at dksX2_share_0 1 rfl rfl)
theorem dX2_share_2 : decode cX2_share 2 = .ok (.iload_n 2, 1) := dk_28 (dk_at dksX2_share_0 2 rfl rfl)
theorem dX2_share_3 : decode cX2_share 3 = .ok (.invokevirtual 97, 3) := dk_182 0 97 (dk_at dksX2_share_0 3 rfl rfl)
theorem dX2_share_6 : decode cX2_share 6 = .ok (.ifCond .ne 7, 3) := dk_154 0 7 (dk_at dksX2_share_0 6 rfl rfl)
theorem dX2_share_9 : decode cX2_share 9 = .ok (.iconst 1, 1) := dk_4 (dk_at dksX2_share_0 9 rfl rfl)
theorem dX2_share_10 : decode cX2_share 10 = .ok (.goto 24, 3) := dk_167 0 24 (dk_at dksX2_share_0 10 rfl rfl)
theorem dX2_share_13 : decode cX2_share 13 = .ok (.iload_n 1, 1) := dk_27 (dk_at dksX2_share_0 13 rfl rfl)
theorem dX2_share_14 : decode cX2_share 14 = .ok (.invokestatic 111, 3) := dk_184 0 111 (dk_at dksX2_share_0 14 rfl rfl)
theorem dX2_share_17 : decode cX2_share 17 = .ok (.ifCond .eq 16, 3) := dk_153 0 16 (dk_at dksX2_share_0 17 rfl rfl)
theorem dX2_share_20 : decode cX2_share 20 = .ok (.iload_n 3, 1) := dk_29 (dk_at dksX2_share_0 20 rfl rfl)
theorem dX2_share_21 : decode cX2_share 21 = .ok (.iconst 0, 1) := dk_3 (dk_at dksX2_share_0 21 rfl rfl)
theorem dX2_share_22 : decode cX2_share 22 = .ok (.iconst 1, 1) := dk_4 (dk_at dksX2_share_0 22 rfl rfl)
theorem dX2_share_23 : decode cX2_share 23 = .ok (.invokestatic 58, 3) := dk_184 0 58 (dk_at dksX2_share_1 0 rfl rfl)
theorem dX2_share_26 : decode cX2_share 26 = .ok (.ifCond .eq 7, 3) := dk_153 0 7 (dk_at dksX2_share_1 3 rfl rfl)
theorem dX2_share_29 : decode cX2_share 29 = .ok (.iconst 0, 1) := dk_3 (dk_at dksX2_share_1 6 rfl rfl)
theorem dX2_share_30 : decode cX2_share 30 = .ok (.goto 4, 3) := dk_167 0 4 (dk_at dksX2_share_1 7 rfl rfl)
theorem dX2_share_33 : decode cX2_share 33 = .ok (.iconst 2, 1) := dk_5 (dk_at dksX2_share_1 10 rfl rfl)
theorem dX2_share_34 : decode cX2_share 34 = .ok (.putfield 51, 3) := dk_181 0 51 (dk_at dksX2_share_1 11 rfl rfl)
theorem dX2_share_37 : decode cX2_share 37 = .ok (.aload_n 0, 1) := dk_42 (dk_at dksX2_share_1 14 rfl rfl)
theorem dX2_share_38 : decode cX2_share 38 = .ok (.getfield 51, 3) := dk_180 0 51 (dk_at dksX2_share_1 15 rfl rfl)
theorem dX2_share_41 : decode cX2_share 41 = .ok (.ifCond .le 7, 3) := dk_158 0 7 (dk_at dksX2_share_1 18 rfl rfl)
theorem dX2_share_44 : decode cX2_share 44 = .ok (.lconst 0, 1) := dk_9 (dk_at dksX2_share_1 21 rfl rfl)
theorem dX2_share_45 : decode cX2_share 45 = .ok (.goto 10, 3) := dk_167 0 10 (dk_at dksX2_share_2 0 rfl rfl)
theorem dX2_share_48 : decode cX2_share 48 = .ok (.aload_n 0, 1) := dk_42 (dk_at dksX2_share_2 3 rfl rfl)
theorem dX2_share_49 : decode cX2_share 49 = .ok (.iload_n 1, 1) := dk_27 (dk_at dksX2_share_2 4 rfl rfl)
theorem dX2_share_50 : decode cX2_share 50 = .ok (.iload_n 2, 1) := dk_28 (dk_at dksX2_share_2 5 rfl rfl)
theorem dX2_share_51 : decode cX2_share 51 = .ok (.iload_n 3, 1) := dk_29 (dk_at dksX2_share_2 6 rfl rfl)
theorem dX2_share_52 : decode cX2_share 52 = .ok (.invokevirtual 260, 3) := dk_182 1 4 (dk_at dksX2_share_2 7 rfl rfl)
theorem dX2_share_55 : decode cX2_share 55 = .ok (.lreturn, 1) := dk_173 (dk_at dksX2_share_2 10 rfl rfl)
abbrev cX2_shareOf : ByteArray := prog_10_method_59_code
def yX2_shareOf : MethodName := ⟨RX2, "shareOf", "(III)J"⟩
def dkwX2_shareOf_1 : List UInt8 := [180, 0, 247, 182, 0, 250, 29, 154, 0, 10, 42, 180, 0, 232, 167, 0, 7, 42, 180, 0, 235, 173]
abbrev dktX2_shareOf_1 : List UInt8 := dkwX2_shareOf_1 ++ []
def dkwX2_shareOf_0 : List UInt8 := [42, 27, 182, 0, 254, 42, 180, 0, 219, 4, 164, 0, 5, 9, 173, 42, 42, 180, 0, 44, 28, 47, 42]
abbrev dktX2_shareOf_0 : List UInt8 := dkwX2_shareOf_0 ++ dktX2_shareOf_1
theorem dksX2_shareOf_0 : cX2_shareOf.data.toList.drop 0 = dktX2_shareOf_0 := by decide +kernel
theorem dksX2_shareOf_1 : cX2_shareOf.data.toList.drop 23 = dktX2_shareOf_1 := dk_seg dksX2_shareOf_0 23 rfl rfl
theorem dX2_shareOf_0 : decode cX2_shareOf 0 = .ok (.aload_n 0, 1) := dk_42 (dk_at dksX2_shareOf_0 0 rfl rfl)
theorem dX2_shareOf_1 : decode cX2_shareOf 1 = .ok (.iload_n 1, 1) := dk_27 (dk_at dksX2_shareOf_0 1 rfl rfl)
theorem dX2_shareOf_2 : decode cX2_shareOf 2 = .ok (.invokevirtual 254, 3) := dk_182 0 254 (dk_at dksX2_shareOf_0 2 rfl rfl)
theorem dX2_shareOf_5 : decode cX2_shareOf 5 = .ok (.aload_n 0, 1) := dk_42 (dk_at dksX2_shareOf_0 5 rfl rfl)
theorem dX2_shareOf_6 : decode cX2_shareOf 6 = .ok (.getfield 219, 3) := dk_180 0 219 (dk_at dksX2_shareOf_0 6 rfl rfl)
theorem dX2_shareOf_9 : decode cX2_shareOf 9 = .ok (.iconst 1, 1) := dk_4 (dk_at dksX2_shareOf_0 9 rfl rfl)
theorem dX2_shareOf_10 : decode cX2_shareOf 10 = .ok (.if_icmp .le 5, 3) := dk_164 0 5 (dk_at dksX2_shareOf_0 10 rfl rfl)
theorem dX2_shareOf_13 : decode cX2_shareOf 13 = .ok (.lconst 0, 1) := dk_9 (dk_at dksX2_shareOf_0 13 rfl rfl)
theorem dX2_shareOf_14 : decode cX2_shareOf 14 = .ok (.lreturn, 1) := dk_173 (dk_at dksX2_shareOf_0 14 rfl rfl)
theorem dX2_shareOf_15 : decode cX2_shareOf 15 = .ok (.aload_n 0, 1) := dk_42 (dk_at dksX2_shareOf_0 15 rfl rfl)
theorem dX2_shareOf_16 : decode cX2_shareOf 16 = .ok (.aload_n 0, 1) := dk_42 (dk_at dksX2_shareOf_0 16 rfl rfl)
theorem dX2_shareOf_17 : decode cX2_shareOf 17 = .ok (.getfield 44, 3) := dk_180 0 44 (dk_at dksX2_shareOf_0 17 rfl rfl)
theorem dX2_shareOf_20 : decode cX2_shareOf 20 = .ok (.iload_n 2, 1) := dk_28 (dk_at dksX2_shareOf_0 20 rfl rfl)
theorem dX2_shareOf_21 : decode cX2_shareOf 21 = .ok (.laload, 1) := dk_47 (dk_at dksX2_shareOf_0 21 rfl rfl)
theorem dX2_shareOf_22 : decode cX2_shareOf 22 = .ok (.aload_n 0, 1) := dk_42 (dk_at dksX2_shareOf_0 22 rfl rfl)
theorem dX2_shareOf_23 : decode cX2_shareOf 23 = .ok (.getfield 247, 3) := dk_180 0 247 (dk_at dksX2_shareOf_1 0 rfl rfl)
theorem dX2_shareOf_26 : decode cX2_shareOf 26 = .ok (.invokevirtual 250, 3) := dk_182 0 250 (dk_at dksX2_shareOf_1 3 rfl rfl)
theorem dX2_shareOf_29 : decode cX2_shareOf 29 = .ok (.iload_n 3, 1) := dk_29 (dk_at dksX2_shareOf_1 6 rfl rfl)
theorem dX2_shareOf_30 : decode cX2_shareOf 30 = .ok (.ifCond .ne 10, 3) := dk_154 0 10 (dk_at dksX2_shareOf_1 7 rfl rfl)
theorem dX2_shareOf_33 : decode cX2_shareOf 33 = .ok (.aload_n 0, 1) := dk_42 (dk_at dksX2_shareOf_1 10 rfl rfl)
theorem dX2_shareOf_34 : decode cX2_shareOf 34 = .ok (.getfield 232, 3) := dk_180 0 232 (dk_at dksX2_shareOf_1 11 rfl rfl)
theorem dX2_shareOf_37 : decode cX2_shareOf 37 = .ok (.goto 7, 3) := dk_167 0 7 (dk_at dksX2_shareOf_1 14 rfl rfl)
theorem dX2_shareOf_40 : decode cX2_shareOf 40 = .ok (.aload_n 0, 1) := dk_42 (dk_at dksX2_shareOf_1 17 rfl rfl)
theorem dX2_shareOf_41 : decode cX2_shareOf 41 = .ok (.getfield 235, 3) := dk_180 0 235 (dk_at dksX2_shareOf_1 18 rfl rfl)
theorem dX2_shareOf_44 : decode cX2_shareOf 44 = .ok (.lreturn, 1) := dk_173 (dk_at dksX2_shareOf_1 21 rfl rfl)
abbrev cX2_classes : ByteArray := prog_10_method_61_code
def yX2_classes : MethodName := ⟨RX2, "classes", "(I)I"⟩
def dkwX2_classes_1 : List UInt8 := [172, 42, 27, 182, 0, 254, 42, 180, 0, 219, 172]
abbrev dktX2_classes_1 : List UInt8 := dkwX2_classes_1 ++ []
def dkwX2_classes_0 : List UInt8 := [42, 27, 184, 0, 111, 153, 0, 7, 3, 167, 0, 4, 4, 181, 0, 51, 42, 180, 0, 51, 158, 0, 5, 3]
abbrev dktX2_classes_0 : List UInt8 := dkwX2_classes_0 ++ dktX2_classes_1
theorem dksX2_classes_0 : cX2_classes.data.toList.drop 0 = dktX2_classes_0 := by decide +kernel
theorem dksX2_classes_1 : cX2_classes.data.toList.drop 24 = dktX2_classes_1 := dk_seg dksX2_classes_0 24 rfl rfl
theorem dX2_classes_0 : decode cX2_classes 0 = .ok (.aload_n 0, 1) := dk_42 (dk_at dksX2_classes_0 0 rfl rfl)
theorem dX2_classes_1 : decode cX2_classes 1 = .ok (.iload_n 1, 1) := dk_27 (dk_at dksX2_classes_0 1 rfl rfl)
theorem dX2_classes_2 : decode cX2_classes 2 = .ok (.invokestatic 111, 3) := dk_184 0 111 (dk_at dksX2_classes_0 2 rfl rfl)
theorem dX2_classes_5 : decode cX2_classes 5 = .ok (.ifCond .eq 7, 3) := dk_153 0 7 (dk_at dksX2_classes_0 5 rfl rfl)
theorem dX2_classes_8 : decode cX2_classes 8 = .ok (.iconst 0, 1) := dk_3 (dk_at dksX2_classes_0 8 rfl rfl)
theorem dX2_classes_9 : decode cX2_classes 9 = .ok (.goto 4, 3) := dk_167 0 4 (dk_at dksX2_classes_0 9 rfl rfl)
theorem dX2_classes_12 : decode cX2_classes 12 = .ok (.iconst 1, 1) := dk_4 (dk_at dksX2_classes_0 12 rfl rfl)
theorem dX2_classes_13 : decode cX2_classes 13 = .ok (.putfield 51, 3) := dk_181 0 51 (dk_at dksX2_classes_0 13 rfl rfl)
theorem dX2_classes_16 : decode cX2_classes 16 = .ok (.aload_n 0, 1) := dk_42 (dk_at dksX2_classes_0 16 rfl rfl)
theorem dX2_classes_17 : decode cX2_classes 17 = .ok (.getfield 51, 3) := dk_180 0 51 (dk_at dksX2_classes_0 17 rfl rfl)
theorem dX2_classes_20 : decode cX2_classes 20 = .ok (.ifCond .le 5, 3) := dk_158 0 5 (dk_at dksX2_classes_0 20 rfl rfl)
theorem dX2_classes_23 : decode cX2_classes 23 = .ok (.iconst 0, 1) := dk_3 (dk_at dksX2_classes_0 23 rfl rfl)
theorem dX2_classes_24 : decode cX2_classes 24 = .ok (.ireturn, 1) := dk_172 (dk_at dksX2_classes_1 0 rfl rfl)
theorem dX2_classes_25 : decode cX2_classes 25 = .ok (.aload_n 0, 1) := dk_42 (dk_at dksX2_classes_1 1 rfl rfl)
theorem dX2_classes_26 : decode cX2_classes 26 = .ok (.iload_n 1, 1) := dk_27 (dk_at dksX2_classes_1 2 rfl rfl)
theorem dX2_classes_27 : decode cX2_classes 27 = .ok (.invokevirtual 254, 3) := dk_182 0 254 (dk_at dksX2_classes_1 3 rfl rfl)
theorem dX2_classes_30 : decode cX2_classes 30 = .ok (.aload_n 0, 1) := dk_42 (dk_at dksX2_classes_1 6 rfl rfl)
theorem dX2_classes_31 : decode cX2_classes 31 = .ok (.getfield 219, 3) := dk_180 0 219 (dk_at dksX2_classes_1 7 rfl rfl)
theorem dX2_classes_34 : decode cX2_classes 34 = .ok (.ireturn, 1) := dk_172 (dk_at dksX2_classes_1 10 rfl rfl)
abbrev cX2_compare : ByteArray := prog_10_method_64_code
def yX2_compare : MethodName := ⟨RX2, "compare", "(II)I"⟩
def dkwX2_compare_4 : List UInt8 := [180, 0, 232, 42, 180, 0, 235, 184, 1, 11, 172]
abbrev dktX2_compare_4 : List UInt8 := dkwX2_compare_4 ++ []
def dkwX2_compare_3 : List UInt8 := [167, 0, 4, 3, 181, 0, 51, 42, 180, 0, 51, 158, 0, 7, 3, 167, 0, 17, 33, 22, 5, 42]
abbrev dktX2_compare_3 : List UInt8 := dkwX2_compare_3 ++ dktX2_compare_4
def dkwX2_compare_2 : List UInt8 := [42, 28, 182, 0, 254, 42, 22, 5, 9, 148, 153, 0, 12, 42, 180, 0, 235, 9, 148, 154, 0, 7, 5]
abbrev dktX2_compare_2 : List UInt8 := dkwX2_compare_2 ++ dktX2_compare_3
def dkwX2_compare_1 : List UInt8 := [180, 0, 51, 158, 0, 5, 3, 172, 42, 27, 182, 0, 254, 42, 180, 0, 232, 66, 42, 180, 0, 235, 55, 5]
abbrev dktX2_compare_1 : List UInt8 := dkwX2_compare_1 ++ dktX2_compare_2
def dkwX2_compare_0 : List UInt8 := [42, 27, 184, 0, 111, 153, 0, 14, 28, 184, 0, 111, 153, 0, 7, 3, 167, 0, 4, 4, 181, 0, 51, 42]
abbrev dktX2_compare_0 : List UInt8 := dkwX2_compare_0 ++ dktX2_compare_1
theorem dksX2_compare_0 : cX2_compare.data.toList.drop 0 = dktX2_compare_0 := by decide +kernel
theorem dksX2_compare_1 : cX2_compare.data.toList.drop 24 = dktX2_compare_1 := dk_seg dksX2_compare_0 24 rfl rfl
theorem dksX2_compare_2 : cX2_compare.data.toList.drop 48 = dktX2_compare_2 := dk_seg dksX2_compare_1 24 rfl rfl
theorem dksX2_compare_3 : cX2_compare.data.toList.drop 71 = dktX2_compare_3 := dk_seg dksX2_compare_2 23 rfl rfl
theorem dksX2_compare_4 : cX2_compare.data.toList.drop 93 = dktX2_compare_4 := dk_seg dksX2_compare_3 22 rfl rfl
theorem dX2_compare_0 : decode cX2_compare 0 = .ok (.aload_n 0, 1) := dk_42 (dk_at dksX2_compare_0 0 rfl rfl)
theorem dX2_compare_1 : decode cX2_compare 1 = .ok (.iload_n 1, 1) := dk_27 (dk_at dksX2_compare_0 1 rfl rfl)
theorem dX2_compare_2 : decode cX2_compare 2 = .ok (.invokestatic 111, 3) := dk_184 0 111 (dk_at dksX2_compare_0 2 rfl rfl)
theorem dX2_compare_5 : decode cX2_compare 5 = .ok (.ifCond .eq 14, 3) := dk_153 0 14 (dk_at dksX2_compare_0 5 rfl rfl)
theorem dX2_compare_8 : decode cX2_compare 8 = .ok (.iload_n 2, 1) := dk_28 (dk_at dksX2_compare_0 8 rfl rfl)
theorem dX2_compare_9 : decode cX2_compare 9 = .ok (.invokestatic 111, 3) := dk_184 0 111 (dk_at dksX2_compare_0 9 rfl rfl)
theorem dX2_compare_12 : decode cX2_compare 12 = .ok (.ifCond .eq 7, 3) := dk_153 0 7 (dk_at dksX2_compare_0 12 rfl rfl)
theorem dX2_compare_15 : decode cX2_compare 15 = .ok (.iconst 0, 1) := dk_3 (dk_at dksX2_compare_0 15 rfl rfl)
theorem dX2_compare_16 : decode cX2_compare 16 = .ok (.goto 4, 3) := dk_167 0 4 (dk_at dksX2_compare_0 16 rfl rfl)
theorem dX2_compare_19 : decode cX2_compare 19 = .ok (.iconst 1, 1) := dk_4 (dk_at dksX2_compare_0 19 rfl rfl)
theorem dX2_compare_20 : decode cX2_compare 20 = .ok (.putfield 51, 3) := dk_181 0 51 (dk_at dksX2_compare_0 20 rfl rfl)
theorem dX2_compare_23 : decode cX2_compare 23 = .ok (.aload_n 0, 1) := dk_42 (dk_at dksX2_compare_0 23 rfl rfl)
theorem dX2_compare_24 : decode cX2_compare 24 = .ok (.getfield 51, 3) := dk_180 0 51 (dk_at dksX2_compare_1 0 rfl rfl)
theorem dX2_compare_27 : decode cX2_compare 27 = .ok (.ifCond .le 5, 3) := dk_158 0 5 (dk_at dksX2_compare_1 3 rfl rfl)
theorem dX2_compare_30 : decode cX2_compare 30 = .ok (.iconst 0, 1) := dk_3 (dk_at dksX2_compare_1 6 rfl rfl)
theorem dX2_compare_31 : decode cX2_compare 31 = .ok (.ireturn, 1) := dk_172 (dk_at dksX2_compare_1 7 rfl rfl)
theorem dX2_compare_32 : decode cX2_compare 32 = .ok (.aload_n 0, 1) := dk_42 (dk_at dksX2_compare_1 8 rfl rfl)
theorem dX2_compare_33 : decode cX2_compare 33 = .ok (.iload_n 1, 1) := dk_27 (dk_at dksX2_compare_1 9 rfl rfl)
theorem dX2_compare_34 : decode cX2_compare 34 = .ok (.invokevirtual 254, 3) := dk_182 0 254 (dk_at dksX2_compare_1 10 rfl rfl)
theorem dX2_compare_37 : decode cX2_compare 37 = .ok (.aload_n 0, 1) := dk_42 (dk_at dksX2_compare_1 13 rfl rfl)
theorem dX2_compare_38 : decode cX2_compare 38 = .ok (.getfield 232, 3) := dk_180 0 232 (dk_at dksX2_compare_1 14 rfl rfl)
theorem dX2_compare_41 : decode cX2_compare 41 = .ok (.lstore_n 3, 1) := dk_66 (dk_at dksX2_compare_1 17 rfl rfl)
theorem dX2_compare_42 : decode cX2_compare 42 = .ok (.aload_n 0, 1) := dk_42 (dk_at dksX2_compare_1 18 rfl rfl)
theorem dX2_compare_43 : decode cX2_compare 43 = .ok (.getfield 235, 3) := dk_180 0 235 (dk_at dksX2_compare_1 19 rfl rfl)
theorem dX2_compare_46 : decode cX2_compare 46 = .ok (.lstore 5, 2) := dk_55 5 (dk_at dksX2_compare_1 22 rfl rfl)
theorem dX2_compare_48 : decode cX2_compare 48 = .ok (.aload_n 0, 1) := dk_42 (dk_at dksX2_compare_2 0 rfl rfl)
theorem dX2_compare_49 : decode cX2_compare 49 = .ok (.iload_n 2, 1) := dk_28 (dk_at dksX2_compare_2 1 rfl rfl)
theorem dX2_compare_50 : decode cX2_compare 50 = .ok (.invokevirtual 254, 3) := dk_182 0 254 (dk_at dksX2_compare_2 2 rfl rfl)
theorem dX2_compare_53 : decode cX2_compare 53 = .ok (.aload_n 0, 1) := dk_42 (dk_at dksX2_compare_2 5 rfl rfl)
theorem dX2_compare_54 : decode cX2_compare 54 = .ok (.lload 5, 2) := dk_22 5 (dk_at dksX2_compare_2 6 rfl rfl)
theorem dX2_compare_56 : decode cX2_compare 56 = .ok (.lconst 0, 1) := dk_9 (dk_at dksX2_compare_2 8 rfl rfl)
theorem dX2_compare_57 : decode cX2_compare 57 = .ok (.lcmp, 1) := dk_148 (dk_at dksX2_compare_2 9 rfl rfl)
theorem dX2_compare_58 : decode cX2_compare 58 = .ok (.ifCond .eq 12, 3) := dk_153 0 12 (dk_at dksX2_compare_2 10 rfl rfl)
theorem dX2_compare_61 : decode cX2_compare 61 = .ok (.aload_n 0, 1) := dk_42 (dk_at dksX2_compare_2 13 rfl rfl)
theorem dX2_compare_62 : decode cX2_compare 62 = .ok (.getfield 235, 3) := dk_180 0 235 (dk_at dksX2_compare_2 14 rfl rfl)
theorem dX2_compare_65 : decode cX2_compare 65 = .ok (.lconst 0, 1) := dk_9 (dk_at dksX2_compare_2 17 rfl rfl)
theorem dX2_compare_66 : decode cX2_compare 66 = .ok (.lcmp, 1) := dk_148 (dk_at dksX2_compare_2 18 rfl rfl)
theorem dX2_compare_67 : decode cX2_compare 67 = .ok (.ifCond .ne 7, 3) := dk_154 0 7 (dk_at dksX2_compare_2 19 rfl rfl)
theorem dX2_compare_70 : decode cX2_compare 70 = .ok (.iconst 2, 1) := dk_5 (dk_at dksX2_compare_2 22 rfl rfl)
theorem dX2_compare_71 : decode cX2_compare 71 = .ok (.goto 4, 3) := dk_167 0 4 (dk_at dksX2_compare_3 0 rfl rfl)
theorem dX2_compare_74 : decode cX2_compare 74 = .ok (.iconst 0, 1) := dk_3 (dk_at dksX2_compare_3 3 rfl rfl)
theorem dX2_compare_75 : decode cX2_compare 75 = .ok (.putfield 51, 3) := dk_181 0 51 (dk_at dksX2_compare_3 4 rfl rfl)
theorem dX2_compare_78 : decode cX2_compare 78 = .ok (.aload_n 0, 1) := dk_42 (dk_at dksX2_compare_3 7 rfl rfl)
theorem dX2_compare_79 : decode cX2_compare 79 = .ok (.getfield 51, 3) := dk_180 0 51 (dk_at dksX2_compare_3 8 rfl rfl)
theorem dX2_compare_82 : decode cX2_compare 82 = .ok (.ifCond .le 7, 3) := dk_158 0 7 (dk_at dksX2_compare_3 11 rfl rfl)
theorem dX2_compare_85 : decode cX2_compare 85 = .ok (.iconst 0, 1) := dk_3 (dk_at dksX2_compare_3 14 rfl rfl)
theorem dX2_compare_86 : decode cX2_compare 86 = .ok (.goto 17, 3) := dk_167 0 17 (dk_at dksX2_compare_3 15 rfl rfl)
theorem dX2_compare_89 : decode cX2_compare 89 = .ok (.lload_n 3, 1) := dk_33 (dk_at dksX2_compare_3 18 rfl rfl)
theorem dX2_compare_90 : decode cX2_compare 90 = .ok (.lload 5, 2) := dk_22 5 (dk_at dksX2_compare_3 19 rfl rfl)
theorem dX2_compare_92 : decode cX2_compare 92 = .ok (.aload_n 0, 1) := dk_42 (dk_at dksX2_compare_3 21 rfl rfl)
theorem dX2_compare_93 : decode cX2_compare 93 = .ok (.getfield 232, 3) := dk_180 0 232 (dk_at dksX2_compare_4 0 rfl rfl)
theorem dX2_compare_96 : decode cX2_compare 96 = .ok (.aload_n 0, 1) := dk_42 (dk_at dksX2_compare_4 3 rfl rfl)
theorem dX2_compare_97 : decode cX2_compare 97 = .ok (.getfield 235, 3) := dk_180 0 235 (dk_at dksX2_compare_4 4 rfl rfl)
theorem dX2_compare_100 : decode cX2_compare 100 = .ok (.invokestatic 267, 3) := dk_184 1 11 (dk_at dksX2_compare_4 7 rfl rfl)
theorem dX2_compare_103 : decode cX2_compare 103 = .ok (.ireturn, 1) := dk_172 (dk_at dksX2_compare_4 10 rfl rfl)
abbrev cX2_sign : ByteArray := prog_10_method_63_code
def yX2_sign : MethodName := ⟨RX2, "sign", "(JJJJ)I"⟩
def dkwX2_sign_6 : List UInt8 := [167, 255, 130]
abbrev dktX2_sign_6 : List UInt8 := dkwX2_sign_6 ++ []
def dkwX2_sign_5 : List UInt8 := [21, 16, 172, 22, 10, 55, 8, 22, 21, 55, 10, 22, 14, 55, 12, 22, 23, 55, 14, 21, 16, 116, 54, 16]
abbrev dktX2_sign_5 : List UInt8 := dkwX2_sign_5 ++ dktX2_sign_6
def dkwX2_sign_4 : List UInt8 := [22, 23, 148, 154, 0, 7, 3, 167, 0, 18, 22, 21, 9, 148, 154, 0, 9, 21, 16, 116, 167, 0, 5]
abbrev dktX2_sign_4 : List UInt8 := dkwX2_sign_4 ++ dktX2_sign_5
def dkwX2_sign_3 : List UInt8 := [22, 19, 22, 14, 105, 101, 55, 23, 22, 21, 9, 148, 153, 0, 10, 22, 23, 9, 148, 154, 0, 31, 22, 21]
abbrev dktX2_sign_3 : List UInt8 := dkwX2_sign_3 ++ dktX2_sign_4
def dkwX2_sign_2 : List UInt8 := [156, 0, 9, 21, 16, 116, 167, 0, 5, 21, 16, 172, 22, 8, 22, 17, 22, 10, 105, 101, 55, 21, 22, 12]
abbrev dktX2_sign_2 : List UInt8 := dkwX2_sign_2 ++ dktX2_sign_3
def dkwX2_sign_1 : List UInt8 := [55, 17, 22, 12, 22, 14, 184, 1, 8, 55, 19, 22, 17, 22, 19, 148, 153, 0, 20, 22, 17, 22, 19, 148]
abbrev dktX2_sign_1 : List UInt8 := dkwX2_sign_1 ++ dktX2_sign_2
def dkwX2_sign_0 : List UInt8 := [30, 55, 8, 32, 55, 10, 22, 4, 55, 12, 22, 6, 55, 14, 4, 54, 16, 22, 8, 22, 10, 184, 1, 8]
abbrev dktX2_sign_0 : List UInt8 := dkwX2_sign_0 ++ dktX2_sign_1
theorem dksX2_sign_0 : cX2_sign.data.toList.drop 0 = dktX2_sign_0 := by decide +kernel
theorem dksX2_sign_1 : cX2_sign.data.toList.drop 24 = dktX2_sign_1 := dk_seg dksX2_sign_0 24 rfl rfl
theorem dksX2_sign_2 : cX2_sign.data.toList.drop 48 = dktX2_sign_2 := dk_seg dksX2_sign_1 24 rfl rfl
theorem dksX2_sign_3 : cX2_sign.data.toList.drop 72 = dktX2_sign_3 := dk_seg dksX2_sign_2 24 rfl rfl
theorem dksX2_sign_4 : cX2_sign.data.toList.drop 96 = dktX2_sign_4 := dk_seg dksX2_sign_3 24 rfl rfl
theorem dksX2_sign_5 : cX2_sign.data.toList.drop 119 = dktX2_sign_5 := dk_seg dksX2_sign_4 23 rfl rfl
theorem dksX2_sign_6 : cX2_sign.data.toList.drop 143 = dktX2_sign_6 := dk_seg dksX2_sign_5 24 rfl rfl
theorem dX2_sign_0 : decode cX2_sign 0 = .ok (.lload_n 0, 1) := dk_30 (dk_at dksX2_sign_0 0 rfl rfl)
theorem dX2_sign_1 : decode cX2_sign 1 = .ok (.lstore 8, 2) := dk_55 8 (dk_at dksX2_sign_0 1 rfl rfl)
theorem dX2_sign_3 : decode cX2_sign 3 = .ok (.lload_n 2, 1) := dk_32 (dk_at dksX2_sign_0 3 rfl rfl)
theorem dX2_sign_4 : decode cX2_sign 4 = .ok (.lstore 10, 2) := dk_55 10 (dk_at dksX2_sign_0 4 rfl rfl)
theorem dX2_sign_6 : decode cX2_sign 6 = .ok (.lload 4, 2) := dk_22 4 (dk_at dksX2_sign_0 6 rfl rfl)
theorem dX2_sign_8 : decode cX2_sign 8 = .ok (.lstore 12, 2) := dk_55 12 (dk_at dksX2_sign_0 8 rfl rfl)
theorem dX2_sign_10 : decode cX2_sign 10 = .ok (.lload 6, 2) := dk_22 6 (dk_at dksX2_sign_0 10 rfl rfl)
theorem dX2_sign_12 : decode cX2_sign 12 = .ok (.lstore 14, 2) := dk_55 14 (dk_at dksX2_sign_0 12 rfl rfl)
theorem dX2_sign_14 : decode cX2_sign 14 = .ok (.iconst 1, 1) := dk_4 (dk_at dksX2_sign_0 14 rfl rfl)
theorem dX2_sign_15 : decode cX2_sign 15 = .ok (.istore 16, 2) := dk_54 16 (dk_at dksX2_sign_0 15 rfl rfl)
theorem dX2_sign_17 : decode cX2_sign 17 = .ok (.lload 8, 2) := dk_22 8 (dk_at dksX2_sign_0 17 rfl rfl)
theorem dX2_sign_19 : decode cX2_sign 19 = .ok (.lload 10, 2) := dk_22 10 (dk_at dksX2_sign_0 19 rfl rfl)
theorem dX2_sign_21 : decode cX2_sign 21 = .ok (.invokestatic 264, 3) := dk_184 1 8 (dk_at dksX2_sign_0 21 rfl rfl)
theorem dX2_sign_24 : decode cX2_sign 24 = .ok (.lstore 17, 2) := dk_55 17 (dk_at dksX2_sign_1 0 rfl rfl)
theorem dX2_sign_26 : decode cX2_sign 26 = .ok (.lload 12, 2) := dk_22 12 (dk_at dksX2_sign_1 2 rfl rfl)
theorem dX2_sign_28 : decode cX2_sign 28 = .ok (.lload 14, 2) := dk_22 14 (dk_at dksX2_sign_1 4 rfl rfl)
theorem dX2_sign_30 : decode cX2_sign 30 = .ok (.invokestatic 264, 3) := dk_184 1 8 (dk_at dksX2_sign_1 6 rfl rfl)
theorem dX2_sign_33 : decode cX2_sign 33 = .ok (.lstore 19, 2) := dk_55 19 (dk_at dksX2_sign_1 9 rfl rfl)
theorem dX2_sign_35 : decode cX2_sign 35 = .ok (.lload 17, 2) := dk_22 17 (dk_at dksX2_sign_1 11 rfl rfl)
theorem dX2_sign_37 : decode cX2_sign 37 = .ok (.lload 19, 2) := dk_22 19 (dk_at dksX2_sign_1 13 rfl rfl)
theorem dX2_sign_39 : decode cX2_sign 39 = .ok (.lcmp, 1) := dk_148 (dk_at dksX2_sign_1 15 rfl rfl)
theorem dX2_sign_40 : decode cX2_sign 40 = .ok (.ifCond .eq 20, 3) := dk_153 0 20 (dk_at dksX2_sign_1 16 rfl rfl)
theorem dX2_sign_43 : decode cX2_sign 43 = .ok (.lload 17, 2) := dk_22 17 (dk_at dksX2_sign_1 19 rfl rfl)
theorem dX2_sign_45 : decode cX2_sign 45 = .ok (.lload 19, 2) := dk_22 19 (dk_at dksX2_sign_1 21 rfl rfl)
theorem dX2_sign_47 : decode cX2_sign 47 = .ok (.lcmp, 1) := dk_148 (dk_at dksX2_sign_1 23 rfl rfl)
theorem dX2_sign_48 : decode cX2_sign 48 = .ok (.ifCond .ge 9, 3) := dk_156 0 9 (dk_at dksX2_sign_2 0 rfl rfl)
theorem dX2_sign_51 : decode cX2_sign 51 = .ok (.iload 16, 2) := dk_21 16 (dk_at dksX2_sign_2 3 rfl rfl)
theorem dX2_sign_53 : decode cX2_sign 53 = .ok (.ineg, 1) := dk_116 (dk_at dksX2_sign_2 5 rfl rfl)
theorem dX2_sign_54 : decode cX2_sign 54 = .ok (.goto 5, 3) := dk_167 0 5 (dk_at dksX2_sign_2 6 rfl rfl)
theorem dX2_sign_57 : decode cX2_sign 57 = .ok (.iload 16, 2) := dk_21 16 (dk_at dksX2_sign_2 9 rfl rfl)
theorem dX2_sign_59 : decode cX2_sign 59 = .ok (.ireturn, 1) := dk_172 (dk_at dksX2_sign_2 11 rfl rfl)
theorem dX2_sign_60 : decode cX2_sign 60 = .ok (.lload 8, 2) := dk_22 8 (dk_at dksX2_sign_2 12 rfl rfl)
theorem dX2_sign_62 : decode cX2_sign 62 = .ok (.lload 17, 2) := dk_22 17 (dk_at dksX2_sign_2 14 rfl rfl)
theorem dX2_sign_64 : decode cX2_sign 64 = .ok (.lload 10, 2) := dk_22 10 (dk_at dksX2_sign_2 16 rfl rfl)
theorem dX2_sign_66 : decode cX2_sign 66 = .ok (.lmul, 1) := dk_105 (dk_at dksX2_sign_2 18 rfl rfl)
theorem dX2_sign_67 : decode cX2_sign 67 = .ok (.lsub, 1) := dk_101 (dk_at dksX2_sign_2 19 rfl rfl)
theorem dX2_sign_68 : decode cX2_sign 68 = .ok (.lstore 21, 2) := dk_55 21 (dk_at dksX2_sign_2 20 rfl rfl)
theorem dX2_sign_70 : decode cX2_sign 70 = .ok (.lload 12, 2) := dk_22 12 (dk_at dksX2_sign_2 22 rfl rfl)
theorem dX2_sign_72 : decode cX2_sign 72 = .ok (.lload 19, 2) := dk_22 19 (dk_at dksX2_sign_3 0 rfl rfl)
theorem dX2_sign_74 : decode cX2_sign 74 = .ok (.lload 14, 2) := dk_22 14 (dk_at dksX2_sign_3 2 rfl rfl)
theorem dX2_sign_76 : decode cX2_sign 76 = .ok (.lmul, 1) := dk_105 (dk_at dksX2_sign_3 4 rfl rfl)
theorem dX2_sign_77 : decode cX2_sign 77 = .ok (.lsub, 1) := dk_101 (dk_at dksX2_sign_3 5 rfl rfl)
theorem dX2_sign_78 : decode cX2_sign 78 = .ok (.lstore 23, 2) := dk_55 23 (dk_at dksX2_sign_3 6 rfl rfl)
theorem dX2_sign_80 : decode cX2_sign 80 = .ok (.lload 21, 2) := dk_22 21 (dk_at dksX2_sign_3 8 rfl rfl)
theorem dX2_sign_82 : decode cX2_sign 82 = .ok (.lconst 0, 1) := dk_9 (dk_at dksX2_sign_3 10 rfl rfl)
theorem dX2_sign_83 : decode cX2_sign 83 = .ok (.lcmp, 1) := dk_148 (dk_at dksX2_sign_3 11 rfl rfl)
theorem dX2_sign_84 : decode cX2_sign 84 = .ok (.ifCond .eq 10, 3) := dk_153 0 10 (dk_at dksX2_sign_3 12 rfl rfl)
theorem dX2_sign_87 : decode cX2_sign 87 = .ok (.lload 23, 2) := dk_22 23 (dk_at dksX2_sign_3 15 rfl rfl)
theorem dX2_sign_89 : decode cX2_sign 89 = .ok (.lconst 0, 1) := dk_9 (dk_at dksX2_sign_3 17 rfl rfl)
theorem dX2_sign_90 : decode cX2_sign 90 = .ok (.lcmp, 1) := dk_148 (dk_at dksX2_sign_3 18 rfl rfl)
theorem dX2_sign_91 : decode cX2_sign 91 = .ok (.ifCond .ne 31, 3) := dk_154 0 31 (dk_at dksX2_sign_3 19 rfl rfl)
theorem dX2_sign_94 : decode cX2_sign 94 = .ok (.lload 21, 2) := dk_22 21 (dk_at dksX2_sign_3 22 rfl rfl)
theorem dX2_sign_96 : decode cX2_sign 96 = .ok (.lload 23, 2) := dk_22 23 (dk_at dksX2_sign_4 0 rfl rfl)
theorem dX2_sign_98 : decode cX2_sign 98 = .ok (.lcmp, 1) := dk_148 (dk_at dksX2_sign_4 2 rfl rfl)
theorem dX2_sign_99 : decode cX2_sign 99 = .ok (.ifCond .ne 7, 3) := dk_154 0 7 (dk_at dksX2_sign_4 3 rfl rfl)
theorem dX2_sign_102 : decode cX2_sign 102 = .ok (.iconst 0, 1) := dk_3 (dk_at dksX2_sign_4 6 rfl rfl)
theorem dX2_sign_103 : decode cX2_sign 103 = .ok (.goto 18, 3) := dk_167 0 18 (dk_at dksX2_sign_4 7 rfl rfl)
theorem dX2_sign_106 : decode cX2_sign 106 = .ok (.lload 21, 2) := dk_22 21 (dk_at dksX2_sign_4 10 rfl rfl)
theorem dX2_sign_108 : decode cX2_sign 108 = .ok (.lconst 0, 1) := dk_9 (dk_at dksX2_sign_4 12 rfl rfl)
theorem dX2_sign_109 : decode cX2_sign 109 = .ok (.lcmp, 1) := dk_148 (dk_at dksX2_sign_4 13 rfl rfl)
theorem dX2_sign_110 : decode cX2_sign 110 = .ok (.ifCond .ne 9, 3) := dk_154 0 9 (dk_at dksX2_sign_4 14 rfl rfl)
theorem dX2_sign_113 : decode cX2_sign 113 = .ok (.iload 16, 2) := dk_21 16 (dk_at dksX2_sign_4 17 rfl rfl)
theorem dX2_sign_115 : decode cX2_sign 115 = .ok (.ineg, 1) := dk_116 (dk_at dksX2_sign_4 19 rfl rfl)
theorem dX2_sign_116 : decode cX2_sign 116 = .ok (.goto 5, 3) := dk_167 0 5 (dk_at dksX2_sign_4 20 rfl rfl)
theorem dX2_sign_119 : decode cX2_sign 119 = .ok (.iload 16, 2) := dk_21 16 (dk_at dksX2_sign_5 0 rfl rfl)
theorem dX2_sign_121 : decode cX2_sign 121 = .ok (.ireturn, 1) := dk_172 (dk_at dksX2_sign_5 2 rfl rfl)
theorem dX2_sign_122 : decode cX2_sign 122 = .ok (.lload 10, 2) := dk_22 10 (dk_at dksX2_sign_5 3 rfl rfl)
theorem dX2_sign_124 : decode cX2_sign 124 = .ok (.lstore 8, 2) := dk_55 8 (dk_at dksX2_sign_5 5 rfl rfl)
theorem dX2_sign_126 : decode cX2_sign 126 = .ok (.lload 21, 2) := dk_22 21 (dk_at dksX2_sign_5 7 rfl rfl)
theorem dX2_sign_128 : decode cX2_sign 128 = .ok (.lstore 10, 2) := dk_55 10 (dk_at dksX2_sign_5 9 rfl rfl)
theorem dX2_sign_130 : decode cX2_sign 130 = .ok (.lload 14, 2) := dk_22 14 (dk_at dksX2_sign_5 11 rfl rfl)
theorem dX2_sign_132 : decode cX2_sign 132 = .ok (.lstore 12, 2) := dk_55 12 (dk_at dksX2_sign_5 13 rfl rfl)
theorem dX2_sign_134 : decode cX2_sign 134 = .ok (.lload 23, 2) := dk_22 23 (dk_at dksX2_sign_5 15 rfl rfl)
theorem dX2_sign_136 : decode cX2_sign 136 = .ok (.lstore 14, 2) := dk_55 14 (dk_at dksX2_sign_5 17 rfl rfl)
theorem dX2_sign_138 : decode cX2_sign 138 = .ok (.iload 16, 2) := dk_21 16 (dk_at dksX2_sign_5 19 rfl rfl)
theorem dX2_sign_140 : decode cX2_sign 140 = .ok (.ineg, 1) := dk_116 (dk_at dksX2_sign_5 21 rfl rfl)
theorem dX2_sign_141 : decode cX2_sign 141 = .ok (.istore 16, 2) := dk_54 16 (dk_at dksX2_sign_5 22 rfl rfl)
theorem dX2_sign_143 : decode cX2_sign 143 = .ok (.goto (-126), 3) := dk_167 255 130 (dk_at dksX2_sign_6 0 rfl rfl)
abbrev cX2_whole : ByteArray := prog_10_method_62_code
def yX2_whole : MethodName := ⟨RX2, "whole", "(JJ)J"⟩
def dkwX2_whole_0 : List UInt8 := [30, 9, 148, 155, 0, 9, 30, 32, 109, 167, 0, 12, 30, 117, 32, 97, 10, 101, 32, 109, 117, 173]
abbrev dktX2_whole_0 : List UInt8 := dkwX2_whole_0 ++ []
theorem dksX2_whole_0 : cX2_whole.data.toList.drop 0 = dktX2_whole_0 := by decide +kernel
theorem dX2_whole_0 : decode cX2_whole 0 = .ok (.lload_n 0, 1) := dk_30 (dk_at dksX2_whole_0 0 rfl rfl)
theorem dX2_whole_1 : decode cX2_whole 1 = .ok (.lconst 0, 1) := dk_9 (dk_at dksX2_whole_0 1 rfl rfl)
theorem dX2_whole_2 : decode cX2_whole 2 = .ok (.lcmp, 1) := dk_148 (dk_at dksX2_whole_0 2 rfl rfl)
theorem dX2_whole_3 : decode cX2_whole 3 = .ok (.ifCond .lt 9, 3) := dk_155 0 9 (dk_at dksX2_whole_0 3 rfl rfl)
theorem dX2_whole_6 : decode cX2_whole 6 = .ok (.lload_n 0, 1) := dk_30 (dk_at dksX2_whole_0 6 rfl rfl)
theorem dX2_whole_7 : decode cX2_whole 7 = .ok (.lload_n 2, 1) := dk_32 (dk_at dksX2_whole_0 7 rfl rfl)
theorem dX2_whole_8 : decode cX2_whole 8 = .ok (.ldiv, 1) := dk_109 (dk_at dksX2_whole_0 8 rfl rfl)
theorem dX2_whole_9 : decode cX2_whole 9 = .ok (.goto 12, 3) := dk_167 0 12 (dk_at dksX2_whole_0 9 rfl rfl)
theorem dX2_whole_12 : decode cX2_whole 12 = .ok (.lload_n 0, 1) := dk_30 (dk_at dksX2_whole_0 12 rfl rfl)
theorem dX2_whole_13 : decode cX2_whole 13 = .ok (.lneg, 1) := dk_117 (dk_at dksX2_whole_0 13 rfl rfl)
theorem dX2_whole_14 : decode cX2_whole 14 = .ok (.lload_n 2, 1) := dk_32 (dk_at dksX2_whole_0 14 rfl rfl)
theorem dX2_whole_15 : decode cX2_whole 15 = .ok (.ladd, 1) := dk_97 (dk_at dksX2_whole_0 15 rfl rfl)
theorem dX2_whole_16 : decode cX2_whole 16 = .ok (.lconst 1, 1) := dk_10 (dk_at dksX2_whole_0 16 rfl rfl)
theorem dX2_whole_17 : decode cX2_whole 17 = .ok (.lsub, 1) := dk_101 (dk_at dksX2_whole_0 17 rfl rfl)
theorem dX2_whole_18 : decode cX2_whole 18 = .ok (.lload_n 2, 1) := dk_32 (dk_at dksX2_whole_0 18 rfl rfl)
theorem dX2_whole_19 : decode cX2_whole 19 = .ok (.ldiv, 1) := dk_109 (dk_at dksX2_whole_0 19 rfl rfl)
theorem dX2_whole_20 : decode cX2_whole 20 = .ok (.lneg, 1) := dk_117 (dk_at dksX2_whole_0 20 rfl rfl)
theorem dX2_whole_21 : decode cX2_whole 21 = .ok (.lreturn, 1) := dk_173 (dk_at dksX2_whole_0 21 rfl rfl)
abbrev cX2_best : ByteArray := prog_10_method_68_code
def yX2_best : MethodName := ⟨RX2, "best", "(II)J"⟩
def dkwX2_best_1 : List UInt8 := [181, 0, 51, 42, 180, 0, 51, 158, 0, 7, 9, 167, 0, 9, 42, 27, 28, 182, 1, 32, 173]
abbrev dktX2_best_1 : List UInt8 := dkwX2_best_1 ++ []
def dkwX2_best_0 : List UInt8 := [42, 27, 4, 6, 184, 0, 58, 153, 0, 16, 28, 3, 5, 184, 0, 58, 153, 0, 7, 3, 167, 0, 4, 4]
abbrev dktX2_best_0 : List UInt8 := dkwX2_best_0 ++ dktX2_best_1
theorem dksX2_best_0 : cX2_best.data.toList.drop 0 = dktX2_best_0 := by decide +kernel
theorem dksX2_best_1 : cX2_best.data.toList.drop 24 = dktX2_best_1 := dk_seg dksX2_best_0 24 rfl rfl
theorem dX2_best_0 : decode cX2_best 0 = .ok (.aload_n 0, 1) := dk_42 (dk_at dksX2_best_0 0 rfl rfl)
theorem dX2_best_1 : decode cX2_best 1 = .ok (.iload_n 1, 1) := dk_27 (dk_at dksX2_best_0 1 rfl rfl)
theorem dX2_best_2 : decode cX2_best 2 = .ok (.iconst 1, 1) := dk_4 (dk_at dksX2_best_0 2 rfl rfl)
theorem dX2_best_3 : decode cX2_best 3 = .ok (.iconst 3, 1) := dk_6 (dk_at dksX2_best_0 3 rfl rfl)
theorem dX2_best_4 : decode cX2_best 4 = .ok (.invokestatic 58, 3) := dk_184 0 58 (dk_at dksX2_best_0 4 rfl rfl)
theorem dX2_best_7 : decode cX2_best 7 = .ok (.ifCond .eq 16, 3) := dk_153 0 16 (dk_at dksX2_best_0 7 rfl rfl)
theorem dX2_best_10 : decode cX2_best 10 = .ok (.iload_n 2, 1) := dk_28 (dk_at dksX2_best_0 10 rfl rfl)
theorem dX2_best_11 : decode cX2_best 11 = .ok (.iconst 0, 1) := dk_3 (dk_at dksX2_best_0 11 rfl rfl)
theorem dX2_best_12 : decode cX2_best 12 = .ok (.iconst 2, 1) := dk_5 (dk_at dksX2_best_0 12 rfl rfl)
theorem dX2_best_13 : decode cX2_best 13 = .ok (.invokestatic 58, 3) := dk_184 0 58 (dk_at dksX2_best_0 13 rfl rfl)
theorem dX2_best_16 : decode cX2_best 16 = .ok (.ifCond .eq 7, 3) := dk_153 0 7 (dk_at dksX2_best_0 16 rfl rfl)
theorem dX2_best_19 : decode cX2_best 19 = .ok (.iconst 0, 1) := dk_3 (dk_at dksX2_best_0 19 rfl rfl)
theorem dX2_best_20 : decode cX2_best 20 = .ok (.goto 4, 3) := dk_167 0 4 (dk_at dksX2_best_0 20 rfl rfl)
theorem dX2_best_23 : decode cX2_best 23 = .ok (.iconst 1, 1) := dk_4 (dk_at dksX2_best_0 23 rfl rfl)
theorem dX2_best_24 : decode cX2_best 24 = .ok (.putfield 51, 3) := dk_181 0 51 (dk_at dksX2_best_1 0 rfl rfl)
theorem dX2_best_27 : decode cX2_best 27 = .ok (.aload_n 0, 1) := dk_42 (dk_at dksX2_best_1 3 rfl rfl)
theorem dX2_best_28 : decode cX2_best 28 = .ok (.getfield 51, 3) := dk_180 0 51 (dk_at dksX2_best_1 4 rfl rfl)
theorem dX2_best_31 : decode cX2_best 31 = .ok (.ifCond .le 7, 3) := dk_158 0 7 (dk_at dksX2_best_1 7 rfl rfl)
theorem dX2_best_34 : decode cX2_best 34 = .ok (.lconst 0, 1) := dk_9 (dk_at dksX2_best_1 10 rfl rfl)
theorem dX2_best_35 : decode cX2_best 35 = .ok (.goto 9, 3) := dk_167 0 9 (dk_at dksX2_best_1 11 rfl rfl)
theorem dX2_best_38 : decode cX2_best 38 = .ok (.aload_n 0, 1) := dk_42 (dk_at dksX2_best_1 14 rfl rfl)
theorem dX2_best_39 : decode cX2_best 39 = .ok (.iload_n 1, 1) := dk_27 (dk_at dksX2_best_1 15 rfl rfl)
theorem dX2_best_40 : decode cX2_best 40 = .ok (.iload_n 2, 1) := dk_28 (dk_at dksX2_best_1 16 rfl rfl)
theorem dX2_best_41 : decode cX2_best 41 = .ok (.invokevirtual 288, 3) := dk_182 1 32 (dk_at dksX2_best_1 17 rfl rfl)
theorem dX2_best_44 : decode cX2_best 44 = .ok (.lreturn, 1) := dk_173 (dk_at dksX2_best_1 20 rfl rfl)
abbrev cX2_bestNow : ByteArray := prog_10_method_67_code
def yX2_bestNow : MethodName := ⟨RX2, "bestNow", "(II)J"⟩
def dkwX2_bestNow_1 : List UInt8 := [180, 1, 20, 167, 0, 7, 42, 180, 1, 23, 173]
abbrev dktX2_bestNow_1 : List UInt8 := dkwX2_bestNow_1 ++ []
def dkwX2_bestNow_0 : List UInt8 := [42, 27, 182, 1, 29, 28, 154, 0, 11, 42, 180, 1, 15, 133, 167, 0, 19, 28, 4, 160, 0, 10, 42]
abbrev dktX2_bestNow_0 : List UInt8 := dkwX2_bestNow_0 ++ dktX2_bestNow_1
theorem dksX2_bestNow_0 : cX2_bestNow.data.toList.drop 0 = dktX2_bestNow_0 := by decide +kernel
theorem dksX2_bestNow_1 : cX2_bestNow.data.toList.drop 23 = dktX2_bestNow_1 := dk_seg dksX2_bestNow_0 23 rfl rfl
theorem dX2_bestNow_0 : decode cX2_bestNow 0 = .ok (.aload_n 0, 1) := dk_42 (dk_at dksX2_bestNow_0 0 rfl rfl)
theorem dX2_bestNow_1 : decode cX2_bestNow 1 = .ok (.iload_n 1, 1) := dk_27 (dk_at dksX2_bestNow_0 1 rfl rfl)
theorem dX2_bestNow_2 : decode cX2_bestNow 2 = .ok (.invokevirtual 285, 3) := dk_182 1 29 (dk_at dksX2_bestNow_0 2 rfl rfl)
theorem dX2_bestNow_5 : decode cX2_bestNow 5 = .ok (.iload_n 2, 1) := dk_28 (dk_at dksX2_bestNow_0 5 rfl rfl)
theorem dX2_bestNow_6 : decode cX2_bestNow 6 = .ok (.ifCond .ne 11, 3) := dk_154 0 11 (dk_at dksX2_bestNow_0 6 rfl rfl)
theorem dX2_bestNow_9 : decode cX2_bestNow 9 = .ok (.aload_n 0, 1) := dk_42 (dk_at dksX2_bestNow_0 9 rfl rfl)
theorem dX2_bestNow_10 : decode cX2_bestNow 10 = .ok (.getfield 271, 3) := dk_180 1 15 (dk_at dksX2_bestNow_0 10 rfl rfl)
theorem dX2_bestNow_13 : decode cX2_bestNow 13 = .ok (.i2l, 1) := dk_133 (dk_at dksX2_bestNow_0 13 rfl rfl)
theorem dX2_bestNow_14 : decode cX2_bestNow 14 = .ok (.goto 19, 3) := dk_167 0 19 (dk_at dksX2_bestNow_0 14 rfl rfl)
theorem dX2_bestNow_17 : decode cX2_bestNow 17 = .ok (.iload_n 2, 1) := dk_28 (dk_at dksX2_bestNow_0 17 rfl rfl)
theorem dX2_bestNow_18 : decode cX2_bestNow 18 = .ok (.iconst 1, 1) := dk_4 (dk_at dksX2_bestNow_0 18 rfl rfl)
theorem dX2_bestNow_19 : decode cX2_bestNow 19 = .ok (.if_icmp .ne 10, 3) := dk_160 0 10 (dk_at dksX2_bestNow_0 19 rfl rfl)
theorem dX2_bestNow_22 : decode cX2_bestNow 22 = .ok (.aload_n 0, 1) := dk_42 (dk_at dksX2_bestNow_0 22 rfl rfl)
theorem dX2_bestNow_23 : decode cX2_bestNow 23 = .ok (.getfield 276, 3) := dk_180 1 20 (dk_at dksX2_bestNow_1 0 rfl rfl)
theorem dX2_bestNow_26 : decode cX2_bestNow 26 = .ok (.goto 7, 3) := dk_167 0 7 (dk_at dksX2_bestNow_1 3 rfl rfl)
theorem dX2_bestNow_29 : decode cX2_bestNow 29 = .ok (.aload_n 0, 1) := dk_42 (dk_at dksX2_bestNow_1 6 rfl rfl)
theorem dX2_bestNow_30 : decode cX2_bestNow 30 = .ok (.getfield 279, 3) := dk_180 1 23 (dk_at dksX2_bestNow_1 7 rfl rfl)
theorem dX2_bestNow_33 : decode cX2_bestNow 33 = .ok (.lreturn, 1) := dk_173 (dk_at dksX2_bestNow_1 10 rfl rfl)
abbrev cX2_layBest : ByteArray := prog_10_method_66_code
def yX2_layBest : MethodName := ⟨RX2, "layBest", "(I)V"⟩
def dkwX2_layBest_6 : List UInt8 := [153, 0, 10, 42, 180, 0, 235, 167, 0, 7, 42, 180, 1, 23, 181, 1, 23, 132, 2, 1, 167, 255, 120, 177]
abbrev dktX2_layBest_6 : List UInt8 := dkwX2_layBest_6 ++ []
def dkwX2_layBest_5 : List UInt8 := [181, 1, 15, 42, 29, 153, 0, 10, 42, 180, 0, 232, 167, 0, 7, 42, 180, 1, 20, 181, 1, 20, 42, 29]
abbrev dktX2_layBest_5 : List UInt8 := dkwX2_layBest_5 ++ dktX2_layBest_6
def dkwX2_layBest_4 : List UInt8 := [158, 0, 7, 4, 167, 0, 4, 3, 62, 42, 29, 153, 0, 7, 28, 167, 0, 7, 42, 180, 1, 15]
abbrev dktX2_layBest_4 : List UInt8 := dkwX2_layBest_4 ++ dktX2_layBest_5
def dkwX2_layBest_3 : List UInt8 := [159, 0, 25, 42, 180, 0, 232, 42, 180, 0, 235, 42, 180, 1, 20, 42, 180, 1, 23, 184, 1, 11]
abbrev dktX2_layBest_3 : List UInt8 := dkwX2_layBest_3 ++ dktX2_layBest_4
def dkwX2_layBest_2 : List UInt8 := [153, 0, 107, 42, 28, 182, 0, 254, 42, 180, 0, 235, 9, 148, 158, 0, 37, 42, 180, 1, 15, 2]
abbrev dktX2_layBest_2 : List UInt8 := dkwX2_layBest_2 ++ dktX2_layBest_3
def dkwX2_layBest_1 : List UInt8 := [162, 0, 136, 28, 184, 0, 111, 153, 0, 123, 28, 184, 0, 62, 27, 163, 0, 115, 42, 28, 182, 1, 26]
abbrev dktX2_layBest_1 : List UInt8 := dkwX2_layBest_1 ++ dktX2_layBest_2
def dkwX2_layBest_0 : List UInt8 := [42, 2, 181, 1, 15, 42, 20, 1, 18, 181, 1, 20, 42, 20, 1, 18, 181, 1, 23, 4, 61, 28, 16, 64]
abbrev dktX2_layBest_0 : List UInt8 := dkwX2_layBest_0 ++ dktX2_layBest_1
theorem dksX2_layBest_0 : cX2_layBest.data.toList.drop 0 = dktX2_layBest_0 := by decide +kernel
theorem dksX2_layBest_1 : cX2_layBest.data.toList.drop 24 = dktX2_layBest_1 := dk_seg dksX2_layBest_0 24 rfl rfl
theorem dksX2_layBest_2 : cX2_layBest.data.toList.drop 47 = dktX2_layBest_2 := dk_seg dksX2_layBest_1 23 rfl rfl
theorem dksX2_layBest_3 : cX2_layBest.data.toList.drop 69 = dktX2_layBest_3 := dk_seg dksX2_layBest_2 22 rfl rfl
theorem dksX2_layBest_4 : cX2_layBest.data.toList.drop 91 = dktX2_layBest_4 := dk_seg dksX2_layBest_3 22 rfl rfl
theorem dksX2_layBest_5 : cX2_layBest.data.toList.drop 113 = dktX2_layBest_5 := dk_seg dksX2_layBest_4 22 rfl rfl
theorem dksX2_layBest_6 : cX2_layBest.data.toList.drop 137 = dktX2_layBest_6 := dk_seg dksX2_layBest_5 24 rfl rfl
theorem dX2_layBest_0 : decode cX2_layBest 0 = .ok (.aload_n 0, 1) := dk_42 (dk_at dksX2_layBest_0 0 rfl rfl)
theorem dX2_layBest_1 : decode cX2_layBest 1 = .ok (.iconst (-1), 1) := dk_2 (dk_at dksX2_layBest_0 1 rfl rfl)
theorem dX2_layBest_2 : decode cX2_layBest 2 = .ok (.putfield 271, 3) := dk_181 1 15 (dk_at dksX2_layBest_0 2 rfl rfl)
theorem dX2_layBest_5 : decode cX2_layBest 5 = .ok (.aload_n 0, 1) := dk_42 (dk_at dksX2_layBest_0 5 rfl rfl)
theorem dX2_layBest_6 : decode cX2_layBest 6 = .ok (.ldc2_w 274, 3) := dk_20 1 18 (dk_at dksX2_layBest_0 6 rfl rfl)
theorem dX2_layBest_9 : decode cX2_layBest 9 = .ok (.putfield 276, 3) := dk_181 1 20 (dk_at dksX2_layBest_0 9 rfl rfl)
theorem dX2_layBest_12 : decode cX2_layBest 12 = .ok (.aload_n 0, 1) := dk_42 (dk_at dksX2_layBest_0 12 rfl rfl)
theorem dX2_layBest_13 : decode cX2_layBest 13 = .ok (.ldc2_w 274, 3) := dk_20 1 18 (dk_at dksX2_layBest_0 13 rfl rfl)
theorem dX2_layBest_16 : decode cX2_layBest 16 = .ok (.putfield 279, 3) := dk_181 1 23 (dk_at dksX2_layBest_0 16 rfl rfl)
theorem dX2_layBest_19 : decode cX2_layBest 19 = .ok (.iconst 1, 1) := dk_4 (dk_at dksX2_layBest_0 19 rfl rfl)
theorem dX2_layBest_20 : decode cX2_layBest 20 = .ok (.istore_n 2, 1) := dk_61 (dk_at dksX2_layBest_0 20 rfl rfl)
theorem dX2_layBest_21 : decode cX2_layBest 21 = .ok (.iload_n 2, 1) := dk_28 (dk_at dksX2_layBest_0 21 rfl rfl)
theorem dX2_layBest_22 : decode cX2_layBest 22 = .ok (.bipush 64, 2) := dk_16 64 (dk_at dksX2_layBest_0 22 rfl rfl)
theorem dX2_layBest_24 : decode cX2_layBest 24 = .ok (.if_icmp .ge 136, 3) := dk_162 0 136 (dk_at dksX2_layBest_1 0 rfl rfl)
theorem dX2_layBest_27 : decode cX2_layBest 27 = .ok (.iload_n 2, 1) := dk_28 (dk_at dksX2_layBest_1 3 rfl rfl)
theorem dX2_layBest_28 : decode cX2_layBest 28 = .ok (.invokestatic 111, 3) := dk_184 0 111 (dk_at dksX2_layBest_1 4 rfl rfl)
theorem dX2_layBest_31 : decode cX2_layBest 31 = .ok (.ifCond .eq 123, 3) := dk_153 0 123 (dk_at dksX2_layBest_1 7 rfl rfl)
theorem dX2_layBest_34 : decode cX2_layBest 34 = .ok (.iload_n 2, 1) := dk_28 (dk_at dksX2_layBest_1 10 rfl rfl)
theorem dX2_layBest_35 : decode cX2_layBest 35 = .ok (.invokestatic 62, 3) := dk_184 0 62 (dk_at dksX2_layBest_1 11 rfl rfl)
theorem dX2_layBest_38 : decode cX2_layBest 38 = .ok (.iload_n 1, 1) := dk_27 (dk_at dksX2_layBest_1 14 rfl rfl)
theorem dX2_layBest_39 : decode cX2_layBest 39 = .ok (.if_icmp .gt 115, 3) := dk_163 0 115 (dk_at dksX2_layBest_1 15 rfl rfl)
theorem dX2_layBest_42 : decode cX2_layBest 42 = .ok (.aload_n 0, 1) := dk_42 (dk_at dksX2_layBest_1 18 rfl rfl)
theorem dX2_layBest_43 : decode cX2_layBest 43 = .ok (.iload_n 2, 1) := dk_28 (dk_at dksX2_layBest_1 19 rfl rfl)
theorem dX2_layBest_44 : decode cX2_layBest 44 = .ok (.invokevirtual 282, 3) := dk_182 1 26 (dk_at dksX2_layBest_1 20 rfl rfl)
theorem dX2_layBest_47 : decode cX2_layBest 47 = .ok (.ifCond .eq 107, 3) := dk_153 0 107 (dk_at dksX2_layBest_2 0 rfl rfl)
theorem dX2_layBest_50 : decode cX2_layBest 50 = .ok (.aload_n 0, 1) := dk_42 (dk_at dksX2_layBest_2 3 rfl rfl)
theorem dX2_layBest_51 : decode cX2_layBest 51 = .ok (.iload_n 2, 1) := dk_28 (dk_at dksX2_layBest_2 4 rfl rfl)
theorem dX2_layBest_52 : decode cX2_layBest 52 = .ok (.invokevirtual 254, 3) := dk_182 0 254 (dk_at dksX2_layBest_2 5 rfl rfl)
theorem dX2_layBest_55 : decode cX2_layBest 55 = .ok (.aload_n 0, 1) := dk_42 (dk_at dksX2_layBest_2 8 rfl rfl)
theorem dX2_layBest_56 : decode cX2_layBest 56 = .ok (.getfield 235, 3) := dk_180 0 235 (dk_at dksX2_layBest_2 9 rfl rfl)
theorem dX2_layBest_59 : decode cX2_layBest 59 = .ok (.lconst 0, 1) := dk_9 (dk_at dksX2_layBest_2 12 rfl rfl)
theorem dX2_layBest_60 : decode cX2_layBest 60 = .ok (.lcmp, 1) := dk_148 (dk_at dksX2_layBest_2 13 rfl rfl)
theorem dX2_layBest_61 : decode cX2_layBest 61 = .ok (.ifCond .le 37, 3) := dk_158 0 37 (dk_at dksX2_layBest_2 14 rfl rfl)
theorem dX2_layBest_64 : decode cX2_layBest 64 = .ok (.aload_n 0, 1) := dk_42 (dk_at dksX2_layBest_2 17 rfl rfl)
theorem dX2_layBest_65 : decode cX2_layBest 65 = .ok (.getfield 271, 3) := dk_180 1 15 (dk_at dksX2_layBest_2 18 rfl rfl)
theorem dX2_layBest_68 : decode cX2_layBest 68 = .ok (.iconst (-1), 1) := dk_2 (dk_at dksX2_layBest_2 21 rfl rfl)
theorem dX2_layBest_69 : decode cX2_layBest 69 = .ok (.if_icmp .eq 25, 3) := dk_159 0 25 (dk_at dksX2_layBest_3 0 rfl rfl)
theorem dX2_layBest_72 : decode cX2_layBest 72 = .ok (.aload_n 0, 1) := dk_42 (dk_at dksX2_layBest_3 3 rfl rfl)
theorem dX2_layBest_73 : decode cX2_layBest 73 = .ok (.getfield 232, 3) := dk_180 0 232 (dk_at dksX2_layBest_3 4 rfl rfl)
theorem dX2_layBest_76 : decode cX2_layBest 76 = .ok (.aload_n 0, 1) := dk_42 (dk_at dksX2_layBest_3 7 rfl rfl)
theorem dX2_layBest_77 : decode cX2_layBest 77 = .ok (.getfield 235, 3) := dk_180 0 235 (dk_at dksX2_layBest_3 8 rfl rfl)
theorem dX2_layBest_80 : decode cX2_layBest 80 = .ok (.aload_n 0, 1) := dk_42 (dk_at dksX2_layBest_3 11 rfl rfl)
theorem dX2_layBest_81 : decode cX2_layBest 81 = .ok (.getfield 276, 3) := dk_180 1 20 (dk_at dksX2_layBest_3 12 rfl rfl)
theorem dX2_layBest_84 : decode cX2_layBest 84 = .ok (.aload_n 0, 1) := dk_42 (dk_at dksX2_layBest_3 15 rfl rfl)
theorem dX2_layBest_85 : decode cX2_layBest 85 = .ok (.getfield 279, 3) := dk_180 1 23 (dk_at dksX2_layBest_3 16 rfl rfl)
theorem dX2_layBest_88 : decode cX2_layBest 88 = .ok (.invokestatic 267, 3) := dk_184 1 11 (dk_at dksX2_layBest_3 19 rfl rfl)
theorem dX2_layBest_91 : decode cX2_layBest 91 = .ok (.ifCond .le 7, 3) := dk_158 0 7 (dk_at dksX2_layBest_4 0 rfl rfl)
theorem dX2_layBest_94 : decode cX2_layBest 94 = .ok (.iconst 1, 1) := dk_4 (dk_at dksX2_layBest_4 3 rfl rfl)
theorem dX2_layBest_95 : decode cX2_layBest 95 = .ok (.goto 4, 3) := dk_167 0 4 (dk_at dksX2_layBest_4 4 rfl rfl)
theorem dX2_layBest_98 : decode cX2_layBest 98 = .ok (.iconst 0, 1) := dk_3 (dk_at dksX2_layBest_4 7 rfl rfl)
theorem dX2_layBest_99 : decode cX2_layBest 99 = .ok (.istore_n 3, 1) := dk_62 (dk_at dksX2_layBest_4 8 rfl rfl)
theorem dX2_layBest_100 : decode cX2_layBest 100 = .ok (.aload_n 0, 1) := dk_42 (dk_at dksX2_layBest_4 9 rfl rfl)
theorem dX2_layBest_101 : decode cX2_layBest 101 = .ok (.iload_n 3, 1) := dk_29 (dk_at dksX2_layBest_4 10 rfl rfl)
theorem dX2_layBest_102 : decode cX2_layBest 102 = .ok (.ifCond .eq 7, 3) := dk_153 0 7 (dk_at dksX2_layBest_4 11 rfl rfl)
theorem dX2_layBest_105 : decode cX2_layBest 105 = .ok (.iload_n 2, 1) := dk_28 (dk_at dksX2_layBest_4 14 rfl rfl)
theorem dX2_layBest_106 : decode cX2_layBest 106 = .ok (.goto 7, 3) := dk_167 0 7 (dk_at dksX2_layBest_4 15 rfl rfl)
theorem dX2_layBest_109 : decode cX2_layBest 109 = .ok (.aload_n 0, 1) := dk_42 (dk_at dksX2_layBest_4 18 rfl rfl)
theorem dX2_layBest_110 : decode cX2_layBest 110 = .ok (.getfield 271, 3) := dk_180 1 15 (dk_at dksX2_layBest_4 19 rfl rfl)
theorem dX2_layBest_113 : decode cX2_layBest 113 = .ok (.putfield 271, 3) := dk_181 1 15 (dk_at dksX2_layBest_5 0 rfl rfl)
theorem dX2_layBest_116 : decode cX2_layBest 116 = .ok (.aload_n 0, 1) := dk_42 (dk_at dksX2_layBest_5 3 rfl rfl)
theorem dX2_layBest_117 : decode cX2_layBest 117 = .ok (.iload_n 3, 1) := dk_29 (dk_at dksX2_layBest_5 4 rfl rfl)
theorem dX2_layBest_118 : decode cX2_layBest 118 = .ok (.ifCond .eq 10, 3) := dk_153 0 10 (dk_at dksX2_layBest_5 5 rfl rfl)
theorem dX2_layBest_121 : decode cX2_layBest 121 = .ok (.aload_n 0, 1) := dk_42 (dk_at dksX2_layBest_5 8 rfl rfl)
theorem dX2_layBest_122 : decode cX2_layBest 122 = .ok (.getfield 232, 3) := dk_180 0 232 (dk_at dksX2_layBest_5 9 rfl rfl)
theorem dX2_layBest_125 : decode cX2_layBest 125 = .ok (.goto 7, 3) := dk_167 0 7 (dk_at dksX2_layBest_5 12 rfl rfl)
theorem dX2_layBest_128 : decode cX2_layBest 128 = .ok (.aload_n 0, 1) := dk_42 (dk_at dksX2_layBest_5 15 rfl rfl)
theorem dX2_layBest_129 : decode cX2_layBest 129 = .ok (.getfield 276, 3) := dk_180 1 20 (dk_at dksX2_layBest_5 16 rfl rfl)
theorem dX2_layBest_132 : decode cX2_layBest 132 = .ok (.putfield 276, 3) := dk_181 1 20 (dk_at dksX2_layBest_5 19 rfl rfl)
theorem dX2_layBest_135 : decode cX2_layBest 135 = .ok (.aload_n 0, 1) := dk_42 (dk_at dksX2_layBest_5 22 rfl rfl)
theorem dX2_layBest_136 : decode cX2_layBest 136 = .ok (.iload_n 3, 1) := dk_29 (dk_at dksX2_layBest_5 23 rfl rfl)
theorem dX2_layBest_137 : decode cX2_layBest 137 = .ok (.ifCond .eq 10, 3) := dk_153 0 10 (dk_at dksX2_layBest_6 0 rfl rfl)
theorem dX2_layBest_140 : decode cX2_layBest 140 = .ok (.aload_n 0, 1) := dk_42 (dk_at dksX2_layBest_6 3 rfl rfl)
theorem dX2_layBest_141 : decode cX2_layBest 141 = .ok (.getfield 235, 3) := dk_180 0 235 (dk_at dksX2_layBest_6 4 rfl rfl)
theorem dX2_layBest_144 : decode cX2_layBest 144 = .ok (.goto 7, 3) := dk_167 0 7 (dk_at dksX2_layBest_6 7 rfl rfl)
theorem dX2_layBest_147 : decode cX2_layBest 147 = .ok (.aload_n 0, 1) := dk_42 (dk_at dksX2_layBest_6 10 rfl rfl)
theorem dX2_layBest_148 : decode cX2_layBest 148 = .ok (.getfield 279, 3) := dk_180 1 23 (dk_at dksX2_layBest_6 11 rfl rfl)
theorem dX2_layBest_151 : decode cX2_layBest 151 = .ok (.putfield 279, 3) := dk_181 1 23 (dk_at dksX2_layBest_6 14 rfl rfl)
theorem dX2_layBest_154 : decode cX2_layBest 154 = .ok (.iinc 2 1, 3) := dk_132 2 1 (dk_at dksX2_layBest_6 17 rfl rfl)
theorem dX2_layBest_157 : decode cX2_layBest 157 = .ok (.goto (-136), 3) := dk_167 255 120 (dk_at dksX2_layBest_6 20 rfl rfl)
theorem dX2_layBest_160 : decode cX2_layBest 160 = .ok (.return_, 1) := dk_177 (dk_at dksX2_layBest_6 23 rfl rfl)
abbrev cX2_usesGeared : ByteArray := prog_10_method_65_code
def yX2_usesGeared : MethodName := ⟨RX2, "usesGeared", "(I)Z"⟩
def dkwX2_usesGeared_1 : List UInt8 := [182, 0, 90, 153, 0, 7, 4, 167, 0, 4, 3, 61, 132, 3, 1, 167, 255, 223, 28, 172]
abbrev dktX2_usesGeared_1 : List UInt8 := dkwX2_usesGeared_1 ++ []
def dkwX2_usesGeared_0 : List UInt8 := [4, 61, 3, 62, 29, 27, 184, 0, 62, 162, 0, 31, 28, 153, 0, 19, 42, 27, 29, 184, 0, 114]
abbrev dktX2_usesGeared_0 : List UInt8 := dkwX2_usesGeared_0 ++ dktX2_usesGeared_1
theorem dksX2_usesGeared_0 : cX2_usesGeared.data.toList.drop 0 = dktX2_usesGeared_0 := by decide +kernel
theorem dksX2_usesGeared_1 : cX2_usesGeared.data.toList.drop 22 = dktX2_usesGeared_1 := dk_seg dksX2_usesGeared_0 22 rfl rfl
theorem dX2_usesGeared_0 : decode cX2_usesGeared 0 = .ok (.iconst 1, 1) := dk_4 (dk_at dksX2_usesGeared_0 0 rfl rfl)
theorem dX2_usesGeared_1 : decode cX2_usesGeared 1 = .ok (.istore_n 2, 1) := dk_61 (dk_at dksX2_usesGeared_0 1 rfl rfl)
theorem dX2_usesGeared_2 : decode cX2_usesGeared 2 = .ok (.iconst 0, 1) := dk_3 (dk_at dksX2_usesGeared_0 2 rfl rfl)
theorem dX2_usesGeared_3 : decode cX2_usesGeared 3 = .ok (.istore_n 3, 1) := dk_62 (dk_at dksX2_usesGeared_0 3 rfl rfl)
theorem dX2_usesGeared_4 : decode cX2_usesGeared 4 = .ok (.iload_n 3, 1) := dk_29 (dk_at dksX2_usesGeared_0 4 rfl rfl)
theorem dX2_usesGeared_5 : decode cX2_usesGeared 5 = .ok (.iload_n 1, 1) := dk_27 (dk_at dksX2_usesGeared_0 5 rfl rfl)
theorem dX2_usesGeared_6 : decode cX2_usesGeared 6 = .ok (.invokestatic 62, 3) := dk_184 0 62 (dk_at dksX2_usesGeared_0 6 rfl rfl)
theorem dX2_usesGeared_9 : decode cX2_usesGeared 9 = .ok (.if_icmp .ge 31, 3) := dk_162 0 31 (dk_at dksX2_usesGeared_0 9 rfl rfl)
theorem dX2_usesGeared_12 : decode cX2_usesGeared 12 = .ok (.iload_n 2, 1) := dk_28 (dk_at dksX2_usesGeared_0 12 rfl rfl)
theorem dX2_usesGeared_13 : decode cX2_usesGeared 13 = .ok (.ifCond .eq 19, 3) := dk_153 0 19 (dk_at dksX2_usesGeared_0 13 rfl rfl)
theorem dX2_usesGeared_16 : decode cX2_usesGeared 16 = .ok (.aload_n 0, 1) := dk_42 (dk_at dksX2_usesGeared_0 16 rfl rfl)
theorem dX2_usesGeared_17 : decode cX2_usesGeared 17 = .ok (.iload_n 1, 1) := dk_27 (dk_at dksX2_usesGeared_0 17 rfl rfl)
theorem dX2_usesGeared_18 : decode cX2_usesGeared 18 = .ok (.iload_n 3, 1) := dk_29 (dk_at dksX2_usesGeared_0 18 rfl rfl)
theorem dX2_usesGeared_19 : decode cX2_usesGeared 19 = .ok (.invokestatic 114, 3) := dk_184 0 114 (dk_at dksX2_usesGeared_0 19 rfl rfl)
theorem dX2_usesGeared_22 : decode cX2_usesGeared 22 = .ok (.invokevirtual 90, 3) := dk_182 0 90 (dk_at dksX2_usesGeared_1 0 rfl rfl)
theorem dX2_usesGeared_25 : decode cX2_usesGeared 25 = .ok (.ifCond .eq 7, 3) := dk_153 0 7 (dk_at dksX2_usesGeared_1 3 rfl rfl)
theorem dX2_usesGeared_28 : decode cX2_usesGeared 28 = .ok (.iconst 1, 1) := dk_4 (dk_at dksX2_usesGeared_1 6 rfl rfl)
theorem dX2_usesGeared_29 : decode cX2_usesGeared 29 = .ok (.goto 4, 3) := dk_167 0 4 (dk_at dksX2_usesGeared_1 7 rfl rfl)
theorem dX2_usesGeared_32 : decode cX2_usesGeared 32 = .ok (.iconst 0, 1) := dk_3 (dk_at dksX2_usesGeared_1 10 rfl rfl)
theorem dX2_usesGeared_33 : decode cX2_usesGeared 33 = .ok (.istore_n 2, 1) := dk_61 (dk_at dksX2_usesGeared_1 11 rfl rfl)
theorem dX2_usesGeared_34 : decode cX2_usesGeared 34 = .ok (.iinc 3 1, 3) := dk_132 3 1 (dk_at dksX2_usesGeared_1 12 rfl rfl)
theorem dX2_usesGeared_37 : decode cX2_usesGeared 37 = .ok (.goto (-33), 3) := dk_167 255 223 (dk_at dksX2_usesGeared_1 15 rfl rfl)
theorem dX2_usesGeared_40 : decode cX2_usesGeared 40 = .ok (.iload_n 2, 1) := dk_28 (dk_at dksX2_usesGeared_1 18 rfl rfl)
theorem dX2_usesGeared_41 : decode cX2_usesGeared 41 = .ok (.ireturn, 1) := dk_172 (dk_at dksX2_usesGeared_1 19 rfl rfl)
abbrev cX2_paradox : ByteArray := prog_10_method_70_code
def yX2_paradox : MethodName := ⟨RX2, "paradox", "()I"⟩
def dkwX2_paradox_0 : List UInt8 := [42, 3, 181, 0, 51, 42, 182, 1, 35, 172]
abbrev dktX2_paradox_0 : List UInt8 := dkwX2_paradox_0 ++ []
theorem dksX2_paradox_0 : cX2_paradox.data.toList.drop 0 = dktX2_paradox_0 := by decide +kernel
theorem dX2_paradox_0 : decode cX2_paradox 0 = .ok (.aload_n 0, 1) := dk_42 (dk_at dksX2_paradox_0 0 rfl rfl)
theorem dX2_paradox_1 : decode cX2_paradox 1 = .ok (.iconst 0, 1) := dk_3 (dk_at dksX2_paradox_0 1 rfl rfl)
theorem dX2_paradox_2 : decode cX2_paradox 2 = .ok (.putfield 51, 3) := dk_181 0 51 (dk_at dksX2_paradox_0 2 rfl rfl)
theorem dX2_paradox_5 : decode cX2_paradox 5 = .ok (.aload_n 0, 1) := dk_42 (dk_at dksX2_paradox_0 5 rfl rfl)
theorem dX2_paradox_6 : decode cX2_paradox 6 = .ok (.invokevirtual 291, 3) := dk_182 1 35 (dk_at dksX2_paradox_0 6 rfl rfl)
theorem dX2_paradox_9 : decode cX2_paradox 9 = .ok (.ireturn, 1) := dk_172 (dk_at dksX2_paradox_0 9 rfl rfl)
abbrev cX2_paradoxNow : ByteArray := prog_10_method_69_code
def yX2_paradoxNow : MethodName := ⟨RX2, "paradoxNow", "()I"⟩
def dkwX2_paradoxNow_4 : List UInt8 := [158, 0, 7, 4, 167, 0, 4, 3, 172]
abbrev dktX2_paradoxNow_4 : List UInt8 := dkwX2_paradoxNow_4 ++ []
def dkwX2_paradoxNow_3 : List UInt8 := [42, 6, 182, 1, 29, 27, 153, 0, 24, 42, 180, 1, 15, 2, 159, 0, 16, 42, 180, 1, 20, 9, 148]
abbrev dktX2_paradoxNow_3 : List UInt8 := dkwX2_paradoxNow_3 ++ dktX2_paradoxNow_4
def dkwX2_paradoxNow_2 : List UInt8 := [158, 0, 16, 42, 180, 0, 232, 9, 148, 156, 0, 7, 4, 167, 0, 4, 3, 60, 132, 2, 1, 167, 255, 205]
abbrev dktX2_paradoxNow_2 : List UInt8 := dkwX2_paradoxNow_2 ++ dktX2_paradoxNow_3
def dkwX2_paradoxNow_1 : List UInt8 := [182, 0, 90, 153, 0, 38, 42, 28, 4, 96, 182, 0, 254, 27, 153, 0, 25, 42, 180, 0, 235, 9, 148]
abbrev dktX2_paradoxNow_1 : List UInt8 := dkwX2_paradoxNow_1 ++ dktX2_paradoxNow_2
def dkwX2_paradoxNow_0 : List UInt8 := [42, 180, 0, 66, 153, 0, 7, 4, 167, 0, 4, 3, 60, 3, 61, 28, 6, 162, 0, 52, 42, 28]
abbrev dktX2_paradoxNow_0 : List UInt8 := dkwX2_paradoxNow_0 ++ dktX2_paradoxNow_1
theorem dksX2_paradoxNow_0 : cX2_paradoxNow.data.toList.drop 0 = dktX2_paradoxNow_0 := by decide +kernel
theorem dksX2_paradoxNow_1 : cX2_paradoxNow.data.toList.drop 22 = dktX2_paradoxNow_1 := dk_seg dksX2_paradoxNow_0 22 rfl rfl
theorem dksX2_paradoxNow_2 : cX2_paradoxNow.data.toList.drop 45 = dktX2_paradoxNow_2 := dk_seg dksX2_paradoxNow_1 23 rfl rfl
theorem dksX2_paradoxNow_3 : cX2_paradoxNow.data.toList.drop 69 = dktX2_paradoxNow_3 := dk_seg dksX2_paradoxNow_2 24 rfl rfl
theorem dksX2_paradoxNow_4 : cX2_paradoxNow.data.toList.drop 92 = dktX2_paradoxNow_4 := dk_seg dksX2_paradoxNow_3 23 rfl rfl
theorem dX2_paradoxNow_0 : decode cX2_paradoxNow 0 = .ok (.aload_n 0, 1) := dk_42 (dk_at dksX2_paradoxNow_0 0 rfl rfl)
theorem dX2_paradoxNow_1 : decode cX2_paradoxNow 1 = .ok (.getfield 66, 3) := dk_180 0 66 (dk_at dksX2_paradoxNow_0 1 rfl rfl)
theorem dX2_paradoxNow_4 : decode cX2_paradoxNow 4 = .ok (.ifCond .eq 7, 3) := dk_153 0 7 (dk_at dksX2_paradoxNow_0 4 rfl rfl)
theorem dX2_paradoxNow_7 : decode cX2_paradoxNow 7 = .ok (.iconst 1, 1) := dk_4 (dk_at dksX2_paradoxNow_0 7 rfl rfl)
theorem dX2_paradoxNow_8 : decode cX2_paradoxNow 8 = .ok (.goto 4, 3) := dk_167 0 4 (dk_at dksX2_paradoxNow_0 8 rfl rfl)
theorem dX2_paradoxNow_11 : decode cX2_paradoxNow 11 = .ok (.iconst 0, 1) := dk_3 (dk_at dksX2_paradoxNow_0 11 rfl rfl)
theorem dX2_paradoxNow_12 : decode cX2_paradoxNow 12 = .ok (.istore_n 1, 1) := dk_60 (dk_at dksX2_paradoxNow_0 12 rfl rfl)
theorem dX2_paradoxNow_13 : decode cX2_paradoxNow 13 = .ok (.iconst 0, 1) := dk_3 (dk_at dksX2_paradoxNow_0 13 rfl rfl)
theorem dX2_paradoxNow_14 : decode cX2_paradoxNow 14 = .ok (.istore_n 2, 1) := dk_61 (dk_at dksX2_paradoxNow_0 14 rfl rfl)
theorem dX2_paradoxNow_15 : decode cX2_paradoxNow 15 = .ok (.iload_n 2, 1) := dk_28 (dk_at dksX2_paradoxNow_0 15 rfl rfl)
theorem dX2_paradoxNow_16 : decode cX2_paradoxNow 16 = .ok (.iconst 3, 1) := dk_6 (dk_at dksX2_paradoxNow_0 16 rfl rfl)
theorem dX2_paradoxNow_17 : decode cX2_paradoxNow 17 = .ok (.if_icmp .ge 52, 3) := dk_162 0 52 (dk_at dksX2_paradoxNow_0 17 rfl rfl)
theorem dX2_paradoxNow_20 : decode cX2_paradoxNow 20 = .ok (.aload_n 0, 1) := dk_42 (dk_at dksX2_paradoxNow_0 20 rfl rfl)
theorem dX2_paradoxNow_21 : decode cX2_paradoxNow 21 = .ok (.iload_n 2, 1) := dk_28 (dk_at dksX2_paradoxNow_0 21 rfl rfl)
theorem dX2_paradoxNow_22 : decode cX2_paradoxNow 22 = .ok (.invokevirtual 90, 3) := dk_182 0 90 (dk_at dksX2_paradoxNow_1 0 rfl rfl)
theorem dX2_paradoxNow_25 : decode cX2_paradoxNow 25 = .ok (.ifCond .eq 38, 3) := dk_153 0 38 (dk_at dksX2_paradoxNow_1 3 rfl rfl)
theorem dX2_paradoxNow_28 : decode cX2_paradoxNow 28 = .ok (.aload_n 0, 1) := dk_42 (dk_at dksX2_paradoxNow_1 6 rfl rfl)
theorem dX2_paradoxNow_29 : decode cX2_paradoxNow 29 = .ok (.iload_n 2, 1) := dk_28 (dk_at dksX2_paradoxNow_1 7 rfl rfl)
theorem dX2_paradoxNow_30 : decode cX2_paradoxNow 30 = .ok (.iconst 1, 1) := dk_4 (dk_at dksX2_paradoxNow_1 8 rfl rfl)
theorem dX2_paradoxNow_31 : decode cX2_paradoxNow 31 = .ok (.iadd, 1) := dk_96 (dk_at dksX2_paradoxNow_1 9 rfl rfl)
theorem dX2_paradoxNow_32 : decode cX2_paradoxNow 32 = .ok (.invokevirtual 254, 3) := dk_182 0 254 (dk_at dksX2_paradoxNow_1 10 rfl rfl)
theorem dX2_paradoxNow_35 : decode cX2_paradoxNow 35 = .ok (.iload_n 1, 1) := dk_27 (dk_at dksX2_paradoxNow_1 13 rfl rfl)
theorem dX2_paradoxNow_36 : decode cX2_paradoxNow 36 = .ok (.ifCond .eq 25, 3) := dk_153 0 25 (dk_at dksX2_paradoxNow_1 14 rfl rfl)
theorem dX2_paradoxNow_39 : decode cX2_paradoxNow 39 = .ok (.aload_n 0, 1) := dk_42 (dk_at dksX2_paradoxNow_1 17 rfl rfl)
theorem dX2_paradoxNow_40 : decode cX2_paradoxNow 40 = .ok (.getfield 235, 3) := dk_180 0 235 (dk_at dksX2_paradoxNow_1 18 rfl rfl)
theorem dX2_paradoxNow_43 : decode cX2_paradoxNow 43 = .ok (.lconst 0, 1) := dk_9 (dk_at dksX2_paradoxNow_1 21 rfl rfl)
theorem dX2_paradoxNow_44 : decode cX2_paradoxNow 44 = .ok (.lcmp, 1) := dk_148 (dk_at dksX2_paradoxNow_1 22 rfl rfl)
theorem dX2_paradoxNow_45 : decode cX2_paradoxNow 45 = .ok (.ifCond .le 16, 3) := dk_158 0 16 (dk_at dksX2_paradoxNow_2 0 rfl rfl)
theorem dX2_paradoxNow_48 : decode cX2_paradoxNow 48 = .ok (.aload_n 0, 1) := dk_42 (dk_at dksX2_paradoxNow_2 3 rfl rfl)
theorem dX2_paradoxNow_49 : decode cX2_paradoxNow 49 = .ok (.getfield 232, 3) := dk_180 0 232 (dk_at dksX2_paradoxNow_2 4 rfl rfl)
theorem dX2_paradoxNow_52 : decode cX2_paradoxNow 52 = .ok (.lconst 0, 1) := dk_9 (dk_at dksX2_paradoxNow_2 7 rfl rfl)
theorem dX2_paradoxNow_53 : decode cX2_paradoxNow 53 = .ok (.lcmp, 1) := dk_148 (dk_at dksX2_paradoxNow_2 8 rfl rfl)
theorem dX2_paradoxNow_54 : decode cX2_paradoxNow 54 = .ok (.ifCond .ge 7, 3) := dk_156 0 7 (dk_at dksX2_paradoxNow_2 9 rfl rfl)
theorem dX2_paradoxNow_57 : decode cX2_paradoxNow 57 = .ok (.iconst 1, 1) := dk_4 (dk_at dksX2_paradoxNow_2 12 rfl rfl)
theorem dX2_paradoxNow_58 : decode cX2_paradoxNow 58 = .ok (.goto 4, 3) := dk_167 0 4 (dk_at dksX2_paradoxNow_2 13 rfl rfl)
theorem dX2_paradoxNow_61 : decode cX2_paradoxNow 61 = .ok (.iconst 0, 1) := dk_3 (dk_at dksX2_paradoxNow_2 16 rfl rfl)
theorem dX2_paradoxNow_62 : decode cX2_paradoxNow 62 = .ok (.istore_n 1, 1) := dk_60 (dk_at dksX2_paradoxNow_2 17 rfl rfl)
theorem dX2_paradoxNow_63 : decode cX2_paradoxNow 63 = .ok (.iinc 2 1, 3) := dk_132 2 1 (dk_at dksX2_paradoxNow_2 18 rfl rfl)
theorem dX2_paradoxNow_66 : decode cX2_paradoxNow 66 = .ok (.goto (-51), 3) := dk_167 255 205 (dk_at dksX2_paradoxNow_2 21 rfl rfl)
theorem dX2_paradoxNow_69 : decode cX2_paradoxNow 69 = .ok (.aload_n 0, 1) := dk_42 (dk_at dksX2_paradoxNow_3 0 rfl rfl)
theorem dX2_paradoxNow_70 : decode cX2_paradoxNow 70 = .ok (.iconst 3, 1) := dk_6 (dk_at dksX2_paradoxNow_3 1 rfl rfl)
theorem dX2_paradoxNow_71 : decode cX2_paradoxNow 71 = .ok (.invokevirtual 285, 3) := dk_182 1 29 (dk_at dksX2_paradoxNow_3 2 rfl rfl)
theorem dX2_paradoxNow_74 : decode cX2_paradoxNow 74 = .ok (.iload_n 1, 1) := dk_27 (dk_at dksX2_paradoxNow_3 5 rfl rfl)
theorem dX2_paradoxNow_75 : decode cX2_paradoxNow 75 = .ok (.ifCond .eq 24, 3) := dk_153 0 24 (dk_at dksX2_paradoxNow_3 6 rfl rfl)
theorem dX2_paradoxNow_78 : decode cX2_paradoxNow 78 = .ok (.aload_n 0, 1) := dk_42 (dk_at dksX2_paradoxNow_3 9 rfl rfl)
theorem dX2_paradoxNow_79 : decode cX2_paradoxNow 79 = .ok (.getfield 271, 3) := dk_180 1 15 (dk_at dksX2_paradoxNow_3 10 rfl rfl)
theorem dX2_paradoxNow_82 : decode cX2_paradoxNow 82 = .ok (.iconst (-1), 1) := dk_2 (dk_at dksX2_paradoxNow_3 13 rfl rfl)
theorem dX2_paradoxNow_83 : decode cX2_paradoxNow 83 = .ok (.if_icmp .eq 16, 3) := dk_159 0 16 (dk_at dksX2_paradoxNow_3 14 rfl rfl)
theorem dX2_paradoxNow_86 : decode cX2_paradoxNow 86 = .ok (.aload_n 0, 1) := dk_42 (dk_at dksX2_paradoxNow_3 17 rfl rfl)
theorem dX2_paradoxNow_87 : decode cX2_paradoxNow 87 = .ok (.getfield 276, 3) := dk_180 1 20 (dk_at dksX2_paradoxNow_3 18 rfl rfl)
theorem dX2_paradoxNow_90 : decode cX2_paradoxNow 90 = .ok (.lconst 0, 1) := dk_9 (dk_at dksX2_paradoxNow_3 21 rfl rfl)
theorem dX2_paradoxNow_91 : decode cX2_paradoxNow 91 = .ok (.lcmp, 1) := dk_148 (dk_at dksX2_paradoxNow_3 22 rfl rfl)
theorem dX2_paradoxNow_92 : decode cX2_paradoxNow 92 = .ok (.ifCond .le 7, 3) := dk_158 0 7 (dk_at dksX2_paradoxNow_4 0 rfl rfl)
theorem dX2_paradoxNow_95 : decode cX2_paradoxNow 95 = .ok (.iconst 1, 1) := dk_4 (dk_at dksX2_paradoxNow_4 3 rfl rfl)
theorem dX2_paradoxNow_96 : decode cX2_paradoxNow 96 = .ok (.goto 4, 3) := dk_167 0 4 (dk_at dksX2_paradoxNow_4 4 rfl rfl)
theorem dX2_paradoxNow_99 : decode cX2_paradoxNow 99 = .ok (.iconst 0, 1) := dk_3 (dk_at dksX2_paradoxNow_4 7 rfl rfl)
theorem dX2_paradoxNow_100 : decode cX2_paradoxNow 100 = .ok (.ireturn, 1) := dk_172 (dk_at dksX2_paradoxNow_4 8 rfl rfl)
abbrev cX2_count : ByteArray := prog_10_method_72_code
def yX2_count : MethodName := ⟨RX2, "count", "(I)I"⟩
def dkwX2_count_1 : List UInt8 := [158, 0, 7, 3, 167, 0, 8, 42, 27, 182, 1, 38, 172]
abbrev dktX2_count_1 : List UInt8 := dkwX2_count_1 ++ []
def dkwX2_count_0 : List UInt8 := [42, 27, 3, 16, 9, 184, 0, 58, 153, 0, 7, 3, 167, 0, 4, 4, 181, 0, 51, 42, 180, 0, 51]
abbrev dktX2_count_0 : List UInt8 := dkwX2_count_0 ++ dktX2_count_1
theorem dksX2_count_0 : cX2_count.data.toList.drop 0 = dktX2_count_0 := by decide +kernel
theorem dksX2_count_1 : cX2_count.data.toList.drop 23 = dktX2_count_1 := dk_seg dksX2_count_0 23 rfl rfl
theorem dX2_count_0 : decode cX2_count 0 = .ok (.aload_n 0, 1) := dk_42 (dk_at dksX2_count_0 0 rfl rfl)
theorem dX2_count_1 : decode cX2_count 1 = .ok (.iload_n 1, 1) := dk_27 (dk_at dksX2_count_0 1 rfl rfl)
theorem dX2_count_2 : decode cX2_count 2 = .ok (.iconst 0, 1) := dk_3 (dk_at dksX2_count_0 2 rfl rfl)
theorem dX2_count_3 : decode cX2_count 3 = .ok (.bipush 9, 2) := dk_16 9 (dk_at dksX2_count_0 3 rfl rfl)
theorem dX2_count_5 : decode cX2_count 5 = .ok (.invokestatic 58, 3) := dk_184 0 58 (dk_at dksX2_count_0 5 rfl rfl)
theorem dX2_count_8 : decode cX2_count 8 = .ok (.ifCond .eq 7, 3) := dk_153 0 7 (dk_at dksX2_count_0 8 rfl rfl)
theorem dX2_count_11 : decode cX2_count 11 = .ok (.iconst 0, 1) := dk_3 (dk_at dksX2_count_0 11 rfl rfl)
theorem dX2_count_12 : decode cX2_count 12 = .ok (.goto 4, 3) := dk_167 0 4 (dk_at dksX2_count_0 12 rfl rfl)
theorem dX2_count_15 : decode cX2_count 15 = .ok (.iconst 1, 1) := dk_4 (dk_at dksX2_count_0 15 rfl rfl)
theorem dX2_count_16 : decode cX2_count 16 = .ok (.putfield 51, 3) := dk_181 0 51 (dk_at dksX2_count_0 16 rfl rfl)
theorem dX2_count_19 : decode cX2_count 19 = .ok (.aload_n 0, 1) := dk_42 (dk_at dksX2_count_0 19 rfl rfl)
theorem dX2_count_20 : decode cX2_count 20 = .ok (.getfield 51, 3) := dk_180 0 51 (dk_at dksX2_count_0 20 rfl rfl)
theorem dX2_count_23 : decode cX2_count 23 = .ok (.ifCond .le 7, 3) := dk_158 0 7 (dk_at dksX2_count_1 0 rfl rfl)
theorem dX2_count_26 : decode cX2_count 26 = .ok (.iconst 0, 1) := dk_3 (dk_at dksX2_count_1 3 rfl rfl)
theorem dX2_count_27 : decode cX2_count 27 = .ok (.goto 8, 3) := dk_167 0 8 (dk_at dksX2_count_1 4 rfl rfl)
theorem dX2_count_30 : decode cX2_count 30 = .ok (.aload_n 0, 1) := dk_42 (dk_at dksX2_count_1 7 rfl rfl)
theorem dX2_count_31 : decode cX2_count 31 = .ok (.iload_n 1, 1) := dk_27 (dk_at dksX2_count_1 8 rfl rfl)
theorem dX2_count_32 : decode cX2_count 32 = .ok (.invokevirtual 294, 3) := dk_182 1 38 (dk_at dksX2_count_1 9 rfl rfl)
theorem dX2_count_35 : decode cX2_count 35 = .ok (.ireturn, 1) := dk_172 (dk_at dksX2_count_1 12 rfl rfl)
abbrev cX2_counted : ByteArray := prog_10_method_71_code
def yX2_counted : MethodName := ⟨RX2, "counted", "(I)I"⟩
def dkwX2_counted_4 : List UInt8 := [180, 0, 75, 184, 0, 62, 172]
abbrev dktX2_counted_4 : List UInt8 := dkwX2_counted_4 ++ []
def dkwX2_counted_3 : List UInt8 := [172, 42, 180, 0, 84, 172, 42, 180, 0, 87, 172, 42, 180, 0, 66, 172, 42, 180, 0, 69, 172, 42]
abbrev dktX2_counted_3 : List UInt8 := dkwX2_counted_3 ++ dktX2_counted_4
def dkwX2_counted_2 : List UInt8 := [42, 180, 0, 55, 172, 42, 180, 0, 72, 172, 42, 180, 0, 75, 172, 42, 180, 0, 78, 172, 42, 180, 0, 81]
abbrev dktX2_counted_2 : List UInt8 := dkwX2_counted_2 ++ dktX2_counted_3
def dkwX2_counted_1 : List UInt8 := [170, 0, 0, 0, 0, 0, 96, 0, 0, 0, 0, 0, 0, 0, 8, 0, 0, 0, 51, 0, 0, 0, 56, 0, 0, 0, 61, 0, 0, 0, 66, 0, 0, 0, 71, 0, 0, 0, 76, 0, 0, 0, 81, 0, 0, 0, 86, 0, 0, 0, 91]
abbrev dktX2_counted_1 : List UInt8 := dkwX2_counted_1 ++ dktX2_counted_2
def dkwX2_counted_0 : List UInt8 := [27]
abbrev dktX2_counted_0 : List UInt8 := dkwX2_counted_0 ++ dktX2_counted_1
theorem dksX2_counted_0 : cX2_counted.data.toList.drop 0 = dktX2_counted_0 := by decide +kernel
theorem dksX2_counted_1 : cX2_counted.data.toList.drop 1 = dktX2_counted_1 := dk_seg dksX2_counted_0 1 rfl rfl
theorem dksX2_counted_2 : cX2_counted.data.toList.drop 52 = dktX2_counted_2 := dk_seg dksX2_counted_1 51 rfl rfl
theorem dksX2_counted_3 : cX2_counted.data.toList.drop 76 = dktX2_counted_3 := dk_seg dksX2_counted_2 24 rfl rfl
theorem dksX2_counted_4 : cX2_counted.data.toList.drop 98 = dktX2_counted_4 := dk_seg dksX2_counted_3 22 rfl rfl
theorem dX2_counted_0 : decode cX2_counted 0 = .ok (.iload_n 1, 1) := dk_27 (dk_at dksX2_counted_0 0 rfl rfl)
theorem dX2_counted_1 : decode cX2_counted 1 = .ok (.tableswitch 96 0 8 #[51, 56, 61, 66, 71, 76, 81, 86, 91], 51) := by decide +kernel
theorem dX2_counted_52 : decode cX2_counted 52 = .ok (.aload_n 0, 1) := dk_42 (dk_at dksX2_counted_2 0 rfl rfl)
theorem dX2_counted_53 : decode cX2_counted 53 = .ok (.getfield 55, 3) := dk_180 0 55 (dk_at dksX2_counted_2 1 rfl rfl)
theorem dX2_counted_56 : decode cX2_counted 56 = .ok (.ireturn, 1) := dk_172 (dk_at dksX2_counted_2 4 rfl rfl)
theorem dX2_counted_57 : decode cX2_counted 57 = .ok (.aload_n 0, 1) := dk_42 (dk_at dksX2_counted_2 5 rfl rfl)
theorem dX2_counted_58 : decode cX2_counted 58 = .ok (.getfield 72, 3) := dk_180 0 72 (dk_at dksX2_counted_2 6 rfl rfl)
theorem dX2_counted_61 : decode cX2_counted 61 = .ok (.ireturn, 1) := dk_172 (dk_at dksX2_counted_2 9 rfl rfl)
theorem dX2_counted_62 : decode cX2_counted 62 = .ok (.aload_n 0, 1) := dk_42 (dk_at dksX2_counted_2 10 rfl rfl)
theorem dX2_counted_63 : decode cX2_counted 63 = .ok (.getfield 75, 3) := dk_180 0 75 (dk_at dksX2_counted_2 11 rfl rfl)
theorem dX2_counted_66 : decode cX2_counted 66 = .ok (.ireturn, 1) := dk_172 (dk_at dksX2_counted_2 14 rfl rfl)
theorem dX2_counted_67 : decode cX2_counted 67 = .ok (.aload_n 0, 1) := dk_42 (dk_at dksX2_counted_2 15 rfl rfl)
theorem dX2_counted_68 : decode cX2_counted 68 = .ok (.getfield 78, 3) := dk_180 0 78 (dk_at dksX2_counted_2 16 rfl rfl)
theorem dX2_counted_71 : decode cX2_counted 71 = .ok (.ireturn, 1) := dk_172 (dk_at dksX2_counted_2 19 rfl rfl)
theorem dX2_counted_72 : decode cX2_counted 72 = .ok (.aload_n 0, 1) := dk_42 (dk_at dksX2_counted_2 20 rfl rfl)
theorem dX2_counted_73 : decode cX2_counted 73 = .ok (.getfield 81, 3) := dk_180 0 81 (dk_at dksX2_counted_2 21 rfl rfl)
theorem dX2_counted_76 : decode cX2_counted 76 = .ok (.ireturn, 1) := dk_172 (dk_at dksX2_counted_3 0 rfl rfl)
theorem dX2_counted_77 : decode cX2_counted 77 = .ok (.aload_n 0, 1) := dk_42 (dk_at dksX2_counted_3 1 rfl rfl)
theorem dX2_counted_78 : decode cX2_counted 78 = .ok (.getfield 84, 3) := dk_180 0 84 (dk_at dksX2_counted_3 2 rfl rfl)
theorem dX2_counted_81 : decode cX2_counted 81 = .ok (.ireturn, 1) := dk_172 (dk_at dksX2_counted_3 5 rfl rfl)
theorem dX2_counted_82 : decode cX2_counted 82 = .ok (.aload_n 0, 1) := dk_42 (dk_at dksX2_counted_3 6 rfl rfl)
theorem dX2_counted_83 : decode cX2_counted 83 = .ok (.getfield 87, 3) := dk_180 0 87 (dk_at dksX2_counted_3 7 rfl rfl)
theorem dX2_counted_86 : decode cX2_counted 86 = .ok (.ireturn, 1) := dk_172 (dk_at dksX2_counted_3 10 rfl rfl)
theorem dX2_counted_87 : decode cX2_counted 87 = .ok (.aload_n 0, 1) := dk_42 (dk_at dksX2_counted_3 11 rfl rfl)
theorem dX2_counted_88 : decode cX2_counted 88 = .ok (.getfield 66, 3) := dk_180 0 66 (dk_at dksX2_counted_3 12 rfl rfl)
theorem dX2_counted_91 : decode cX2_counted 91 = .ok (.ireturn, 1) := dk_172 (dk_at dksX2_counted_3 15 rfl rfl)
theorem dX2_counted_92 : decode cX2_counted 92 = .ok (.aload_n 0, 1) := dk_42 (dk_at dksX2_counted_3 16 rfl rfl)
theorem dX2_counted_93 : decode cX2_counted 93 = .ok (.getfield 69, 3) := dk_180 0 69 (dk_at dksX2_counted_3 17 rfl rfl)
theorem dX2_counted_96 : decode cX2_counted 96 = .ok (.ireturn, 1) := dk_172 (dk_at dksX2_counted_3 20 rfl rfl)
theorem dX2_counted_97 : decode cX2_counted 97 = .ok (.aload_n 0, 1) := dk_42 (dk_at dksX2_counted_3 21 rfl rfl)
theorem dX2_counted_98 : decode cX2_counted 98 = .ok (.getfield 75, 3) := dk_180 0 75 (dk_at dksX2_counted_4 0 rfl rfl)
theorem dX2_counted_101 : decode cX2_counted 101 = .ok (.invokestatic 62, 3) := dk_184 0 62 (dk_at dksX2_counted_4 3 rfl rfl)
theorem dX2_counted_104 : decode cX2_counted 104 = .ok (.ireturn, 1) := dk_172 (dk_at dksX2_counted_4 6 rfl rfl)
abbrev cX2_table : ByteArray := prog_10_method_73_code
def yX2_table : MethodName := ⟨RX2, "table", "(II)I"⟩
def dkwX2_table_1 : List UInt8 := [42, 180, 0, 51, 158, 0, 7, 3, 167, 0, 9, 42, 27, 28, 182, 0, 100, 172]
abbrev dktX2_table_1 : List UInt8 := dkwX2_table_1 ++ []
def dkwX2_table_0 : List UInt8 := [42, 27, 184, 0, 94, 153, 0, 15, 42, 28, 182, 0, 97, 153, 0, 7, 3, 167, 0, 4, 4, 181, 0, 51]
abbrev dktX2_table_0 : List UInt8 := dkwX2_table_0 ++ dktX2_table_1
theorem dksX2_table_0 : cX2_table.data.toList.drop 0 = dktX2_table_0 := by decide +kernel
theorem dksX2_table_1 : cX2_table.data.toList.drop 24 = dktX2_table_1 := dk_seg dksX2_table_0 24 rfl rfl
theorem dX2_table_0 : decode cX2_table 0 = .ok (.aload_n 0, 1) := dk_42 (dk_at dksX2_table_0 0 rfl rfl)
theorem dX2_table_1 : decode cX2_table 1 = .ok (.iload_n 1, 1) := dk_27 (dk_at dksX2_table_0 1 rfl rfl)
theorem dX2_table_2 : decode cX2_table 2 = .ok (.invokestatic 94, 3) := dk_184 0 94 (dk_at dksX2_table_0 2 rfl rfl)
theorem dX2_table_5 : decode cX2_table 5 = .ok (.ifCond .eq 15, 3) := dk_153 0 15 (dk_at dksX2_table_0 5 rfl rfl)
theorem dX2_table_8 : decode cX2_table 8 = .ok (.aload_n 0, 1) := dk_42 (dk_at dksX2_table_0 8 rfl rfl)
theorem dX2_table_9 : decode cX2_table 9 = .ok (.iload_n 2, 1) := dk_28 (dk_at dksX2_table_0 9 rfl rfl)
theorem dX2_table_10 : decode cX2_table 10 = .ok (.invokevirtual 97, 3) := dk_182 0 97 (dk_at dksX2_table_0 10 rfl rfl)
theorem dX2_table_13 : decode cX2_table 13 = .ok (.ifCond .eq 7, 3) := dk_153 0 7 (dk_at dksX2_table_0 13 rfl rfl)
theorem dX2_table_16 : decode cX2_table 16 = .ok (.iconst 0, 1) := dk_3 (dk_at dksX2_table_0 16 rfl rfl)
theorem dX2_table_17 : decode cX2_table 17 = .ok (.goto 4, 3) := dk_167 0 4 (dk_at dksX2_table_0 17 rfl rfl)
theorem dX2_table_20 : decode cX2_table 20 = .ok (.iconst 1, 1) := dk_4 (dk_at dksX2_table_0 20 rfl rfl)
theorem dX2_table_21 : decode cX2_table 21 = .ok (.putfield 51, 3) := dk_181 0 51 (dk_at dksX2_table_0 21 rfl rfl)
theorem dX2_table_24 : decode cX2_table 24 = .ok (.aload_n 0, 1) := dk_42 (dk_at dksX2_table_1 0 rfl rfl)
theorem dX2_table_25 : decode cX2_table 25 = .ok (.getfield 51, 3) := dk_180 0 51 (dk_at dksX2_table_1 1 rfl rfl)
theorem dX2_table_28 : decode cX2_table 28 = .ok (.ifCond .le 7, 3) := dk_158 0 7 (dk_at dksX2_table_1 4 rfl rfl)
theorem dX2_table_31 : decode cX2_table 31 = .ok (.iconst 0, 1) := dk_3 (dk_at dksX2_table_1 7 rfl rfl)
theorem dX2_table_32 : decode cX2_table 32 = .ok (.goto 9, 3) := dk_167 0 9 (dk_at dksX2_table_1 8 rfl rfl)
theorem dX2_table_35 : decode cX2_table 35 = .ok (.aload_n 0, 1) := dk_42 (dk_at dksX2_table_1 11 rfl rfl)
theorem dX2_table_36 : decode cX2_table 36 = .ok (.iload_n 1, 1) := dk_27 (dk_at dksX2_table_1 12 rfl rfl)
theorem dX2_table_37 : decode cX2_table 37 = .ok (.iload_n 2, 1) := dk_28 (dk_at dksX2_table_1 13 rfl rfl)
theorem dX2_table_38 : decode cX2_table 38 = .ok (.invokevirtual 100, 3) := dk_182 0 100 (dk_at dksX2_table_1 14 rfl rfl)
theorem dX2_table_41 : decode cX2_table 41 = .ok (.ireturn, 1) := dk_172 (dk_at dksX2_table_1 17 rfl rfl)
abbrev cX2_meanGain : ByteArray := prog_10_method_74_code
def yX2_meanGain : MethodName := ⟨RX2, "meanGain", "()D"⟩
def dkwX2_meanGain_1 : List UInt8 := [180, 0, 87, 135, 111, 175]
abbrev dktX2_meanGain_1 : List UInt8 := dkwX2_meanGain_1 ++ []
def dkwX2_meanGain_0 : List UInt8 := [42, 3, 181, 0, 51, 42, 180, 0, 87, 154, 0, 7, 14, 167, 0, 16, 15, 42, 180, 0, 84, 135, 107, 42]
abbrev dktX2_meanGain_0 : List UInt8 := dkwX2_meanGain_0 ++ dktX2_meanGain_1
theorem dksX2_meanGain_0 : cX2_meanGain.data.toList.drop 0 = dktX2_meanGain_0 := by decide +kernel
theorem dksX2_meanGain_1 : cX2_meanGain.data.toList.drop 24 = dktX2_meanGain_1 := dk_seg dksX2_meanGain_0 24 rfl rfl
theorem dX2_meanGain_0 : decode cX2_meanGain 0 = .ok (.aload_n 0, 1) := dk_42 (dk_at dksX2_meanGain_0 0 rfl rfl)
theorem dX2_meanGain_1 : decode cX2_meanGain 1 = .ok (.iconst 0, 1) := dk_3 (dk_at dksX2_meanGain_0 1 rfl rfl)
theorem dX2_meanGain_2 : decode cX2_meanGain 2 = .ok (.putfield 51, 3) := dk_181 0 51 (dk_at dksX2_meanGain_0 2 rfl rfl)
theorem dX2_meanGain_5 : decode cX2_meanGain 5 = .ok (.aload_n 0, 1) := dk_42 (dk_at dksX2_meanGain_0 5 rfl rfl)
theorem dX2_meanGain_6 : decode cX2_meanGain 6 = .ok (.getfield 87, 3) := dk_180 0 87 (dk_at dksX2_meanGain_0 6 rfl rfl)
theorem dX2_meanGain_9 : decode cX2_meanGain 9 = .ok (.ifCond .ne 7, 3) := dk_154 0 7 (dk_at dksX2_meanGain_0 9 rfl rfl)
theorem dX2_meanGain_12 : decode cX2_meanGain 12 = .ok (.dconst 0, 1) := dk_14 (dk_at dksX2_meanGain_0 12 rfl rfl)
theorem dX2_meanGain_13 : decode cX2_meanGain 13 = .ok (.goto 16, 3) := dk_167 0 16 (dk_at dksX2_meanGain_0 13 rfl rfl)
theorem dX2_meanGain_16 : decode cX2_meanGain 16 = .ok (.dconst 1, 1) := dk_15 (dk_at dksX2_meanGain_0 16 rfl rfl)
theorem dX2_meanGain_17 : decode cX2_meanGain 17 = .ok (.aload_n 0, 1) := dk_42 (dk_at dksX2_meanGain_0 17 rfl rfl)
theorem dX2_meanGain_18 : decode cX2_meanGain 18 = .ok (.getfield 84, 3) := dk_180 0 84 (dk_at dksX2_meanGain_0 18 rfl rfl)
theorem dX2_meanGain_21 : decode cX2_meanGain 21 = .ok (.i2d, 1) := dk_135 (dk_at dksX2_meanGain_0 21 rfl rfl)
theorem dX2_meanGain_22 : decode cX2_meanGain 22 = .ok (.dmul, 1) := dk_107 (dk_at dksX2_meanGain_0 22 rfl rfl)
theorem dX2_meanGain_23 : decode cX2_meanGain 23 = .ok (.aload_n 0, 1) := dk_42 (dk_at dksX2_meanGain_0 23 rfl rfl)
theorem dX2_meanGain_24 : decode cX2_meanGain 24 = .ok (.getfield 87, 3) := dk_180 0 87 (dk_at dksX2_meanGain_1 0 rfl rfl)
theorem dX2_meanGain_27 : decode cX2_meanGain 27 = .ok (.i2d, 1) := dk_135 (dk_at dksX2_meanGain_1 3 rfl rfl)
theorem dX2_meanGain_28 : decode cX2_meanGain 28 = .ok (.ddiv, 1) := dk_111 (dk_at dksX2_meanGain_1 4 rfl rfl)
theorem dX2_meanGain_29 : decode cX2_meanGain 29 = .ok (.dreturn, 1) := dk_175 (dk_at dksX2_meanGain_1 5 rfl rfl)
abbrev cX2_digest : ByteArray := prog_10_method_77_code
def yX2_digest : MethodName := ⟨RX2, "digest", "()J"⟩
def dkwX2_digest_9 : List UInt8 := [27, 46, 133, 182, 1, 46, 132, 1, 1, 167, 255, 234, 42, 180, 1, 43, 173]
abbrev dktX2_digest_9 : List UInt8 := dkwX2_digest_9 ++ []
def dkwX2_digest_8 : List UInt8 := [42, 42, 180, 0, 125, 133, 182, 1, 46, 3, 60, 27, 42, 180, 0, 125, 162, 0, 20, 42, 42, 180, 0, 13]
abbrev dktX2_digest_8 : List UInt8 := dkwX2_digest_8 ++ dktX2_digest_9
def dkwX2_digest_7 : List UInt8 := [42, 180, 1, 20, 182, 1, 46, 42, 42, 180, 1, 23, 182, 1, 46, 42, 42, 182, 1, 35, 133, 182, 1, 46]
abbrev dktX2_digest_7 : List UInt8 := dkwX2_digest_7 ++ dktX2_digest_8
def dkwX2_digest_6 : List UInt8 := [182, 1, 46, 132, 1, 1, 167, 255, 225, 42, 5, 182, 1, 29, 42, 42, 180, 1, 15, 133, 182, 1, 46, 42]
abbrev dktX2_digest_6 : List UInt8 := dkwX2_digest_6 ++ dktX2_digest_7
def dkwX2_digest_5 : List UInt8 := [180, 0, 55, 104, 162, 0, 27, 42, 42, 42, 180, 0, 75, 27, 5, 108, 27, 5, 112, 182, 1, 4]
abbrev dktX2_digest_5 : List UInt8 := dkwX2_digest_5 ++ dktX2_digest_6
def dkwX2_digest_4 : List UInt8 := [182, 1, 46, 42, 42, 180, 0, 232, 182, 1, 46, 42, 42, 180, 0, 235, 182, 1, 46, 3, 60, 27, 5, 42]
abbrev dktX2_digest_4 : List UInt8 := dkwX2_digest_4 ++ dktX2_digest_5
def dkwX2_digest_3 : List UInt8 := [132, 1, 1, 167, 255, 222, 42, 182, 1, 52, 42, 42, 180, 0, 75, 182, 0, 254, 42, 42, 180, 0, 219, 133]
abbrev dktX2_digest_3 : List UInt8 := dkwX2_digest_3 ++ dktX2_digest_4
def dkwX2_digest_2 : List UInt8 := [162, 0, 30, 42, 42, 27, 42, 180, 0, 55, 108, 27, 42, 180, 0, 55, 112, 182, 0, 100, 133, 182, 1, 46]
abbrev dktX2_digest_2 : List UInt8 := dkwX2_digest_2 ++ dktX2_digest_3
def dkwX2_digest_1 : List UInt8 := [182, 1, 38, 133, 182, 1, 46, 132, 1, 1, 167, 255, 237, 3, 60, 27, 6, 42, 180, 0, 55, 104]
abbrev dktX2_digest_1 : List UInt8 := dkwX2_digest_1 ++ dktX2_digest_2
def dkwX2_digest_0 : List UInt8 := [42, 3, 181, 0, 51, 42, 20, 1, 50, 181, 1, 43, 3, 60, 27, 16, 10, 162, 0, 19, 42, 42, 27]
abbrev dktX2_digest_0 : List UInt8 := dkwX2_digest_0 ++ dktX2_digest_1
theorem dksX2_digest_0 : cX2_digest.data.toList.drop 0 = dktX2_digest_0 := by decide +kernel
theorem dksX2_digest_1 : cX2_digest.data.toList.drop 23 = dktX2_digest_1 := dk_seg dksX2_digest_0 23 rfl rfl
theorem dksX2_digest_2 : cX2_digest.data.toList.drop 45 = dktX2_digest_2 := dk_seg dksX2_digest_1 22 rfl rfl
theorem dksX2_digest_3 : cX2_digest.data.toList.drop 69 = dktX2_digest_3 := dk_seg dksX2_digest_2 24 rfl rfl
theorem dksX2_digest_4 : cX2_digest.data.toList.drop 93 = dktX2_digest_4 := dk_seg dksX2_digest_3 24 rfl rfl
theorem dksX2_digest_5 : cX2_digest.data.toList.drop 117 = dktX2_digest_5 := dk_seg dksX2_digest_4 24 rfl rfl
theorem dksX2_digest_6 : cX2_digest.data.toList.drop 139 = dktX2_digest_6 := dk_seg dksX2_digest_5 22 rfl rfl
theorem dksX2_digest_7 : cX2_digest.data.toList.drop 163 = dktX2_digest_7 := dk_seg dksX2_digest_6 24 rfl rfl
theorem dksX2_digest_8 : cX2_digest.data.toList.drop 187 = dktX2_digest_8 := dk_seg dksX2_digest_7 24 rfl rfl
theorem dksX2_digest_9 : cX2_digest.data.toList.drop 211 = dktX2_digest_9 := dk_seg dksX2_digest_8 24 rfl rfl
theorem dX2_digest_0 : decode cX2_digest 0 = .ok (.aload_n 0, 1) := dk_42 (dk_at dksX2_digest_0 0 rfl rfl)
theorem dX2_digest_1 : decode cX2_digest 1 = .ok (.iconst 0, 1) := dk_3 (dk_at dksX2_digest_0 1 rfl rfl)
theorem dX2_digest_2 : decode cX2_digest 2 = .ok (.putfield 51, 3) := dk_181 0 51 (dk_at dksX2_digest_0 2 rfl rfl)
theorem dX2_digest_5 : decode cX2_digest 5 = .ok (.aload_n 0, 1) := dk_42 (dk_at dksX2_digest_0 5 rfl rfl)
theorem dX2_digest_6 : decode cX2_digest 6 = .ok (.ldc2_w 306, 3) := dk_20 1 50 (dk_at dksX2_digest_0 6 rfl rfl)
theorem dX2_digest_9 : decode cX2_digest 9 = .ok (.putfield 299, 3) := dk_181 1 43 (dk_at dksX2_digest_0 9 rfl rfl)
theorem dX2_digest_12 : decode cX2_digest 12 = .ok (.iconst 0, 1) := dk_3 (dk_at dksX2_digest_0 12 rfl rfl)
theorem dX2_digest_13 : decode cX2_digest 13 = .ok (.istore_n 1, 1) := dk_60 (dk_at dksX2_digest_0 13 rfl rfl)
theorem dX2_digest_14 : decode cX2_digest 14 = .ok (.iload_n 1, 1) := dk_27 (dk_at dksX2_digest_0 14 rfl rfl)
theorem dX2_digest_15 : decode cX2_digest 15 = .ok (.bipush 10, 2) := dk_16 10 (dk_at dksX2_digest_0 15 rfl rfl)
theorem dX2_digest_17 : decode cX2_digest 17 = .ok (.if_icmp .ge 19, 3) := dk_162 0 19 (dk_at dksX2_digest_0 17 rfl rfl)
theorem dX2_digest_20 : decode cX2_digest 20 = .ok (.aload_n 0, 1) := dk_42 (dk_at dksX2_digest_0 20 rfl rfl)
theorem dX2_digest_21 : decode cX2_digest 21 = .ok (.aload_n 0, 1) := dk_42 (dk_at dksX2_digest_0 21 rfl rfl)
theorem dX2_digest_22 : decode cX2_digest 22 = .ok (.iload_n 1, 1) := dk_27 (dk_at dksX2_digest_0 22 rfl rfl)
theorem dX2_digest_23 : decode cX2_digest 23 = .ok (.invokevirtual 294, 3) := dk_182 1 38 (dk_at dksX2_digest_1 0 rfl rfl)
theorem dX2_digest_26 : decode cX2_digest 26 = .ok (.i2l, 1) := dk_133 (dk_at dksX2_digest_1 3 rfl rfl)
theorem dX2_digest_27 : decode cX2_digest 27 = .ok (.invokevirtual 302, 3) := dk_182 1 46 (dk_at dksX2_digest_1 4 rfl rfl)
theorem dX2_digest_30 : decode cX2_digest 30 = .ok (.iinc 1 1, 3) := dk_132 1 1 (dk_at dksX2_digest_1 7 rfl rfl)
theorem dX2_digest_33 : decode cX2_digest 33 = .ok (.goto (-19), 3) := dk_167 255 237 (dk_at dksX2_digest_1 10 rfl rfl)
theorem dX2_digest_36 : decode cX2_digest 36 = .ok (.iconst 0, 1) := dk_3 (dk_at dksX2_digest_1 13 rfl rfl)
theorem dX2_digest_37 : decode cX2_digest 37 = .ok (.istore_n 1, 1) := dk_60 (dk_at dksX2_digest_1 14 rfl rfl)
theorem dX2_digest_38 : decode cX2_digest 38 = .ok (.iload_n 1, 1) := dk_27 (dk_at dksX2_digest_1 15 rfl rfl)
theorem dX2_digest_39 : decode cX2_digest 39 = .ok (.iconst 3, 1) := dk_6 (dk_at dksX2_digest_1 16 rfl rfl)
theorem dX2_digest_40 : decode cX2_digest 40 = .ok (.aload_n 0, 1) := dk_42 (dk_at dksX2_digest_1 17 rfl rfl)
theorem dX2_digest_41 : decode cX2_digest 41 = .ok (.getfield 55, 3) := dk_180 0 55 (dk_at dksX2_digest_1 18 rfl rfl)
theorem dX2_digest_44 : decode cX2_digest 44 = .ok (.imul, 1) := dk_104 (dk_at dksX2_digest_1 21 rfl rfl)
theorem dX2_digest_45 : decode cX2_digest 45 = .ok (.if_icmp .ge 30, 3) := dk_162 0 30 (dk_at dksX2_digest_2 0 rfl rfl)
theorem dX2_digest_48 : decode cX2_digest 48 = .ok (.aload_n 0, 1) := dk_42 (dk_at dksX2_digest_2 3 rfl rfl)
theorem dX2_digest_49 : decode cX2_digest 49 = .ok (.aload_n 0, 1) := dk_42 (dk_at dksX2_digest_2 4 rfl rfl)
theorem dX2_digest_50 : decode cX2_digest 50 = .ok (.iload_n 1, 1) := dk_27 (dk_at dksX2_digest_2 5 rfl rfl)
theorem dX2_digest_51 : decode cX2_digest 51 = .ok (.aload_n 0, 1) := dk_42 (dk_at dksX2_digest_2 6 rfl rfl)
theorem dX2_digest_52 : decode cX2_digest 52 = .ok (.getfield 55, 3) := dk_180 0 55 (dk_at dksX2_digest_2 7 rfl rfl)
theorem dX2_digest_55 : decode cX2_digest 55 = .ok (.idiv, 1) := dk_108 (dk_at dksX2_digest_2 10 rfl rfl)
theorem dX2_digest_56 : decode cX2_digest 56 = .ok (.iload_n 1, 1) := dk_27 (dk_at dksX2_digest_2 11 rfl rfl)
theorem dX2_digest_57 : decode cX2_digest 57 = .ok (.aload_n 0, 1) := dk_42 (dk_at dksX2_digest_2 12 rfl rfl)
theorem dX2_digest_58 : decode cX2_digest 58 = .ok (.getfield 55, 3) := dk_180 0 55 (dk_at dksX2_digest_2 13 rfl rfl)
theorem dX2_digest_61 : decode cX2_digest 61 = .ok (.irem, 1) := dk_112 (dk_at dksX2_digest_2 16 rfl rfl)
theorem dX2_digest_62 : decode cX2_digest 62 = .ok (.invokevirtual 100, 3) := dk_182 0 100 (dk_at dksX2_digest_2 17 rfl rfl)
theorem dX2_digest_65 : decode cX2_digest 65 = .ok (.i2l, 1) := dk_133 (dk_at dksX2_digest_2 20 rfl rfl)
theorem dX2_digest_66 : decode cX2_digest 66 = .ok (.invokevirtual 302, 3) := dk_182 1 46 (dk_at dksX2_digest_2 21 rfl rfl)
theorem dX2_digest_69 : decode cX2_digest 69 = .ok (.iinc 1 1, 3) := dk_132 1 1 (dk_at dksX2_digest_3 0 rfl rfl)
theorem dX2_digest_72 : decode cX2_digest 72 = .ok (.goto (-34), 3) := dk_167 255 222 (dk_at dksX2_digest_3 3 rfl rfl)
theorem dX2_digest_75 : decode cX2_digest 75 = .ok (.aload_n 0, 1) := dk_42 (dk_at dksX2_digest_3 6 rfl rfl)
theorem dX2_digest_76 : decode cX2_digest 76 = .ok (.invokevirtual 308, 3) := dk_182 1 52 (dk_at dksX2_digest_3 7 rfl rfl)
theorem dX2_digest_79 : decode cX2_digest 79 = .ok (.aload_n 0, 1) := dk_42 (dk_at dksX2_digest_3 10 rfl rfl)
theorem dX2_digest_80 : decode cX2_digest 80 = .ok (.aload_n 0, 1) := dk_42 (dk_at dksX2_digest_3 11 rfl rfl)
theorem dX2_digest_81 : decode cX2_digest 81 = .ok (.getfield 75, 3) := dk_180 0 75 (dk_at dksX2_digest_3 12 rfl rfl)
theorem dX2_digest_84 : decode cX2_digest 84 = .ok (.invokevirtual 254, 3) := dk_182 0 254 (dk_at dksX2_digest_3 15 rfl rfl)
theorem dX2_digest_87 : decode cX2_digest 87 = .ok (.aload_n 0, 1) := dk_42 (dk_at dksX2_digest_3 18 rfl rfl)
theorem dX2_digest_88 : decode cX2_digest 88 = .ok (.aload_n 0, 1) := dk_42 (dk_at dksX2_digest_3 19 rfl rfl)
theorem dX2_digest_89 : decode cX2_digest 89 = .ok (.getfield 219, 3) := dk_180 0 219 (dk_at dksX2_digest_3 20 rfl rfl)
theorem dX2_digest_92 : decode cX2_digest 92 = .ok (.i2l, 1) := dk_133 (dk_at dksX2_digest_3 23 rfl rfl)
theorem dX2_digest_93 : decode cX2_digest 93 = .ok (.invokevirtual 302, 3) := dk_182 1 46 (dk_at dksX2_digest_4 0 rfl rfl)
theorem dX2_digest_96 : decode cX2_digest 96 = .ok (.aload_n 0, 1) := dk_42 (dk_at dksX2_digest_4 3 rfl rfl)
theorem dX2_digest_97 : decode cX2_digest 97 = .ok (.aload_n 0, 1) := dk_42 (dk_at dksX2_digest_4 4 rfl rfl)
theorem dX2_digest_98 : decode cX2_digest 98 = .ok (.getfield 232, 3) := dk_180 0 232 (dk_at dksX2_digest_4 5 rfl rfl)
theorem dX2_digest_101 : decode cX2_digest 101 = .ok (.invokevirtual 302, 3) := dk_182 1 46 (dk_at dksX2_digest_4 8 rfl rfl)
theorem dX2_digest_104 : decode cX2_digest 104 = .ok (.aload_n 0, 1) := dk_42 (dk_at dksX2_digest_4 11 rfl rfl)
theorem dX2_digest_105 : decode cX2_digest 105 = .ok (.aload_n 0, 1) := dk_42 (dk_at dksX2_digest_4 12 rfl rfl)
theorem dX2_digest_106 : decode cX2_digest 106 = .ok (.getfield 235, 3) := dk_180 0 235 (dk_at dksX2_digest_4 13 rfl rfl)
theorem dX2_digest_109 : decode cX2_digest 109 = .ok (.invokevirtual 302, 3) := dk_182 1 46 (dk_at dksX2_digest_4 16 rfl rfl)
theorem dX2_digest_112 : decode cX2_digest 112 = .ok (.iconst 0, 1) := dk_3 (dk_at dksX2_digest_4 19 rfl rfl)
theorem dX2_digest_113 : decode cX2_digest 113 = .ok (.istore_n 1, 1) := dk_60 (dk_at dksX2_digest_4 20 rfl rfl)
theorem dX2_digest_114 : decode cX2_digest 114 = .ok (.iload_n 1, 1) := dk_27 (dk_at dksX2_digest_4 21 rfl rfl)
theorem dX2_digest_115 : decode cX2_digest 115 = .ok (.iconst 2, 1) := dk_5 (dk_at dksX2_digest_4 22 rfl rfl)
theorem dX2_digest_116 : decode cX2_digest 116 = .ok (.aload_n 0, 1) := dk_42 (dk_at dksX2_digest_4 23 rfl rfl)
theorem dX2_digest_117 : decode cX2_digest 117 = .ok (.getfield 55, 3) := dk_180 0 55 (dk_at dksX2_digest_5 0 rfl rfl)
theorem dX2_digest_120 : decode cX2_digest 120 = .ok (.imul, 1) := dk_104 (dk_at dksX2_digest_5 3 rfl rfl)
theorem dX2_digest_121 : decode cX2_digest 121 = .ok (.if_icmp .ge 27, 3) := dk_162 0 27 (dk_at dksX2_digest_5 4 rfl rfl)
theorem dX2_digest_124 : decode cX2_digest 124 = .ok (.aload_n 0, 1) := dk_42 (dk_at dksX2_digest_5 7 rfl rfl)
theorem dX2_digest_125 : decode cX2_digest 125 = .ok (.aload_n 0, 1) := dk_42 (dk_at dksX2_digest_5 8 rfl rfl)
theorem dX2_digest_126 : decode cX2_digest 126 = .ok (.aload_n 0, 1) := dk_42 (dk_at dksX2_digest_5 9 rfl rfl)
theorem dX2_digest_127 : decode cX2_digest 127 = .ok (.getfield 75, 3) := dk_180 0 75 (dk_at dksX2_digest_5 10 rfl rfl)
theorem dX2_digest_130 : decode cX2_digest 130 = .ok (.iload_n 1, 1) := dk_27 (dk_at dksX2_digest_5 13 rfl rfl)
theorem dX2_digest_131 : decode cX2_digest 131 = .ok (.iconst 2, 1) := dk_5 (dk_at dksX2_digest_5 14 rfl rfl)
theorem dX2_digest_132 : decode cX2_digest 132 = .ok (.idiv, 1) := dk_108 (dk_at dksX2_digest_5 15 rfl rfl)
theorem dX2_digest_133 : decode cX2_digest 133 = .ok (.iload_n 1, 1) := dk_27 (dk_at dksX2_digest_5 16 rfl rfl)
theorem dX2_digest_134 : decode cX2_digest 134 = .ok (.iconst 2, 1) := dk_5 (dk_at dksX2_digest_5 17 rfl rfl)
theorem dX2_digest_135 : decode cX2_digest 135 = .ok (.irem, 1) := dk_112 (dk_at dksX2_digest_5 18 rfl rfl)
theorem dX2_digest_136 : decode cX2_digest 136 = .ok (.invokevirtual 260, 3) := dk_182 1 4 (dk_at dksX2_digest_5 19 rfl rfl)
theorem dX2_digest_139 : decode cX2_digest 139 = .ok (.invokevirtual 302, 3) := dk_182 1 46 (dk_at dksX2_digest_6 0 rfl rfl)
theorem dX2_digest_142 : decode cX2_digest 142 = .ok (.iinc 1 1, 3) := dk_132 1 1 (dk_at dksX2_digest_6 3 rfl rfl)
theorem dX2_digest_145 : decode cX2_digest 145 = .ok (.goto (-31), 3) := dk_167 255 225 (dk_at dksX2_digest_6 6 rfl rfl)
theorem dX2_digest_148 : decode cX2_digest 148 = .ok (.aload_n 0, 1) := dk_42 (dk_at dksX2_digest_6 9 rfl rfl)
theorem dX2_digest_149 : decode cX2_digest 149 = .ok (.iconst 2, 1) := dk_5 (dk_at dksX2_digest_6 10 rfl rfl)
theorem dX2_digest_150 : decode cX2_digest 150 = .ok (.invokevirtual 285, 3) := dk_182 1 29 (dk_at dksX2_digest_6 11 rfl rfl)
theorem dX2_digest_153 : decode cX2_digest 153 = .ok (.aload_n 0, 1) := dk_42 (dk_at dksX2_digest_6 14 rfl rfl)
theorem dX2_digest_154 : decode cX2_digest 154 = .ok (.aload_n 0, 1) := dk_42 (dk_at dksX2_digest_6 15 rfl rfl)
theorem dX2_digest_155 : decode cX2_digest 155 = .ok (.getfield 271, 3) := dk_180 1 15 (dk_at dksX2_digest_6 16 rfl rfl)
theorem dX2_digest_158 : decode cX2_digest 158 = .ok (.i2l, 1) := dk_133 (dk_at dksX2_digest_6 19 rfl rfl)
theorem dX2_digest_159 : decode cX2_digest 159 = .ok (.invokevirtual 302, 3) := dk_182 1 46 (dk_at dksX2_digest_6 20 rfl rfl)
theorem dX2_digest_162 : decode cX2_digest 162 = .ok (.aload_n 0, 1) := dk_42 (dk_at dksX2_digest_6 23 rfl rfl)
theorem dX2_digest_163 : decode cX2_digest 163 = .ok (.aload_n 0, 1) := dk_42 (dk_at dksX2_digest_7 0 rfl rfl)
theorem dX2_digest_164 : decode cX2_digest 164 = .ok (.getfield 276, 3) := dk_180 1 20 (dk_at dksX2_digest_7 1 rfl rfl)
theorem dX2_digest_167 : decode cX2_digest 167 = .ok (.invokevirtual 302, 3) := dk_182 1 46 (dk_at dksX2_digest_7 4 rfl rfl)
theorem dX2_digest_170 : decode cX2_digest 170 = .ok (.aload_n 0, 1) := dk_42 (dk_at dksX2_digest_7 7 rfl rfl)
theorem dX2_digest_171 : decode cX2_digest 171 = .ok (.aload_n 0, 1) := dk_42 (dk_at dksX2_digest_7 8 rfl rfl)
theorem dX2_digest_172 : decode cX2_digest 172 = .ok (.getfield 279, 3) := dk_180 1 23 (dk_at dksX2_digest_7 9 rfl rfl)
theorem dX2_digest_175 : decode cX2_digest 175 = .ok (.invokevirtual 302, 3) := dk_182 1 46 (dk_at dksX2_digest_7 12 rfl rfl)
theorem dX2_digest_178 : decode cX2_digest 178 = .ok (.aload_n 0, 1) := dk_42 (dk_at dksX2_digest_7 15 rfl rfl)
theorem dX2_digest_179 : decode cX2_digest 179 = .ok (.aload_n 0, 1) := dk_42 (dk_at dksX2_digest_7 16 rfl rfl)
theorem dX2_digest_180 : decode cX2_digest 180 = .ok (.invokevirtual 291, 3) := dk_182 1 35 (dk_at dksX2_digest_7 17 rfl rfl)
theorem dX2_digest_183 : decode cX2_digest 183 = .ok (.i2l, 1) := dk_133 (dk_at dksX2_digest_7 20 rfl rfl)
theorem dX2_digest_184 : decode cX2_digest 184 = .ok (.invokevirtual 302, 3) := dk_182 1 46 (dk_at dksX2_digest_7 21 rfl rfl)
theorem dX2_digest_187 : decode cX2_digest 187 = .ok (.aload_n 0, 1) := dk_42 (dk_at dksX2_digest_8 0 rfl rfl)
theorem dX2_digest_188 : decode cX2_digest 188 = .ok (.aload_n 0, 1) := dk_42 (dk_at dksX2_digest_8 1 rfl rfl)
theorem dX2_digest_189 : decode cX2_digest 189 = .ok (.getfield 125, 3) := dk_180 0 125 (dk_at dksX2_digest_8 2 rfl rfl)
theorem dX2_digest_192 : decode cX2_digest 192 = .ok (.i2l, 1) := dk_133 (dk_at dksX2_digest_8 5 rfl rfl)
theorem dX2_digest_193 : decode cX2_digest 193 = .ok (.invokevirtual 302, 3) := dk_182 1 46 (dk_at dksX2_digest_8 6 rfl rfl)
theorem dX2_digest_196 : decode cX2_digest 196 = .ok (.iconst 0, 1) := dk_3 (dk_at dksX2_digest_8 9 rfl rfl)
theorem dX2_digest_197 : decode cX2_digest 197 = .ok (.istore_n 1, 1) := dk_60 (dk_at dksX2_digest_8 10 rfl rfl)
theorem dX2_digest_198 : decode cX2_digest 198 = .ok (.iload_n 1, 1) := dk_27 (dk_at dksX2_digest_8 11 rfl rfl)
theorem dX2_digest_199 : decode cX2_digest 199 = .ok (.aload_n 0, 1) := dk_42 (dk_at dksX2_digest_8 12 rfl rfl)
theorem dX2_digest_200 : decode cX2_digest 200 = .ok (.getfield 125, 3) := dk_180 0 125 (dk_at dksX2_digest_8 13 rfl rfl)
theorem dX2_digest_203 : decode cX2_digest 203 = .ok (.if_icmp .ge 20, 3) := dk_162 0 20 (dk_at dksX2_digest_8 16 rfl rfl)
theorem dX2_digest_206 : decode cX2_digest 206 = .ok (.aload_n 0, 1) := dk_42 (dk_at dksX2_digest_8 19 rfl rfl)
theorem dX2_digest_207 : decode cX2_digest 207 = .ok (.aload_n 0, 1) := dk_42 (dk_at dksX2_digest_8 20 rfl rfl)
theorem dX2_digest_208 : decode cX2_digest 208 = .ok (.getfield 13, 3) := dk_180 0 13 (dk_at dksX2_digest_8 21 rfl rfl)
theorem dX2_digest_211 : decode cX2_digest 211 = .ok (.iload_n 1, 1) := dk_27 (dk_at dksX2_digest_9 0 rfl rfl)
theorem dX2_digest_212 : decode cX2_digest 212 = .ok (.iaload, 1) := dk_46 (dk_at dksX2_digest_9 1 rfl rfl)
theorem dX2_digest_213 : decode cX2_digest 213 = .ok (.i2l, 1) := dk_133 (dk_at dksX2_digest_9 2 rfl rfl)
theorem dX2_digest_214 : decode cX2_digest 214 = .ok (.invokevirtual 302, 3) := dk_182 1 46 (dk_at dksX2_digest_9 3 rfl rfl)
theorem dX2_digest_217 : decode cX2_digest 217 = .ok (.iinc 1 1, 3) := dk_132 1 1 (dk_at dksX2_digest_9 6 rfl rfl)
theorem dX2_digest_220 : decode cX2_digest 220 = .ok (.goto (-22), 3) := dk_167 255 234 (dk_at dksX2_digest_9 9 rfl rfl)
theorem dX2_digest_223 : decode cX2_digest 223 = .ok (.aload_n 0, 1) := dk_42 (dk_at dksX2_digest_9 12 rfl rfl)
theorem dX2_digest_224 : decode cX2_digest 224 = .ok (.getfield 299, 3) := dk_180 1 43 (dk_at dksX2_digest_9 13 rfl rfl)
theorem dX2_digest_227 : decode cX2_digest 227 = .ok (.lreturn, 1) := dk_173 (dk_at dksX2_digest_9 16 rfl rfl)
abbrev cX2_mix : ByteArray := prog_10_method_75_code
def yX2_mix : MethodName := ⟨RX2, "mix", "(J)V"⟩
def dkwX2_mix_0 : List UInt8 := [42, 20, 1, 41, 42, 180, 1, 43, 105, 31, 97, 181, 1, 43, 177]
abbrev dktX2_mix_0 : List UInt8 := dkwX2_mix_0 ++ []
theorem dksX2_mix_0 : cX2_mix.data.toList.drop 0 = dktX2_mix_0 := by decide +kernel
theorem dX2_mix_0 : decode cX2_mix 0 = .ok (.aload_n 0, 1) := dk_42 (dk_at dksX2_mix_0 0 rfl rfl)
theorem dX2_mix_1 : decode cX2_mix 1 = .ok (.ldc2_w 297, 3) := dk_20 1 41 (dk_at dksX2_mix_0 1 rfl rfl)
theorem dX2_mix_4 : decode cX2_mix 4 = .ok (.aload_n 0, 1) := dk_42 (dk_at dksX2_mix_0 4 rfl rfl)
theorem dX2_mix_5 : decode cX2_mix 5 = .ok (.getfield 299, 3) := dk_180 1 43 (dk_at dksX2_mix_0 5 rfl rfl)
theorem dX2_mix_8 : decode cX2_mix 8 = .ok (.lmul, 1) := dk_105 (dk_at dksX2_mix_0 8 rfl rfl)
theorem dX2_mix_9 : decode cX2_mix 9 = .ok (.lload_n 1, 1) := dk_31 (dk_at dksX2_mix_0 9 rfl rfl)
theorem dX2_mix_10 : decode cX2_mix 10 = .ok (.ladd, 1) := dk_97 (dk_at dksX2_mix_0 10 rfl rfl)
theorem dX2_mix_11 : decode cX2_mix 11 = .ok (.putfield 299, 3) := dk_181 1 43 (dk_at dksX2_mix_0 11 rfl rfl)
theorem dX2_mix_14 : decode cX2_mix 14 = .ok (.return_, 1) := dk_177 (dk_at dksX2_mix_0 14 rfl rfl)
abbrev cX2_mixChances : ByteArray := prog_10_method_76_code
def yX2_mixChances : MethodName := ⟨RX2, "mixChances", "()V"⟩
def dkwX2_mixChances_3 : List UInt8 := [5, 16, 6, 27, 182, 0, 208, 182, 1, 46, 132, 1, 1, 167, 255, 235, 177]
abbrev dktX2_mixChances_3 : List UInt8 := dkwX2_mixChances_3 ++ []
def dkwX2_mixChances_2 : List UInt8 := [167, 255, 234, 42, 42, 16, 6, 4, 182, 0, 205, 182, 1, 46, 3, 60, 27, 6, 162, 0, 22, 42, 42, 5]
abbrev dktX2_mixChances_2 : List UInt8 := dkwX2_mixChances_2 ++ dktX2_mixChances_3
def dkwX2_mixChances_1 : List UInt8 := [60, 27, 42, 180, 0, 55, 162, 0, 20, 42, 42, 16, 6, 27, 182, 0, 201, 182, 1, 46, 132, 1, 1]
abbrev dktX2_mixChances_1 : List UInt8 := dkwX2_mixChances_1 ++ dktX2_mixChances_2
def dkwX2_mixChances_0 : List UInt8 := [3, 60, 27, 6, 162, 0, 19, 42, 42, 27, 182, 0, 172, 133, 182, 1, 46, 132, 1, 1, 167, 255, 238, 3]
abbrev dktX2_mixChances_0 : List UInt8 := dkwX2_mixChances_0 ++ dktX2_mixChances_1
theorem dksX2_mixChances_0 : cX2_mixChances.data.toList.drop 0 = dktX2_mixChances_0 := by decide +kernel
theorem dksX2_mixChances_1 : cX2_mixChances.data.toList.drop 24 = dktX2_mixChances_1 := dk_seg dksX2_mixChances_0 24 rfl rfl
theorem dksX2_mixChances_2 : cX2_mixChances.data.toList.drop 47 = dktX2_mixChances_2 := dk_seg dksX2_mixChances_1 23 rfl rfl
theorem dksX2_mixChances_3 : cX2_mixChances.data.toList.drop 71 = dktX2_mixChances_3 := dk_seg dksX2_mixChances_2 24 rfl rfl
theorem dX2_mixChances_0 : decode cX2_mixChances 0 = .ok (.iconst 0, 1) := dk_3 (dk_at dksX2_mixChances_0 0 rfl rfl)
theorem dX2_mixChances_1 : decode cX2_mixChances 1 = .ok (.istore_n 1, 1) := dk_60 (dk_at dksX2_mixChances_0 1 rfl rfl)
theorem dX2_mixChances_2 : decode cX2_mixChances 2 = .ok (.iload_n 1, 1) := dk_27 (dk_at dksX2_mixChances_0 2 rfl rfl)
theorem dX2_mixChances_3 : decode cX2_mixChances 3 = .ok (.iconst 3, 1) := dk_6 (dk_at dksX2_mixChances_0 3 rfl rfl)
theorem dX2_mixChances_4 : decode cX2_mixChances 4 = .ok (.if_icmp .ge 19, 3) := dk_162 0 19 (dk_at dksX2_mixChances_0 4 rfl rfl)
theorem dX2_mixChances_7 : decode cX2_mixChances 7 = .ok (.aload_n 0, 1) := dk_42 (dk_at dksX2_mixChances_0 7 rfl rfl)
theorem dX2_mixChances_8 : decode cX2_mixChances 8 = .ok (.aload_n 0, 1) := dk_42 (dk_at dksX2_mixChances_0 8 rfl rfl)
theorem dX2_mixChances_9 : decode cX2_mixChances 9 = .ok (.iload_n 1, 1) := dk_27 (dk_at dksX2_mixChances_0 9 rfl rfl)
theorem dX2_mixChances_10 : decode cX2_mixChances 10 = .ok (.invokevirtual 172, 3) := dk_182 0 172 (dk_at dksX2_mixChances_0 10 rfl rfl)
theorem dX2_mixChances_13 : decode cX2_mixChances 13 = .ok (.i2l, 1) := dk_133 (dk_at dksX2_mixChances_0 13 rfl rfl)
theorem dX2_mixChances_14 : decode cX2_mixChances 14 = .ok (.invokevirtual 302, 3) := dk_182 1 46 (dk_at dksX2_mixChances_0 14 rfl rfl)
theorem dX2_mixChances_17 : decode cX2_mixChances 17 = .ok (.iinc 1 1, 3) := dk_132 1 1 (dk_at dksX2_mixChances_0 17 rfl rfl)
theorem dX2_mixChances_20 : decode cX2_mixChances 20 = .ok (.goto (-18), 3) := dk_167 255 238 (dk_at dksX2_mixChances_0 20 rfl rfl)
theorem dX2_mixChances_23 : decode cX2_mixChances 23 = .ok (.iconst 0, 1) := dk_3 (dk_at dksX2_mixChances_0 23 rfl rfl)
theorem dX2_mixChances_24 : decode cX2_mixChances 24 = .ok (.istore_n 1, 1) := dk_60 (dk_at dksX2_mixChances_1 0 rfl rfl)
theorem dX2_mixChances_25 : decode cX2_mixChances 25 = .ok (.iload_n 1, 1) := dk_27 (dk_at dksX2_mixChances_1 1 rfl rfl)
theorem dX2_mixChances_26 : decode cX2_mixChances 26 = .ok (.aload_n 0, 1) := dk_42 (dk_at dksX2_mixChances_1 2 rfl rfl)
theorem dX2_mixChances_27 : decode cX2_mixChances 27 = .ok (.getfield 55, 3) := dk_180 0 55 (dk_at dksX2_mixChances_1 3 rfl rfl)
theorem dX2_mixChances_30 : decode cX2_mixChances 30 = .ok (.if_icmp .ge 20, 3) := dk_162 0 20 (dk_at dksX2_mixChances_1 6 rfl rfl)
theorem dX2_mixChances_33 : decode cX2_mixChances 33 = .ok (.aload_n 0, 1) := dk_42 (dk_at dksX2_mixChances_1 9 rfl rfl)
theorem dX2_mixChances_34 : decode cX2_mixChances 34 = .ok (.aload_n 0, 1) := dk_42 (dk_at dksX2_mixChances_1 10 rfl rfl)
theorem dX2_mixChances_35 : decode cX2_mixChances 35 = .ok (.bipush 6, 2) := dk_16 6 (dk_at dksX2_mixChances_1 11 rfl rfl)
theorem dX2_mixChances_37 : decode cX2_mixChances 37 = .ok (.iload_n 1, 1) := dk_27 (dk_at dksX2_mixChances_1 13 rfl rfl)
theorem dX2_mixChances_38 : decode cX2_mixChances 38 = .ok (.invokevirtual 201, 3) := dk_182 0 201 (dk_at dksX2_mixChances_1 14 rfl rfl)
theorem dX2_mixChances_41 : decode cX2_mixChances 41 = .ok (.invokevirtual 302, 3) := dk_182 1 46 (dk_at dksX2_mixChances_1 17 rfl rfl)
theorem dX2_mixChances_44 : decode cX2_mixChances 44 = .ok (.iinc 1 1, 3) := dk_132 1 1 (dk_at dksX2_mixChances_1 20 rfl rfl)
theorem dX2_mixChances_47 : decode cX2_mixChances 47 = .ok (.goto (-22), 3) := dk_167 255 234 (dk_at dksX2_mixChances_2 0 rfl rfl)
theorem dX2_mixChances_50 : decode cX2_mixChances 50 = .ok (.aload_n 0, 1) := dk_42 (dk_at dksX2_mixChances_2 3 rfl rfl)
theorem dX2_mixChances_51 : decode cX2_mixChances 51 = .ok (.aload_n 0, 1) := dk_42 (dk_at dksX2_mixChances_2 4 rfl rfl)
theorem dX2_mixChances_52 : decode cX2_mixChances 52 = .ok (.bipush 6, 2) := dk_16 6 (dk_at dksX2_mixChances_2 5 rfl rfl)
theorem dX2_mixChances_54 : decode cX2_mixChances 54 = .ok (.iconst 1, 1) := dk_4 (dk_at dksX2_mixChances_2 7 rfl rfl)
theorem dX2_mixChances_55 : decode cX2_mixChances 55 = .ok (.invokevirtual 205, 3) := dk_182 0 205 (dk_at dksX2_mixChances_2 8 rfl rfl)
theorem dX2_mixChances_58 : decode cX2_mixChances 58 = .ok (.invokevirtual 302, 3) := dk_182 1 46 (dk_at dksX2_mixChances_2 11 rfl rfl)
theorem dX2_mixChances_61 : decode cX2_mixChances 61 = .ok (.iconst 0, 1) := dk_3 (dk_at dksX2_mixChances_2 14 rfl rfl)
theorem dX2_mixChances_62 : decode cX2_mixChances 62 = .ok (.istore_n 1, 1) := dk_60 (dk_at dksX2_mixChances_2 15 rfl rfl)
theorem dX2_mixChances_63 : decode cX2_mixChances 63 = .ok (.iload_n 1, 1) := dk_27 (dk_at dksX2_mixChances_2 16 rfl rfl)
theorem dX2_mixChances_64 : decode cX2_mixChances 64 = .ok (.iconst 3, 1) := dk_6 (dk_at dksX2_mixChances_2 17 rfl rfl)
theorem dX2_mixChances_65 : decode cX2_mixChances 65 = .ok (.if_icmp .ge 22, 3) := dk_162 0 22 (dk_at dksX2_mixChances_2 18 rfl rfl)
theorem dX2_mixChances_68 : decode cX2_mixChances 68 = .ok (.aload_n 0, 1) := dk_42 (dk_at dksX2_mixChances_2 21 rfl rfl)
theorem dX2_mixChances_69 : decode cX2_mixChances 69 = .ok (.aload_n 0, 1) := dk_42 (dk_at dksX2_mixChances_2 22 rfl rfl)
theorem dX2_mixChances_70 : decode cX2_mixChances 70 = .ok (.iconst 2, 1) := dk_5 (dk_at dksX2_mixChances_2 23 rfl rfl)
theorem dX2_mixChances_71 : decode cX2_mixChances 71 = .ok (.iconst 2, 1) := dk_5 (dk_at dksX2_mixChances_3 0 rfl rfl)
theorem dX2_mixChances_72 : decode cX2_mixChances 72 = .ok (.bipush 6, 2) := dk_16 6 (dk_at dksX2_mixChances_3 1 rfl rfl)
theorem dX2_mixChances_74 : decode cX2_mixChances 74 = .ok (.iload_n 1, 1) := dk_27 (dk_at dksX2_mixChances_3 3 rfl rfl)
theorem dX2_mixChances_75 : decode cX2_mixChances 75 = .ok (.invokevirtual 208, 3) := dk_182 0 208 (dk_at dksX2_mixChances_3 4 rfl rfl)
theorem dX2_mixChances_78 : decode cX2_mixChances 78 = .ok (.invokevirtual 302, 3) := dk_182 1 46 (dk_at dksX2_mixChances_3 7 rfl rfl)
theorem dX2_mixChances_81 : decode cX2_mixChances 81 = .ok (.iinc 1 1, 3) := dk_132 1 1 (dk_at dksX2_mixChances_3 10 rfl rfl)
theorem dX2_mixChances_84 : decode cX2_mixChances 84 = .ok (.goto (-21), 3) := dk_167 255 235 (dk_at dksX2_mixChances_3 13 rfl rfl)
theorem dX2_mixChances_87 : decode cX2_mixChances 87 = .ok (.return_, 1) := dk_177 (dk_at dksX2_mixChances_3 16 rfl rfl)
theorem q90 : (Jvm.Cond.initialized "FlashRatchetModel") ∈ lw_all := lw_g (lw_at lw_m1 6 rfl) rfl
theorem q904 : (Jvm.Cond.selects "FlashRatchetModel" ({ cls := "java/lang/Object", name := "getClass", desc := "()Ljava/lang/Class;" } : Jvm.MethodName) ({ cls := "java/lang/Object", name := "getClass", desc := "()Ljava/lang/Class;" } : Jvm.MethodName)) ∈ lw_all := lw_g (lw_at lw_m4 100 rfl) rfl
theorem q1835 : (Jvm.Cond.instantiable "FlashRatchetModel" (40 : Nat)) ∈ lw_all := lw_g (lw_at lw_m8 71 rfl) rfl
theorem q1837 : (Jvm.Cond.instanceMethod ({ cls := "FlashRatchetModel", name := "<init>", desc := "()V" } : Jvm.MethodName)) ∈ lw_all := lw_g (lw_at lw_m8 73 rfl) rfl
theorem q1838 : (Jvm.Cond.code ({ cls := "FlashRatchetModel", name := "<init>", desc := "()V" } : Jvm.MethodName) prog_10_method_1_code (1 : Nat) (Option.none : Option Jvm.ClassFile.FieldType)) ∈ lw_all := lw_g (lw_at lw_m8 74 rfl) rfl
theorem q1839 : (Jvm.Cond.methodLink "FlashRatchetModel" (1 : Nat) ({ cls := "java/lang/Object", name := "<init>", desc := "()V" } : Jvm.MethodName)) ∈ lw_all := lw_g (lw_at lw_m8 75 rfl) rfl
theorem q1840 : (Jvm.Cond.methodLink "FlashRatchetModel" (47 : Nat) ({ cls := "FlashRatchetModel", name := "fresh", desc := "(I)V" } : Jvm.MethodName)) ∈ lw_all := lw_g (lw_at lw_m8 76 rfl) rfl
theorem q1841 : (Jvm.Cond.privateMethod ({ cls := "FlashRatchetModel", name := "fresh", desc := "(I)V" } : Jvm.MethodName)) ∈ lw_tbl := lw_at lw_m8 77 rfl
theorem q1842 : (Jvm.Cond.instanceMethod ({ cls := "FlashRatchetModel", name := "fresh", desc := "(I)V" } : Jvm.MethodName)) ∈ lw_all := lw_g (lw_at lw_m8 78 rfl) rfl
theorem q1843 : (Jvm.Cond.code ({ cls := "FlashRatchetModel", name := "fresh", desc := "(I)V" } : Jvm.MethodName) prog_10_method_9_code (3 : Nat) (Option.none : Option Jvm.ClassFile.FieldType)) ∈ lw_all := lw_g (lw_at lw_m8 79 rfl) rfl
theorem q1844 : (Jvm.Cond.fieldLink "FlashRatchetModel" (51 : Nat) "FlashRatchetModel" "thrown" "I") ∈ lw_all := lw_g (lw_at lw_m8 80 rfl) rfl
theorem q1845 : (Jvm.Cond.fieldLink "FlashRatchetModel" (55 : Nat) "FlashRatchetModel" "positions" "I") ∈ lw_all := lw_g (lw_at lw_m8 81 rfl) rfl
theorem q1846 : (Jvm.Cond.fieldLink "FlashRatchetModel" (66 : Nat) "FlashRatchetModel" "geared" "I") ∈ lw_all := lw_g (lw_at lw_m8 82 rfl) rfl
theorem q1847 : (Jvm.Cond.fieldLink "FlashRatchetModel" (69 : Nat) "FlashRatchetModel" "pawls" "I") ∈ lw_all := lw_g (lw_at lw_m8 83 rfl) rfl
theorem q1848 : (Jvm.Cond.fieldLink "FlashRatchetModel" (7 : Nat) "FlashRatchetModel" "table" "[I") ∈ lw_all := lw_g (lw_at lw_m8 84 rfl) rfl
theorem q1849 : (Jvm.Cond.fieldLink "FlashRatchetModel" (72 : Nat) "FlashRatchetModel" "position" "I") ∈ lw_all := lw_g (lw_at lw_m8 85 rfl) rfl
theorem q1850 : (Jvm.Cond.fieldLink "FlashRatchetModel" (75 : Nat) "FlashRatchetModel" "program" "I") ∈ lw_all := lw_g (lw_at lw_m8 86 rfl) rfl
theorem q1851 : (Jvm.Cond.fieldLink "FlashRatchetModel" (78 : Nat) "FlashRatchetModel" "index" "I") ∈ lw_all := lw_g (lw_at lw_m8 87 rfl) rfl
theorem q1852 : (Jvm.Cond.fieldLink "FlashRatchetModel" (81 : Nat) "FlashRatchetModel" "seed" "I") ∈ lw_all := lw_g (lw_at lw_m8 88 rfl) rfl
theorem q1853 : (Jvm.Cond.fieldLink "FlashRatchetModel" (84 : Nat) "FlashRatchetModel" "gain" "I") ∈ lw_all := lw_g (lw_at lw_m8 89 rfl) rfl
theorem q1854 : (Jvm.Cond.fieldLink "FlashRatchetModel" (87 : Nat) "FlashRatchetModel" "ticks" "I") ∈ lw_all := lw_g (lw_at lw_m8 90 rfl) rfl
theorem q1855 : (Jvm.Cond.fieldLink "FlashRatchetModel" (125 : Nat) "FlashRatchetModel" "length" "I") ∈ lw_all := lw_g (lw_at lw_m8 91 rfl) rfl
theorem q1856 : (Jvm.Cond.fieldLink "FlashRatchetModel" (13 : Nat) "FlashRatchetModel" "text" "[I") ∈ lw_all := lw_g (lw_at lw_m8 92 rfl) rfl
theorem q1857 : (Jvm.Cond.fieldLink "FlashRatchetModel" (137 : Nat) "FlashRatchetModel" "step" "I") ∈ lw_all := lw_g (lw_at lw_m8 93 rfl) rfl
theorem q1858 : (Jvm.Cond.fieldLink "FlashRatchetModel" (128 : Nat) "FlashRatchetModel" "lever" "I") ∈ lw_all := lw_g (lw_at lw_m8 94 rfl) rfl
theorem q1859 : (Jvm.Cond.fieldLink "FlashRatchetModel" (131 : Nat) "FlashRatchetModel" "at" "I") ∈ lw_all := lw_g (lw_at lw_m8 95 rfl) rfl
theorem q1860 : (Jvm.Cond.fieldLink "FlashRatchetModel" (140 : Nat) "FlashRatchetModel" "first" "I") ∈ lw_all := lw_g (lw_at lw_m8 96 rfl) rfl
theorem q1861 : (Jvm.Cond.fieldLink "FlashRatchetModel" (134 : Nat) "FlashRatchetModel" "letters" "I") ∈ lw_all := lw_g (lw_at lw_m8 97 rfl) rfl
theorem q1862 : (Jvm.Cond.fieldLink "FlashRatchetModel" (143 : Nat) "FlashRatchetModel" "items" "I") ∈ lw_all := lw_g (lw_at lw_m8 98 rfl) rfl
theorem q1863 : (Jvm.Cond.fieldLink "FlashRatchetModel" (16 : Nat) "FlashRatchetModel" "read" "[I") ∈ lw_all := lw_g (lw_at lw_m8 99 rfl) rfl
theorem q1864 : (Jvm.Cond.fieldLink "FlashRatchetModel" (19 : Nat) "FlashRatchetModel" "met" "[I") ∈ lw_all := lw_g (lw_at lw_m8 100 rfl) rfl
theorem q1865 : (Jvm.Cond.fieldLink "FlashRatchetModel" (22 : Nat) "FlashRatchetModel" "gained" "[I") ∈ lw_all := lw_g (lw_at lw_m8 101 rfl) rfl
theorem q1866 : (Jvm.Cond.fieldLink "FlashRatchetModel" (25 : Nat) "FlashRatchetModel" "now" "[J") ∈ lw_all := lw_g (lw_at lw_m8 102 rfl) rfl
theorem q1867 : (Jvm.Cond.fieldLink "FlashRatchetModel" (29 : Nat) "FlashRatchetModel" "next" "[J") ∈ lw_all := lw_g (lw_at lw_m8 103 rfl) rfl
theorem q1868 : (Jvm.Cond.fieldLink "FlashRatchetModel" (175 : Nat) "FlashRatchetModel" "lost" "J") ∈ lw_all := lw_g (lw_at lw_m8 104 rfl) rfl
theorem q1869 : (Jvm.Cond.fieldLink "FlashRatchetModel" (181 : Nat) "FlashRatchetModel" "won" "J") ∈ lw_all := lw_g (lw_at lw_m8 105 rfl) rfl
theorem q1870 : (Jvm.Cond.fieldLink "FlashRatchetModel" (32 : Nat) "FlashRatchetModel" "round" "[J") ∈ lw_all := lw_g (lw_at lw_m8 106 rfl) rfl
theorem q1871 : (Jvm.Cond.fieldLink "FlashRatchetModel" (35 : Nat) "FlashRatchetModel" "gains" "[J") ∈ lw_all := lw_g (lw_at lw_m8 107 rfl) rfl
theorem q1872 : (Jvm.Cond.fieldLink "FlashRatchetModel" (38 : Nat) "FlashRatchetModel" "here" "[J") ∈ lw_all := lw_g (lw_at lw_m8 108 rfl) rfl
theorem q1873 : (Jvm.Cond.fieldLink "FlashRatchetModel" (41 : Nat) "FlashRatchetModel" "then" "[J") ∈ lw_all := lw_g (lw_at lw_m8 109 rfl) rfl
theorem q1874 : (Jvm.Cond.fieldLink "FlashRatchetModel" (212 : Nat) "FlashRatchetModel" "scale" "J") ∈ lw_all := lw_g (lw_at lw_m8 110 rfl) rfl
theorem q1875 : (Jvm.Cond.fieldLink "FlashRatchetModel" (219 : Nat) "FlashRatchetModel" "classes" "I") ∈ lw_all := lw_g (lw_at lw_m8 111 rfl) rfl
theorem q1876 : (Jvm.Cond.fieldLink "FlashRatchetModel" (44 : Nat) "FlashRatchetModel" "weights" "[J") ∈ lw_all := lw_g (lw_at lw_m8 112 rfl) rfl
theorem q1877 : (Jvm.Cond.fieldLink "FlashRatchetModel" (247 : Nat) "FlashRatchetModel" "all" "J") ∈ lw_all := lw_g (lw_at lw_m8 113 rfl) rfl
theorem q1878 : (Jvm.Cond.fieldLink "FlashRatchetModel" (232 : Nat) "FlashRatchetModel" "numerator" "J") ∈ lw_all := lw_g (lw_at lw_m8 114 rfl) rfl
theorem q1879 : (Jvm.Cond.fieldLink "FlashRatchetModel" (235 : Nat) "FlashRatchetModel" "denominator" "J") ∈ lw_all := lw_g (lw_at lw_m8 115 rfl) rfl
theorem q1880 : (Jvm.Cond.fieldLink "FlashRatchetModel" (271 : Nat) "FlashRatchetModel" "bestProgram" "I") ∈ lw_all := lw_g (lw_at lw_m8 116 rfl) rfl
theorem q1881 : (Jvm.Cond.fieldLink "FlashRatchetModel" (276 : Nat) "FlashRatchetModel" "bestAbove" "J") ∈ lw_all := lw_g (lw_at lw_m8 117 rfl) rfl
theorem q1882 : (Jvm.Cond.fieldLink "FlashRatchetModel" (279 : Nat) "FlashRatchetModel" "bestBelow" "J") ∈ lw_all := lw_g (lw_at lw_m8 118 rfl) rfl
theorem q1883 : (Jvm.Cond.fieldLink "FlashRatchetModel" (299 : Nat) "FlashRatchetModel" "h" "J") ∈ lw_all := lw_g (lw_at lw_m8 119 rfl) rfl
theorem q1884 : (Jvm.Cond.lays "FlashRatchetModel" "FlashRatchetModel" "thrown" "I") ∈ lw_all := lw_g (lw_at lw_m8 120 rfl) rfl
theorem q1885 : (Jvm.Cond.soleField "FlashRatchetModel" "thrown") ∈ lw_all := lw_g (lw_at lw_m8 121 rfl) rfl
theorem q1886 : (Jvm.Cond.lays "FlashRatchetModel" "FlashRatchetModel" "positions" "I") ∈ lw_all := lw_g (lw_at lw_m8 122 rfl) rfl
theorem q1887 : (Jvm.Cond.soleField "FlashRatchetModel" "positions") ∈ lw_all := lw_g (lw_at lw_m8 123 rfl) rfl
theorem q1888 : (Jvm.Cond.lays "FlashRatchetModel" "FlashRatchetModel" "geared" "I") ∈ lw_all := lw_g (lw_at lw_m8 124 rfl) rfl
theorem q1889 : (Jvm.Cond.soleField "FlashRatchetModel" "geared") ∈ lw_all := lw_g (lw_at lw_m8 125 rfl) rfl
theorem q1890 : (Jvm.Cond.lays "FlashRatchetModel" "FlashRatchetModel" "pawls" "I") ∈ lw_all := lw_g (lw_at lw_m8 126 rfl) rfl
theorem q1891 : (Jvm.Cond.soleField "FlashRatchetModel" "pawls") ∈ lw_all := lw_g (lw_at lw_m8 127 rfl) rfl
theorem q1892 : (Jvm.Cond.laysFinal "FlashRatchetModel" "FlashRatchetModel" "table" "[I") ∈ lw_all := lw_g (lw_at lw_m8 128 rfl) rfl
theorem q1893 : (Jvm.Cond.soleField "FlashRatchetModel" "table") ∈ lw_all := lw_g (lw_at lw_m8 129 rfl) rfl
theorem q1894 : (Jvm.Cond.lays "FlashRatchetModel" "FlashRatchetModel" "position" "I") ∈ lw_all := lw_g (lw_at lw_m8 130 rfl) rfl
theorem q1895 : (Jvm.Cond.soleField "FlashRatchetModel" "position") ∈ lw_all := lw_g (lw_at lw_m8 131 rfl) rfl
theorem q1896 : (Jvm.Cond.lays "FlashRatchetModel" "FlashRatchetModel" "program" "I") ∈ lw_all := lw_g (lw_at lw_m8 132 rfl) rfl
theorem q1897 : (Jvm.Cond.soleField "FlashRatchetModel" "program") ∈ lw_all := lw_g (lw_at lw_m8 133 rfl) rfl
theorem q1898 : (Jvm.Cond.lays "FlashRatchetModel" "FlashRatchetModel" "index" "I") ∈ lw_all := lw_g (lw_at lw_m8 134 rfl) rfl
theorem q1899 : (Jvm.Cond.soleField "FlashRatchetModel" "index") ∈ lw_all := lw_g (lw_at lw_m8 135 rfl) rfl
theorem q1900 : (Jvm.Cond.lays "FlashRatchetModel" "FlashRatchetModel" "seed" "I") ∈ lw_all := lw_g (lw_at lw_m8 136 rfl) rfl
theorem q1901 : (Jvm.Cond.soleField "FlashRatchetModel" "seed") ∈ lw_all := lw_g (lw_at lw_m8 137 rfl) rfl
theorem q1902 : (Jvm.Cond.lays "FlashRatchetModel" "FlashRatchetModel" "gain" "I") ∈ lw_all := lw_g (lw_at lw_m8 138 rfl) rfl
theorem q1903 : (Jvm.Cond.soleField "FlashRatchetModel" "gain") ∈ lw_all := lw_g (lw_at lw_m8 139 rfl) rfl
theorem q1904 : (Jvm.Cond.lays "FlashRatchetModel" "FlashRatchetModel" "ticks" "I") ∈ lw_all := lw_g (lw_at lw_m8 140 rfl) rfl
theorem q1905 : (Jvm.Cond.soleField "FlashRatchetModel" "ticks") ∈ lw_all := lw_g (lw_at lw_m8 141 rfl) rfl
theorem q1906 : (Jvm.Cond.lays "FlashRatchetModel" "FlashRatchetModel" "length" "I") ∈ lw_all := lw_g (lw_at lw_m8 142 rfl) rfl
theorem q1907 : (Jvm.Cond.soleField "FlashRatchetModel" "length") ∈ lw_all := lw_g (lw_at lw_m8 143 rfl) rfl
theorem q1908 : (Jvm.Cond.laysFinal "FlashRatchetModel" "FlashRatchetModel" "text" "[I") ∈ lw_all := lw_g (lw_at lw_m8 144 rfl) rfl
theorem q1909 : (Jvm.Cond.soleField "FlashRatchetModel" "text") ∈ lw_all := lw_g (lw_at lw_m8 145 rfl) rfl
theorem q1910 : (Jvm.Cond.lays "FlashRatchetModel" "FlashRatchetModel" "step" "I") ∈ lw_all := lw_g (lw_at lw_m8 146 rfl) rfl
theorem q1911 : (Jvm.Cond.soleField "FlashRatchetModel" "step") ∈ lw_all := lw_g (lw_at lw_m8 147 rfl) rfl
theorem q1912 : (Jvm.Cond.lays "FlashRatchetModel" "FlashRatchetModel" "lever" "I") ∈ lw_all := lw_g (lw_at lw_m8 148 rfl) rfl
theorem q1913 : (Jvm.Cond.soleField "FlashRatchetModel" "lever") ∈ lw_all := lw_g (lw_at lw_m8 149 rfl) rfl
theorem q1914 : (Jvm.Cond.lays "FlashRatchetModel" "FlashRatchetModel" "at" "I") ∈ lw_all := lw_g (lw_at lw_m8 150 rfl) rfl
theorem q1915 : (Jvm.Cond.soleField "FlashRatchetModel" "at") ∈ lw_all := lw_g (lw_at lw_m8 151 rfl) rfl
theorem q1916 : (Jvm.Cond.lays "FlashRatchetModel" "FlashRatchetModel" "first" "I") ∈ lw_all := lw_g (lw_at lw_m8 152 rfl) rfl
theorem q1917 : (Jvm.Cond.soleField "FlashRatchetModel" "first") ∈ lw_all := lw_g (lw_at lw_m8 153 rfl) rfl
theorem q1918 : (Jvm.Cond.lays "FlashRatchetModel" "FlashRatchetModel" "letters" "I") ∈ lw_all := lw_g (lw_at lw_m8 154 rfl) rfl
theorem q1919 : (Jvm.Cond.soleField "FlashRatchetModel" "letters") ∈ lw_all := lw_g (lw_at lw_m8 155 rfl) rfl
theorem q1920 : (Jvm.Cond.lays "FlashRatchetModel" "FlashRatchetModel" "items" "I") ∈ lw_all := lw_g (lw_at lw_m8 156 rfl) rfl
theorem q1921 : (Jvm.Cond.soleField "FlashRatchetModel" "items") ∈ lw_all := lw_g (lw_at lw_m8 157 rfl) rfl
theorem q1922 : (Jvm.Cond.laysFinal "FlashRatchetModel" "FlashRatchetModel" "read" "[I") ∈ lw_all := lw_g (lw_at lw_m8 158 rfl) rfl
theorem q1923 : (Jvm.Cond.soleField "FlashRatchetModel" "read") ∈ lw_all := lw_g (lw_at lw_m8 159 rfl) rfl
theorem q1924 : (Jvm.Cond.laysFinal "FlashRatchetModel" "FlashRatchetModel" "met" "[I") ∈ lw_all := lw_g (lw_at lw_m8 160 rfl) rfl
theorem q1925 : (Jvm.Cond.soleField "FlashRatchetModel" "met") ∈ lw_all := lw_g (lw_at lw_m8 161 rfl) rfl
theorem q1926 : (Jvm.Cond.laysFinal "FlashRatchetModel" "FlashRatchetModel" "gained" "[I") ∈ lw_all := lw_g (lw_at lw_m8 162 rfl) rfl
theorem q1927 : (Jvm.Cond.soleField "FlashRatchetModel" "gained") ∈ lw_all := lw_g (lw_at lw_m8 163 rfl) rfl
theorem q1928 : (Jvm.Cond.laysFinal "FlashRatchetModel" "FlashRatchetModel" "now" "[J") ∈ lw_all := lw_g (lw_at lw_m8 164 rfl) rfl
theorem q1929 : (Jvm.Cond.soleField "FlashRatchetModel" "now") ∈ lw_all := lw_g (lw_at lw_m8 165 rfl) rfl
theorem q1930 : (Jvm.Cond.laysFinal "FlashRatchetModel" "FlashRatchetModel" "next" "[J") ∈ lw_all := lw_g (lw_at lw_m8 166 rfl) rfl
theorem q1931 : (Jvm.Cond.soleField "FlashRatchetModel" "next") ∈ lw_all := lw_g (lw_at lw_m8 167 rfl) rfl
theorem q1932 : (Jvm.Cond.lays "FlashRatchetModel" "FlashRatchetModel" "lost" "J") ∈ lw_all := lw_g (lw_at lw_m8 168 rfl) rfl
theorem q1933 : (Jvm.Cond.soleField "FlashRatchetModel" "lost") ∈ lw_all := lw_g (lw_at lw_m8 169 rfl) rfl
theorem q1934 : (Jvm.Cond.lays "FlashRatchetModel" "FlashRatchetModel" "won" "J") ∈ lw_all := lw_g (lw_at lw_m8 170 rfl) rfl
theorem q1935 : (Jvm.Cond.soleField "FlashRatchetModel" "won") ∈ lw_all := lw_g (lw_at lw_m8 171 rfl) rfl
theorem q1936 : (Jvm.Cond.laysFinal "FlashRatchetModel" "FlashRatchetModel" "round" "[J") ∈ lw_all := lw_g (lw_at lw_m8 172 rfl) rfl
theorem q1937 : (Jvm.Cond.soleField "FlashRatchetModel" "round") ∈ lw_all := lw_g (lw_at lw_m8 173 rfl) rfl
theorem q1938 : (Jvm.Cond.laysFinal "FlashRatchetModel" "FlashRatchetModel" "gains" "[J") ∈ lw_all := lw_g (lw_at lw_m8 174 rfl) rfl
theorem q1939 : (Jvm.Cond.soleField "FlashRatchetModel" "gains") ∈ lw_all := lw_g (lw_at lw_m8 175 rfl) rfl
theorem q1940 : (Jvm.Cond.laysFinal "FlashRatchetModel" "FlashRatchetModel" "here" "[J") ∈ lw_all := lw_g (lw_at lw_m8 176 rfl) rfl
theorem q1941 : (Jvm.Cond.soleField "FlashRatchetModel" "here") ∈ lw_all := lw_g (lw_at lw_m8 177 rfl) rfl
theorem q1942 : (Jvm.Cond.laysFinal "FlashRatchetModel" "FlashRatchetModel" "then" "[J") ∈ lw_all := lw_g (lw_at lw_m8 178 rfl) rfl
theorem q1943 : (Jvm.Cond.soleField "FlashRatchetModel" "then") ∈ lw_all := lw_g (lw_at lw_m8 179 rfl) rfl
theorem q1944 : (Jvm.Cond.lays "FlashRatchetModel" "FlashRatchetModel" "scale" "J") ∈ lw_all := lw_g (lw_at lw_m8 180 rfl) rfl
theorem q1945 : (Jvm.Cond.soleField "FlashRatchetModel" "scale") ∈ lw_all := lw_g (lw_at lw_m8 181 rfl) rfl
theorem q1946 : (Jvm.Cond.lays "FlashRatchetModel" "FlashRatchetModel" "classes" "I") ∈ lw_all := lw_g (lw_at lw_m8 182 rfl) rfl
theorem q1947 : (Jvm.Cond.soleField "FlashRatchetModel" "classes") ∈ lw_all := lw_g (lw_at lw_m8 183 rfl) rfl
theorem q1948 : (Jvm.Cond.laysFinal "FlashRatchetModel" "FlashRatchetModel" "weights" "[J") ∈ lw_all := lw_g (lw_at lw_m8 184 rfl) rfl
theorem q1949 : (Jvm.Cond.soleField "FlashRatchetModel" "weights") ∈ lw_all := lw_g (lw_at lw_m8 185 rfl) rfl
theorem q1950 : (Jvm.Cond.lays "FlashRatchetModel" "FlashRatchetModel" "all" "J") ∈ lw_all := lw_g (lw_at lw_m8 186 rfl) rfl
theorem q1951 : (Jvm.Cond.soleField "FlashRatchetModel" "all") ∈ lw_all := lw_g (lw_at lw_m8 187 rfl) rfl
theorem q1952 : (Jvm.Cond.lays "FlashRatchetModel" "FlashRatchetModel" "numerator" "J") ∈ lw_all := lw_g (lw_at lw_m8 188 rfl) rfl
theorem q1953 : (Jvm.Cond.soleField "FlashRatchetModel" "numerator") ∈ lw_all := lw_g (lw_at lw_m8 189 rfl) rfl
theorem q1954 : (Jvm.Cond.lays "FlashRatchetModel" "FlashRatchetModel" "denominator" "J") ∈ lw_all := lw_g (lw_at lw_m8 190 rfl) rfl
theorem q1955 : (Jvm.Cond.soleField "FlashRatchetModel" "denominator") ∈ lw_all := lw_g (lw_at lw_m8 191 rfl) rfl
theorem q1956 : (Jvm.Cond.lays "FlashRatchetModel" "FlashRatchetModel" "bestProgram" "I") ∈ lw_all := lw_g (lw_at lw_m8 192 rfl) rfl
theorem q1957 : (Jvm.Cond.soleField "FlashRatchetModel" "bestProgram") ∈ lw_all := lw_g (lw_at lw_m8 193 rfl) rfl
theorem q1958 : (Jvm.Cond.lays "FlashRatchetModel" "FlashRatchetModel" "bestAbove" "J") ∈ lw_all := lw_g (lw_at lw_m8 194 rfl) rfl
theorem q1959 : (Jvm.Cond.soleField "FlashRatchetModel" "bestAbove") ∈ lw_all := lw_g (lw_at lw_m8 195 rfl) rfl
theorem q1960 : (Jvm.Cond.lays "FlashRatchetModel" "FlashRatchetModel" "bestBelow" "J") ∈ lw_all := lw_g (lw_at lw_m8 196 rfl) rfl
theorem q1961 : (Jvm.Cond.soleField "FlashRatchetModel" "bestBelow") ∈ lw_all := lw_g (lw_at lw_m8 197 rfl) rfl
theorem q1962 : (Jvm.Cond.lays "FlashRatchetModel" "FlashRatchetModel" "h" "J") ∈ lw_all := lw_g (lw_at lw_m8 198 rfl) rfl
theorem q1963 : (Jvm.Cond.soleField "FlashRatchetModel" "h") ∈ lw_all := lw_g (lw_at lw_m8 199 rfl) rfl
theorem q1964 : (Jvm.Cond.superclass "FlashRatchetModel" "java/lang/Object") ∈ lw_all := lw_g (lw_at lw_m8 200 rfl) rfl
theorem q1966 : (Jvm.Cond.instanceMethod ({ cls := "FlashRatchetModel", name := "thrown", desc := "()I" } : Jvm.MethodName)) ∈ lw_all := lw_g (lw_at lw_m8 202 rfl) rfl
theorem q1967 : (Jvm.Cond.selects "FlashRatchetModel" ({ cls := "FlashRatchetModel", name := "thrown", desc := "()I" } : Jvm.MethodName) ({ cls := "FlashRatchetModel", name := "thrown", desc := "()I" } : Jvm.MethodName)) ∈ lw_all := lw_g (lw_at lw_m8 203 rfl) rfl
theorem q1968 : (Jvm.Cond.code ({ cls := "FlashRatchetModel", name := "thrown", desc := "()I" } : Jvm.MethodName) prog_10_method_2_code (1 : Nat) (Option.some Jvm.ClassFile.FieldType.int)) ∈ lw_all := lw_g (lw_at lw_m8 204 rfl) rfl
theorem q1970 : (Jvm.Cond.instanceMethod ({ cls := "FlashRatchetModel", name := "begin", desc := "(I)I" } : Jvm.MethodName)) ∈ lw_all := lw_g (lw_at lw_m8 206 rfl) rfl
theorem q1971 : (Jvm.Cond.selects "FlashRatchetModel" ({ cls := "FlashRatchetModel", name := "begin", desc := "(I)I" } : Jvm.MethodName) ({ cls := "FlashRatchetModel", name := "begin", desc := "(I)I" } : Jvm.MethodName)) ∈ lw_all := lw_g (lw_at lw_m8 207 rfl) rfl
theorem q1972 : (Jvm.Cond.code ({ cls := "FlashRatchetModel", name := "begin", desc := "(I)I" } : Jvm.MethodName) prog_10_method_14_code (3 : Nat) (Option.some Jvm.ClassFile.FieldType.int)) ∈ lw_all := lw_g (lw_at lw_m8 208 rfl) rfl
theorem q1973 : (Jvm.Cond.methodLink "FlashRatchetModel" (58 : Nat) ({ cls := "FlashRatchetModel", name := "within", desc := "(III)Z" } : Jvm.MethodName)) ∈ lw_all := lw_g (lw_at lw_m8 209 rfl) rfl
theorem q1974 : (Jvm.Cond.static ({ cls := "FlashRatchetModel", name := "within", desc := "(III)Z" } : Jvm.MethodName)) ∈ lw_all := lw_g (lw_at lw_m8 210 rfl) rfl
theorem q1975 : (Jvm.Cond.code ({ cls := "FlashRatchetModel", name := "within", desc := "(III)Z" } : Jvm.MethodName) prog_10_method_3_code (3 : Nat) (Option.some Jvm.ClassFile.FieldType.boolean)) ∈ lw_all := lw_g (lw_at lw_m8 211 rfl) rfl
theorem q1977 : (Jvm.Cond.instanceMethod ({ cls := "FlashRatchetModel", name := "setTable", desc := "(IIII)I" } : Jvm.MethodName)) ∈ lw_all := lw_g (lw_at lw_m8 213 rfl) rfl
theorem q1978 : (Jvm.Cond.selects "FlashRatchetModel" ({ cls := "FlashRatchetModel", name := "setTable", desc := "(IIII)I" } : Jvm.MethodName) ({ cls := "FlashRatchetModel", name := "setTable", desc := "(IIII)I" } : Jvm.MethodName)) ∈ lw_all := lw_g (lw_at lw_m8 214 rfl) rfl
theorem q1979 : (Jvm.Cond.code ({ cls := "FlashRatchetModel", name := "setTable", desc := "(IIII)I" } : Jvm.MethodName) prog_10_method_17_code (7 : Nat) (Option.some Jvm.ClassFile.FieldType.int)) ∈ lw_all := lw_g (lw_at lw_m8 215 rfl) rfl
theorem q1980 : (Jvm.Cond.methodLink "FlashRatchetModel" (94 : Nat) ({ cls := "FlashRatchetModel", name := "isLever", desc := "(I)Z" } : Jvm.MethodName)) ∈ lw_all := lw_g (lw_at lw_m8 216 rfl) rfl
theorem q1981 : (Jvm.Cond.static ({ cls := "FlashRatchetModel", name := "isLever", desc := "(I)Z" } : Jvm.MethodName)) ∈ lw_all := lw_g (lw_at lw_m8 217 rfl) rfl
theorem q1982 : (Jvm.Cond.code ({ cls := "FlashRatchetModel", name := "isLever", desc := "(I)Z" } : Jvm.MethodName) prog_10_method_5_code (1 : Nat) (Option.some Jvm.ClassFile.FieldType.boolean)) ∈ lw_all := lw_g (lw_at lw_m8 218 rfl) rfl
theorem q1983 : (Jvm.Cond.methodLink "FlashRatchetModel" (97 : Nat) ({ cls := "FlashRatchetModel", name := "isPosition", desc := "(I)Z" } : Jvm.MethodName)) ∈ lw_all := lw_g (lw_at lw_m8 219 rfl) rfl
theorem q1984 : (Jvm.Cond.privateMethod ({ cls := "FlashRatchetModel", name := "isPosition", desc := "(I)Z" } : Jvm.MethodName)) ∈ lw_tbl := lw_at lw_m8 220 rfl
theorem q1985 : (Jvm.Cond.instanceMethod ({ cls := "FlashRatchetModel", name := "isPosition", desc := "(I)Z" } : Jvm.MethodName)) ∈ lw_all := lw_g (lw_at lw_m8 221 rfl) rfl
theorem q1986 : (Jvm.Cond.code ({ cls := "FlashRatchetModel", name := "isPosition", desc := "(I)Z" } : Jvm.MethodName) prog_10_method_4_code (2 : Nat) (Option.some Jvm.ClassFile.FieldType.boolean)) ∈ lw_all := lw_g (lw_at lw_m8 222 rfl) rfl
theorem q1987 : (Jvm.Cond.methodLink "FlashRatchetModel" (100 : Nat) ({ cls := "FlashRatchetModel", name := "told", desc := "(II)I" } : Jvm.MethodName)) ∈ lw_all := lw_g (lw_at lw_m8 223 rfl) rfl
theorem q1988 : (Jvm.Cond.privateMethod ({ cls := "FlashRatchetModel", name := "told", desc := "(II)I" } : Jvm.MethodName)) ∈ lw_tbl := lw_at lw_m8 224 rfl
theorem q1989 : (Jvm.Cond.instanceMethod ({ cls := "FlashRatchetModel", name := "told", desc := "(II)I" } : Jvm.MethodName)) ∈ lw_all := lw_g (lw_at lw_m8 225 rfl) rfl
theorem q1990 : (Jvm.Cond.code ({ cls := "FlashRatchetModel", name := "told", desc := "(II)I" } : Jvm.MethodName) prog_10_method_15_code (3 : Nat) (Option.some Jvm.ClassFile.FieldType.int)) ∈ lw_all := lw_g (lw_at lw_m8 226 rfl) rfl
theorem q1991 : (Jvm.Cond.methodLink "FlashRatchetModel" (104 : Nat) ({ cls := "FlashRatchetModel", name := "put", desc := "(IIII)V" } : Jvm.MethodName)) ∈ lw_all := lw_g (lw_at lw_m8 227 rfl) rfl
theorem q1992 : (Jvm.Cond.privateMethod ({ cls := "FlashRatchetModel", name := "put", desc := "(IIII)V" } : Jvm.MethodName)) ∈ lw_tbl := lw_at lw_m8 228 rfl
theorem q1993 : (Jvm.Cond.instanceMethod ({ cls := "FlashRatchetModel", name := "put", desc := "(IIII)V" } : Jvm.MethodName)) ∈ lw_all := lw_g (lw_at lw_m8 229 rfl) rfl
theorem q1994 : (Jvm.Cond.code ({ cls := "FlashRatchetModel", name := "put", desc := "(IIII)V" } : Jvm.MethodName) prog_10_method_16_code (5 : Nat) (Option.none : Option Jvm.ClassFile.FieldType)) ∈ lw_all := lw_g (lw_at lw_m8 230 rfl) rfl
theorem q1996 : (Jvm.Cond.instanceMethod ({ cls := "FlashRatchetModel", name := "gear", desc := "(IZ)I" } : Jvm.MethodName)) ∈ lw_all := lw_g (lw_at lw_m8 232 rfl) rfl
theorem q1997 : (Jvm.Cond.selects "FlashRatchetModel" ({ cls := "FlashRatchetModel", name := "gear", desc := "(IZ)I" } : Jvm.MethodName) ({ cls := "FlashRatchetModel", name := "gear", desc := "(IZ)I" } : Jvm.MethodName)) ∈ lw_all := lw_g (lw_at lw_m8 233 rfl) rfl
theorem q1998 : (Jvm.Cond.code ({ cls := "FlashRatchetModel", name := "gear", desc := "(IZ)I" } : Jvm.MethodName) prog_10_method_19_code (3 : Nat) (Option.some Jvm.ClassFile.FieldType.int)) ∈ lw_all := lw_g (lw_at lw_m8 234 rfl) rfl
theorem q1999 : (Jvm.Cond.methodLink "FlashRatchetModel" (108 : Nat) ({ cls := "FlashRatchetModel", name := "bits", desc := "(I)I" } : Jvm.MethodName)) ∈ lw_all := lw_g (lw_at lw_m8 235 rfl) rfl
theorem q2000 : (Jvm.Cond.static ({ cls := "FlashRatchetModel", name := "bits", desc := "(I)I" } : Jvm.MethodName)) ∈ lw_all := lw_g (lw_at lw_m8 236 rfl) rfl
theorem q2001 : (Jvm.Cond.code ({ cls := "FlashRatchetModel", name := "bits", desc := "(I)I" } : Jvm.MethodName) prog_10_method_18_code (3 : Nat) (Option.some Jvm.ClassFile.FieldType.int)) ∈ lw_all := lw_g (lw_at lw_m8 237 rfl) rfl
theorem q2003 : (Jvm.Cond.instanceMethod ({ cls := "FlashRatchetModel", name := "pawl", desc := "(IZ)I" } : Jvm.MethodName)) ∈ lw_all := lw_g (lw_at lw_m8 239 rfl) rfl
theorem q2004 : (Jvm.Cond.selects "FlashRatchetModel" ({ cls := "FlashRatchetModel", name := "pawl", desc := "(IZ)I" } : Jvm.MethodName) ({ cls := "FlashRatchetModel", name := "pawl", desc := "(IZ)I" } : Jvm.MethodName)) ∈ lw_all := lw_g (lw_at lw_m9 0 rfl) rfl
theorem q2005 : (Jvm.Cond.code ({ cls := "FlashRatchetModel", name := "pawl", desc := "(IZ)I" } : Jvm.MethodName) prog_10_method_20_code (3 : Nat) (Option.some Jvm.ClassFile.FieldType.int)) ∈ lw_all := lw_g (lw_at lw_m9 1 rfl) rfl
theorem q2007 : (Jvm.Cond.instanceMethod ({ cls := "FlashRatchetModel", name := "setProgram", desc := "(I)I" } : Jvm.MethodName)) ∈ lw_all := lw_g (lw_at lw_m9 3 rfl) rfl
theorem q2008 : (Jvm.Cond.selects "FlashRatchetModel" ({ cls := "FlashRatchetModel", name := "setProgram", desc := "(I)I" } : Jvm.MethodName) ({ cls := "FlashRatchetModel", name := "setProgram", desc := "(I)I" } : Jvm.MethodName)) ∈ lw_all := lw_g (lw_at lw_m9 4 rfl) rfl
theorem q2009 : (Jvm.Cond.code ({ cls := "FlashRatchetModel", name := "setProgram", desc := "(I)I" } : Jvm.MethodName) prog_10_method_21_code (3 : Nat) (Option.some Jvm.ClassFile.FieldType.int)) ∈ lw_all := lw_g (lw_at lw_m9 5 rfl) rfl
theorem q2010 : (Jvm.Cond.methodLink "FlashRatchetModel" (111 : Nat) ({ cls := "FlashRatchetModel", name := "isProgram", desc := "(I)Z" } : Jvm.MethodName)) ∈ lw_all := lw_g (lw_at lw_m9 6 rfl) rfl
theorem q2011 : (Jvm.Cond.static ({ cls := "FlashRatchetModel", name := "isProgram", desc := "(I)Z" } : Jvm.MethodName)) ∈ lw_all := lw_g (lw_at lw_m9 7 rfl) rfl
theorem q2012 : (Jvm.Cond.code ({ cls := "FlashRatchetModel", name := "isProgram", desc := "(I)Z" } : Jvm.MethodName) prog_10_method_6_code (3 : Nat) (Option.some Jvm.ClassFile.FieldType.boolean)) ∈ lw_all := lw_g (lw_at lw_m9 8 rfl) rfl
theorem q2014 : (Jvm.Cond.instanceMethod ({ cls := "FlashRatchetModel", name := "restart", desc := "(II)I" } : Jvm.MethodName)) ∈ lw_all := lw_g (lw_at lw_m9 10 rfl) rfl
theorem q2015 : (Jvm.Cond.selects "FlashRatchetModel" ({ cls := "FlashRatchetModel", name := "restart", desc := "(II)I" } : Jvm.MethodName) ({ cls := "FlashRatchetModel", name := "restart", desc := "(II)I" } : Jvm.MethodName)) ∈ lw_all := lw_g (lw_at lw_m9 11 rfl) rfl
theorem q2016 : (Jvm.Cond.code ({ cls := "FlashRatchetModel", name := "restart", desc := "(II)I" } : Jvm.MethodName) prog_10_method_22_code (4 : Nat) (Option.some Jvm.ClassFile.FieldType.int)) ∈ lw_all := lw_g (lw_at lw_m9 12 rfl) rfl
theorem q2018 : (Jvm.Cond.instanceMethod ({ cls := "FlashRatchetModel", name := "run", desc := "(I)I" } : Jvm.MethodName)) ∈ lw_all := lw_g (lw_at lw_m9 14 rfl) rfl
theorem q2019 : (Jvm.Cond.selects "FlashRatchetModel" ({ cls := "FlashRatchetModel", name := "run", desc := "(I)I" } : Jvm.MethodName) ({ cls := "FlashRatchetModel", name := "run", desc := "(I)I" } : Jvm.MethodName)) ∈ lw_all := lw_g (lw_at lw_m9 15 rfl) rfl
theorem q2020 : (Jvm.Cond.code ({ cls := "FlashRatchetModel", name := "run", desc := "(I)I" } : Jvm.MethodName) prog_10_method_24_code (3 : Nat) (Option.some Jvm.ClassFile.FieldType.int)) ∈ lw_all := lw_g (lw_at lw_m9 16 rfl) rfl
theorem q2021 : (Jvm.Cond.constant "FlashRatchetModel" (120 : Nat) (1000000 : Int32)) ∈ lw_all := lw_g (lw_at lw_m9 17 rfl) rfl
theorem q2022 : (Jvm.Cond.methodLink "FlashRatchetModel" (121 : Nat) ({ cls := "FlashRatchetModel", name := "tick", desc := "()I" } : Jvm.MethodName)) ∈ lw_all := lw_g (lw_at lw_m9 18 rfl) rfl
theorem q2023 : (Jvm.Cond.privateMethod ({ cls := "FlashRatchetModel", name := "tick", desc := "()I" } : Jvm.MethodName)) ∈ lw_tbl := lw_at lw_m9 19 rfl
theorem q2024 : (Jvm.Cond.instanceMethod ({ cls := "FlashRatchetModel", name := "tick", desc := "()I" } : Jvm.MethodName)) ∈ lw_all := lw_g (lw_at lw_m9 20 rfl) rfl
theorem q2025 : (Jvm.Cond.code ({ cls := "FlashRatchetModel", name := "tick", desc := "()I" } : Jvm.MethodName) prog_10_method_23_code (7 : Nat) (Option.some Jvm.ClassFile.FieldType.int)) ∈ lw_all := lw_g (lw_at lw_m9 21 rfl) rfl
theorem q2026 : (Jvm.Cond.methodLink "FlashRatchetModel" (114 : Nat) ({ cls := "FlashRatchetModel", name := "leverAt", desc := "(II)I" } : Jvm.MethodName)) ∈ lw_all := lw_g (lw_at lw_m9 22 rfl) rfl
theorem q2027 : (Jvm.Cond.static ({ cls := "FlashRatchetModel", name := "leverAt", desc := "(II)I" } : Jvm.MethodName)) ∈ lw_all := lw_g (lw_at lw_m9 23 rfl) rfl
theorem q2028 : (Jvm.Cond.code ({ cls := "FlashRatchetModel", name := "leverAt", desc := "(II)I" } : Jvm.MethodName) prog_10_method_8_code (4 : Nat) (Option.some Jvm.ClassFile.FieldType.int)) ∈ lw_all := lw_g (lw_at lw_m9 24 rfl) rfl
theorem q2029 : (Jvm.Cond.methodLink "FlashRatchetModel" (62 : Nat) ({ cls := "FlashRatchetModel", name := "size", desc := "(I)I" } : Jvm.MethodName)) ∈ lw_all := lw_g (lw_at lw_m9 25 rfl) rfl
theorem q2030 : (Jvm.Cond.static ({ cls := "FlashRatchetModel", name := "size", desc := "(I)I" } : Jvm.MethodName)) ∈ lw_all := lw_g (lw_at lw_m9 26 rfl) rfl
theorem q2031 : (Jvm.Cond.code ({ cls := "FlashRatchetModel", name := "size", desc := "(I)I" } : Jvm.MethodName) prog_10_method_7_code (3 : Nat) (Option.some Jvm.ClassFile.FieldType.int)) ∈ lw_all := lw_g (lw_at lw_m9 27 rfl) rfl
theorem q2032 : (Jvm.Cond.methodLink "FlashRatchetModel" (90 : Nat) ({ cls := "FlashRatchetModel", name := "isIn", desc := "(I)Z" } : Jvm.MethodName)) ∈ lw_all := lw_g (lw_at lw_m9 28 rfl) rfl
theorem q2033 : (Jvm.Cond.privateMethod ({ cls := "FlashRatchetModel", name := "isIn", desc := "(I)Z" } : Jvm.MethodName)) ∈ lw_tbl := lw_at lw_m9 29 rfl
theorem q2034 : (Jvm.Cond.instanceMethod ({ cls := "FlashRatchetModel", name := "isIn", desc := "(I)Z" } : Jvm.MethodName)) ∈ lw_all := lw_g (lw_at lw_m9 30 rfl) rfl
theorem q2035 : (Jvm.Cond.code ({ cls := "FlashRatchetModel", name := "isIn", desc := "(I)Z" } : Jvm.MethodName) prog_10_method_10_code (2 : Nat) (Option.some Jvm.ClassFile.FieldType.boolean)) ∈ lw_all := lw_g (lw_at lw_m9 31 rfl) rfl
theorem q2036 : (Jvm.Cond.methodLink "FlashRatchetModel" (117 : Nat) ({ cls := "FlashRatchetModel", name := "moved", desc := "(II)I" } : Jvm.MethodName)) ∈ lw_all := lw_g (lw_at lw_m9 32 rfl) rfl
theorem q2037 : (Jvm.Cond.privateMethod ({ cls := "FlashRatchetModel", name := "moved", desc := "(II)I" } : Jvm.MethodName)) ∈ lw_tbl := lw_at lw_m9 33 rfl
theorem q2038 : (Jvm.Cond.instanceMethod ({ cls := "FlashRatchetModel", name := "moved", desc := "(II)I" } : Jvm.MethodName)) ∈ lw_all := lw_g (lw_at lw_m9 34 rfl) rfl
theorem q2039 : (Jvm.Cond.code ({ cls := "FlashRatchetModel", name := "moved", desc := "(II)I" } : Jvm.MethodName) prog_10_method_13_code (3 : Nat) (Option.some Jvm.ClassFile.FieldType.int)) ∈ lw_all := lw_g (lw_at lw_m9 35 rfl) rfl
theorem q2041 : (Jvm.Cond.instanceMethod ({ cls := "FlashRatchetModel", name := "append", desc := "(I)I" } : Jvm.MethodName)) ∈ lw_all := lw_g (lw_at lw_m9 37 rfl) rfl
theorem q2042 : (Jvm.Cond.selects "FlashRatchetModel" ({ cls := "FlashRatchetModel", name := "append", desc := "(I)I" } : Jvm.MethodName) ({ cls := "FlashRatchetModel", name := "append", desc := "(I)I" } : Jvm.MethodName)) ∈ lw_all := lw_g (lw_at lw_m9 38 rfl) rfl
theorem q2043 : (Jvm.Cond.code ({ cls := "FlashRatchetModel", name := "append", desc := "(I)I" } : Jvm.MethodName) prog_10_method_25_code (2 : Nat) (Option.some Jvm.ClassFile.FieldType.int)) ∈ lw_all := lw_g (lw_at lw_m9 39 rfl) rfl
theorem q2045 : (Jvm.Cond.instanceMethod ({ cls := "FlashRatchetModel", name := "clearBuffer", desc := "()I" } : Jvm.MethodName)) ∈ lw_all := lw_g (lw_at lw_m9 41 rfl) rfl
theorem q2046 : (Jvm.Cond.selects "FlashRatchetModel" ({ cls := "FlashRatchetModel", name := "clearBuffer", desc := "()I" } : Jvm.MethodName) ({ cls := "FlashRatchetModel", name := "clearBuffer", desc := "()I" } : Jvm.MethodName)) ∈ lw_all := lw_g (lw_at lw_m9 42 rfl) rfl
theorem q2047 : (Jvm.Cond.code ({ cls := "FlashRatchetModel", name := "clearBuffer", desc := "()I" } : Jvm.MethodName) prog_10_method_26_code (2 : Nat) (Option.some Jvm.ClassFile.FieldType.int)) ∈ lw_all := lw_g (lw_at lw_m9 43 rfl) rfl
theorem q2049 : (Jvm.Cond.instanceMethod ({ cls := "FlashRatchetModel", name := "firstError", desc := "()I" } : Jvm.MethodName)) ∈ lw_all := lw_g (lw_at lw_m9 45 rfl) rfl
theorem q2050 : (Jvm.Cond.selects "FlashRatchetModel" ({ cls := "FlashRatchetModel", name := "firstError", desc := "()I" } : Jvm.MethodName) ({ cls := "FlashRatchetModel", name := "firstError", desc := "()I" } : Jvm.MethodName)) ∈ lw_all := lw_g (lw_at lw_m9 46 rfl) rfl
theorem q2051 : (Jvm.Cond.code ({ cls := "FlashRatchetModel", name := "firstError", desc := "()I" } : Jvm.MethodName) prog_10_method_35_code (1 : Nat) (Option.some Jvm.ClassFile.FieldType.int)) ∈ lw_all := lw_g (lw_at lw_m9 47 rfl) rfl
theorem q2052 : (Jvm.Cond.methodLink "FlashRatchetModel" (169 : Nat) ({ cls := "FlashRatchetModel", name := "readText", desc := "()I" } : Jvm.MethodName)) ∈ lw_all := lw_g (lw_at lw_m9 48 rfl) rfl
theorem q2053 : (Jvm.Cond.privateMethod ({ cls := "FlashRatchetModel", name := "readText", desc := "()I" } : Jvm.MethodName)) ∈ lw_tbl := lw_at lw_m9 49 rfl
theorem q2054 : (Jvm.Cond.instanceMethod ({ cls := "FlashRatchetModel", name := "readText", desc := "()I" } : Jvm.MethodName)) ∈ lw_all := lw_g (lw_at lw_m9 50 rfl) rfl
theorem q2055 : (Jvm.Cond.code ({ cls := "FlashRatchetModel", name := "readText", desc := "()I" } : Jvm.MethodName) prog_10_method_34_code (2 : Nat) (Option.some Jvm.ClassFile.FieldType.int)) ∈ lw_all := lw_g (lw_at lw_m9 51 rfl) rfl
theorem q2056 : (Jvm.Cond.methodLink "FlashRatchetModel" (166 : Nat) ({ cls := "FlashRatchetModel", name := "takes", desc := "(I)Z" } : Jvm.MethodName)) ∈ lw_all := lw_g (lw_at lw_m9 52 rfl) rfl
theorem q2057 : (Jvm.Cond.privateMethod ({ cls := "FlashRatchetModel", name := "takes", desc := "(I)Z" } : Jvm.MethodName)) ∈ lw_tbl := lw_at lw_m9 53 rfl
theorem q2058 : (Jvm.Cond.instanceMethod ({ cls := "FlashRatchetModel", name := "takes", desc := "(I)Z" } : Jvm.MethodName)) ∈ lw_all := lw_g (lw_at lw_m9 54 rfl) rfl
theorem q2059 : (Jvm.Cond.code ({ cls := "FlashRatchetModel", name := "takes", desc := "(I)Z" } : Jvm.MethodName) prog_10_method_33_code (2 : Nat) (Option.some Jvm.ClassFile.FieldType.boolean)) ∈ lw_all := lw_g (lw_at lw_m9 55 rfl) rfl
theorem q2060 : (Jvm.Cond.methodLink "FlashRatchetModel" (146 : Nat) ({ cls := "FlashRatchetModel", name := "canEnd", desc := "()Z" } : Jvm.MethodName)) ∈ lw_all := lw_g (lw_at lw_m9 56 rfl) rfl
theorem q2061 : (Jvm.Cond.privateMethod ({ cls := "FlashRatchetModel", name := "canEnd", desc := "()Z" } : Jvm.MethodName)) ∈ lw_tbl := lw_at lw_m9 57 rfl
theorem q2062 : (Jvm.Cond.instanceMethod ({ cls := "FlashRatchetModel", name := "canEnd", desc := "()Z" } : Jvm.MethodName)) ∈ lw_all := lw_g (lw_at lw_m9 58 rfl) rfl
theorem q2063 : (Jvm.Cond.code ({ cls := "FlashRatchetModel", name := "canEnd", desc := "()Z" } : Jvm.MethodName) prog_10_method_31_code (1 : Nat) (Option.some Jvm.ClassFile.FieldType.boolean)) ∈ lw_all := lw_g (lw_at lw_m9 59 rfl) rfl
theorem q2064 : (Jvm.Cond.methodLink "FlashRatchetModel" (150 : Nat) ({ cls := "FlashRatchetModel", name := "endItem", desc := "()V" } : Jvm.MethodName)) ∈ lw_all := lw_g (lw_at lw_m9 60 rfl) rfl
theorem q2065 : (Jvm.Cond.privateMethod ({ cls := "FlashRatchetModel", name := "endItem", desc := "()V" } : Jvm.MethodName)) ∈ lw_tbl := lw_at lw_m9 61 rfl
theorem q2066 : (Jvm.Cond.instanceMethod ({ cls := "FlashRatchetModel", name := "endItem", desc := "()V" } : Jvm.MethodName)) ∈ lw_all := lw_g (lw_at lw_m9 62 rfl) rfl
theorem q2067 : (Jvm.Cond.code ({ cls := "FlashRatchetModel", name := "endItem", desc := "()V" } : Jvm.MethodName) prog_10_method_32_code (1 : Nat) (Option.none : Option Jvm.ClassFile.FieldType)) ∈ lw_all := lw_g (lw_at lw_m9 63 rfl) rfl
theorem q2068 : (Jvm.Cond.methodLink "FlashRatchetModel" (153 : Nat) ({ cls := "FlashRatchetModel", name := "begins", desc := "(I)Z" } : Jvm.MethodName)) ∈ lw_all := lw_g (lw_at lw_m9 64 rfl) rfl
theorem q2069 : (Jvm.Cond.privateMethod ({ cls := "FlashRatchetModel", name := "begins", desc := "(I)Z" } : Jvm.MethodName)) ∈ lw_tbl := lw_at lw_m9 65 rfl
theorem q2070 : (Jvm.Cond.instanceMethod ({ cls := "FlashRatchetModel", name := "begins", desc := "(I)Z" } : Jvm.MethodName)) ∈ lw_all := lw_g (lw_at lw_m9 66 rfl) rfl
theorem q2071 : (Jvm.Cond.code ({ cls := "FlashRatchetModel", name := "begins", desc := "(I)Z" } : Jvm.MethodName) prog_10_method_27_code (3 : Nat) (Option.some Jvm.ClassFile.FieldType.boolean)) ∈ lw_all := lw_g (lw_at lw_m9 67 rfl) rfl
theorem q2072 : (Jvm.Cond.methodLink "FlashRatchetModel" (156 : Nat) ({ cls := "FlashRatchetModel", name := "goes", desc := "(ZI)Z" } : Jvm.MethodName)) ∈ lw_all := lw_g (lw_at lw_m9 68 rfl) rfl
theorem q2073 : (Jvm.Cond.privateMethod ({ cls := "FlashRatchetModel", name := "goes", desc := "(ZI)Z" } : Jvm.MethodName)) ∈ lw_tbl := lw_at lw_m9 69 rfl
theorem q2074 : (Jvm.Cond.instanceMethod ({ cls := "FlashRatchetModel", name := "goes", desc := "(ZI)Z" } : Jvm.MethodName)) ∈ lw_all := lw_g (lw_at lw_m9 70 rfl) rfl
theorem q2075 : (Jvm.Cond.code ({ cls := "FlashRatchetModel", name := "goes", desc := "(ZI)Z" } : Jvm.MethodName) prog_10_method_28_code (3 : Nat) (Option.some Jvm.ClassFile.FieldType.boolean)) ∈ lw_all := lw_g (lw_at lw_m9 71 rfl) rfl
theorem q2076 : (Jvm.Cond.methodLink "FlashRatchetModel" (160 : Nat) ({ cls := "FlashRatchetModel", name := "takesForward", desc := "(I)Z" } : Jvm.MethodName)) ∈ lw_all := lw_g (lw_at lw_m9 72 rfl) rfl
theorem q2077 : (Jvm.Cond.privateMethod ({ cls := "FlashRatchetModel", name := "takesForward", desc := "(I)Z" } : Jvm.MethodName)) ∈ lw_tbl := lw_at lw_m9 73 rfl
theorem q2078 : (Jvm.Cond.instanceMethod ({ cls := "FlashRatchetModel", name := "takesForward", desc := "(I)Z" } : Jvm.MethodName)) ∈ lw_all := lw_g (lw_at lw_m9 74 rfl) rfl
theorem q2079 : (Jvm.Cond.code ({ cls := "FlashRatchetModel", name := "takesForward", desc := "(I)Z" } : Jvm.MethodName) prog_10_method_29_code (3 : Nat) (Option.some Jvm.ClassFile.FieldType.boolean)) ∈ lw_all := lw_g (lw_at lw_m9 75 rfl) rfl
theorem q2080 : (Jvm.Cond.methodLink "FlashRatchetModel" (163 : Nat) ({ cls := "FlashRatchetModel", name := "takesLetter", desc := "(I)Z" } : Jvm.MethodName)) ∈ lw_all := lw_g (lw_at lw_m9 76 rfl) rfl
theorem q2081 : (Jvm.Cond.privateMethod ({ cls := "FlashRatchetModel", name := "takesLetter", desc := "(I)Z" } : Jvm.MethodName)) ∈ lw_tbl := lw_at lw_m9 77 rfl
theorem q2082 : (Jvm.Cond.instanceMethod ({ cls := "FlashRatchetModel", name := "takesLetter", desc := "(I)Z" } : Jvm.MethodName)) ∈ lw_all := lw_g (lw_at lw_m9 78 rfl) rfl
theorem q2083 : (Jvm.Cond.code ({ cls := "FlashRatchetModel", name := "takesLetter", desc := "(I)Z" } : Jvm.MethodName) prog_10_method_30_code (3 : Nat) (Option.some Jvm.ClassFile.FieldType.boolean)) ∈ lw_all := lw_g (lw_at lw_m9 79 rfl) rfl
theorem q2085 : (Jvm.Cond.instanceMethod ({ cls := "FlashRatchetModel", name := "load", desc := "()I" } : Jvm.MethodName)) ∈ lw_all := lw_g (lw_at lw_m9 81 rfl) rfl
theorem q2086 : (Jvm.Cond.selects "FlashRatchetModel" ({ cls := "FlashRatchetModel", name := "load", desc := "()I" } : Jvm.MethodName) ({ cls := "FlashRatchetModel", name := "load", desc := "()I" } : Jvm.MethodName)) ∈ lw_all := lw_g (lw_at lw_m9 82 rfl) rfl
theorem q2087 : (Jvm.Cond.code ({ cls := "FlashRatchetModel", name := "load", desc := "()I" } : Jvm.MethodName) prog_10_method_36_code (3 : Nat) (Option.some Jvm.ClassFile.FieldType.int)) ∈ lw_all := lw_g (lw_at lw_m9 83 rfl) rfl
theorem q2089 : (Jvm.Cond.instanceMethod ({ cls := "FlashRatchetModel", name := "cycle", desc := "(I)I" } : Jvm.MethodName)) ∈ lw_all := lw_g (lw_at lw_m9 85 rfl) rfl
theorem q2090 : (Jvm.Cond.selects "FlashRatchetModel" ({ cls := "FlashRatchetModel", name := "cycle", desc := "(I)I" } : Jvm.MethodName) ({ cls := "FlashRatchetModel", name := "cycle", desc := "(I)I" } : Jvm.MethodName)) ∈ lw_all := lw_g (lw_at lw_m9 86 rfl) rfl
theorem q2091 : (Jvm.Cond.code ({ cls := "FlashRatchetModel", name := "cycle", desc := "(I)I" } : Jvm.MethodName) prog_10_method_38_code (2 : Nat) (Option.some Jvm.ClassFile.FieldType.int)) ∈ lw_all := lw_g (lw_at lw_m9 87 rfl) rfl
theorem q2092 : (Jvm.Cond.methodLink "FlashRatchetModel" (172 : Nat) ({ cls := "FlashRatchetModel", name := "cycleNow", desc := "(I)I" } : Jvm.MethodName)) ∈ lw_all := lw_g (lw_at lw_m9 88 rfl) rfl
theorem q2093 : (Jvm.Cond.privateMethod ({ cls := "FlashRatchetModel", name := "cycleNow", desc := "(I)I" } : Jvm.MethodName)) ∈ lw_tbl := lw_at lw_m9 89 rfl
theorem q2094 : (Jvm.Cond.instanceMethod ({ cls := "FlashRatchetModel", name := "cycleNow", desc := "(I)I" } : Jvm.MethodName)) ∈ lw_all := lw_g (lw_at lw_m9 90 rfl) rfl
theorem q2095 : (Jvm.Cond.code ({ cls := "FlashRatchetModel", name := "cycleNow", desc := "(I)I" } : Jvm.MethodName) prog_10_method_37_code (8 : Nat) (Option.some Jvm.ClassFile.FieldType.int)) ∈ lw_all := lw_g (lw_at lw_m9 91 rfl) rfl
theorem q2097 : (Jvm.Cond.instanceMethod ({ cls := "FlashRatchetModel", name := "chance", desc := "(II)J" } : Jvm.MethodName)) ∈ lw_all := lw_g (lw_at lw_m9 93 rfl) rfl
theorem q2098 : (Jvm.Cond.selects "FlashRatchetModel" ({ cls := "FlashRatchetModel", name := "chance", desc := "(II)J" } : Jvm.MethodName) ({ cls := "FlashRatchetModel", name := "chance", desc := "(II)J" } : Jvm.MethodName)) ∈ lw_all := lw_g (lw_at lw_m9 94 rfl) rfl
theorem q2099 : (Jvm.Cond.code ({ cls := "FlashRatchetModel", name := "chance", desc := "(II)J" } : Jvm.MethodName) prog_10_method_43_code (3 : Nat) (Option.some Jvm.ClassFile.FieldType.long)) ∈ lw_all := lw_g (lw_at lw_m9 95 rfl) rfl
theorem q2100 : (Jvm.Cond.methodLink "FlashRatchetModel" (201 : Nat) ({ cls := "FlashRatchetModel", name := "chanceAt", desc := "(II)J" } : Jvm.MethodName)) ∈ lw_all := lw_g (lw_at lw_m9 96 rfl) rfl
theorem q2101 : (Jvm.Cond.privateMethod ({ cls := "FlashRatchetModel", name := "chanceAt", desc := "(II)J" } : Jvm.MethodName)) ∈ lw_tbl := lw_at lw_m9 97 rfl
theorem q2102 : (Jvm.Cond.instanceMethod ({ cls := "FlashRatchetModel", name := "chanceAt", desc := "(II)J" } : Jvm.MethodName)) ∈ lw_all := lw_g (lw_at lw_m9 98 rfl) rfl
theorem q2103 : (Jvm.Cond.code ({ cls := "FlashRatchetModel", name := "chanceAt", desc := "(II)J" } : Jvm.MethodName) prog_10_method_42_code (6 : Nat) (Option.some Jvm.ClassFile.FieldType.long)) ∈ lw_all := lw_g (lw_at lw_m9 99 rfl) rfl
theorem q2104 : (Jvm.Cond.methodLink "FlashRatchetModel" (198 : Nat) ({ cls := "FlashRatchetModel", name := "go", desc := "(III)V" } : Jvm.MethodName)) ∈ lw_all := lw_g (lw_at lw_m9 100 rfl) rfl
theorem q2105 : (Jvm.Cond.privateMethod ({ cls := "FlashRatchetModel", name := "go", desc := "(III)V" } : Jvm.MethodName)) ∈ lw_tbl := lw_at lw_m9 101 rfl
theorem q2106 : (Jvm.Cond.instanceMethod ({ cls := "FlashRatchetModel", name := "go", desc := "(III)V" } : Jvm.MethodName)) ∈ lw_all := lw_g (lw_at lw_m9 102 rfl) rfl
theorem q2107 : (Jvm.Cond.code ({ cls := "FlashRatchetModel", name := "go", desc := "(III)V" } : Jvm.MethodName) prog_10_method_41_code (5 : Nat) (Option.none : Option Jvm.ClassFile.FieldType)) ∈ lw_all := lw_g (lw_at lw_m9 103 rfl) rfl
theorem q2108 : (Jvm.Cond.methodLink "FlashRatchetModel" (194 : Nat) ({ cls := "FlashRatchetModel", name := "spread", desc := "(III)V" } : Jvm.MethodName)) ∈ lw_all := lw_g (lw_at lw_m9 104 rfl) rfl
theorem q2109 : (Jvm.Cond.privateMethod ({ cls := "FlashRatchetModel", name := "spread", desc := "(III)V" } : Jvm.MethodName)) ∈ lw_tbl := lw_at lw_m9 105 rfl
theorem q2110 : (Jvm.Cond.instanceMethod ({ cls := "FlashRatchetModel", name := "spread", desc := "(III)V" } : Jvm.MethodName)) ∈ lw_all := lw_g (lw_at lw_m9 106 rfl) rfl
theorem q2111 : (Jvm.Cond.code ({ cls := "FlashRatchetModel", name := "spread", desc := "(III)V" } : Jvm.MethodName) prog_10_method_39_code (8 : Nat) (Option.none : Option Jvm.ClassFile.FieldType)) ∈ lw_all := lw_g (lw_at lw_m9 107 rfl) rfl
theorem q2112 : (Jvm.Cond.constantLong "FlashRatchetModel" (179 : Nat) (10 : Int64)) ∈ lw_all := lw_g (lw_at lw_m9 108 rfl) rfl
theorem q2113 : (Jvm.Cond.methodLink "FlashRatchetModel" (184 : Nat) ({ cls := "FlashRatchetModel", name := "back", desc := "(II)I" } : Jvm.MethodName)) ∈ lw_all := lw_g (lw_at lw_m9 109 rfl) rfl
theorem q2114 : (Jvm.Cond.privateMethod ({ cls := "FlashRatchetModel", name := "back", desc := "(II)I" } : Jvm.MethodName)) ∈ lw_tbl := lw_at lw_m9 110 rfl
theorem q2115 : (Jvm.Cond.instanceMethod ({ cls := "FlashRatchetModel", name := "back", desc := "(II)I" } : Jvm.MethodName)) ∈ lw_all := lw_g (lw_at lw_m9 111 rfl) rfl
theorem q2116 : (Jvm.Cond.code ({ cls := "FlashRatchetModel", name := "back", desc := "(II)I" } : Jvm.MethodName) prog_10_method_11_code (3 : Nat) (Option.some Jvm.ClassFile.FieldType.int)) ∈ lw_all := lw_g (lw_at lw_m9 112 rfl) rfl
theorem q2117 : (Jvm.Cond.methodLink "FlashRatchetModel" (187 : Nat) ({ cls := "FlashRatchetModel", name := "forward", desc := "(II)I" } : Jvm.MethodName)) ∈ lw_all := lw_g (lw_at lw_m9 113 rfl) rfl
theorem q2118 : (Jvm.Cond.privateMethod ({ cls := "FlashRatchetModel", name := "forward", desc := "(II)I" } : Jvm.MethodName)) ∈ lw_tbl := lw_at lw_m9 114 rfl
theorem q2119 : (Jvm.Cond.instanceMethod ({ cls := "FlashRatchetModel", name := "forward", desc := "(II)I" } : Jvm.MethodName)) ∈ lw_all := lw_g (lw_at lw_m9 115 rfl) rfl
theorem q2120 : (Jvm.Cond.code ({ cls := "FlashRatchetModel", name := "forward", desc := "(II)I" } : Jvm.MethodName) prog_10_method_12_code (3 : Nat) (Option.some Jvm.ClassFile.FieldType.int)) ∈ lw_all := lw_g (lw_at lw_m9 116 rfl) rfl
theorem q2121 : (Jvm.Cond.methodLink "FlashRatchetModel" (190 : Nat) ({ cls := "FlashRatchetModel", name := "arrive", desc := "(IIJII)V" } : Jvm.MethodName)) ∈ lw_all := lw_g (lw_at lw_m9 117 rfl) rfl
theorem q2122 : (Jvm.Cond.privateMethod ({ cls := "FlashRatchetModel", name := "arrive", desc := "(IIJII)V" } : Jvm.MethodName)) ∈ lw_tbl := lw_at lw_m9 118 rfl
theorem q2123 : (Jvm.Cond.instanceMethod ({ cls := "FlashRatchetModel", name := "arrive", desc := "(IIJII)V" } : Jvm.MethodName)) ∈ lw_all := lw_g (lw_at lw_m9 119 rfl) rfl
theorem q2124 : (Jvm.Cond.code ({ cls := "FlashRatchetModel", name := "arrive", desc := "(IIJII)V" } : Jvm.MethodName) prog_10_method_40_code (7 : Nat) (Option.none : Option Jvm.ClassFile.FieldType)) ∈ lw_all := lw_g (lw_at lw_m9 120 rfl) rfl
theorem q2126 : (Jvm.Cond.instanceMethod ({ cls := "FlashRatchetModel", name := "chanceOfGain", desc := "(II)J" } : Jvm.MethodName)) ∈ lw_all := lw_g (lw_at lw_m9 122 rfl) rfl
theorem q2127 : (Jvm.Cond.selects "FlashRatchetModel" ({ cls := "FlashRatchetModel", name := "chanceOfGain", desc := "(II)J" } : Jvm.MethodName) ({ cls := "FlashRatchetModel", name := "chanceOfGain", desc := "(II)J" } : Jvm.MethodName)) ∈ lw_all := lw_g (lw_at lw_m9 123 rfl) rfl
theorem q2128 : (Jvm.Cond.code ({ cls := "FlashRatchetModel", name := "chanceOfGain", desc := "(II)J" } : Jvm.MethodName) prog_10_method_45_code (3 : Nat) (Option.some Jvm.ClassFile.FieldType.long)) ∈ lw_all := lw_g (lw_at lw_m9 124 rfl) rfl
theorem q2129 : (Jvm.Cond.methodLink "FlashRatchetModel" (205 : Nat) ({ cls := "FlashRatchetModel", name := "chanceFrom", desc := "(II)J" } : Jvm.MethodName)) ∈ lw_all := lw_g (lw_at lw_m9 125 rfl) rfl
theorem q2130 : (Jvm.Cond.privateMethod ({ cls := "FlashRatchetModel", name := "chanceFrom", desc := "(II)J" } : Jvm.MethodName)) ∈ lw_tbl := lw_at lw_m9 126 rfl
theorem q2131 : (Jvm.Cond.instanceMethod ({ cls := "FlashRatchetModel", name := "chanceFrom", desc := "(II)J" } : Jvm.MethodName)) ∈ lw_all := lw_g (lw_at lw_m9 127 rfl) rfl
theorem q2132 : (Jvm.Cond.code ({ cls := "FlashRatchetModel", name := "chanceFrom", desc := "(II)J" } : Jvm.MethodName) prog_10_method_44_code (7 : Nat) (Option.some Jvm.ClassFile.FieldType.long)) ∈ lw_all := lw_g (lw_at lw_m9 128 rfl) rfl
theorem q2134 : (Jvm.Cond.instanceMethod ({ cls := "FlashRatchetModel", name := "game", desc := "(IIII)J" } : Jvm.MethodName)) ∈ lw_all := lw_g (lw_at lw_m9 130 rfl) rfl
theorem q2135 : (Jvm.Cond.selects "FlashRatchetModel" ({ cls := "FlashRatchetModel", name := "game", desc := "(IIII)J" } : Jvm.MethodName) ({ cls := "FlashRatchetModel", name := "game", desc := "(IIII)J" } : Jvm.MethodName)) ∈ lw_all := lw_g (lw_at lw_m9 131 rfl) rfl
theorem q2136 : (Jvm.Cond.code ({ cls := "FlashRatchetModel", name := "game", desc := "(IIII)J" } : Jvm.MethodName) prog_10_method_47_code (5 : Nat) (Option.some Jvm.ClassFile.FieldType.long)) ∈ lw_all := lw_g (lw_at lw_m9 132 rfl) rfl
theorem q2137 : (Jvm.Cond.methodLink "FlashRatchetModel" (208 : Nat) ({ cls := "FlashRatchetModel", name := "gameOf", desc := "(IIII)J" } : Jvm.MethodName)) ∈ lw_all := lw_g (lw_at lw_m9 133 rfl) rfl
theorem q2138 : (Jvm.Cond.privateMethod ({ cls := "FlashRatchetModel", name := "gameOf", desc := "(IIII)J" } : Jvm.MethodName)) ∈ lw_tbl := lw_at lw_m9 134 rfl
theorem q2139 : (Jvm.Cond.instanceMethod ({ cls := "FlashRatchetModel", name := "gameOf", desc := "(IIII)J" } : Jvm.MethodName)) ∈ lw_all := lw_g (lw_at lw_m9 135 rfl) rfl
theorem q2140 : (Jvm.Cond.code ({ cls := "FlashRatchetModel", name := "gameOf", desc := "(IIII)J" } : Jvm.MethodName) prog_10_method_46_code (8 : Nat) (Option.some Jvm.ClassFile.FieldType.long)) ∈ lw_all := lw_g (lw_at lw_m9 136 rfl) rfl
theorem q2142 : (Jvm.Cond.instanceMethod ({ cls := "FlashRatchetModel", name := "average", desc := "(II)J" } : Jvm.MethodName)) ∈ lw_all := lw_g (lw_at lw_m9 138 rfl) rfl
theorem q2143 : (Jvm.Cond.selects "FlashRatchetModel" ({ cls := "FlashRatchetModel", name := "average", desc := "(II)J" } : Jvm.MethodName) ({ cls := "FlashRatchetModel", name := "average", desc := "(II)J" } : Jvm.MethodName)) ∈ lw_all := lw_g (lw_at lw_m9 139 rfl) rfl
theorem q2144 : (Jvm.Cond.code ({ cls := "FlashRatchetModel", name := "average", desc := "(II)J" } : Jvm.MethodName) prog_10_method_58_code (3 : Nat) (Option.some Jvm.ClassFile.FieldType.long)) ∈ lw_all := lw_g (lw_at lw_m9 140 rfl) rfl
theorem q2145 : (Jvm.Cond.methodLink "FlashRatchetModel" (257 : Nat) ({ cls := "FlashRatchetModel", name := "averageOf", desc := "(II)J" } : Jvm.MethodName)) ∈ lw_all := lw_g (lw_at lw_m9 141 rfl) rfl
theorem q2146 : (Jvm.Cond.privateMethod ({ cls := "FlashRatchetModel", name := "averageOf", desc := "(II)J" } : Jvm.MethodName)) ∈ lw_tbl := lw_at lw_m9 142 rfl
theorem q2147 : (Jvm.Cond.instanceMethod ({ cls := "FlashRatchetModel", name := "averageOf", desc := "(II)J" } : Jvm.MethodName)) ∈ lw_all := lw_g (lw_at lw_m9 143 rfl) rfl
theorem q2148 : (Jvm.Cond.code ({ cls := "FlashRatchetModel", name := "averageOf", desc := "(II)J" } : Jvm.MethodName) prog_10_method_57_code (3 : Nat) (Option.some Jvm.ClassFile.FieldType.long)) ∈ lw_all := lw_g (lw_at lw_m9 144 rfl) rfl
theorem q2149 : (Jvm.Cond.methodLink "FlashRatchetModel" (254 : Nat) ({ cls := "FlashRatchetModel", name := "layAverage", desc := "(I)V" } : Jvm.MethodName)) ∈ lw_all := lw_g (lw_at lw_m9 145 rfl) rfl
theorem q2150 : (Jvm.Cond.privateMethod ({ cls := "FlashRatchetModel", name := "layAverage", desc := "(I)V" } : Jvm.MethodName)) ∈ lw_tbl := lw_at lw_m9 146 rfl
theorem q2151 : (Jvm.Cond.instanceMethod ({ cls := "FlashRatchetModel", name := "layAverage", desc := "(I)V" } : Jvm.MethodName)) ∈ lw_all := lw_g (lw_at lw_m9 147 rfl) rfl
theorem q2152 : (Jvm.Cond.code ({ cls := "FlashRatchetModel", name := "layAverage", desc := "(I)V" } : Jvm.MethodName) prog_10_method_56_code (7 : Nat) (Option.none : Option Jvm.ClassFile.FieldType)) ∈ lw_all := lw_g (lw_at lw_m9 148 rfl) rfl
theorem q2153 : (Jvm.Cond.methodLink "FlashRatchetModel" (238 : Nat) ({ cls := "FlashRatchetModel", name := "layRound", desc := "(I)V" } : Jvm.MethodName)) ∈ lw_all := lw_g (lw_at lw_m9 149 rfl) rfl
theorem q2154 : (Jvm.Cond.privateMethod ({ cls := "FlashRatchetModel", name := "layRound", desc := "(I)V" } : Jvm.MethodName)) ∈ lw_tbl := lw_at lw_m9 150 rfl
theorem q2155 : (Jvm.Cond.instanceMethod ({ cls := "FlashRatchetModel", name := "layRound", desc := "(I)V" } : Jvm.MethodName)) ∈ lw_all := lw_g (lw_at lw_m9 151 rfl) rfl
theorem q2156 : (Jvm.Cond.code ({ cls := "FlashRatchetModel", name := "layRound", desc := "(I)V" } : Jvm.MethodName) prog_10_method_48_code (5 : Nat) (Option.none : Option Jvm.ClassFile.FieldType)) ∈ lw_all := lw_g (lw_at lw_m9 152 rfl) rfl
theorem q2157 : (Jvm.Cond.methodLink "FlashRatchetModel" (215 : Nat) ({ cls := "FlashRatchetModel", name := "pass", desc := "(I)J" } : Jvm.MethodName)) ∈ lw_all := lw_g (lw_at lw_m9 153 rfl) rfl
theorem q2158 : (Jvm.Cond.privateMethod ({ cls := "FlashRatchetModel", name := "pass", desc := "(I)J" } : Jvm.MethodName)) ∈ lw_tbl := lw_at lw_m9 154 rfl
theorem q2159 : (Jvm.Cond.instanceMethod ({ cls := "FlashRatchetModel", name := "pass", desc := "(I)J" } : Jvm.MethodName)) ∈ lw_all := lw_g (lw_at lw_m9 155 rfl) rfl
theorem q2160 : (Jvm.Cond.code ({ cls := "FlashRatchetModel", name := "pass", desc := "(I)J" } : Jvm.MethodName) prog_10_method_49_code (7 : Nat) (Option.some Jvm.ClassFile.FieldType.long)) ∈ lw_all := lw_g (lw_at lw_m9 156 rfl) rfl
theorem q2161 : (Jvm.Cond.methodLink "FlashRatchetModel" (241 : Nat) ({ cls := "FlashRatchetModel", name := "layClasses", desc := "()V" } : Jvm.MethodName)) ∈ lw_all := lw_g (lw_at lw_m9 157 rfl) rfl
theorem q2162 : (Jvm.Cond.privateMethod ({ cls := "FlashRatchetModel", name := "layClasses", desc := "()V" } : Jvm.MethodName)) ∈ lw_tbl := lw_at lw_m9 158 rfl
theorem q2163 : (Jvm.Cond.instanceMethod ({ cls := "FlashRatchetModel", name := "layClasses", desc := "()V" } : Jvm.MethodName)) ∈ lw_all := lw_g (lw_at lw_m9 159 rfl) rfl
theorem q2164 : (Jvm.Cond.code ({ cls := "FlashRatchetModel", name := "layClasses", desc := "()V" } : Jvm.MethodName) prog_10_method_51_code (5 : Nat) (Option.none : Option Jvm.ClassFile.FieldType)) ∈ lw_all := lw_g (lw_at lw_m9 160 rfl) rfl
theorem q2165 : (Jvm.Cond.methodLink "FlashRatchetModel" (222 : Nat) ({ cls := "FlashRatchetModel", name := "reached", desc := "(I)I" } : Jvm.MethodName)) ∈ lw_all := lw_g (lw_at lw_m9 161 rfl) rfl
theorem q2166 : (Jvm.Cond.privateMethod ({ cls := "FlashRatchetModel", name := "reached", desc := "(I)I" } : Jvm.MethodName)) ∈ lw_tbl := lw_at lw_m9 162 rfl
theorem q2167 : (Jvm.Cond.instanceMethod ({ cls := "FlashRatchetModel", name := "reached", desc := "(I)I" } : Jvm.MethodName)) ∈ lw_all := lw_g (lw_at lw_m9 163 rfl) rfl
theorem q2168 : (Jvm.Cond.code ({ cls := "FlashRatchetModel", name := "reached", desc := "(I)I" } : Jvm.MethodName) prog_10_method_50_code (7 : Nat) (Option.some Jvm.ClassFile.FieldType.int)) ∈ lw_all := lw_g (lw_at lw_m9 164 rfl) rfl
theorem q2169 : (Jvm.Cond.methodLink "FlashRatchetModel" (244 : Nat) ({ cls := "FlashRatchetModel", name := "minor", desc := "(I)J" } : Jvm.MethodName)) ∈ lw_all := lw_g (lw_at lw_m9 165 rfl) rfl
theorem q2170 : (Jvm.Cond.privateMethod ({ cls := "FlashRatchetModel", name := "minor", desc := "(I)J" } : Jvm.MethodName)) ∈ lw_tbl := lw_at lw_m9 166 rfl
theorem q2171 : (Jvm.Cond.instanceMethod ({ cls := "FlashRatchetModel", name := "minor", desc := "(I)J" } : Jvm.MethodName)) ∈ lw_all := lw_g (lw_at lw_m9 167 rfl) rfl
theorem q2172 : (Jvm.Cond.code ({ cls := "FlashRatchetModel", name := "minor", desc := "(I)J" } : Jvm.MethodName) prog_10_method_53_code (11 : Nat) (Option.some Jvm.ClassFile.FieldType.long)) ∈ lw_all := lw_g (lw_at lw_m9 168 rfl) rfl
theorem q2173 : (Jvm.Cond.methodLink "FlashRatchetModel" (225 : Nat) ({ cls := "FlashRatchetModel", name := "entry", desc := "(II)J" } : Jvm.MethodName)) ∈ lw_all := lw_g (lw_at lw_m9 169 rfl) rfl
theorem q2174 : (Jvm.Cond.privateMethod ({ cls := "FlashRatchetModel", name := "entry", desc := "(II)J" } : Jvm.MethodName)) ∈ lw_tbl := lw_at lw_m9 170 rfl
theorem q2175 : (Jvm.Cond.instanceMethod ({ cls := "FlashRatchetModel", name := "entry", desc := "(II)J" } : Jvm.MethodName)) ∈ lw_all := lw_g (lw_at lw_m9 171 rfl) rfl
theorem q2176 : (Jvm.Cond.code ({ cls := "FlashRatchetModel", name := "entry", desc := "(II)J" } : Jvm.MethodName) prog_10_method_52_code (3 : Nat) (Option.some Jvm.ClassFile.FieldType.long)) ∈ lw_all := lw_g (lw_at lw_m9 172 rfl) rfl
theorem q2177 : (Jvm.Cond.methodLink "FlashRatchetModel" (228 : Nat) ({ cls := "FlashRatchetModel", name := "common", desc := "(JJ)J" } : Jvm.MethodName)) ∈ lw_all := lw_g (lw_at lw_m9 173 rfl) rfl
theorem q2178 : (Jvm.Cond.static ({ cls := "FlashRatchetModel", name := "common", desc := "(JJ)J" } : Jvm.MethodName)) ∈ lw_all := lw_g (lw_at lw_m9 174 rfl) rfl
theorem q2179 : (Jvm.Cond.code ({ cls := "FlashRatchetModel", name := "common", desc := "(JJ)J" } : Jvm.MethodName) prog_10_method_54_code (10 : Nat) (Option.some Jvm.ClassFile.FieldType.long)) ∈ lw_all := lw_g (lw_at lw_m9 175 rfl) rfl
theorem q2180 : (Jvm.Cond.methodLink "FlashRatchetModel" (250 : Nat) ({ cls := "FlashRatchetModel", name := "reduce", desc := "(JJ)V" } : Jvm.MethodName)) ∈ lw_all := lw_g (lw_at lw_m9 176 rfl) rfl
theorem q2181 : (Jvm.Cond.privateMethod ({ cls := "FlashRatchetModel", name := "reduce", desc := "(JJ)V" } : Jvm.MethodName)) ∈ lw_tbl := lw_at lw_m9 177 rfl
theorem q2182 : (Jvm.Cond.instanceMethod ({ cls := "FlashRatchetModel", name := "reduce", desc := "(JJ)V" } : Jvm.MethodName)) ∈ lw_all := lw_g (lw_at lw_m9 178 rfl) rfl
theorem q2183 : (Jvm.Cond.code ({ cls := "FlashRatchetModel", name := "reduce", desc := "(JJ)V" } : Jvm.MethodName) prog_10_method_55_code (7 : Nat) (Option.none : Option Jvm.ClassFile.FieldType)) ∈ lw_all := lw_g (lw_at lw_m9 179 rfl) rfl
theorem q2185 : (Jvm.Cond.instanceMethod ({ cls := "FlashRatchetModel", name := "share", desc := "(III)J" } : Jvm.MethodName)) ∈ lw_all := lw_g (lw_at lw_m9 181 rfl) rfl
theorem q2186 : (Jvm.Cond.selects "FlashRatchetModel" ({ cls := "FlashRatchetModel", name := "share", desc := "(III)J" } : Jvm.MethodName) ({ cls := "FlashRatchetModel", name := "share", desc := "(III)J" } : Jvm.MethodName)) ∈ lw_all := lw_g (lw_at lw_m9 182 rfl) rfl
theorem q2187 : (Jvm.Cond.code ({ cls := "FlashRatchetModel", name := "share", desc := "(III)J" } : Jvm.MethodName) prog_10_method_60_code (4 : Nat) (Option.some Jvm.ClassFile.FieldType.long)) ∈ lw_all := lw_g (lw_at lw_m9 183 rfl) rfl
theorem q2188 : (Jvm.Cond.methodLink "FlashRatchetModel" (260 : Nat) ({ cls := "FlashRatchetModel", name := "shareOf", desc := "(III)J" } : Jvm.MethodName)) ∈ lw_all := lw_g (lw_at lw_m9 184 rfl) rfl
theorem q2189 : (Jvm.Cond.privateMethod ({ cls := "FlashRatchetModel", name := "shareOf", desc := "(III)J" } : Jvm.MethodName)) ∈ lw_tbl := lw_at lw_m9 185 rfl
theorem q2190 : (Jvm.Cond.instanceMethod ({ cls := "FlashRatchetModel", name := "shareOf", desc := "(III)J" } : Jvm.MethodName)) ∈ lw_all := lw_g (lw_at lw_m9 186 rfl) rfl
theorem q2191 : (Jvm.Cond.code ({ cls := "FlashRatchetModel", name := "shareOf", desc := "(III)J" } : Jvm.MethodName) prog_10_method_59_code (4 : Nat) (Option.some Jvm.ClassFile.FieldType.long)) ∈ lw_all := lw_g (lw_at lw_m9 187 rfl) rfl
theorem q2193 : (Jvm.Cond.instanceMethod ({ cls := "FlashRatchetModel", name := "classes", desc := "(I)I" } : Jvm.MethodName)) ∈ lw_all := lw_g (lw_at lw_m9 189 rfl) rfl
theorem q2194 : (Jvm.Cond.selects "FlashRatchetModel" ({ cls := "FlashRatchetModel", name := "classes", desc := "(I)I" } : Jvm.MethodName) ({ cls := "FlashRatchetModel", name := "classes", desc := "(I)I" } : Jvm.MethodName)) ∈ lw_all := lw_g (lw_at lw_m9 190 rfl) rfl
theorem q2195 : (Jvm.Cond.code ({ cls := "FlashRatchetModel", name := "classes", desc := "(I)I" } : Jvm.MethodName) prog_10_method_61_code (2 : Nat) (Option.some Jvm.ClassFile.FieldType.int)) ∈ lw_all := lw_g (lw_at lw_m9 191 rfl) rfl
theorem q2197 : (Jvm.Cond.instanceMethod ({ cls := "FlashRatchetModel", name := "compare", desc := "(II)I" } : Jvm.MethodName)) ∈ lw_all := lw_g (lw_at lw_m9 193 rfl) rfl
theorem q2198 : (Jvm.Cond.selects "FlashRatchetModel" ({ cls := "FlashRatchetModel", name := "compare", desc := "(II)I" } : Jvm.MethodName) ({ cls := "FlashRatchetModel", name := "compare", desc := "(II)I" } : Jvm.MethodName)) ∈ lw_all := lw_g (lw_at lw_m9 194 rfl) rfl
theorem q2199 : (Jvm.Cond.code ({ cls := "FlashRatchetModel", name := "compare", desc := "(II)I" } : Jvm.MethodName) prog_10_method_64_code (7 : Nat) (Option.some Jvm.ClassFile.FieldType.int)) ∈ lw_all := lw_g (lw_at lw_m9 195 rfl) rfl
theorem q2200 : (Jvm.Cond.methodLink "FlashRatchetModel" (267 : Nat) ({ cls := "FlashRatchetModel", name := "sign", desc := "(JJJJ)I" } : Jvm.MethodName)) ∈ lw_all := lw_g (lw_at lw_m9 196 rfl) rfl
theorem q2201 : (Jvm.Cond.static ({ cls := "FlashRatchetModel", name := "sign", desc := "(JJJJ)I" } : Jvm.MethodName)) ∈ lw_all := lw_g (lw_at lw_m9 197 rfl) rfl
theorem q2202 : (Jvm.Cond.code ({ cls := "FlashRatchetModel", name := "sign", desc := "(JJJJ)I" } : Jvm.MethodName) prog_10_method_63_code (25 : Nat) (Option.some Jvm.ClassFile.FieldType.int)) ∈ lw_all := lw_g (lw_at lw_m9 198 rfl) rfl
theorem q2203 : (Jvm.Cond.methodLink "FlashRatchetModel" (264 : Nat) ({ cls := "FlashRatchetModel", name := "whole", desc := "(JJ)J" } : Jvm.MethodName)) ∈ lw_all := lw_g (lw_at lw_m9 199 rfl) rfl
theorem q2204 : (Jvm.Cond.static ({ cls := "FlashRatchetModel", name := "whole", desc := "(JJ)J" } : Jvm.MethodName)) ∈ lw_all := lw_g (lw_at lw_m9 200 rfl) rfl
theorem q2205 : (Jvm.Cond.code ({ cls := "FlashRatchetModel", name := "whole", desc := "(JJ)J" } : Jvm.MethodName) prog_10_method_62_code (4 : Nat) (Option.some Jvm.ClassFile.FieldType.long)) ∈ lw_all := lw_g (lw_at lw_m9 201 rfl) rfl
theorem q2207 : (Jvm.Cond.instanceMethod ({ cls := "FlashRatchetModel", name := "best", desc := "(II)J" } : Jvm.MethodName)) ∈ lw_all := lw_g (lw_at lw_m9 203 rfl) rfl
theorem q2208 : (Jvm.Cond.selects "FlashRatchetModel" ({ cls := "FlashRatchetModel", name := "best", desc := "(II)J" } : Jvm.MethodName) ({ cls := "FlashRatchetModel", name := "best", desc := "(II)J" } : Jvm.MethodName)) ∈ lw_all := lw_g (lw_at lw_m9 204 rfl) rfl
theorem q2209 : (Jvm.Cond.code ({ cls := "FlashRatchetModel", name := "best", desc := "(II)J" } : Jvm.MethodName) prog_10_method_68_code (3 : Nat) (Option.some Jvm.ClassFile.FieldType.long)) ∈ lw_all := lw_g (lw_at lw_m9 205 rfl) rfl
theorem q2210 : (Jvm.Cond.methodLink "FlashRatchetModel" (288 : Nat) ({ cls := "FlashRatchetModel", name := "bestNow", desc := "(II)J" } : Jvm.MethodName)) ∈ lw_all := lw_g (lw_at lw_m9 206 rfl) rfl
theorem q2211 : (Jvm.Cond.privateMethod ({ cls := "FlashRatchetModel", name := "bestNow", desc := "(II)J" } : Jvm.MethodName)) ∈ lw_tbl := lw_at lw_m9 207 rfl
theorem q2212 : (Jvm.Cond.instanceMethod ({ cls := "FlashRatchetModel", name := "bestNow", desc := "(II)J" } : Jvm.MethodName)) ∈ lw_all := lw_g (lw_at lw_m9 208 rfl) rfl
theorem q2213 : (Jvm.Cond.code ({ cls := "FlashRatchetModel", name := "bestNow", desc := "(II)J" } : Jvm.MethodName) prog_10_method_67_code (3 : Nat) (Option.some Jvm.ClassFile.FieldType.long)) ∈ lw_all := lw_g (lw_at lw_m9 209 rfl) rfl
theorem q2214 : (Jvm.Cond.methodLink "FlashRatchetModel" (285 : Nat) ({ cls := "FlashRatchetModel", name := "layBest", desc := "(I)V" } : Jvm.MethodName)) ∈ lw_all := lw_g (lw_at lw_m9 210 rfl) rfl
theorem q2215 : (Jvm.Cond.privateMethod ({ cls := "FlashRatchetModel", name := "layBest", desc := "(I)V" } : Jvm.MethodName)) ∈ lw_tbl := lw_at lw_m9 211 rfl
theorem q2216 : (Jvm.Cond.instanceMethod ({ cls := "FlashRatchetModel", name := "layBest", desc := "(I)V" } : Jvm.MethodName)) ∈ lw_all := lw_g (lw_at lw_m9 212 rfl) rfl
theorem q2217 : (Jvm.Cond.code ({ cls := "FlashRatchetModel", name := "layBest", desc := "(I)V" } : Jvm.MethodName) prog_10_method_66_code (4 : Nat) (Option.none : Option Jvm.ClassFile.FieldType)) ∈ lw_all := lw_g (lw_at lw_m9 213 rfl) rfl
theorem q2218 : (Jvm.Cond.constantLong "FlashRatchetModel" (274 : Nat) (-1 : Int64)) ∈ lw_all := lw_g (lw_at lw_m9 214 rfl) rfl
theorem q2219 : (Jvm.Cond.methodLink "FlashRatchetModel" (282 : Nat) ({ cls := "FlashRatchetModel", name := "usesGeared", desc := "(I)Z" } : Jvm.MethodName)) ∈ lw_all := lw_g (lw_at lw_m9 215 rfl) rfl
theorem q2220 : (Jvm.Cond.privateMethod ({ cls := "FlashRatchetModel", name := "usesGeared", desc := "(I)Z" } : Jvm.MethodName)) ∈ lw_tbl := lw_at lw_m9 216 rfl
theorem q2221 : (Jvm.Cond.instanceMethod ({ cls := "FlashRatchetModel", name := "usesGeared", desc := "(I)Z" } : Jvm.MethodName)) ∈ lw_all := lw_g (lw_at lw_m9 217 rfl) rfl
theorem q2222 : (Jvm.Cond.code ({ cls := "FlashRatchetModel", name := "usesGeared", desc := "(I)Z" } : Jvm.MethodName) prog_10_method_65_code (4 : Nat) (Option.some Jvm.ClassFile.FieldType.boolean)) ∈ lw_all := lw_g (lw_at lw_m9 218 rfl) rfl
theorem q2224 : (Jvm.Cond.instanceMethod ({ cls := "FlashRatchetModel", name := "paradox", desc := "()I" } : Jvm.MethodName)) ∈ lw_all := lw_g (lw_at lw_m9 220 rfl) rfl
theorem q2225 : (Jvm.Cond.selects "FlashRatchetModel" ({ cls := "FlashRatchetModel", name := "paradox", desc := "()I" } : Jvm.MethodName) ({ cls := "FlashRatchetModel", name := "paradox", desc := "()I" } : Jvm.MethodName)) ∈ lw_all := lw_g (lw_at lw_m9 221 rfl) rfl
theorem q2226 : (Jvm.Cond.code ({ cls := "FlashRatchetModel", name := "paradox", desc := "()I" } : Jvm.MethodName) prog_10_method_70_code (1 : Nat) (Option.some Jvm.ClassFile.FieldType.int)) ∈ lw_all := lw_g (lw_at lw_m9 222 rfl) rfl
theorem q2227 : (Jvm.Cond.methodLink "FlashRatchetModel" (291 : Nat) ({ cls := "FlashRatchetModel", name := "paradoxNow", desc := "()I" } : Jvm.MethodName)) ∈ lw_all := lw_g (lw_at lw_m9 223 rfl) rfl
theorem q2228 : (Jvm.Cond.privateMethod ({ cls := "FlashRatchetModel", name := "paradoxNow", desc := "()I" } : Jvm.MethodName)) ∈ lw_tbl := lw_at lw_m9 224 rfl
theorem q2229 : (Jvm.Cond.instanceMethod ({ cls := "FlashRatchetModel", name := "paradoxNow", desc := "()I" } : Jvm.MethodName)) ∈ lw_all := lw_g (lw_at lw_m9 225 rfl) rfl
theorem q2230 : (Jvm.Cond.code ({ cls := "FlashRatchetModel", name := "paradoxNow", desc := "()I" } : Jvm.MethodName) prog_10_method_69_code (3 : Nat) (Option.some Jvm.ClassFile.FieldType.int)) ∈ lw_all := lw_g (lw_at lw_m9 226 rfl) rfl
theorem q2232 : (Jvm.Cond.instanceMethod ({ cls := "FlashRatchetModel", name := "count", desc := "(I)I" } : Jvm.MethodName)) ∈ lw_all := lw_g (lw_at lw_m9 228 rfl) rfl
theorem q2233 : (Jvm.Cond.selects "FlashRatchetModel" ({ cls := "FlashRatchetModel", name := "count", desc := "(I)I" } : Jvm.MethodName) ({ cls := "FlashRatchetModel", name := "count", desc := "(I)I" } : Jvm.MethodName)) ∈ lw_all := lw_g (lw_at lw_m9 229 rfl) rfl
theorem q2234 : (Jvm.Cond.code ({ cls := "FlashRatchetModel", name := "count", desc := "(I)I" } : Jvm.MethodName) prog_10_method_72_code (2 : Nat) (Option.some Jvm.ClassFile.FieldType.int)) ∈ lw_all := lw_g (lw_at lw_m9 230 rfl) rfl
theorem q2235 : (Jvm.Cond.methodLink "FlashRatchetModel" (294 : Nat) ({ cls := "FlashRatchetModel", name := "counted", desc := "(I)I" } : Jvm.MethodName)) ∈ lw_all := lw_g (lw_at lw_m9 231 rfl) rfl
theorem q2236 : (Jvm.Cond.privateMethod ({ cls := "FlashRatchetModel", name := "counted", desc := "(I)I" } : Jvm.MethodName)) ∈ lw_tbl := lw_at lw_m9 232 rfl
theorem q2237 : (Jvm.Cond.instanceMethod ({ cls := "FlashRatchetModel", name := "counted", desc := "(I)I" } : Jvm.MethodName)) ∈ lw_all := lw_g (lw_at lw_m9 233 rfl) rfl
theorem q2238 : (Jvm.Cond.code ({ cls := "FlashRatchetModel", name := "counted", desc := "(I)I" } : Jvm.MethodName) prog_10_method_71_code (2 : Nat) (Option.some Jvm.ClassFile.FieldType.int)) ∈ lw_all := lw_g (lw_at lw_m9 234 rfl) rfl
theorem q2240 : (Jvm.Cond.instanceMethod ({ cls := "FlashRatchetModel", name := "table", desc := "(II)I" } : Jvm.MethodName)) ∈ lw_all := lw_g (lw_at lw_m9 236 rfl) rfl
theorem q2241 : (Jvm.Cond.selects "FlashRatchetModel" ({ cls := "FlashRatchetModel", name := "table", desc := "(II)I" } : Jvm.MethodName) ({ cls := "FlashRatchetModel", name := "table", desc := "(II)I" } : Jvm.MethodName)) ∈ lw_all := lw_g (lw_at lw_m9 237 rfl) rfl
theorem q2242 : (Jvm.Cond.code ({ cls := "FlashRatchetModel", name := "table", desc := "(II)I" } : Jvm.MethodName) prog_10_method_73_code (3 : Nat) (Option.some Jvm.ClassFile.FieldType.int)) ∈ lw_all := lw_g (lw_at lw_m9 238 rfl) rfl
theorem q2244 : (Jvm.Cond.instanceMethod ({ cls := "FlashRatchetModel", name := "meanGain", desc := "()D" } : Jvm.MethodName)) ∈ lw_all := lw_g (lw_at lw_m10 0 rfl) rfl
theorem q2245 : (Jvm.Cond.selects "FlashRatchetModel" ({ cls := "FlashRatchetModel", name := "meanGain", desc := "()D" } : Jvm.MethodName) ({ cls := "FlashRatchetModel", name := "meanGain", desc := "()D" } : Jvm.MethodName)) ∈ lw_all := lw_g (lw_at lw_m10 1 rfl) rfl
theorem q2246 : (Jvm.Cond.code ({ cls := "FlashRatchetModel", name := "meanGain", desc := "()D" } : Jvm.MethodName) prog_10_method_74_code (1 : Nat) (Option.some Jvm.ClassFile.FieldType.double)) ∈ lw_all := lw_g (lw_at lw_m10 2 rfl) rfl
theorem q2248 : (Jvm.Cond.instanceMethod ({ cls := "FlashRatchetModel", name := "digest", desc := "()J" } : Jvm.MethodName)) ∈ lw_all := lw_g (lw_at lw_m10 4 rfl) rfl
theorem q2249 : (Jvm.Cond.selects "FlashRatchetModel" ({ cls := "FlashRatchetModel", name := "digest", desc := "()J" } : Jvm.MethodName) ({ cls := "FlashRatchetModel", name := "digest", desc := "()J" } : Jvm.MethodName)) ∈ lw_all := lw_g (lw_at lw_m10 5 rfl) rfl
theorem q2250 : (Jvm.Cond.code ({ cls := "FlashRatchetModel", name := "digest", desc := "()J" } : Jvm.MethodName) prog_10_method_77_code (2 : Nat) (Option.some Jvm.ClassFile.FieldType.long)) ∈ lw_all := lw_g (lw_at lw_m10 6 rfl) rfl
theorem q2251 : (Jvm.Cond.constantLong "FlashRatchetModel" (306 : Nat) (2029 : Int64)) ∈ lw_all := lw_g (lw_at lw_m10 7 rfl) rfl
theorem q2252 : (Jvm.Cond.methodLink "FlashRatchetModel" (302 : Nat) ({ cls := "FlashRatchetModel", name := "mix", desc := "(J)V" } : Jvm.MethodName)) ∈ lw_all := lw_g (lw_at lw_m10 8 rfl) rfl
theorem q2253 : (Jvm.Cond.privateMethod ({ cls := "FlashRatchetModel", name := "mix", desc := "(J)V" } : Jvm.MethodName)) ∈ lw_tbl := lw_at lw_m10 9 rfl
theorem q2254 : (Jvm.Cond.instanceMethod ({ cls := "FlashRatchetModel", name := "mix", desc := "(J)V" } : Jvm.MethodName)) ∈ lw_all := lw_g (lw_at lw_m10 10 rfl) rfl
theorem q2255 : (Jvm.Cond.code ({ cls := "FlashRatchetModel", name := "mix", desc := "(J)V" } : Jvm.MethodName) prog_10_method_75_code (3 : Nat) (Option.none : Option Jvm.ClassFile.FieldType)) ∈ lw_all := lw_g (lw_at lw_m10 11 rfl) rfl
theorem q2256 : (Jvm.Cond.constantLong "FlashRatchetModel" (297 : Nat) (31 : Int64)) ∈ lw_all := lw_g (lw_at lw_m10 12 rfl) rfl
theorem q2257 : (Jvm.Cond.methodLink "FlashRatchetModel" (308 : Nat) ({ cls := "FlashRatchetModel", name := "mixChances", desc := "()V" } : Jvm.MethodName)) ∈ lw_all := lw_g (lw_at lw_m10 13 rfl) rfl
theorem q2258 : (Jvm.Cond.privateMethod ({ cls := "FlashRatchetModel", name := "mixChances", desc := "()V" } : Jvm.MethodName)) ∈ lw_tbl := lw_at lw_m10 14 rfl
theorem q2259 : (Jvm.Cond.instanceMethod ({ cls := "FlashRatchetModel", name := "mixChances", desc := "()V" } : Jvm.MethodName)) ∈ lw_all := lw_g (lw_at lw_m10 15 rfl) rfl
theorem q2260 : (Jvm.Cond.code ({ cls := "FlashRatchetModel", name := "mixChances", desc := "()V" } : Jvm.MethodName) prog_10_method_76_code (2 : Nat) (Option.none : Option Jvm.ClassFile.FieldType)) ∈ lw_all := lw_g (lw_at lw_m10 16 rfl) rfl
theorem q2281 : (Jvm.Cond.castable "FlashRatchetModel" "java/lang/Object") ∈ lw_tbl := lw_at lw_m10 37 rfl
theorem in_X2 : ∀ w ∈ wsX20, w ∈ lw_all := lw_in wsX20 [1884, 1886, 1888, 1890, 1892, 1894, 1896, 1898, 1900, 1902, 1904, 1906, 1908, 1910, 1912, 1914, 1916, 1918, 1920, 1922, 1924, 1926, 1928, 1930, 1932, 1934, 1936, 1938, 1940, 1942, 1944, 1946, 1948, 1950, 1952, 1954, 1956, 1958, 1960, 1962] (by decide +kernel) (by decide +kernel)
